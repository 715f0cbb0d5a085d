/-! op: fails -/
set_option maxRecDepth 100000
set_option maxHeartbeats 4000000
abbrev cnt (v : Int32) : Int64 := if v = 2000000000 then 0 else v.toInt64
abbrev hit (w k c : Nat) : Prop := if k < 6 then c / w = k else c % w = k - 6
def sm (f : Nat → Int64) (w k : Nat) : Nat → Int64
  | 0 => 0
  | c + 1 => sm f w k c + (if hit w k c then f c else 0)
def smx (x : St) (i : Nat) : Int64 := sm (fun c => cnt (hv x sAll (nat (sN x 0 24)) c (nat (sN x 0 25)))) (nat (sN x 0 0)) i (nat (sN x 0 0) * nat (sN x 0 1))
theorem sm_s {f : Nat → Int64} {w j : Nat} {g : Nat → Int64} (hj : j / w < 6) (hg : ∀ i, i < 12 → g i = sm f w i j) : ∀ i, i < 12 → vp_updL (vp_updL g (j / w) (g (j / w) + f j)) (6 + j % w) (g (6 + j % w) + f j) i = sm f w i (j + 1) := by
  intro i hi
  rw [sm, ← hg i hi]
  by_cases c1 : i = 6 + j % w
  · rw [c1, pk_uLs, if_pos]
    unfold hit; rw [if_neg (by omega)]; omega
  · rw [pk_uLn c1]
    by_cases c2 : i = j / w
    · rw [c2, pk_uLs, if_pos]
      unfold hit; rw [if_pos (by omega)]
    · rw [pk_uLn c2, if_neg, Int64.add_zero]
      unfold hit
      split <;> omega
theorem RY.uL {M : ZM} {L L' : ZL} {x : St} (h : RY M L x) (e : L' 17 = L 17) : RY M L' x := by
  obtain ⟨r1, ⟨a1, a2, a12, a13, a14, a15, a16, a17, a18, a19, a20⟩, r3⟩ := h
  exact ⟨r1, ⟨a1, a2, a12, a13, a14, a15, a16, e.trans a17, a18, a19, a20⟩, r3⟩
def S_X0_offOf : ma_Cs := fun as M L K => match as with
  | [.ref k, .int ii] => ∃ (x : St) (i : Nat), (k = 0 ∧ J x ∧ RX M L x ∧ Xh M x ∧ ii = nI i ∧ i < 12) ∧ (K (some (.long (L 34 i - smx x i))) M L)
  | _ => False
theorem ms_X0_offOf : ma_ms S_X0_offOf := by
  intro as M L K K' hk h
  unfold S_X0_offOf at h ⊢
  split at h
  · obtain ⟨x, i, h⟩ := h
    exact ⟨x, i, h.1, hk _ _ _ h.2⟩
  · exact h.elim
theorem un_X0_offOf {k : Nat} {ii : Int32} {M : ZM} {L : ZL} {K : ma_Kt} : S_X0_offOf [.ref k, .int ii] M L K = (∃ (x : St) (i : Nat), (k = 0 ∧ J x ∧ RX M L x ∧ Xh M x ∧ ii = nI i ∧ i < 12) ∧ (K (some (.long (L 34 i - smx x i))) M L)) := rfl
theorem pw_X0_offOf {k : Nat} {ii : Int32} {x : St} {i : Nat} {M : ZM} {L : ZL} {K : ma_Kt} (hp : k = 0 ∧ J x ∧ RX M L x ∧ Xh M x ∧ ii = nI i ∧ i < 12) (h : (K (some (.long (L 34 i - smx x i))) M L)) : ma_rn (tb_X0_offOf S_X0_cells S_X3_at S_X0_countOf) 5 [.ref k, .int ii] M L K := by
  refine ⟨Nat.le_of_ble_eq_true rfl, fun V hV => ?_⟩
  obtain ⟨rfl, hJ, hR, hX, rfl, hi⟩ := hp
  obtain ⟨w, u, e, ns, ta, tb, h1, h2, h3, h6, h7, h8, hs, w2, w6, u2, u6, e3, n12, ta12, tb4, q0, q36, n1, n2, n3, n6⟩ := hJ.sky
  obtain ⟨⟨c0, c5, c6, c7, c10, c19, c20, c25, c33⟩, ⟨a19, a1, a20, a21, a22, a23, a24, a34, a37, a38, a39⟩, r3, r4⟩ := id hR
  have n7 : nat (sN x 0 24) = ta := by unfold nat; rw [h7, a_cl (by omega)]
  have n8 : nat (sN x 0 25) = tb := by unfold nat; rw [h8, a_cl (by omega)]
  rw [h1] at c5
  rw [h2] at c6
  rw [h7] at c19
  rw [h8] at c20
  unfold smx at h
  rw [n1, n2, n7, n8] at h
  have w0 : ¬ nI w = 0 := by rw [a_eq0 (by omega)]; omega
  have vi : vp_in (nI i) 12 := vp_in_nI (by omega) (by decide)
  have ci := a_cl (show i < 2147483648 by omega)
  have lp : ∀ j, j ≤ w * u → V 5 [some (.ref 0), some (.int (nI i)), some (.long (sm (fun c => cnt (hv x sAll ta c tb)) w i j)), none, some (.int (nI j))] [] M L := by
    refine lp_up ?_ ?_
    · have v1 : nI w * nI u ≤ nI (w * u) := by rw [pk_mul, a_le (by omega) (by omega)]; omega
      refine ma_walk (mo_X0_offOf ms_X0_cells ms_X3_at ms_X0_countOf) hV [5] (fun F hF => ?_)
      simp only [tb_X0_offOf, hF, in_no, in_push, in_ild, in_lld, in_ald, in_ist, in_ast, in_lst, in_inc, in_iii, in_idv, in_ldv, in_lll, in_lli, in_lil, in_ii, in_il, in_li, in_ll, in_dup, in_dp2, q_if1, q_if2, in_go, in_sw, ma_sw, in_rv, in_ri, in_rz, in_rl, in_get, in_put, in_puz, in_iar, in_bar, in_lar, in_aar, in_iaw, in_baw, in_law, in_len, in_cpy, in_s1, in_s2, in_s3, in_v1, in_v2, in_v3, in_v4, in_v5, in_v6, ma_bk, ma_gl, ma_sl, ma_nl, ma_wc, ma_wd, ma_nn, ma_en, List.mem_cons, List.not_mem_nil, or_false, or_true, true_or, false_or, true_and, and_true, false_and, and_false, if_true, if_false, forall_const, true_implies, false_implies, not_true_eq_false, not_false_eq_true, Classical.not_not, implies_true, and_self, Nat.add_zero, Nat.zero_add, eq_self, ne_eq, reduceCtorEq, Nat.reduceLT, Nat.reduceLeDiff, Nat.reduceEqDiff, Nat.reduceSub, Nat.reduceAdd, i10, i01, im10, Int32.reduceLT, Int32.reduceLE, ↓reduceIte, reduceIte, up_r, uL_r, cp_r, Int32.toInt_toInt64, Int64.reduceToInt, Int32.reduceToInt, ↓b1_or, b1_0, b1_1, lc_lt, lc_le, lc_gt, lc_ge, lc_eq, yx_0, yx_1, yx_2, yx_3, yx_4, yx_5, yx_6, yx_7, yx_8, yx_9, yx_10, yx_11, yx_12, yx_13, yx_14, yx_15, yx_16, yx_17, yx_18, yx_19, yx_20, yx_21, yx_22, yx_23, yx_24, yx_25, yx_26, yx_27, yx_28, yx_29, yx_30, yx_31, yx_32, yx_33, yx_34, yx_35, yx_36, yx_37, yx_38, yx_39, yx_40, yx_41, yx_42, yx_43, yx_44, yx_45, yx_46, yx_47, yx_48, yx_49, yx_50, yx_51, yx_52, yx_53, yx_54, yx_55, yx_56, yx_57, yx_58, yx_59, yx_60, yx_61, yx_62, yx_63, yx_64, yx_65, yx_66, yx_67, yx_68, rx_0, rx_1, rx_2, rx_3, rx_4, rx_5, rx_6, rx_7, rx_8, rx_9, rx_10, rx_11, rx_12, rx_13, rx_14, rx_15, rx_16, rx_17, rx_18, rx_19, rx_20, rx_21, rx_22, rx_23, rx_24, rx_25, rx_26, rx_27, rx_28, rx_29, rx_30, rx_31, rx_32, rx_33, rp_0, rp_1, rp_2, rp_3, rp_4, rp_5, rp_6, rp_7, rp_8, rs_0, rs_1, rs_2, rs_3, rs_4, re_0, re_1, re_2, re_3, re_4, re_5, rr_0, rr_1, rr_2, rr_3, rr_4, rk_0, rk_1, isP3, isP11, isP46, isP58, isS25, isS28, isS31, un_X0_cells, un_X3_at, un_X0_countOf, c5, c6, v1, vi, ci]
      try simp only [iteP, Classical.not_not, b1_0, b1_1]
      exact h
    · intro j hj ih
      have v1 : ¬ nI w * nI u ≤ nI j := by rw [pk_mul, a_le (by omega) (by omega)]; omega
      have v4 : nI j + 1 = nI (j + 1) := by rw [show (1 : Int32) = nI 1 from rfl, nI_add]
      have r2 : nI j / nI w = nI (j / w) := pk_div (by omega) (by omega) (by omega)
      have r1 : nI j - nI (j / w) * nI w = nI (j % w) := by rw [← r2]; exact pk_rem (by omega) (by omega) (by omega)
      have jw : j / w < 6 := Nat.div_lt_of_lt_mul (Nat.lt_of_lt_of_le hj (Nat.mul_le_mul_left w u6))
      have jm : j % w < w := Nat.mod_lt _ (by omega)
      have hv1 := (hX.2.2.2.2 ta j tb (by omega) (by rw [n1, n2]; exact hj) (by omega)).2.1
      rw [sm] at ih
      by_cases z : i < 6
      · have v2 : ¬ (6 : Int32) ≤ nI i := by rw [show (6 : Int32) = nI 6 from rfl, a_le (by omega) (by omega)]; omega
        have v3 : (nI (j / w) = nI i) = (j / w = i) := a_eq (by omega) (by omega)
        have eh : hit w i j ↔ j / w = i := by unfold hit; rw [if_pos z]
        refine ma_walk (mo_X0_offOf ms_X0_cells ms_X3_at ms_X0_countOf) hV [5] (fun F hF => ?_)
        simp only [tb_X0_offOf, hF, in_no, in_push, in_ild, in_lld, in_ald, in_ist, in_ast, in_lst, in_inc, in_iii, in_idv, in_ldv, in_lll, in_lli, in_lil, in_ii, in_il, in_li, in_ll, in_dup, in_dp2, q_if1, q_if2, in_go, in_sw, ma_sw, in_rv, in_ri, in_rz, in_rl, in_get, in_put, in_puz, in_iar, in_bar, in_lar, in_aar, in_iaw, in_baw, in_law, in_len, in_cpy, in_s1, in_s2, in_s3, in_v1, in_v2, in_v3, in_v4, in_v5, in_v6, ma_bk, ma_gl, ma_sl, ma_nl, ma_wc, ma_wd, ma_nn, ma_en, List.mem_cons, List.not_mem_nil, or_false, or_true, true_or, false_or, true_and, and_true, false_and, and_false, if_true, if_false, forall_const, true_implies, false_implies, not_true_eq_false, not_false_eq_true, Classical.not_not, implies_true, and_self, Nat.add_zero, Nat.zero_add, eq_self, ne_eq, reduceCtorEq, Nat.reduceLT, Nat.reduceLeDiff, Nat.reduceEqDiff, Nat.reduceSub, Nat.reduceAdd, i10, i01, im10, Int32.reduceLT, Int32.reduceLE, ↓reduceIte, reduceIte, up_r, uL_r, cp_r, Int32.toInt_toInt64, Int64.reduceToInt, Int32.reduceToInt, ↓b1_or, b1_0, b1_1, lc_lt, lc_le, lc_gt, lc_ge, lc_eq, yx_0, yx_1, yx_2, yx_3, yx_4, yx_5, yx_6, yx_7, yx_8, yx_9, yx_10, yx_11, yx_12, yx_13, yx_14, yx_15, yx_16, yx_17, yx_18, yx_19, yx_20, yx_21, yx_22, yx_23, yx_24, yx_25, yx_26, yx_27, yx_28, yx_29, yx_30, yx_31, yx_32, yx_33, yx_34, yx_35, yx_36, yx_37, yx_38, yx_39, yx_40, yx_41, yx_42, yx_43, yx_44, yx_45, yx_46, yx_47, yx_48, yx_49, yx_50, yx_51, yx_52, yx_53, yx_54, yx_55, yx_56, yx_57, yx_58, yx_59, yx_60, yx_61, yx_62, yx_63, yx_64, yx_65, yx_66, yx_67, yx_68, rx_0, rx_1, rx_2, rx_3, rx_4, rx_5, rx_6, rx_7, rx_8, rx_9, rx_10, rx_11, rx_12, rx_13, rx_14, rx_15, rx_16, rx_17, rx_18, rx_19, rx_20, rx_21, rx_22, rx_23, rx_24, rx_25, rx_26, rx_27, rx_28, rx_29, rx_30, rx_31, rx_32, rx_33, rp_0, rp_1, rp_2, rp_3, rp_4, rp_5, rp_6, rp_7, rp_8, rs_0, rs_1, rs_2, rs_3, rs_4, re_0, re_1, re_2, re_3, re_4, re_5, rr_0, rr_1, rr_2, rr_3, rr_4, rk_0, rk_1, isP3, isP11, isP46, isP58, isS25, isS28, isS31, un_X0_cells, un_X3_at, un_X0_countOf, c5, c6, c19, c20, v1, v4, r2, r1, v2, v3, w0]
        try simp only [iteP, Classical.not_not, b1_0, b1_1]
        refine sw_n (fun y => ⟨ta, j, tb, ⟨rfl, rfl, rfl, by omega, by omega, by omega⟩, ?_⟩) (fun y => ?_)
        · rw [if_pos (eh.mpr y)] at ih; rw [hv1]; exact ih
        · rw [if_neg (fun z => y (eh.mp z))] at ih; exact ih
      · have v2 : (6 : Int32) ≤ nI i := by rw [show (6 : Int32) = nI 6 from rfl, a_le (by omega) (by omega)]; omega
        have v5 : nI i - 6 = nI (i - 6) := pk_sub (b := 6) (by omega)
        have v3 : (nI (j % w) = nI (i - 6)) = (j % w = i - 6) := a_eq (by omega) (by omega)
        have eh : hit w i j ↔ j % w = i - 6 := by unfold hit; rw [if_neg z]
        refine ma_walk (mo_X0_offOf ms_X0_cells ms_X3_at ms_X0_countOf) hV [5] (fun F hF => ?_)
        simp only [tb_X0_offOf, hF, in_no, in_push, in_ild, in_lld, in_ald, in_ist, in_ast, in_lst, in_inc, in_iii, in_idv, in_ldv, in_lll, in_lli, in_lil, in_ii, in_il, in_li, in_ll, in_dup, in_dp2, q_if1, q_if2, in_go, in_sw, ma_sw, in_rv, in_ri, in_rz, in_rl, in_get, in_put, in_puz, in_iar, in_bar, in_lar, in_aar, in_iaw, in_baw, in_law, in_len, in_cpy, in_s1, in_s2, in_s3, in_v1, in_v2, in_v3, in_v4, in_v5, in_v6, ma_bk, ma_gl, ma_sl, ma_nl, ma_wc, ma_wd, ma_nn, ma_en, List.mem_cons, List.not_mem_nil, or_false, or_true, true_or, false_or, true_and, and_true, false_and, and_false, if_true, if_false, forall_const, true_implies, false_implies, not_true_eq_false, not_false_eq_true, Classical.not_not, implies_true, and_self, Nat.add_zero, Nat.zero_add, eq_self, ne_eq, reduceCtorEq, Nat.reduceLT, Nat.reduceLeDiff, Nat.reduceEqDiff, Nat.reduceSub, Nat.reduceAdd, i10, i01, im10, Int32.reduceLT, Int32.reduceLE, ↓reduceIte, reduceIte, up_r, uL_r, cp_r, Int32.toInt_toInt64, Int64.reduceToInt, Int32.reduceToInt, ↓b1_or, b1_0, b1_1, lc_lt, lc_le, lc_gt, lc_ge, lc_eq, yx_0, yx_1, yx_2, yx_3, yx_4, yx_5, yx_6, yx_7, yx_8, yx_9, yx_10, yx_11, yx_12, yx_13, yx_14, yx_15, yx_16, yx_17, yx_18, yx_19, yx_20, yx_21, yx_22, yx_23, yx_24, yx_25, yx_26, yx_27, yx_28, yx_29, yx_30, yx_31, yx_32, yx_33, yx_34, yx_35, yx_36, yx_37, yx_38, yx_39, yx_40, yx_41, yx_42, yx_43, yx_44, yx_45, yx_46, yx_47, yx_48, yx_49, yx_50, yx_51, yx_52, yx_53, yx_54, yx_55, yx_56, yx_57, yx_58, yx_59, yx_60, yx_61, yx_62, yx_63, yx_64, yx_65, yx_66, yx_67, yx_68, rx_0, rx_1, rx_2, rx_3, rx_4, rx_5, rx_6, rx_7, rx_8, rx_9, rx_10, rx_11, rx_12, rx_13, rx_14, rx_15, rx_16, rx_17, rx_18, rx_19, rx_20, rx_21, rx_22, rx_23, rx_24, rx_25, rx_26, rx_27, rx_28, rx_29, rx_30, rx_31, rx_32, rx_33, rp_0, rp_1, rp_2, rp_3, rp_4, rp_5, rp_6, rp_7, rp_8, rs_0, rs_1, rs_2, rs_3, rs_4, re_0, re_1, re_2, re_3, re_4, re_5, rr_0, rr_1, rr_2, rr_3, rr_4, rk_0, rk_1, isP3, isP11, isP46, isP58, isS25, isS28, isS31, un_X0_cells, un_X3_at, un_X0_countOf, c5, c6, c19, c20, v1, v4, r2, r1, v2, v5, v3, w0]
        try simp only [iteP, Classical.not_not, b1_0, b1_1]
        refine sw_n (fun y => ⟨ta, j, tb, ⟨rfl, rfl, rfl, by omega, by omega, by omega⟩, ?_⟩) (fun y => ?_)
        · rw [if_pos (eh.mpr y)] at ih; rw [hv1]; exact ih
        · rw [if_neg (fun z => y (eh.mp z))] at ih; exact ih
  refine ma_walk (mo_X0_offOf ms_X0_cells ms_X3_at ms_X0_countOf) hV [5] (fun F hF => ?_)
  simp only [tb_X0_offOf, hF, in_no, in_push, in_ild, in_lld, in_ald, in_ist, in_ast, in_lst, in_inc, in_iii, in_idv, in_ldv, in_lll, in_lli, in_lil, in_ii, in_il, in_li, in_ll, in_dup, in_dp2, q_if1, q_if2, in_go, in_sw, ma_sw, in_rv, in_ri, in_rz, in_rl, in_get, in_put, in_puz, in_iar, in_bar, in_lar, in_aar, in_iaw, in_baw, in_law, in_len, in_cpy, in_s1, in_s2, in_s3, in_v1, in_v2, in_v3, in_v4, in_v5, in_v6, ma_bk, ma_gl, ma_sl, ma_nl, ma_wc, ma_wd, ma_nn, ma_en, List.mem_cons, List.not_mem_nil, or_false, or_true, true_or, false_or, true_and, and_true, false_and, and_false, if_true, if_false, forall_const, true_implies, false_implies, not_true_eq_false, not_false_eq_true, Classical.not_not, implies_true, and_self, Nat.add_zero, Nat.zero_add, eq_self, ne_eq, reduceCtorEq, Nat.reduceLT, Nat.reduceLeDiff, Nat.reduceEqDiff, Nat.reduceSub, Nat.reduceAdd, i10, i01, im10, Int32.reduceLT, Int32.reduceLE, ↓reduceIte, reduceIte, up_r, uL_r, cp_r, Int32.toInt_toInt64, Int64.reduceToInt, Int32.reduceToInt, ↓b1_or, b1_0, b1_1, lc_lt, lc_le, lc_gt, lc_ge, lc_eq, yx_0, yx_1, yx_2, yx_3, yx_4, yx_5, yx_6, yx_7, yx_8, yx_9, yx_10, yx_11, yx_12, yx_13, yx_14, yx_15, yx_16, yx_17, yx_18, yx_19, yx_20, yx_21, yx_22, yx_23, yx_24, yx_25, yx_26, yx_27, yx_28, yx_29, yx_30, yx_31, yx_32, yx_33, yx_34, yx_35, yx_36, yx_37, yx_38, yx_39, yx_40, yx_41, yx_42, yx_43, yx_44, yx_45, yx_46, yx_47, yx_48, yx_49, yx_50, yx_51, yx_52, yx_53, yx_54, yx_55, yx_56, yx_57, yx_58, yx_59, yx_60, yx_61, yx_62, yx_63, yx_64, yx_65, yx_66, yx_67, yx_68, rx_0, rx_1, rx_2, rx_3, rx_4, rx_5, rx_6, rx_7, rx_8, rx_9, rx_10, rx_11, rx_12, rx_13, rx_14, rx_15, rx_16, rx_17, rx_18, rx_19, rx_20, rx_21, rx_22, rx_23, rx_24, rx_25, rx_26, rx_27, rx_28, rx_29, rx_30, rx_31, rx_32, rx_33, rp_0, rp_1, rp_2, rp_3, rp_4, rp_5, rp_6, rp_7, rp_8, rs_0, rs_1, rs_2, rs_3, rs_4, re_0, re_1, re_2, re_3, re_4, re_5, rr_0, rr_1, rr_2, rr_3, rr_4, rk_0, rk_1, isP3, isP11, isP46, isP58, isS25, isS28, isS31, un_X0_cells, un_X3_at, un_X0_countOf]
  try simp only [iteP, Classical.not_not, b1_0, b1_1]
  exact lp 0 (by omega)
theorem pv_X0_offOf : ∀ as M L K, S_X0_offOf as M L K → ma_rn (tb_X0_offOf S_X0_cells S_X3_at S_X0_countOf) 5 as M L K := by
  intro as M L K h
  unfold S_X0_offOf at h
  split at h
  · obtain ⟨x, i, h⟩ := h; exact pw_X0_offOf h.1 h.2
  · exact h.elim
def fls (t s : Nat → Int64) : Nat → Nat → Int32 → Int32
  | 0, _, a => a
  | n + 1, k, a => fls t s n (k + 1) (a ||| (if t k = 2000000000000 then 0 else if t k - s k = 0 then 0 else (1 : Int32) <<< (nI k &&& 31)))
def oFails (x : St) : Int32 := if tm (sP x 17) 12 = 0 then -2 else fls (sP x 17) (smx x) 12 0 0
def S_X0_fails : ma_Cs := fun as M L K => match as with
  | [.ref k] => ∃ (x : St), (k = 0 ∧ J x ∧ RX M L x) ∧ (∀ (M' : ZM), RX M' L x → K (some (.int (oFails x))) M' L)
  | _ => False
theorem ms_X0_fails : ma_ms S_X0_fails := by
  intro as M L K K' hk h
  unfold S_X0_fails at h ⊢
  split at h
  · obtain ⟨x, h⟩ := h
    exact ⟨x, h.1, fun x0 x1 => hk _ _ _ (h.2 x0 x1)⟩
  · exact h.elim
theorem un_X0_fails {k : Nat} {M : ZM} {L : ZL} {K : ma_Kt} : S_X0_fails [.ref k] M L K = (∃ (x : St), (k = 0 ∧ J x ∧ RX M L x) ∧ (∀ (M' : ZM), RX M' L x → K (some (.int (oFails x))) M' L)) := rfl
theorem pw_X0_fails {k : Nat} {x : St} {M : ZM} {L : ZL} {K : ma_Kt} (hp : k = 0 ∧ J x ∧ RX M L x) (h : (∀ (M' : ZM), RX M' L x → K (some (.int (oFails x))) M' L)) : ma_rn (tb_X0_fails S_X0_toldMany S_X0_refresh S_X0_offOf) 3 [.ref k] M L K := by
  refine ⟨Nat.le_of_ble_eq_true rfl, fun V hV => ?_⟩
  obtain ⟨rfl, hJ, hR⟩ := hp
  have a34 := hR.2.1.2.2.2.2.2.2.2.1
  have tl := tm_le (sP x 17) 12
  have t0 : (nI (tm (sP x 17) 12) = 0) = (tm (sP x 17) 12 = 0) := a_eq0 (by omega)
  unfold oFails at h
  refine ma_walk (mo_X0_fails ms_X0_toldMany ms_X0_refresh ms_X0_offOf) hV [18] (fun F hF => ?_)
  simp only [tb_X0_fails, hF, in_no, in_push, in_ild, in_lld, in_ald, in_ist, in_ast, in_lst, in_inc, in_iii, in_idv, in_ldv, in_lll, in_lli, in_lil, in_ii, in_il, in_li, in_ll, in_dup, in_dp2, q_if1, q_if2, in_go, in_sw, ma_sw, in_rv, in_ri, in_rz, in_rl, in_get, in_put, in_puz, in_iar, in_bar, in_lar, in_aar, in_iaw, in_baw, in_law, in_len, in_cpy, in_s1, in_s2, in_s3, in_v1, in_v2, in_v3, in_v4, in_v5, in_v6, ma_bk, ma_gl, ma_sl, ma_nl, ma_wc, ma_wd, ma_nn, ma_en, List.mem_cons, List.not_mem_nil, or_false, or_true, true_or, false_or, true_and, and_true, false_and, and_false, if_true, if_false, forall_const, true_implies, false_implies, not_true_eq_false, not_false_eq_true, Classical.not_not, implies_true, and_self, Nat.add_zero, Nat.zero_add, eq_self, ne_eq, reduceCtorEq, Nat.reduceLT, Nat.reduceLeDiff, Nat.reduceEqDiff, Nat.reduceSub, Nat.reduceAdd, i10, i01, im10, Int32.reduceLT, Int32.reduceLE, ↓reduceIte, reduceIte, up_r, uL_r, cp_r, Int32.toInt_toInt64, Int64.reduceToInt, Int32.reduceToInt, ↓b1_or, b1_0, b1_1, lc_lt, lc_le, lc_gt, lc_ge, lc_eq, yx_0, yx_1, yx_2, yx_3, yx_4, yx_5, yx_6, yx_7, yx_8, yx_9, yx_10, yx_11, yx_12, yx_13, yx_14, yx_15, yx_16, yx_17, yx_18, yx_19, yx_20, yx_21, yx_22, yx_23, yx_24, yx_25, yx_26, yx_27, yx_28, yx_29, yx_30, yx_31, yx_32, yx_33, yx_34, yx_35, yx_36, yx_37, yx_38, yx_39, yx_40, yx_41, yx_42, yx_43, yx_44, yx_45, yx_46, yx_47, yx_48, yx_49, yx_50, yx_51, yx_52, yx_53, yx_54, yx_55, yx_56, yx_57, yx_58, yx_59, yx_60, yx_61, yx_62, yx_63, yx_64, yx_65, yx_66, yx_67, yx_68, rx_0, rx_1, rx_2, rx_3, rx_4, rx_5, rx_6, rx_7, rx_8, rx_9, rx_10, rx_11, rx_12, rx_13, rx_14, rx_15, rx_16, rx_17, rx_18, rx_19, rx_20, rx_21, rx_22, rx_23, rx_24, rx_25, rx_26, rx_27, rx_28, rx_29, rx_30, rx_31, rx_32, rx_33, rp_0, rp_1, rp_2, rp_3, rp_4, rp_5, rp_6, rp_7, rp_8, rs_0, rs_1, rs_2, rs_3, rs_4, re_0, re_1, re_2, re_3, re_4, re_5, rr_0, rr_1, rr_2, rr_3, rr_4, rk_0, rk_1, isP3, isP11, isP46, isP58, isS25, isS28, isS31, un_X0_toldMany, un_X0_refresh, un_X0_offOf, a34, t0]
  try simp only [iteP, Classical.not_not, b1_0, b1_1]
  clear hF
  refine sw_n (fun z => by have g := h M hR; rw [if_pos z] at g; exact g) (fun z => ?_)
  rw [if_neg z] at h
  refine ⟨x, ⟨hJ, hR⟩, fun M' g1 g2 => ?_⟩
  have g := h M' g1
  have lp : ∀ n j a, n + j = 12 → K (some (.int (fls (sP x 17) (smx x) n j a))) M' L → V 18 [some (.ref 0), some (.int a), some (.int (nI j))] [] M' L := by
    intro n
    induction n with
    | zero =>
      intro j a hj g
      have v1 : (12 : Int32) ≤ nI j := by rw [show j = 12 by omega]; decide
      refine ma_walk (mo_X0_fails ms_X0_toldMany ms_X0_refresh ms_X0_offOf) hV [18] (fun F hF => ?_)
      simp only [tb_X0_fails, hF, in_no, in_push, in_ild, in_lld, in_ald, in_ist, in_ast, in_lst, in_inc, in_iii, in_idv, in_ldv, in_lll, in_lli, in_lil, in_ii, in_il, in_li, in_ll, in_dup, in_dp2, q_if1, q_if2, in_go, in_sw, ma_sw, in_rv, in_ri, in_rz, in_rl, in_get, in_put, in_puz, in_iar, in_bar, in_lar, in_aar, in_iaw, in_baw, in_law, in_len, in_cpy, in_s1, in_s2, in_s3, in_v1, in_v2, in_v3, in_v4, in_v5, in_v6, ma_bk, ma_gl, ma_sl, ma_nl, ma_wc, ma_wd, ma_nn, ma_en, List.mem_cons, List.not_mem_nil, or_false, or_true, true_or, false_or, true_and, and_true, false_and, and_false, if_true, if_false, forall_const, true_implies, false_implies, not_true_eq_false, not_false_eq_true, Classical.not_not, implies_true, and_self, Nat.add_zero, Nat.zero_add, eq_self, ne_eq, reduceCtorEq, Nat.reduceLT, Nat.reduceLeDiff, Nat.reduceEqDiff, Nat.reduceSub, Nat.reduceAdd, i10, i01, im10, Int32.reduceLT, Int32.reduceLE, ↓reduceIte, reduceIte, up_r, uL_r, cp_r, Int32.toInt_toInt64, Int64.reduceToInt, Int32.reduceToInt, ↓b1_or, b1_0, b1_1, lc_lt, lc_le, lc_gt, lc_ge, lc_eq, yx_0, yx_1, yx_2, yx_3, yx_4, yx_5, yx_6, yx_7, yx_8, yx_9, yx_10, yx_11, yx_12, yx_13, yx_14, yx_15, yx_16, yx_17, yx_18, yx_19, yx_20, yx_21, yx_22, yx_23, yx_24, yx_25, yx_26, yx_27, yx_28, yx_29, yx_30, yx_31, yx_32, yx_33, yx_34, yx_35, yx_36, yx_37, yx_38, yx_39, yx_40, yx_41, yx_42, yx_43, yx_44, yx_45, yx_46, yx_47, yx_48, yx_49, yx_50, yx_51, yx_52, yx_53, yx_54, yx_55, yx_56, yx_57, yx_58, yx_59, yx_60, yx_61, yx_62, yx_63, yx_64, yx_65, yx_66, yx_67, yx_68, rx_0, rx_1, rx_2, rx_3, rx_4, rx_5, rx_6, rx_7, rx_8, rx_9, rx_10, rx_11, rx_12, rx_13, rx_14, rx_15, rx_16, rx_17, rx_18, rx_19, rx_20, rx_21, rx_22, rx_23, rx_24, rx_25, rx_26, rx_27, rx_28, rx_29, rx_30, rx_31, rx_32, rx_33, rp_0, rp_1, rp_2, rp_3, rp_4, rp_5, rp_6, rp_7, rp_8, rs_0, rs_1, rs_2, rs_3, rs_4, re_0, re_1, re_2, re_3, re_4, re_5, rr_0, rr_1, rr_2, rr_3, rr_4, rk_0, rk_1, isP3, isP11, isP46, isP58, isS25, isS28, isS31, un_X0_toldMany, un_X0_refresh, un_X0_offOf, v1]
      try simp only [iteP, Classical.not_not, b1_0, b1_1]
      exact g
    | succ n ih =>
      intro j a hj g
      have v1 : ¬ (12 : Int32) ≤ nI j := fun y => by rw [show (12 : Int32) = nI 12 from rfl, a_le (by omega) (by omega)] at y; omega
      have v4 : nI j + 1 = nI (j + 1) := by rw [show (1 : Int32) = nI 1 from rfl, nI_add]
      have v2 : vp_in (nI j) 12 := vp_in_nI (by omega) (by decide)
      have v3 := a_cl (show j < 2147483648 by omega)
      rw [fls] at g
      refine ma_walk (mo_X0_fails ms_X0_toldMany ms_X0_refresh ms_X0_offOf) hV [18] (fun F hF => ?_)
      simp only [tb_X0_fails, hF, in_no, in_push, in_ild, in_lld, in_ald, in_ist, in_ast, in_lst, in_inc, in_iii, in_idv, in_ldv, in_lll, in_lli, in_lil, in_ii, in_il, in_li, in_ll, in_dup, in_dp2, q_if1, q_if2, in_go, in_sw, ma_sw, in_rv, in_ri, in_rz, in_rl, in_get, in_put, in_puz, in_iar, in_bar, in_lar, in_aar, in_iaw, in_baw, in_law, in_len, in_cpy, in_s1, in_s2, in_s3, in_v1, in_v2, in_v3, in_v4, in_v5, in_v6, ma_bk, ma_gl, ma_sl, ma_nl, ma_wc, ma_wd, ma_nn, ma_en, List.mem_cons, List.not_mem_nil, or_false, or_true, true_or, false_or, true_and, and_true, false_and, and_false, if_true, if_false, forall_const, true_implies, false_implies, not_true_eq_false, not_false_eq_true, Classical.not_not, implies_true, and_self, Nat.add_zero, Nat.zero_add, eq_self, ne_eq, reduceCtorEq, Nat.reduceLT, Nat.reduceLeDiff, Nat.reduceEqDiff, Nat.reduceSub, Nat.reduceAdd, i10, i01, im10, Int32.reduceLT, Int32.reduceLE, ↓reduceIte, reduceIte, up_r, uL_r, cp_r, Int32.toInt_toInt64, Int64.reduceToInt, Int32.reduceToInt, ↓b1_or, b1_0, b1_1, lc_lt, lc_le, lc_gt, lc_ge, lc_eq, yx_0, yx_1, yx_2, yx_3, yx_4, yx_5, yx_6, yx_7, yx_8, yx_9, yx_10, yx_11, yx_12, yx_13, yx_14, yx_15, yx_16, yx_17, yx_18, yx_19, yx_20, yx_21, yx_22, yx_23, yx_24, yx_25, yx_26, yx_27, yx_28, yx_29, yx_30, yx_31, yx_32, yx_33, yx_34, yx_35, yx_36, yx_37, yx_38, yx_39, yx_40, yx_41, yx_42, yx_43, yx_44, yx_45, yx_46, yx_47, yx_48, yx_49, yx_50, yx_51, yx_52, yx_53, yx_54, yx_55, yx_56, yx_57, yx_58, yx_59, yx_60, yx_61, yx_62, yx_63, yx_64, yx_65, yx_66, yx_67, yx_68, rx_0, rx_1, rx_2, rx_3, rx_4, rx_5, rx_6, rx_7, rx_8, rx_9, rx_10, rx_11, rx_12, rx_13, rx_14, rx_15, rx_16, rx_17, rx_18, rx_19, rx_20, rx_21, rx_22, rx_23, rx_24, rx_25, rx_26, rx_27, rx_28, rx_29, rx_30, rx_31, rx_32, rx_33, rp_0, rp_1, rp_2, rp_3, rp_4, rp_5, rp_6, rp_7, rp_8, rs_0, rs_1, rs_2, rs_3, rs_4, re_0, re_1, re_2, re_3, re_4, re_5, rr_0, rr_1, rr_2, rr_3, rr_4, rk_0, rk_1, isP3, isP11, isP46, isP58, isS25, isS28, isS31, un_X0_toldMany, un_X0_refresh, un_X0_offOf, v1, v4, v2, v3, a34]
      try simp only [iteP, Classical.not_not, b1_0, b1_1]
      refine sw_n (fun y => ?_) (fun y => ⟨x, j, ⟨hJ, g1, g2, rfl, by omega⟩, sw_n (fun y2 => ?_) (fun y2 => ?_)⟩)
      · rw [if_pos y] at g; exact ih (j + 1) _ (by omega) g
      · rw [if_neg y, if_pos y2] at g; exact ih (j + 1) _ (by omega) g
      · rw [if_neg y, if_neg y2] at g; exact ih (j + 1) _ (by omega) g
  exact lp 12 0 0 rfl g
theorem pv_X0_fails : ∀ as M L K, S_X0_fails as M L K → ma_rn (tb_X0_fails S_X0_toldMany S_X0_refresh S_X0_offOf) 3 as M L K := by
  intro as M L K h
  unfold S_X0_fails at h
  split at h
  · obtain ⟨x, h⟩ := h; exact pw_X0_fails h.1 h.2
  · exact h.elim
def S_X5_tells : ma_Cs := fun as M L K => match as with
  | [.ref k] => ∃ (x : St), (k = 0 ∧ J x ∧ RY M L x) ∧ (∀ (M' : ZM) (L' : ZL), RY M' L' x → (∀ i, i < 12 → L' 25 i = smx x i) → K (some (.int (nI (tm (sP x 17) 12)))) M' L')
  | _ => False
theorem ms_X5_tells : ma_ms S_X5_tells := by
  intro as M L K K' hk h
  unfold S_X5_tells at h ⊢
  split at h
  · obtain ⟨x, h⟩ := h
    exact ⟨x, h.1, fun x0 x1 x2 x3 => hk _ _ _ (h.2 x0 x1 x2 x3)⟩
  · exact h.elim
theorem un_X5_tells {k : Nat} {M : ZM} {L : ZL} {K : ma_Kt} : S_X5_tells [.ref k] M L K = (∃ (x : St), (k = 0 ∧ J x ∧ RY M L x) ∧ (∀ (M' : ZM) (L' : ZL), RY M' L' x → (∀ i, i < 12 → L' 25 i = smx x i) → K (some (.int (nI (tm (sP x 17) 12)))) M' L')) := rfl
theorem pw_X5_tells {k : Nat} {x : St} {M : ZM} {L : ZL} {K : ma_Kt} (hp : k = 0 ∧ J x ∧ RY M L x) (h : (∀ (M' : ZM) (L' : ZL), RY M' L' x → (∀ i, i < 12 → L' 25 i = smx x i) → K (some (.int (nI (tm (sP x 17) 12)))) M' L')) : ma_rn (tb_X5_tells S_X5_all S_X5_hall S_X5_cells S_X5_place) 4 [.ref k] M L K := by
  refine ⟨Nat.le_of_ble_eq_true rfl, fun V hV => ?_⟩
  obtain ⟨rfl, hJ, hR⟩ := hp
  obtain ⟨w, u, e, ns, ta, tb, h1, h2, h3, h6, h7, h8, hs, w2, w6, u2, u6, e3, n12, ta12, tb4, q0, q36, n1, n2, n3, n6⟩ := hJ.sky
  have c19 := hR.1.2.2.2.2.2.1
  rw [h6] at c19
  have a17 := hR.2.1.2.2.2.2.2.2.2.1
  have n7 : nat (sN x 0 24) = ta := by unfold nat; rw [h7, a_cl (by omega)]
  have n8 : nat (sN x 0 25) = tb := by unfold nat; rw [h8, a_cl (by omega)]
  have w0 : ¬ nI w = 0 := by rw [a_eq0 (by omega)]; omega
  unfold smx at h
  rw [n1, n2, n7, n8] at h
  have lp : ∀ j, j ≤ 12 → V 4 [some (.ref 0), some (.int (nI (tm (sP x 17) j))), some (.int (nI j)), none] [] M (fL L 25 j 0) := by
    refine lp_up ?_ ?_
    · have v1 : (12 : Int32) ≤ nI 12 := by decide
      refine ma_walk (mo_X5_tells ms_X5_all ms_X5_hall ms_X5_cells ms_X5_place) hV [4, 58] (fun F hF => ?_)
      simp only [tb_X5_tells, hF, in_no, in_push, in_ild, in_lld, in_ald, in_ist, in_ast, in_lst, in_inc, in_iii, in_idv, in_ldv, in_lll, in_lli, in_lil, in_ii, in_il, in_li, in_ll, in_dup, in_dp2, q_if1, q_if2, in_go, in_sw, ma_sw, in_rv, in_ri, in_rz, in_rl, in_get, in_put, in_puz, in_iar, in_bar, in_lar, in_aar, in_iaw, in_baw, in_law, in_len, in_cpy, in_s1, in_s2, in_s3, in_v1, in_v2, in_v3, in_v4, in_v5, in_v6, ma_bk, ma_gl, ma_sl, ma_nl, ma_wc, ma_wd, ma_nn, ma_en, List.mem_cons, List.not_mem_nil, or_false, or_true, true_or, false_or, true_and, and_true, false_and, and_false, if_true, if_false, forall_const, true_implies, false_implies, not_true_eq_false, not_false_eq_true, Classical.not_not, implies_true, and_self, Nat.add_zero, Nat.zero_add, eq_self, ne_eq, reduceCtorEq, Nat.reduceLT, Nat.reduceLeDiff, Nat.reduceEqDiff, Nat.reduceSub, Nat.reduceAdd, i10, i01, im10, Int32.reduceLT, Int32.reduceLE, ↓reduceIte, reduceIte, up_r, uL_r, cp_r, Int32.toInt_toInt64, Int64.reduceToInt, Int32.reduceToInt, ↓b1_or, b1_0, b1_1, lc_lt, lc_le, lc_gt, lc_ge, lc_eq, ym_0, ym_1, ym_2, ym_3, ym_4, ym_5, ym_6, ym_7, ym_8, ym_9, ym_10, ym_11, ym_12, ym_13, ym_14, ym_15, ym_16, ym_17, ym_18, ym_19, ym_20, ym_21, ym_22, ym_23, ym_24, ym_25, ym_26, ym_27, ym_28, ym_29, ym_30, rm__0, rm__1, rm__2, rm__3, rm__4, rm__5, rm__6, rm__7, rm__8, rm__9, rm__10, rm__11, rm__12, rm__13, rm__14, rm__15, rm__16, rm__17, rm__18, rm__19, rm__20, rm__21, rm__22, rm__23, rm__24, rm__25, rm__26, rm__27, rm__28, rm__29, rm__30, rm__31, rm__32, rm__33, rm__34, rm__35, rm__36, rm__37, rm__38, rm__39, rm__40, rm__41, rm__42, rm__43, rm__44, rm__45, un_X5_all, un_X5_hall, un_X5_cells, un_X5_place, v1, c19]
      try simp only [iteP, Classical.not_not, b1_0, b1_1]
      refine ⟨w, u, e, ns, sAll, (sp x).1, (sp x).2, ⟨Or.inl rfl, ?_⟩, fun M2 p1 p2 p3 p4 p5 => ?_⟩
      · have q := hR.pre hJ h1 h2 h3 h6 hs n12 (set := (1 : Int32) <<< (nI ns &&& 31) - 1) (S := sAll) (fun i hi => ⟨fun _ => all_b ⟨ns, by omega⟩ ⟨i, by omega⟩ hi, fun _ => rfl⟩)
        rw [c19] at q
        exact q
      have hR2 := hR.behind (Or.inl rfl) p1 p2 p4
      have hv2 := hR.val h1 h2 h3 h6 (by omega) (by omega) (by omega) (by omega) p3
      obtain ⟨⟨d0, d1, d2, d3, d5, d19, d24, d25, d30⟩, -, -, -⟩ := id hR2
      rw [h1] at d0
      rw [h2] at d1
      rw [h7] at d24
      rw [h8] at d25
      have lp2 : ∀ n j Lj, n + j = w * u → Lj 17 = L 17 → (∀ i, i < 12 → Lj 25 i = sm (fun c => cnt (hv x sAll ta c tb)) w i j) → ∀ o3, V 58 [some (.ref 0), some (.int (nI (tm (sP x 17) 12))), some (.int (nI j)), o3] [] M2 Lj := by
        intro n
        induction n with
        | zero =>
          intro j Lj hj e1 e2 o3
          have v1 : nI w * nI u ≤ nI j := by rw [pk_mul, a_le (by omega) (by omega)]; omega
          refine ma_walk (mo_X5_tells ms_X5_all ms_X5_hall ms_X5_cells ms_X5_place) hV [4, 58] (fun F hF => ?_)
          simp only [tb_X5_tells, hF, in_no, in_push, in_ild, in_lld, in_ald, in_ist, in_ast, in_lst, in_inc, in_iii, in_idv, in_ldv, in_lll, in_lli, in_lil, in_ii, in_il, in_li, in_ll, in_dup, in_dp2, q_if1, q_if2, in_go, in_sw, ma_sw, in_rv, in_ri, in_rz, in_rl, in_get, in_put, in_puz, in_iar, in_bar, in_lar, in_aar, in_iaw, in_baw, in_law, in_len, in_cpy, in_s1, in_s2, in_s3, in_v1, in_v2, in_v3, in_v4, in_v5, in_v6, ma_bk, ma_gl, ma_sl, ma_nl, ma_wc, ma_wd, ma_nn, ma_en, List.mem_cons, List.not_mem_nil, or_false, or_true, true_or, false_or, true_and, and_true, false_and, and_false, if_true, if_false, forall_const, true_implies, false_implies, not_true_eq_false, not_false_eq_true, Classical.not_not, implies_true, and_self, Nat.add_zero, Nat.zero_add, eq_self, ne_eq, reduceCtorEq, Nat.reduceLT, Nat.reduceLeDiff, Nat.reduceEqDiff, Nat.reduceSub, Nat.reduceAdd, i10, i01, im10, Int32.reduceLT, Int32.reduceLE, ↓reduceIte, reduceIte, up_r, uL_r, cp_r, Int32.toInt_toInt64, Int64.reduceToInt, Int32.reduceToInt, ↓b1_or, b1_0, b1_1, lc_lt, lc_le, lc_gt, lc_ge, lc_eq, ym_0, ym_1, ym_2, ym_3, ym_4, ym_5, ym_6, ym_7, ym_8, ym_9, ym_10, ym_11, ym_12, ym_13, ym_14, ym_15, ym_16, ym_17, ym_18, ym_19, ym_20, ym_21, ym_22, ym_23, ym_24, ym_25, ym_26, ym_27, ym_28, ym_29, ym_30, rm__0, rm__1, rm__2, rm__3, rm__4, rm__5, rm__6, rm__7, rm__8, rm__9, rm__10, rm__11, rm__12, rm__13, rm__14, rm__15, rm__16, rm__17, rm__18, rm__19, rm__20, rm__21, rm__22, rm__23, rm__24, rm__25, rm__26, rm__27, rm__28, rm__29, rm__30, rm__31, rm__32, rm__33, rm__34, rm__35, rm__36, rm__37, rm__38, rm__39, rm__40, rm__41, rm__42, rm__43, rm__44, rm__45, un_X5_all, un_X5_hall, un_X5_cells, un_X5_place, v1, d0, d1]
          try simp only [iteP, Classical.not_not, b1_0, b1_1]
          exact h M2 Lj (hR2.uL e1) (fun i hi => by rw [e2 i hi, show j = w * u by omega])
        | succ n ih =>
          intro j Lj hj e1 e2 o3
          have hj' : j < w * u := by omega
          have v1 : ¬ nI w * nI u ≤ nI j := by rw [pk_mul, a_le (by omega) (by omega)]; omega
          have v4 : nI j + 1 = nI (j + 1) := by rw [show (1 : Int32) = nI 1 from rfl, nI_add]
          have r2 : nI j / nI w = nI (j / w) := pk_div (by omega) (by omega) (by omega)
          have r1 : nI j - nI (j / w) * nI w = nI (j % w) := by rw [← r2]; exact pk_rem (by omega) (by omega) (by omega)
          have jw : j / w < 6 := Nat.div_lt_of_lt_mul (Nat.lt_of_lt_of_le hj' (Nat.mul_le_mul_left w u6))
          have jm : j % w < w := Nat.mod_lt _ (by omega)
          have e0 : 144 * nI ta + 4 * nI j + nI tb = nI (144 * ta + 4 * j + tb) := pl_e ta j tb
          have v2 : vp_in (nI (144 * ta + 4 * j + tb)) 1872 := vp_in_nI (by omega) (by decide)
          have v3 := a_cl (show 144 * ta + 4 * j + tb < 2147483648 by omega)
          have v5 := (hv2 ta j tb (by omega) (by omega) (by omega)).1
          have v6 : 6 + nI (j % w) = nI (6 + j % w) := by rw [show (6 : Int32) = nI 6 from rfl, nI_add]
          have v7 : vp_in (nI (j / w)) 12 := vp_in_nI (by omega) (by decide)
          have v8 : vp_in (nI (6 + j % w)) 12 := vp_in_nI (by omega) (by decide)
          have v9 := a_cl (show j / w < 2147483648 by omega)
          have v10 := a_cl (show 6 + j % w < 2147483648 by omega)
          have v11 : (6 + j % w = j / w) = False := eq_false (by omega)
          have q := sm_s (f := fun c => cnt (hv x sAll ta c tb)) jw e2
          by_cases y : hv x sAll ta j tb = 2000000000
          · simp only [cnt, if_pos y] at q
            refine ma_walk (mo_X5_tells ms_X5_all ms_X5_hall ms_X5_cells ms_X5_place) hV [4, 58] (fun F hF => ?_)
            simp only [tb_X5_tells, hF, in_no, in_push, in_ild, in_lld, in_ald, in_ist, in_ast, in_lst, in_inc, in_iii, in_idv, in_ldv, in_lll, in_lli, in_lil, in_ii, in_il, in_li, in_ll, in_dup, in_dp2, q_if1, q_if2, in_go, in_sw, ma_sw, in_rv, in_ri, in_rz, in_rl, in_get, in_put, in_puz, in_iar, in_bar, in_lar, in_aar, in_iaw, in_baw, in_law, in_len, in_cpy, in_s1, in_s2, in_s3, in_v1, in_v2, in_v3, in_v4, in_v5, in_v6, ma_bk, ma_gl, ma_sl, ma_nl, ma_wc, ma_wd, ma_nn, ma_en, List.mem_cons, List.not_mem_nil, or_false, or_true, true_or, false_or, true_and, and_true, false_and, and_false, if_true, if_false, forall_const, true_implies, false_implies, not_true_eq_false, not_false_eq_true, Classical.not_not, implies_true, and_self, Nat.add_zero, Nat.zero_add, eq_self, ne_eq, reduceCtorEq, Nat.reduceLT, Nat.reduceLeDiff, Nat.reduceEqDiff, Nat.reduceSub, Nat.reduceAdd, i10, i01, im10, Int32.reduceLT, Int32.reduceLE, ↓reduceIte, reduceIte, up_r, uL_r, cp_r, Int32.toInt_toInt64, Int64.reduceToInt, Int32.reduceToInt, ↓b1_or, b1_0, b1_1, lc_lt, lc_le, lc_gt, lc_ge, lc_eq, ym_0, ym_1, ym_2, ym_3, ym_4, ym_5, ym_6, ym_7, ym_8, ym_9, ym_10, ym_11, ym_12, ym_13, ym_14, ym_15, ym_16, ym_17, ym_18, ym_19, ym_20, ym_21, ym_22, ym_23, ym_24, ym_25, ym_26, ym_27, ym_28, ym_29, ym_30, rm__0, rm__1, rm__2, rm__3, rm__4, rm__5, rm__6, rm__7, rm__8, rm__9, rm__10, rm__11, rm__12, rm__13, rm__14, rm__15, rm__16, rm__17, rm__18, rm__19, rm__20, rm__21, rm__22, rm__23, rm__24, rm__25, rm__26, rm__27, rm__28, rm__29, rm__30, rm__31, rm__32, rm__33, rm__34, rm__35, rm__36, rm__37, rm__38, rm__39, rm__40, rm__41, rm__42, rm__43, rm__44, rm__45, un_X5_all, un_X5_hall, un_X5_cells, un_X5_place, v1, v4, d0, d1, d24, d25, r2, r1, e0, v2, v3, v5, v6, v7, v8, v9, v10, v11, w0, y]
            try simp only [iteP, Classical.not_not, b1_0, b1_1]
            exact ih (j + 1) _ (by omega) (by rw [uL_c (by decide), uL_c (by decide)]; exact e1) (fun i hi => by rw [ma_uL_at, ma_uL_at]; exact q i hi) _
          · simp only [cnt, if_neg y] at q
            refine ma_walk (mo_X5_tells ms_X5_all ms_X5_hall ms_X5_cells ms_X5_place) hV [4, 58] (fun F hF => ?_)
            simp only [tb_X5_tells, hF, in_no, in_push, in_ild, in_lld, in_ald, in_ist, in_ast, in_lst, in_inc, in_iii, in_idv, in_ldv, in_lll, in_lli, in_lil, in_ii, in_il, in_li, in_ll, in_dup, in_dp2, q_if1, q_if2, in_go, in_sw, ma_sw, in_rv, in_ri, in_rz, in_rl, in_get, in_put, in_puz, in_iar, in_bar, in_lar, in_aar, in_iaw, in_baw, in_law, in_len, in_cpy, in_s1, in_s2, in_s3, in_v1, in_v2, in_v3, in_v4, in_v5, in_v6, ma_bk, ma_gl, ma_sl, ma_nl, ma_wc, ma_wd, ma_nn, ma_en, List.mem_cons, List.not_mem_nil, or_false, or_true, true_or, false_or, true_and, and_true, false_and, and_false, if_true, if_false, forall_const, true_implies, false_implies, not_true_eq_false, not_false_eq_true, Classical.not_not, implies_true, and_self, Nat.add_zero, Nat.zero_add, eq_self, ne_eq, reduceCtorEq, Nat.reduceLT, Nat.reduceLeDiff, Nat.reduceEqDiff, Nat.reduceSub, Nat.reduceAdd, i10, i01, im10, Int32.reduceLT, Int32.reduceLE, ↓reduceIte, reduceIte, up_r, uL_r, cp_r, Int32.toInt_toInt64, Int64.reduceToInt, Int32.reduceToInt, ↓b1_or, b1_0, b1_1, lc_lt, lc_le, lc_gt, lc_ge, lc_eq, ym_0, ym_1, ym_2, ym_3, ym_4, ym_5, ym_6, ym_7, ym_8, ym_9, ym_10, ym_11, ym_12, ym_13, ym_14, ym_15, ym_16, ym_17, ym_18, ym_19, ym_20, ym_21, ym_22, ym_23, ym_24, ym_25, ym_26, ym_27, ym_28, ym_29, ym_30, rm__0, rm__1, rm__2, rm__3, rm__4, rm__5, rm__6, rm__7, rm__8, rm__9, rm__10, rm__11, rm__12, rm__13, rm__14, rm__15, rm__16, rm__17, rm__18, rm__19, rm__20, rm__21, rm__22, rm__23, rm__24, rm__25, rm__26, rm__27, rm__28, rm__29, rm__30, rm__31, rm__32, rm__33, rm__34, rm__35, rm__36, rm__37, rm__38, rm__39, rm__40, rm__41, rm__42, rm__43, rm__44, rm__45, un_X5_all, un_X5_hall, un_X5_cells, un_X5_place, v1, v4, d0, d1, d24, d25, r2, r1, e0, v2, v3, v5, v6, v7, v8, v9, v10, v11, w0, y]
            try simp only [iteP, Classical.not_not, b1_0, b1_1]
            exact ih (j + 1) _ (by omega) (by rw [uL_c (by decide), uL_c (by decide)]; exact e1) (fun i hi => by rw [ma_uL_at, ma_uL_at]; exact q i hi) _
      refine lp2 _ 0 _ rfl ?_ (fun i hi => ?_) _
      · funext i; exact if_neg (by omega)
      · rw [fL_at]; unfold fiL; rw [if_pos hi]; rfl
    · intro j hj ih
      have v1 : ¬ (12 : Int32) ≤ nI j := fun y => by rw [show (12 : Int32) = nI 12 from rfl, a_le (by omega) (by omega)] at y; omega
      have v4 : nI j + 1 = nI (j + 1) := by rw [show (1 : Int32) = nI 1 from rfl, nI_add]
      have v2 : vp_in (nI j) 12 := vp_in_nI (by omega) (by decide)
      have v3 := a_cl (show j < 2147483648 by omega)
      have v5 : fL L 25 j 0 17 j = sP x 17 j := by rw [← a17]; exact if_neg (by omega)
      rw [tm] at ih
      refine ma_walk (mo_X5_tells ms_X5_all ms_X5_hall ms_X5_cells ms_X5_place) hV [4, 58] (fun F hF => ?_)
      simp only [tb_X5_tells, hF, in_no, in_push, in_ild, in_lld, in_ald, in_ist, in_ast, in_lst, in_inc, in_iii, in_idv, in_ldv, in_lll, in_lli, in_lil, in_ii, in_il, in_li, in_ll, in_dup, in_dp2, q_if1, q_if2, in_go, in_sw, ma_sw, in_rv, in_ri, in_rz, in_rl, in_get, in_put, in_puz, in_iar, in_bar, in_lar, in_aar, in_iaw, in_baw, in_law, in_len, in_cpy, in_s1, in_s2, in_s3, in_v1, in_v2, in_v3, in_v4, in_v5, in_v6, ma_bk, ma_gl, ma_sl, ma_nl, ma_wc, ma_wd, ma_nn, ma_en, List.mem_cons, List.not_mem_nil, or_false, or_true, true_or, false_or, true_and, and_true, false_and, and_false, if_true, if_false, forall_const, true_implies, false_implies, not_true_eq_false, not_false_eq_true, Classical.not_not, implies_true, and_self, Nat.add_zero, Nat.zero_add, eq_self, ne_eq, reduceCtorEq, Nat.reduceLT, Nat.reduceLeDiff, Nat.reduceEqDiff, Nat.reduceSub, Nat.reduceAdd, i10, i01, im10, Int32.reduceLT, Int32.reduceLE, ↓reduceIte, reduceIte, up_r, uL_r, cp_r, Int32.toInt_toInt64, Int64.reduceToInt, Int32.reduceToInt, ↓b1_or, b1_0, b1_1, lc_lt, lc_le, lc_gt, lc_ge, lc_eq, ym_0, ym_1, ym_2, ym_3, ym_4, ym_5, ym_6, ym_7, ym_8, ym_9, ym_10, ym_11, ym_12, ym_13, ym_14, ym_15, ym_16, ym_17, ym_18, ym_19, ym_20, ym_21, ym_22, ym_23, ym_24, ym_25, ym_26, ym_27, ym_28, ym_29, ym_30, rm__0, rm__1, rm__2, rm__3, rm__4, rm__5, rm__6, rm__7, rm__8, rm__9, rm__10, rm__11, rm__12, rm__13, rm__14, rm__15, rm__16, rm__17, rm__18, rm__19, rm__20, rm__21, rm__22, rm__23, rm__24, rm__25, rm__26, rm__27, rm__28, rm__29, rm__30, rm__31, rm__32, rm__33, rm__34, rm__35, rm__36, rm__37, rm__38, rm__39, rm__40, rm__41, rm__42, rm__43, rm__44, rm__45, un_X5_all, un_X5_hall, un_X5_cells, un_X5_place, v1, v4, v2, v3, v5, fL_s]
      try simp only [iteP, Classical.not_not, b1_0, b1_1]
      refine sw_n (fun y => ?_) (fun y => ?_)
      · rw [if_pos y] at ih; rw [Int32.add_zero]; exact ih
      · rw [if_neg y] at ih; rw [show (1 : Int32) = nI 1 from rfl, nI_add]; exact ih
  refine ma_walk (mo_X5_tells ms_X5_all ms_X5_hall ms_X5_cells ms_X5_place) hV [4] (fun F hF => ?_)
  simp only [tb_X5_tells, hF, in_no, in_push, in_ild, in_lld, in_ald, in_ist, in_ast, in_lst, in_inc, in_iii, in_idv, in_ldv, in_lll, in_lli, in_lil, in_ii, in_il, in_li, in_ll, in_dup, in_dp2, q_if1, q_if2, in_go, in_sw, ma_sw, in_rv, in_ri, in_rz, in_rl, in_get, in_put, in_puz, in_iar, in_bar, in_lar, in_aar, in_iaw, in_baw, in_law, in_len, in_cpy, in_s1, in_s2, in_s3, in_v1, in_v2, in_v3, in_v4, in_v5, in_v6, ma_bk, ma_gl, ma_sl, ma_nl, ma_wc, ma_wd, ma_nn, ma_en, List.mem_cons, List.not_mem_nil, or_false, or_true, true_or, false_or, true_and, and_true, false_and, and_false, if_true, if_false, forall_const, true_implies, false_implies, not_true_eq_false, not_false_eq_true, Classical.not_not, implies_true, and_self, Nat.add_zero, Nat.zero_add, eq_self, ne_eq, reduceCtorEq, Nat.reduceLT, Nat.reduceLeDiff, Nat.reduceEqDiff, Nat.reduceSub, Nat.reduceAdd, i10, i01, im10, Int32.reduceLT, Int32.reduceLE, ↓reduceIte, reduceIte, up_r, uL_r, cp_r, Int32.toInt_toInt64, Int64.reduceToInt, Int32.reduceToInt, ↓b1_or, b1_0, b1_1, lc_lt, lc_le, lc_gt, lc_ge, lc_eq, ym_0, ym_1, ym_2, ym_3, ym_4, ym_5, ym_6, ym_7, ym_8, ym_9, ym_10, ym_11, ym_12, ym_13, ym_14, ym_15, ym_16, ym_17, ym_18, ym_19, ym_20, ym_21, ym_22, ym_23, ym_24, ym_25, ym_26, ym_27, ym_28, ym_29, ym_30, rm__0, rm__1, rm__2, rm__3, rm__4, rm__5, rm__6, rm__7, rm__8, rm__9, rm__10, rm__11, rm__12, rm__13, rm__14, rm__15, rm__16, rm__17, rm__18, rm__19, rm__20, rm__21, rm__22, rm__23, rm__24, rm__25, rm__26, rm__27, rm__28, rm__29, rm__30, rm__31, rm__32, rm__33, rm__34, rm__35, rm__36, rm__37, rm__38, rm__39, rm__40, rm__41, rm__42, rm__43, rm__44, rm__45, un_X5_all, un_X5_hall, un_X5_cells, un_X5_place]
  try simp only [iteP, Classical.not_not, b1_0, b1_1]
  have q := lp 0 (by omega)
  rw [fL_0] at q
  exact q
theorem pv_X5_tells : ∀ as M L K, S_X5_tells as M L K → ma_rn (tb_X5_tells S_X5_all S_X5_hall S_X5_cells S_X5_place) 4 as M L K := by
  intro as M L K h
  unfold S_X5_tells at h
  split at h
  · obtain ⟨x, h⟩ := h; exact pw_X5_tells h.1 h.2
  · exact h.elim
def S_X5_fails_2 : ma_Cs := fun as M L K => match as with
  | [.ref k] => ∃ (x : St), (k = 0 ∧ J x ∧ RY M L x) ∧ (∀ (M' : ZM) (L' : ZL), RY M' L' x → K (some (.int (oFails x))) M' L')
  | _ => False
theorem ms_X5_fails_2 : ma_ms S_X5_fails_2 := by
  intro as M L K K' hk h
  unfold S_X5_fails_2 at h ⊢
  split at h
  · obtain ⟨x, h⟩ := h
    exact ⟨x, h.1, fun x0 x1 x2 => hk _ _ _ (h.2 x0 x1 x2)⟩
  · exact h.elim
theorem un_X5_fails_2 {k : Nat} {M : ZM} {L : ZL} {K : ma_Kt} : S_X5_fails_2 [.ref k] M L K = (∃ (x : St), (k = 0 ∧ J x ∧ RY M L x) ∧ (∀ (M' : ZM) (L' : ZL), RY M' L' x → K (some (.int (oFails x))) M' L')) := rfl
theorem pw_X5_fails_2 {k : Nat} {x : St} {M : ZM} {L : ZL} {K : ma_Kt} (hp : k = 0 ∧ J x ∧ RY M L x) (h : (∀ (M' : ZM) (L' : ZL), RY M' L' x → K (some (.int (oFails x))) M' L')) : ma_rn (tb_X5_fails_2 S_X5_tells) 3 [.ref k] M L K := by
  refine ⟨Nat.le_of_ble_eq_true rfl, fun V hV => ?_⟩
  obtain ⟨rfl, hJ, hR⟩ := hp
  have tl := tm_le (sP x 17) 12
  have t0 : (nI (tm (sP x 17) 12) = 0) = (tm (sP x 17) 12 = 0) := a_eq0 (by omega)
  unfold oFails at h
  refine ma_walk (mo_X5_fails_2 ms_X5_tells) hV [14] (fun F hF => ?_)
  simp only [tb_X5_fails_2, hF, in_no, in_push, in_ild, in_lld, in_ald, in_ist, in_ast, in_lst, in_inc, in_iii, in_idv, in_ldv, in_lll, in_lli, in_lil, in_ii, in_il, in_li, in_ll, in_dup, in_dp2, q_if1, q_if2, in_go, in_sw, ma_sw, in_rv, in_ri, in_rz, in_rl, in_get, in_put, in_puz, in_iar, in_bar, in_lar, in_aar, in_iaw, in_baw, in_law, in_len, in_cpy, in_s1, in_s2, in_s3, in_v1, in_v2, in_v3, in_v4, in_v5, in_v6, ma_bk, ma_gl, ma_sl, ma_nl, ma_wc, ma_wd, ma_nn, ma_en, List.mem_cons, List.not_mem_nil, or_false, or_true, true_or, false_or, true_and, and_true, false_and, and_false, if_true, if_false, forall_const, true_implies, false_implies, not_true_eq_false, not_false_eq_true, Classical.not_not, implies_true, and_self, Nat.add_zero, Nat.zero_add, eq_self, ne_eq, reduceCtorEq, Nat.reduceLT, Nat.reduceLeDiff, Nat.reduceEqDiff, Nat.reduceSub, Nat.reduceAdd, i10, i01, im10, Int32.reduceLT, Int32.reduceLE, ↓reduceIte, reduceIte, up_r, uL_r, cp_r, Int32.toInt_toInt64, Int64.reduceToInt, Int32.reduceToInt, ↓b1_or, b1_0, b1_1, lc_lt, lc_le, lc_gt, lc_ge, lc_eq, ym_0, ym_1, ym_2, ym_3, ym_4, ym_5, ym_6, ym_7, ym_8, ym_9, ym_10, ym_11, ym_12, ym_13, ym_14, ym_15, ym_16, ym_17, ym_18, ym_19, ym_20, ym_21, ym_22, ym_23, ym_24, ym_25, ym_26, ym_27, ym_28, ym_29, ym_30, rm__0, rm__1, rm__2, rm__3, rm__4, rm__5, rm__6, rm__7, rm__8, rm__9, rm__10, rm__11, rm__12, rm__13, rm__14, rm__15, rm__16, rm__17, rm__18, rm__19, rm__20, rm__21, rm__22, rm__23, rm__24, rm__25, rm__26, rm__27, rm__28, rm__29, rm__30, rm__31, rm__32, rm__33, rm__34, rm__35, rm__36, rm__37, rm__38, rm__39, rm__40, rm__41, rm__42, rm__43, rm__44, rm__45, un_X5_tells, t0]
  try simp only [iteP, Classical.not_not, b1_0, b1_1]
  clear hF
  refine ⟨x, ⟨hJ, hR⟩, fun M' L' g1 g2 => ?_⟩
  have a17 := g1.2.1.2.2.2.2.2.2.2.1
  have g := h M' L' g1
  have lp : ∀ n j a, n + j = 12 → K (some (.int (fls (sP x 17) (smx x) n j a))) M' L' → V 14 [some (.ref 0), some (.int a), some (.int (nI j))] [] M' L' := by
    intro n
    induction n with
    | zero =>
      intro j a hj g
      have v1 : (12 : Int32) ≤ nI j := by rw [show j = 12 by omega]; decide
      refine ma_walk (mo_X5_fails_2 ms_X5_tells) hV [14] (fun F hF => ?_)
      simp only [tb_X5_fails_2, hF, in_no, in_push, in_ild, in_lld, in_ald, in_ist, in_ast, in_lst, in_inc, in_iii, in_idv, in_ldv, in_lll, in_lli, in_lil, in_ii, in_il, in_li, in_ll, in_dup, in_dp2, q_if1, q_if2, in_go, in_sw, ma_sw, in_rv, in_ri, in_rz, in_rl, in_get, in_put, in_puz, in_iar, in_bar, in_lar, in_aar, in_iaw, in_baw, in_law, in_len, in_cpy, in_s1, in_s2, in_s3, in_v1, in_v2, in_v3, in_v4, in_v5, in_v6, ma_bk, ma_gl, ma_sl, ma_nl, ma_wc, ma_wd, ma_nn, ma_en, List.mem_cons, List.not_mem_nil, or_false, or_true, true_or, false_or, true_and, and_true, false_and, and_false, if_true, if_false, forall_const, true_implies, false_implies, not_true_eq_false, not_false_eq_true, Classical.not_not, implies_true, and_self, Nat.add_zero, Nat.zero_add, eq_self, ne_eq, reduceCtorEq, Nat.reduceLT, Nat.reduceLeDiff, Nat.reduceEqDiff, Nat.reduceSub, Nat.reduceAdd, i10, i01, im10, Int32.reduceLT, Int32.reduceLE, ↓reduceIte, reduceIte, up_r, uL_r, cp_r, Int32.toInt_toInt64, Int64.reduceToInt, Int32.reduceToInt, ↓b1_or, b1_0, b1_1, lc_lt, lc_le, lc_gt, lc_ge, lc_eq, ym_0, ym_1, ym_2, ym_3, ym_4, ym_5, ym_6, ym_7, ym_8, ym_9, ym_10, ym_11, ym_12, ym_13, ym_14, ym_15, ym_16, ym_17, ym_18, ym_19, ym_20, ym_21, ym_22, ym_23, ym_24, ym_25, ym_26, ym_27, ym_28, ym_29, ym_30, rm__0, rm__1, rm__2, rm__3, rm__4, rm__5, rm__6, rm__7, rm__8, rm__9, rm__10, rm__11, rm__12, rm__13, rm__14, rm__15, rm__16, rm__17, rm__18, rm__19, rm__20, rm__21, rm__22, rm__23, rm__24, rm__25, rm__26, rm__27, rm__28, rm__29, rm__30, rm__31, rm__32, rm__33, rm__34, rm__35, rm__36, rm__37, rm__38, rm__39, rm__40, rm__41, rm__42, rm__43, rm__44, rm__45, un_X5_tells, v1]
      try simp only [iteP, Classical.not_not, b1_0, b1_1]
      exact g
    | succ n ih =>
      intro j a hj g
      have v1 : ¬ (12 : Int32) ≤ nI j := fun y => by rw [show (12 : Int32) = nI 12 from rfl, a_le (by omega) (by omega)] at y; omega
      have v4 : nI j + 1 = nI (j + 1) := by rw [show (1 : Int32) = nI 1 from rfl, nI_add]
      have v2 : vp_in (nI j) 12 := vp_in_nI (by omega) (by decide)
      have v3 := a_cl (show j < 2147483648 by omega)
      have v5 := g2 j (by omega)
      rw [fls] at g
      refine ma_walk (mo_X5_fails_2 ms_X5_tells) hV [14] (fun F hF => ?_)
      simp only [tb_X5_fails_2, hF, in_no, in_push, in_ild, in_lld, in_ald, in_ist, in_ast, in_lst, in_inc, in_iii, in_idv, in_ldv, in_lll, in_lli, in_lil, in_ii, in_il, in_li, in_ll, in_dup, in_dp2, q_if1, q_if2, in_go, in_sw, ma_sw, in_rv, in_ri, in_rz, in_rl, in_get, in_put, in_puz, in_iar, in_bar, in_lar, in_aar, in_iaw, in_baw, in_law, in_len, in_cpy, in_s1, in_s2, in_s3, in_v1, in_v2, in_v3, in_v4, in_v5, in_v6, ma_bk, ma_gl, ma_sl, ma_nl, ma_wc, ma_wd, ma_nn, ma_en, List.mem_cons, List.not_mem_nil, or_false, or_true, true_or, false_or, true_and, and_true, false_and, and_false, if_true, if_false, forall_const, true_implies, false_implies, not_true_eq_false, not_false_eq_true, Classical.not_not, implies_true, and_self, Nat.add_zero, Nat.zero_add, eq_self, ne_eq, reduceCtorEq, Nat.reduceLT, Nat.reduceLeDiff, Nat.reduceEqDiff, Nat.reduceSub, Nat.reduceAdd, i10, i01, im10, Int32.reduceLT, Int32.reduceLE, ↓reduceIte, reduceIte, up_r, uL_r, cp_r, Int32.toInt_toInt64, Int64.reduceToInt, Int32.reduceToInt, ↓b1_or, b1_0, b1_1, lc_lt, lc_le, lc_gt, lc_ge, lc_eq, ym_0, ym_1, ym_2, ym_3, ym_4, ym_5, ym_6, ym_7, ym_8, ym_9, ym_10, ym_11, ym_12, ym_13, ym_14, ym_15, ym_16, ym_17, ym_18, ym_19, ym_20, ym_21, ym_22, ym_23, ym_24, ym_25, ym_26, ym_27, ym_28, ym_29, ym_30, rm__0, rm__1, rm__2, rm__3, rm__4, rm__5, rm__6, rm__7, rm__8, rm__9, rm__10, rm__11, rm__12, rm__13, rm__14, rm__15, rm__16, rm__17, rm__18, rm__19, rm__20, rm__21, rm__22, rm__23, rm__24, rm__25, rm__26, rm__27, rm__28, rm__29, rm__30, rm__31, rm__32, rm__33, rm__34, rm__35, rm__36, rm__37, rm__38, rm__39, rm__40, rm__41, rm__42, rm__43, rm__44, rm__45, un_X5_tells, v1, v4, v2, v3, a17, v5]
      try simp only [iteP, Classical.not_not, b1_0, b1_1]
      refine sw_n (fun y => ?_) (fun y => sw_n (fun y2 => ?_) (fun y2 => ?_))
      · rw [if_pos y] at g; exact ih (j + 1) _ (by omega) g
      · rw [if_neg y, if_pos (by rw [y2]; exact Int64.sub_self _)] at g; exact ih (j + 1) _ (by omega) g
      · rw [if_neg y, if_neg (fun y3 => y2 (by rw [← Int64.sub_add_cancel (sP x 17 j) (smx x j), y3, Int64.zero_add]))] at g; exact ih (j + 1) _ (by omega) g
  rw [t0]
  refine sw_n (fun z => by rw [if_pos z] at g; exact g) (fun z => ?_)
  rw [if_neg z] at g
  exact lp 12 0 0 rfl g
theorem pv_X5_fails_2 : ∀ as M L K, S_X5_fails_2 as M L K → ma_rn (tb_X5_fails_2 S_X5_tells) 3 as M L K := by
  intro as M L K h
  unfold S_X5_fails_2 at h
  split at h
  · obtain ⟨x, h⟩ := h; exact pw_X5_fails_2 h.1 h.2
  · exact h.elim
