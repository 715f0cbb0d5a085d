/-! op: least (the component) -/
set_option maxRecDepth 100000
set_option maxHeartbeats 4000000
def S_X0_isGroup : ma_Cs := fun as M L K => match as with
  | [.ref k, .int s] => ∃ (S : Nat), (k = 0 ∧ s = nI S ∧ S < 4096) ∧ (K (some (.int (b1 (grX (fun i => if i < 6 then L 35 i else -L 35 i) S)))) M L)
  | _ => False
theorem ms_X0_isGroup : ma_ms S_X0_isGroup := by
  intro as M L K K' hk h
  unfold S_X0_isGroup at h ⊢
  split at h
  · obtain ⟨S, h⟩ := h
    exact ⟨S, h.1, hk _ _ _ h.2⟩
  · exact h.elim
theorem un_X0_isGroup {k : Nat} {s : Int32} {M : ZM} {L : ZL} {K : ma_Kt} : S_X0_isGroup [.ref k, .int s] M L K = (∃ (S : Nat), (k = 0 ∧ s = nI S ∧ S < 4096) ∧ (K (some (.int (b1 (grX (fun i => if i < 6 then L 35 i else -L 35 i) S)))) M L)) := rfl
theorem pw_X0_isGroup {k : Nat} {s : Int32} {S : Nat} {M : ZM} {L : ZL} {K : ma_Kt} (hp : k = 0 ∧ s = nI S ∧ S < 4096) (h : (K (some (.int (b1 (grX (fun i => if i < 6 then L 35 i else -L 35 i) S)))) M L)) : ma_rn tb_X0_isGroup 5 [.ref k, .int s] M L K := by
  refine ⟨Nat.le_of_ble_eq_true rfl, fun V hV => ?_⟩
  obtain ⟨rfl, rfl, hS⟩ := hp
  have lp : ∀ j, j ≤ 12 → V 5 [some (.ref 0), some (.int (nI S)), some (.long (sX (fun i => if i < 6 then L 35 i else -L 35 i) S j)), none, some (.int (nI j))] [] M L := by
    refine lp_up ?_ ?_
    · have v1 : (12 : Int32) ≤ nI 12 := by decide
      have e1 : nI S &&& 63 = nI (S % 64) := pk_andN (m := 63) (by omega) 6 rfl
      have e2 : nI S >>> (6 &&& 31) = nI (S / 64) := pk_shrN (by omega) _ 6 rfl
      have e3 : (nI (S % 64) = 0) = (S % 64 = 0) := a_eq0 (by omega)
      have e4 : (nI (S / 64) = 0) = (S / 64 = 0) := a_eq0 (by omega)
      rw [gr_e hS] at h
      refine ma_walk mo_X0_isGroup hV [5] (fun F hF => ?_)
      simp only [tb_X0_isGroup, hF, in_no, in_push, in_ild, in_lld, in_ald, in_ist, in_ast, in_lst, in_inc, in_iii, in_idv, in_ldv, in_lll, in_lli, in_lil, in_ii, in_il, in_li, in_ll, in_dup, in_dp2, q_if1, q_if2, in_go, in_sw, ma_sw, in_rv, in_ri, in_rz, in_rl, in_get, in_put, in_puz, in_iar, in_bar, in_lar, in_aar, in_iaw, in_baw, in_law, in_len, in_cpy, in_s1, in_s2, in_s3, in_v1, in_v2, in_v3, in_v4, in_v5, in_v6, ma_bk, ma_gl, ma_sl, ma_nl, ma_wc, ma_wd, ma_nn, ma_en, List.mem_cons, List.not_mem_nil, or_false, or_true, true_or, false_or, true_and, and_true, false_and, and_false, if_true, if_false, forall_const, true_implies, false_implies, not_true_eq_false, not_false_eq_true, Classical.not_not, implies_true, and_self, Nat.add_zero, Nat.zero_add, eq_self, ne_eq, reduceCtorEq, Nat.reduceLT, Nat.reduceLeDiff, Nat.reduceEqDiff, Nat.reduceSub, Nat.reduceAdd, i10, i01, im10, Int32.reduceLT, Int32.reduceLE, ↓reduceIte, reduceIte, up_r, uL_r, cp_r, Int32.toInt_toInt64, Int64.reduceToInt, Int32.reduceToInt, ↓b1_or, b1_0, b1_1, lc_lt, lc_le, lc_gt, lc_ge, lc_eq, yx_0, yx_1, yx_2, yx_3, yx_4, yx_5, yx_6, yx_7, yx_8, yx_9, yx_10, yx_11, yx_12, yx_13, yx_14, yx_15, yx_16, yx_17, yx_18, yx_19, yx_20, yx_21, yx_22, yx_23, yx_24, yx_25, yx_26, yx_27, yx_28, yx_29, yx_30, yx_31, yx_32, yx_33, yx_34, yx_35, yx_36, yx_37, yx_38, yx_39, yx_40, yx_41, yx_42, yx_43, yx_44, yx_45, yx_46, yx_47, yx_48, yx_49, yx_50, yx_51, yx_52, yx_53, yx_54, yx_55, yx_56, yx_57, yx_58, yx_59, yx_60, yx_61, yx_62, yx_63, yx_64, yx_65, yx_66, yx_67, yx_68, rx_0, rx_1, rx_2, rx_3, rx_4, rx_5, rx_6, rx_7, rx_8, rx_9, rx_10, rx_11, rx_12, rx_13, rx_14, rx_15, rx_16, rx_17, rx_18, rx_19, rx_20, rx_21, rx_22, rx_23, rx_24, rx_25, rx_26, rx_27, rx_28, rx_29, rx_30, rx_31, rx_32, rx_33, rp_0, rp_1, rp_2, rp_3, rp_4, rp_5, rp_6, rp_7, rp_8, rs_0, rs_1, rs_2, rs_3, rs_4, re_0, re_1, re_2, re_3, re_4, re_5, rr_0, rr_1, rr_2, rr_3, rr_4, rk_0, rk_1, isP3, isP11, isP46, isP58, isS25, isS28, isS31, v1, e1, e2, e3, e4]
      try simp only [iteP, Classical.not_not, b1_0, b1_1]
      refine sw_n (fun y => sw_n (fun y1 => ?_) (fun y1 => sw_n (fun y2 => ?_) (fun y2 => ?_))) (fun y => ?_)
      · rw [b1_f (fun q => q.2.1 y1)] at h; exact h
      · rw [b1_f (fun q => q.2.2 y2)] at h; exact h
      · rw [b1_t ⟨y, y1, y2⟩] at h; exact h
      · rw [b1_f (fun q => y q.1)] at h; exact h
    · intro j hj ih
      have v1 : ¬ (12 : Int32) ≤ nI j := fun y => by rw [show (12 : Int32) = nI 12 from rfl, a_le (by omega) (by omega)] at y; omega
      have v4 : nI j + 1 = nI (j + 1) := by rw [show (1 : Int32) = nI 1 from rfl, nI_add]
      have v2 : vp_in (nI j) 12 := vp_in_nI (by omega) (by decide)
      have v3 := a_cl (show j < 2147483648 by omega)
      have v5 : ((6 : Int32) ≤ nI j) = (6 ≤ j) := a_le (a := 6) (by omega) (by omega)
      have v6 := o_bit0 hS hj
      rw [sX] at ih
      cases e : S.testBit j
      · rw [e] at ih v6
        simp only [Bool.false_eq_true, ↓reduceIte] at ih
        refine ma_walk mo_X0_isGroup hV [5] (fun F hF => ?_)
        simp only [tb_X0_isGroup, hF, in_no, in_push, in_ild, in_lld, in_ald, in_ist, in_ast, in_lst, in_inc, in_iii, in_idv, in_ldv, in_lll, in_lli, in_lil, in_ii, in_il, in_li, in_ll, in_dup, in_dp2, q_if1, q_if2, in_go, in_sw, ma_sw, in_rv, in_ri, in_rz, in_rl, in_get, in_put, in_puz, in_iar, in_bar, in_lar, in_aar, in_iaw, in_baw, in_law, in_len, in_cpy, in_s1, in_s2, in_s3, in_v1, in_v2, in_v3, in_v4, in_v5, in_v6, ma_bk, ma_gl, ma_sl, ma_nl, ma_wc, ma_wd, ma_nn, ma_en, List.mem_cons, List.not_mem_nil, or_false, or_true, true_or, false_or, true_and, and_true, false_and, and_false, if_true, if_false, forall_const, true_implies, false_implies, not_true_eq_false, not_false_eq_true, Classical.not_not, implies_true, and_self, Nat.add_zero, Nat.zero_add, eq_self, ne_eq, reduceCtorEq, Nat.reduceLT, Nat.reduceLeDiff, Nat.reduceEqDiff, Nat.reduceSub, Nat.reduceAdd, i10, i01, im10, Int32.reduceLT, Int32.reduceLE, ↓reduceIte, reduceIte, up_r, uL_r, cp_r, Int32.toInt_toInt64, Int64.reduceToInt, Int32.reduceToInt, ↓b1_or, b1_0, b1_1, lc_lt, lc_le, lc_gt, lc_ge, lc_eq, yx_0, yx_1, yx_2, yx_3, yx_4, yx_5, yx_6, yx_7, yx_8, yx_9, yx_10, yx_11, yx_12, yx_13, yx_14, yx_15, yx_16, yx_17, yx_18, yx_19, yx_20, yx_21, yx_22, yx_23, yx_24, yx_25, yx_26, yx_27, yx_28, yx_29, yx_30, yx_31, yx_32, yx_33, yx_34, yx_35, yx_36, yx_37, yx_38, yx_39, yx_40, yx_41, yx_42, yx_43, yx_44, yx_45, yx_46, yx_47, yx_48, yx_49, yx_50, yx_51, yx_52, yx_53, yx_54, yx_55, yx_56, yx_57, yx_58, yx_59, yx_60, yx_61, yx_62, yx_63, yx_64, yx_65, yx_66, yx_67, yx_68, rx_0, rx_1, rx_2, rx_3, rx_4, rx_5, rx_6, rx_7, rx_8, rx_9, rx_10, rx_11, rx_12, rx_13, rx_14, rx_15, rx_16, rx_17, rx_18, rx_19, rx_20, rx_21, rx_22, rx_23, rx_24, rx_25, rx_26, rx_27, rx_28, rx_29, rx_30, rx_31, rx_32, rx_33, rp_0, rp_1, rp_2, rp_3, rp_4, rp_5, rp_6, rp_7, rp_8, rs_0, rs_1, rs_2, rs_3, rs_4, re_0, re_1, re_2, re_3, re_4, re_5, rr_0, rr_1, rr_2, rr_3, rr_4, rk_0, rk_1, isP3, isP11, isP46, isP58, isS25, isS28, isS31, v1, v4, v6]
        try simp only [iteP, Classical.not_not, b1_0, b1_1]
        exact ih
      · rw [e] at ih v6
        simp only [↓reduceIte] at ih
        by_cases c : 6 ≤ j
        · rw [if_neg (by omega)] at ih
          refine ma_walk mo_X0_isGroup hV [5] (fun F hF => ?_)
          simp only [tb_X0_isGroup, hF, in_no, in_push, in_ild, in_lld, in_ald, in_ist, in_ast, in_lst, in_inc, in_iii, in_idv, in_ldv, in_lll, in_lli, in_lil, in_ii, in_il, in_li, in_ll, in_dup, in_dp2, q_if1, q_if2, in_go, in_sw, ma_sw, in_rv, in_ri, in_rz, in_rl, in_get, in_put, in_puz, in_iar, in_bar, in_lar, in_aar, in_iaw, in_baw, in_law, in_len, in_cpy, in_s1, in_s2, in_s3, in_v1, in_v2, in_v3, in_v4, in_v5, in_v6, ma_bk, ma_gl, ma_sl, ma_nl, ma_wc, ma_wd, ma_nn, ma_en, List.mem_cons, List.not_mem_nil, or_false, or_true, true_or, false_or, true_and, and_true, false_and, and_false, if_true, if_false, forall_const, true_implies, false_implies, not_true_eq_false, not_false_eq_true, Classical.not_not, implies_true, and_self, Nat.add_zero, Nat.zero_add, eq_self, ne_eq, reduceCtorEq, Nat.reduceLT, Nat.reduceLeDiff, Nat.reduceEqDiff, Nat.reduceSub, Nat.reduceAdd, i10, i01, im10, Int32.reduceLT, Int32.reduceLE, ↓reduceIte, reduceIte, up_r, uL_r, cp_r, Int32.toInt_toInt64, Int64.reduceToInt, Int32.reduceToInt, ↓b1_or, b1_0, b1_1, lc_lt, lc_le, lc_gt, lc_ge, lc_eq, yx_0, yx_1, yx_2, yx_3, yx_4, yx_5, yx_6, yx_7, yx_8, yx_9, yx_10, yx_11, yx_12, yx_13, yx_14, yx_15, yx_16, yx_17, yx_18, yx_19, yx_20, yx_21, yx_22, yx_23, yx_24, yx_25, yx_26, yx_27, yx_28, yx_29, yx_30, yx_31, yx_32, yx_33, yx_34, yx_35, yx_36, yx_37, yx_38, yx_39, yx_40, yx_41, yx_42, yx_43, yx_44, yx_45, yx_46, yx_47, yx_48, yx_49, yx_50, yx_51, yx_52, yx_53, yx_54, yx_55, yx_56, yx_57, yx_58, yx_59, yx_60, yx_61, yx_62, yx_63, yx_64, yx_65, yx_66, yx_67, yx_68, rx_0, rx_1, rx_2, rx_3, rx_4, rx_5, rx_6, rx_7, rx_8, rx_9, rx_10, rx_11, rx_12, rx_13, rx_14, rx_15, rx_16, rx_17, rx_18, rx_19, rx_20, rx_21, rx_22, rx_23, rx_24, rx_25, rx_26, rx_27, rx_28, rx_29, rx_30, rx_31, rx_32, rx_33, rp_0, rp_1, rp_2, rp_3, rp_4, rp_5, rp_6, rp_7, rp_8, rs_0, rs_1, rs_2, rs_3, rs_4, re_0, re_1, re_2, re_3, re_4, re_5, rr_0, rr_1, rr_2, rr_3, rr_4, rk_0, rk_1, isP3, isP11, isP46, isP58, isS25, isS28, isS31, v1, v4, v6, v2, v3, v5, c]
          try simp only [iteP, Classical.not_not, b1_0, b1_1]
          exact ih
        · rw [if_pos (by omega)] at ih
          refine ma_walk mo_X0_isGroup hV [5] (fun F hF => ?_)
          simp only [tb_X0_isGroup, hF, in_no, in_push, in_ild, in_lld, in_ald, in_ist, in_ast, in_lst, in_inc, in_iii, in_idv, in_ldv, in_lll, in_lli, in_lil, in_ii, in_il, in_li, in_ll, in_dup, in_dp2, q_if1, q_if2, in_go, in_sw, ma_sw, in_rv, in_ri, in_rz, in_rl, in_get, in_put, in_puz, in_iar, in_bar, in_lar, in_aar, in_iaw, in_baw, in_law, in_len, in_cpy, in_s1, in_s2, in_s3, in_v1, in_v2, in_v3, in_v4, in_v5, in_v6, ma_bk, ma_gl, ma_sl, ma_nl, ma_wc, ma_wd, ma_nn, ma_en, List.mem_cons, List.not_mem_nil, or_false, or_true, true_or, false_or, true_and, and_true, false_and, and_false, if_true, if_false, forall_const, true_implies, false_implies, not_true_eq_false, not_false_eq_true, Classical.not_not, implies_true, and_self, Nat.add_zero, Nat.zero_add, eq_self, ne_eq, reduceCtorEq, Nat.reduceLT, Nat.reduceLeDiff, Nat.reduceEqDiff, Nat.reduceSub, Nat.reduceAdd, i10, i01, im10, Int32.reduceLT, Int32.reduceLE, ↓reduceIte, reduceIte, up_r, uL_r, cp_r, Int32.toInt_toInt64, Int64.reduceToInt, Int32.reduceToInt, ↓b1_or, b1_0, b1_1, lc_lt, lc_le, lc_gt, lc_ge, lc_eq, yx_0, yx_1, yx_2, yx_3, yx_4, yx_5, yx_6, yx_7, yx_8, yx_9, yx_10, yx_11, yx_12, yx_13, yx_14, yx_15, yx_16, yx_17, yx_18, yx_19, yx_20, yx_21, yx_22, yx_23, yx_24, yx_25, yx_26, yx_27, yx_28, yx_29, yx_30, yx_31, yx_32, yx_33, yx_34, yx_35, yx_36, yx_37, yx_38, yx_39, yx_40, yx_41, yx_42, yx_43, yx_44, yx_45, yx_46, yx_47, yx_48, yx_49, yx_50, yx_51, yx_52, yx_53, yx_54, yx_55, yx_56, yx_57, yx_58, yx_59, yx_60, yx_61, yx_62, yx_63, yx_64, yx_65, yx_66, yx_67, yx_68, rx_0, rx_1, rx_2, rx_3, rx_4, rx_5, rx_6, rx_7, rx_8, rx_9, rx_10, rx_11, rx_12, rx_13, rx_14, rx_15, rx_16, rx_17, rx_18, rx_19, rx_20, rx_21, rx_22, rx_23, rx_24, rx_25, rx_26, rx_27, rx_28, rx_29, rx_30, rx_31, rx_32, rx_33, rp_0, rp_1, rp_2, rp_3, rp_4, rp_5, rp_6, rp_7, rp_8, rs_0, rs_1, rs_2, rs_3, rs_4, re_0, re_1, re_2, re_3, re_4, re_5, rr_0, rr_1, rr_2, rr_3, rr_4, rk_0, rk_1, isP3, isP11, isP46, isP58, isS25, isS28, isS31, v1, v4, v6, v2, v3, v5, c]
          try simp only [iteP, Classical.not_not, b1_0, b1_1]
          exact ih
  refine ma_walk mo_X0_isGroup hV [5] (fun F hF => ?_)
  simp only [tb_X0_isGroup, hF, in_no, in_push, in_ild, in_lld, in_ald, in_ist, in_ast, in_lst, in_inc, in_iii, in_idv, in_ldv, in_lll, in_lli, in_lil, in_ii, in_il, in_li, in_ll, in_dup, in_dp2, q_if1, q_if2, in_go, in_sw, ma_sw, in_rv, in_ri, in_rz, in_rl, in_get, in_put, in_puz, in_iar, in_bar, in_lar, in_aar, in_iaw, in_baw, in_law, in_len, in_cpy, in_s1, in_s2, in_s3, in_v1, in_v2, in_v3, in_v4, in_v5, in_v6, ma_bk, ma_gl, ma_sl, ma_nl, ma_wc, ma_wd, ma_nn, ma_en, List.mem_cons, List.not_mem_nil, or_false, or_true, true_or, false_or, true_and, and_true, false_and, and_false, if_true, if_false, forall_const, true_implies, false_implies, not_true_eq_false, not_false_eq_true, Classical.not_not, implies_true, and_self, Nat.add_zero, Nat.zero_add, eq_self, ne_eq, reduceCtorEq, Nat.reduceLT, Nat.reduceLeDiff, Nat.reduceEqDiff, Nat.reduceSub, Nat.reduceAdd, i10, i01, im10, Int32.reduceLT, Int32.reduceLE, ↓reduceIte, reduceIte, up_r, uL_r, cp_r, Int32.toInt_toInt64, Int64.reduceToInt, Int32.reduceToInt, ↓b1_or, b1_0, b1_1, lc_lt, lc_le, lc_gt, lc_ge, lc_eq, yx_0, yx_1, yx_2, yx_3, yx_4, yx_5, yx_6, yx_7, yx_8, yx_9, yx_10, yx_11, yx_12, yx_13, yx_14, yx_15, yx_16, yx_17, yx_18, yx_19, yx_20, yx_21, yx_22, yx_23, yx_24, yx_25, yx_26, yx_27, yx_28, yx_29, yx_30, yx_31, yx_32, yx_33, yx_34, yx_35, yx_36, yx_37, yx_38, yx_39, yx_40, yx_41, yx_42, yx_43, yx_44, yx_45, yx_46, yx_47, yx_48, yx_49, yx_50, yx_51, yx_52, yx_53, yx_54, yx_55, yx_56, yx_57, yx_58, yx_59, yx_60, yx_61, yx_62, yx_63, yx_64, yx_65, yx_66, yx_67, yx_68, rx_0, rx_1, rx_2, rx_3, rx_4, rx_5, rx_6, rx_7, rx_8, rx_9, rx_10, rx_11, rx_12, rx_13, rx_14, rx_15, rx_16, rx_17, rx_18, rx_19, rx_20, rx_21, rx_22, rx_23, rx_24, rx_25, rx_26, rx_27, rx_28, rx_29, rx_30, rx_31, rx_32, rx_33, rp_0, rp_1, rp_2, rp_3, rp_4, rp_5, rp_6, rp_7, rp_8, rs_0, rs_1, rs_2, rs_3, rs_4, re_0, re_1, re_2, re_3, re_4, re_5, rr_0, rr_1, rr_2, rr_3, rr_4, rk_0, rk_1, isP3, isP11, isP46, isP58, isS25, isS28, isS31]
  try simp only [iteP, Classical.not_not, b1_0, b1_1]
  exact lp 0 (by omega)
theorem pv_X0_isGroup : ∀ as M L K, S_X0_isGroup as M L K → ma_rn tb_X0_isGroup 5 as M L K := by
  intro as M L K h
  unfold S_X0_isGroup at h
  split at h
  · obtain ⟨S, h⟩ := h; exact pw_X0_isGroup h.1 h.2
  · exact h.elim
def offx (x : St) (k : Nat) : Int64 := if sP x 17 k = 2000000000000 then 0 else sP x 17 k - smx x k
def sox (x : St) (k : Nat) : Int64 := if k < 6 then offx x k else -offx x k
def zx (x : St) (k : Nat) : Bool := !decide (offx x k = 0)
def sal (f : Nat → Int64) : Nat → Int64
  | 0 => 0
  | k + 1 => sal f k + f k
noncomputable def oLeast (x : St) : Int32 := if tm (sP x 17) 12 < nat (sN x 0 0) + nat (sN x 0 1) then -2 else if sal (sox x) 12 = 0 then nI (rk (zx x) 12) - nI (gq (grX (sox x)) (mkm (zx x) 12) (mkm (zx x) 12)) else -2
theorem sX_c {f g : Nat → Int64} {S : Nat} : ∀ n, (∀ k, k < n → f k = g k) → sX f S n = sX g S n
  | 0, _ => rfl
  | n + 1, h => by rw [sX, sX, sX_c n (fun k hk => h k (by omega)), h n (by omega)]
theorem grX_c {f g : Nat → Int64} (h : ∀ k, k < 12 → f k = g k) : grX f = grX g := by
  funext S; unfold grX; rw [sX_c 12 h]
theorem RX.uL {M : ZM} {L L' : ZL} {x : St} (h : RX M L x) (e : L' 34 = L 34) : RX M L' x := by
  obtain ⟨r1, ⟨a19, a1, a20, a21, a22, a23, a24, a34, a37, a38, a39⟩, r3⟩ := h
  exact ⟨r1, ⟨a19, a1, a20, a21, a22, a23, a24, e.trans a34, a37, a38, a39⟩, r3⟩
def S_X0_least : ma_Cs := fun as M L K => match as with
  | [.ref k] => ∃ (x : St), (k = 0 ∧ J x ∧ RX M L x) ∧ (∀ (M' : ZM) (L' : ZL), RX M' L' x → K (some (.int (oLeast x))) M' L')
  | _ => False
theorem ms_X0_least : ma_ms S_X0_least := by
  intro as M L K K' hk h
  unfold S_X0_least at h ⊢
  split at h
  · obtain ⟨x, h⟩ := h
    exact ⟨x, h.1, fun x0 x1 x2 => hk _ _ _ (h.2 x0 x1 x2)⟩
  · exact h.elim
theorem un_X0_least {k : Nat} {M : ZM} {L : ZL} {K : ma_Kt} : S_X0_least [.ref k] M L K = (∃ (x : St), (k = 0 ∧ J x ∧ RX M L x) ∧ (∀ (M' : ZM) (L' : ZL), RX M' L' x → K (some (.int (oLeast x))) M' L')) := rfl
theorem pw_X0_least {k : Nat} {x : St} {M : ZM} {L : ZL} {K : ma_Kt} (hp : k = 0 ∧ J x ∧ RX M L x) (h : (∀ (M' : ZM) (L' : ZL), RX M' L' x → K (some (.int (oLeast x))) M' L')) : ma_rn (tb_X0_least S_X0_toldMany S_X0_refresh S_X0_offOf S_X0_isGroup S_J1_bitCount) 7 [.ref k] M L K := by
  refine ⟨Nat.le_of_ble_eq_true rfl, fun V hV => ?_⟩
  obtain ⟨rfl, hJ, hR⟩ := hp
  obtain ⟨w, u, e, ns, ta, tb, h1, h2, h3, h6, h7, h8, hs, w2, w6, u2, u6, e3, n12, ta12, tb4, q0, q36, n1, n2, n3, n6⟩ := hJ.sky
  have a34 := hR.2.1.2.2.2.2.2.2.2.1
  have b5 := hR.1.2.1.trans h1
  have b6 := hR.1.2.2.1.trans h2
  have tl := tm_le (sP x 17) 12
  have t0 : (nI w + nI u ≤ nI (tm (sP x 17) 12)) = (w + u ≤ tm (sP x 17) 12) := by rw [nI_add, a_le (by omega) (by omega)]
  unfold oLeast at h
  rw [n1, n2] at h
  refine ma_walk (mo_X0_least ms_X0_toldMany ms_X0_refresh ms_X0_offOf ms_X0_isGroup ms_J1_bitCount) hV [30] (fun F hF => ?_)
  simp only [tb_X0_least, hF, in_no, in_push, in_ild, in_lld, in_ald, in_ist, in_ast, in_lst, in_inc, in_iii, in_idv, in_ldv, in_lll, in_lli, in_lil, in_ii, in_il, in_li, in_ll, in_dup, in_dp2, q_if1, q_if2, in_go, in_sw, ma_sw, in_rv, in_ri, in_rz, in_rl, in_get, in_put, in_puz, in_iar, in_bar, in_lar, in_aar, in_iaw, in_baw, in_law, in_len, in_cpy, in_s1, in_s2, in_s3, in_v1, in_v2, in_v3, in_v4, in_v5, in_v6, ma_bk, ma_gl, ma_sl, ma_nl, ma_wc, ma_wd, ma_nn, ma_en, List.mem_cons, List.not_mem_nil, or_false, or_true, true_or, false_or, true_and, and_true, false_and, and_false, if_true, if_false, forall_const, true_implies, false_implies, not_true_eq_false, not_false_eq_true, Classical.not_not, implies_true, and_self, Nat.add_zero, Nat.zero_add, eq_self, ne_eq, reduceCtorEq, Nat.reduceLT, Nat.reduceLeDiff, Nat.reduceEqDiff, Nat.reduceSub, Nat.reduceAdd, i10, i01, im10, Int32.reduceLT, Int32.reduceLE, ↓reduceIte, reduceIte, up_r, uL_r, cp_r, Int32.toInt_toInt64, Int64.reduceToInt, Int32.reduceToInt, ↓b1_or, b1_0, b1_1, lc_lt, lc_le, lc_gt, lc_ge, lc_eq, yx_0, yx_1, yx_2, yx_3, yx_4, yx_5, yx_6, yx_7, yx_8, yx_9, yx_10, yx_11, yx_12, yx_13, yx_14, yx_15, yx_16, yx_17, yx_18, yx_19, yx_20, yx_21, yx_22, yx_23, yx_24, yx_25, yx_26, yx_27, yx_28, yx_29, yx_30, yx_31, yx_32, yx_33, yx_34, yx_35, yx_36, yx_37, yx_38, yx_39, yx_40, yx_41, yx_42, yx_43, yx_44, yx_45, yx_46, yx_47, yx_48, yx_49, yx_50, yx_51, yx_52, yx_53, yx_54, yx_55, yx_56, yx_57, yx_58, yx_59, yx_60, yx_61, yx_62, yx_63, yx_64, yx_65, yx_66, yx_67, yx_68, rx_0, rx_1, rx_2, rx_3, rx_4, rx_5, rx_6, rx_7, rx_8, rx_9, rx_10, rx_11, rx_12, rx_13, rx_14, rx_15, rx_16, rx_17, rx_18, rx_19, rx_20, rx_21, rx_22, rx_23, rx_24, rx_25, rx_26, rx_27, rx_28, rx_29, rx_30, rx_31, rx_32, rx_33, rp_0, rp_1, rp_2, rp_3, rp_4, rp_5, rp_6, rp_7, rp_8, rs_0, rs_1, rs_2, rs_3, rs_4, re_0, re_1, re_2, re_3, re_4, re_5, rr_0, rr_1, rr_2, rr_3, rr_4, rk_0, rk_1, isP3, isP11, isP46, isP58, isS25, isS28, isS31, un_X0_toldMany, un_X0_refresh, un_X0_offOf, un_X0_isGroup, un_J1_bitCount, a34, b5, b6, t0]
  try simp only [iteP, Classical.not_not, b1_0, b1_1]
  clear hF
  refine sw_n (fun z => ?_) (fun z => by have g := h M L hR; rw [if_pos (by omega)] at g; exact g)
  rw [if_neg (by omega)] at h
  refine ⟨x, ⟨hJ, hR⟩, fun M1 g1 g2 => ?_⟩
  have L34 := g1.2.1.2.2.2.2.2.2.2.1
  have z12 : mkm (zx x) 12 < 4096 := mkm_lt (zx x) 12
  -- the DP, once the offs stand
  have dp : ∀ (L1 : ZL) (al : Int64), L1 34 = L 34 → (∀ i, i < 12 → L1 35 i = offx x i) → (∀ M', RX M' L1 x → K (some (.int (nI (rk (zx x) 12) - nI (gq (grX (sox x)) (mkm (zx x) 12) (mkm (zx x) 12))))) M' L1) → ∀ M2 : ZM, (∀ a, a ≠ 36 → M2 a = M1 a) → M2 36 0 = 0 → V 167 [some (.ref 0), some (.long al), none, some (.int (nI (mkm (zx x) 12))), some (.int 1), none, none] [] M2 L1 := by
    intro L1 al hL hof hK
    have hG : grX (fun i => if i < 6 then L1 35 i else -L1 35 i) = grX (sox x) := grX_c (fun k hk => by
      show (if k < 6 then L1 35 k else -L1 35 k) = sox x k
      unfold sox; rw [hof k hk])
    generalize hsm : mkm (zx x) 12 = sm' at *
    generalize hGG : grX (sox x) = G at *
    have lp : ∀ n set (M2 : ZM) (o5 o6 : Option Value), n + set = sm' + 1 → 0 < set → (∀ a, a ≠ 36 → M2 a = M1 a) → (∀ S, S < set → ss S sm' → M2 36 S = nI (gq G S S)) → V 167 [some (.ref 0), some (.long al), none, some (.int (nI sm')), some (.int (nI set)), o5, o6] [] M2 L1 := by
      intro n
      induction n with
      | zero =>
        intro set M2 o5 o6 hn h0 hf hI
        have v1 : nI sm' < nI set := by rw [a_lt (by omega) (by omega)]; omega
        have v2 : vp_in (nI sm') 4096 := vp_in_nI (by omega) (by decide)
        have v3 := a_cl (show sm' < 2147483648 by omega)
        have v4 := hI sm' (by omega) (fun _ q => q)
        refine ma_walk (mo_X0_least ms_X0_toldMany ms_X0_refresh ms_X0_offOf ms_X0_isGroup ms_J1_bitCount) hV [30, 137, 167, 200] (fun F hF => ?_)
        simp only [tb_X0_least, hF, in_no, in_push, in_ild, in_lld, in_ald, in_ist, in_ast, in_lst, in_inc, in_iii, in_idv, in_ldv, in_lll, in_lli, in_lil, in_ii, in_il, in_li, in_ll, in_dup, in_dp2, q_if1, q_if2, in_go, in_sw, ma_sw, in_rv, in_ri, in_rz, in_rl, in_get, in_put, in_puz, in_iar, in_bar, in_lar, in_aar, in_iaw, in_baw, in_law, in_len, in_cpy, in_s1, in_s2, in_s3, in_v1, in_v2, in_v3, in_v4, in_v5, in_v6, ma_bk, ma_gl, ma_sl, ma_nl, ma_wc, ma_wd, ma_nn, ma_en, List.mem_cons, List.not_mem_nil, or_false, or_true, true_or, false_or, true_and, and_true, false_and, and_false, if_true, if_false, forall_const, true_implies, false_implies, not_true_eq_false, not_false_eq_true, Classical.not_not, implies_true, and_self, Nat.add_zero, Nat.zero_add, eq_self, ne_eq, reduceCtorEq, Nat.reduceLT, Nat.reduceLeDiff, Nat.reduceEqDiff, Nat.reduceSub, Nat.reduceAdd, i10, i01, im10, Int32.reduceLT, Int32.reduceLE, ↓reduceIte, reduceIte, up_r, uL_r, cp_r, Int32.toInt_toInt64, Int64.reduceToInt, Int32.reduceToInt, ↓b1_or, b1_0, b1_1, lc_lt, lc_le, lc_gt, lc_ge, lc_eq, yx_0, yx_1, yx_2, yx_3, yx_4, yx_5, yx_6, yx_7, yx_8, yx_9, yx_10, yx_11, yx_12, yx_13, yx_14, yx_15, yx_16, yx_17, yx_18, yx_19, yx_20, yx_21, yx_22, yx_23, yx_24, yx_25, yx_26, yx_27, yx_28, yx_29, yx_30, yx_31, yx_32, yx_33, yx_34, yx_35, yx_36, yx_37, yx_38, yx_39, yx_40, yx_41, yx_42, yx_43, yx_44, yx_45, yx_46, yx_47, yx_48, yx_49, yx_50, yx_51, yx_52, yx_53, yx_54, yx_55, yx_56, yx_57, yx_58, yx_59, yx_60, yx_61, yx_62, yx_63, yx_64, yx_65, yx_66, yx_67, yx_68, rx_0, rx_1, rx_2, rx_3, rx_4, rx_5, rx_6, rx_7, rx_8, rx_9, rx_10, rx_11, rx_12, rx_13, rx_14, rx_15, rx_16, rx_17, rx_18, rx_19, rx_20, rx_21, rx_22, rx_23, rx_24, rx_25, rx_26, rx_27, rx_28, rx_29, rx_30, rx_31, rx_32, rx_33, rp_0, rp_1, rp_2, rp_3, rp_4, rp_5, rp_6, rp_7, rp_8, rs_0, rs_1, rs_2, rs_3, rs_4, re_0, re_1, re_2, re_3, re_4, re_5, rr_0, rr_1, rr_2, rr_3, rr_4, rk_0, rk_1, isP3, isP11, isP46, isP58, isS25, isS28, isS31, un_X0_toldMany, un_X0_refresh, un_X0_offOf, un_X0_isGroup, un_J1_bitCount, v1, v2, v3, v4]
        try simp only [iteP, Classical.not_not, b1_0, b1_1]
        refine ⟨sm', ⟨rfl, by omega⟩, ?_⟩
        have q := hK M2 ((g1.uL hL).ot (fun a ha => hf a (by omega))).1
        rw [← pc_rk (zx x) 12 (Nat.le_refl _), hsm] at q
        exact q
      | succ n ih =>
        intro set M2 o5 o6 hn h0 hf hI
        have v1 : ¬ nI sm' < nI set := by rw [a_lt (by omega) (by omega)]; omega
        have v4 : nI set + 1 = nI (set + 1) := by rw [show (1 : Int32) = nI 1 from rfl, nI_add]
        have v5 : nI set &&& (nI sm' ^^^ (-1)) = nI (df set sm') := n_df _ _
        by_cases c : df set sm' = 0
        · have hss := df_0.mp c
          have v6 : (nI (df set sm') = 0) = True := eq_true (by rw [c]; rfl)
          have s1 : nI set - 1 = nI (set - 1) := pk_sub (b := 1) (by omega)
          have s2 : nI set &&& nI (set - 1) = nI (set &&& (set - 1)) := n_and _ _
          have l1 : set &&& (set - 1) ≤ set - 1 := Nat.and_le_right
          have s3 : ss (set &&& (set - 1)) set := fun i hi => by
            rw [Nat.testBit_and] at hi; exact (Bool.and_eq_true_iff.mp hi).1
          have v7 : vp_in (nI (set &&& (set - 1))) 4096 := vp_in_nI (by omega) (by decide)
          have v8 := a_cl (show set &&& (set - 1) < 2147483648 by omega)
          have v9 := hI _ (by omega) (ss_tr s3 hss)
          have w1 : vp_in (nI set) 4096 := vp_in_nI (by omega) (by decide)
          have w2' := a_cl (show set < 2147483648 by omega)
          have lp2 : ∀ sub B (o : Unit), ss sub set → B ≤ gq G set set → (∀ U, ss U set → sub < U → G U → gq G (df set U) (df set U) + 1 ≤ B) → V 200 [some (.ref 0), some (.long al), none, some (.int (nI sm')), some (.int (nI set)), some (.int (nI B)), some (.int (nI sub))] [] M2 L1 := by
            intro sub
            induction sub using Nat.strongRecOn with
            | _ sub ih2 =>
              intro B o hsub hB hU
              have gl := gq_le G set
              by_cases z0 : sub = 0
              · have x1 : nI sub ≤ 0 := by rw [z0]; decide
                have eB : B = gq G set set := by
                  rcases gq_c G set with q | ⟨U, u1, u2, u3, u4⟩
                  · omega
                  · have := hU U u1 (by omega) u3
                    omega
                refine ma_walk (mo_X0_least ms_X0_toldMany ms_X0_refresh ms_X0_offOf ms_X0_isGroup ms_J1_bitCount) hV [30, 137, 167, 200] (fun F hF => ?_)
                simp only [tb_X0_least, hF, in_no, in_push, in_ild, in_lld, in_ald, in_ist, in_ast, in_lst, in_inc, in_iii, in_idv, in_ldv, in_lll, in_lli, in_lil, in_ii, in_il, in_li, in_ll, in_dup, in_dp2, q_if1, q_if2, in_go, in_sw, ma_sw, in_rv, in_ri, in_rz, in_rl, in_get, in_put, in_puz, in_iar, in_bar, in_lar, in_aar, in_iaw, in_baw, in_law, in_len, in_cpy, in_s1, in_s2, in_s3, in_v1, in_v2, in_v3, in_v4, in_v5, in_v6, ma_bk, ma_gl, ma_sl, ma_nl, ma_wc, ma_wd, ma_nn, ma_en, List.mem_cons, List.not_mem_nil, or_false, or_true, true_or, false_or, true_and, and_true, false_and, and_false, if_true, if_false, forall_const, true_implies, false_implies, not_true_eq_false, not_false_eq_true, Classical.not_not, implies_true, and_self, Nat.add_zero, Nat.zero_add, eq_self, ne_eq, reduceCtorEq, Nat.reduceLT, Nat.reduceLeDiff, Nat.reduceEqDiff, Nat.reduceSub, Nat.reduceAdd, i10, i01, im10, Int32.reduceLT, Int32.reduceLE, ↓reduceIte, reduceIte, up_r, uL_r, cp_r, Int32.toInt_toInt64, Int64.reduceToInt, Int32.reduceToInt, ↓b1_or, b1_0, b1_1, lc_lt, lc_le, lc_gt, lc_ge, lc_eq, yx_0, yx_1, yx_2, yx_3, yx_4, yx_5, yx_6, yx_7, yx_8, yx_9, yx_10, yx_11, yx_12, yx_13, yx_14, yx_15, yx_16, yx_17, yx_18, yx_19, yx_20, yx_21, yx_22, yx_23, yx_24, yx_25, yx_26, yx_27, yx_28, yx_29, yx_30, yx_31, yx_32, yx_33, yx_34, yx_35, yx_36, yx_37, yx_38, yx_39, yx_40, yx_41, yx_42, yx_43, yx_44, yx_45, yx_46, yx_47, yx_48, yx_49, yx_50, yx_51, yx_52, yx_53, yx_54, yx_55, yx_56, yx_57, yx_58, yx_59, yx_60, yx_61, yx_62, yx_63, yx_64, yx_65, yx_66, yx_67, yx_68, rx_0, rx_1, rx_2, rx_3, rx_4, rx_5, rx_6, rx_7, rx_8, rx_9, rx_10, rx_11, rx_12, rx_13, rx_14, rx_15, rx_16, rx_17, rx_18, rx_19, rx_20, rx_21, rx_22, rx_23, rx_24, rx_25, rx_26, rx_27, rx_28, rx_29, rx_30, rx_31, rx_32, rx_33, rp_0, rp_1, rp_2, rp_3, rp_4, rp_5, rp_6, rp_7, rp_8, rs_0, rs_1, rs_2, rs_3, rs_4, re_0, re_1, re_2, re_3, re_4, re_5, rr_0, rr_1, rr_2, rr_3, rr_4, rk_0, rk_1, isP3, isP11, isP46, isP58, isS25, isS28, isS31, un_X0_toldMany, un_X0_refresh, un_X0_offOf, un_X0_isGroup, un_J1_bitCount, x1, w1, w2', v4]
                try simp only [iteP, Classical.not_not, b1_0, b1_1]
                refine ih (set + 1) _ _ _ (by omega) (by omega) (fun a ha => by rw [up_c ha]; exact hf a ha) (fun S hS hSs => ?_)
                by_cases y : S = set
                · rw [y, up_r, if_pos ⟨rfl, rfl⟩, eB]
                · rw [up_r, if_neg (fun q => y q.2)]; exact hI S (by omega) hSs
              · have l2 := ss_le hsub
                have x1 : ¬ nI sub ≤ 0 := by rw [a_le0 (by omega)]; omega
                have x2 : nI set &&& (nI sub ^^^ (-1)) = nI (df set sub) := n_df _ _
                have l3 := df_lt hsub z0
                have x3 : vp_in (nI (df set sub)) 4096 := vp_in_nI (by omega) (by decide)
                have x4 := a_cl (show df set sub < 2147483648 by omega)
                have x5 := hI _ l3 (ss_tr (df_ss _ _) hss)
                have l4 := gq_le G (df set sub)
                have x6 : (nI (gq G (df set sub) (df set sub)) < nI B) = (gq G (df set sub) (df set sub) < B) := a_lt (by omega) (by omega)
                have x7 : nI sub - 1 = nI (sub - 1) := pk_sub (b := 1) (by omega)
                have x8 : nI (sub - 1) &&& nI set = nI ((sub - 1) &&& set) := n_and _ _
                have x9 : nI (gq G (df set sub) (df set sub)) + 1 = nI (gq G (df set sub) (df set sub) + 1) := by rw [show (1 : Int32) = nI 1 from rfl, nI_add]
                have l5 : (sub - 1) &&& set ≤ sub - 1 := Nat.and_le_left
                have nx : ∀ B', B ≤ B' → B' ≤ gq G set set → (G sub → gq G (df set sub) (df set sub) + 1 ≤ B') → V 200 [some (.ref 0), some (.long al), none, some (.int (nI sm')), some (.int (nI set)), some (.int (nI B')), some (.int (nI ((sub - 1) &&& set)))] [] M2 L1 := fun B' y1 y2 y3 => by
                  refine ih2 _ (by omega) B' () (and_ss _ _) y2 (fun U u1 u2 u3 => ?_)
                  by_cases y : sub < U
                  · have := hU U u1 y u3; omega
                  · by_cases y' : U = sub
                    · rw [y'] at u3 ⊢; exact y3 u3
                    · have := nx_le sub sub set U (Nat.le_refl _) hsub (by omega) u1 (by omega)
                      omega
                have bG : G sub → gq G (df set sub) (df set sub) + 1 ≤ gq G set set := fun y => gq_b hsub z0 y
                refine ma_walk (mo_X0_least ms_X0_toldMany ms_X0_refresh ms_X0_offOf ms_X0_isGroup ms_J1_bitCount) hV [30, 137, 167, 200] (fun F hF => ?_)
                simp only [tb_X0_least, hF, in_no, in_push, in_ild, in_lld, in_ald, in_ist, in_ast, in_lst, in_inc, in_iii, in_idv, in_ldv, in_lll, in_lli, in_lil, in_ii, in_il, in_li, in_ll, in_dup, in_dp2, q_if1, q_if2, in_go, in_sw, ma_sw, in_rv, in_ri, in_rz, in_rl, in_get, in_put, in_puz, in_iar, in_bar, in_lar, in_aar, in_iaw, in_baw, in_law, in_len, in_cpy, in_s1, in_s2, in_s3, in_v1, in_v2, in_v3, in_v4, in_v5, in_v6, ma_bk, ma_gl, ma_sl, ma_nl, ma_wc, ma_wd, ma_nn, ma_en, List.mem_cons, List.not_mem_nil, or_false, or_true, true_or, false_or, true_and, and_true, false_and, and_false, if_true, if_false, forall_const, true_implies, false_implies, not_true_eq_false, not_false_eq_true, Classical.not_not, implies_true, and_self, Nat.add_zero, Nat.zero_add, eq_self, ne_eq, reduceCtorEq, Nat.reduceLT, Nat.reduceLeDiff, Nat.reduceEqDiff, Nat.reduceSub, Nat.reduceAdd, i10, i01, im10, Int32.reduceLT, Int32.reduceLE, ↓reduceIte, reduceIte, up_r, uL_r, cp_r, Int32.toInt_toInt64, Int64.reduceToInt, Int32.reduceToInt, ↓b1_or, b1_0, b1_1, lc_lt, lc_le, lc_gt, lc_ge, lc_eq, yx_0, yx_1, yx_2, yx_3, yx_4, yx_5, yx_6, yx_7, yx_8, yx_9, yx_10, yx_11, yx_12, yx_13, yx_14, yx_15, yx_16, yx_17, yx_18, yx_19, yx_20, yx_21, yx_22, yx_23, yx_24, yx_25, yx_26, yx_27, yx_28, yx_29, yx_30, yx_31, yx_32, yx_33, yx_34, yx_35, yx_36, yx_37, yx_38, yx_39, yx_40, yx_41, yx_42, yx_43, yx_44, yx_45, yx_46, yx_47, yx_48, yx_49, yx_50, yx_51, yx_52, yx_53, yx_54, yx_55, yx_56, yx_57, yx_58, yx_59, yx_60, yx_61, yx_62, yx_63, yx_64, yx_65, yx_66, yx_67, yx_68, rx_0, rx_1, rx_2, rx_3, rx_4, rx_5, rx_6, rx_7, rx_8, rx_9, rx_10, rx_11, rx_12, rx_13, rx_14, rx_15, rx_16, rx_17, rx_18, rx_19, rx_20, rx_21, rx_22, rx_23, rx_24, rx_25, rx_26, rx_27, rx_28, rx_29, rx_30, rx_31, rx_32, rx_33, rp_0, rp_1, rp_2, rp_3, rp_4, rp_5, rp_6, rp_7, rp_8, rs_0, rs_1, rs_2, rs_3, rs_4, re_0, re_1, re_2, re_3, re_4, re_5, rr_0, rr_1, rr_2, rr_3, rr_4, rk_0, rk_1, isP3, isP11, isP46, isP58, isS25, isS28, isS31, un_X0_toldMany, un_X0_refresh, un_X0_offOf, un_X0_isGroup, un_J1_bitCount, x1, x2, x3, x4, x5, x6, x7, x8, x9]
                try simp only [iteP, Classical.not_not, b1_0, b1_1]
                refine sw_n (fun y => nx B (Nat.le_refl _) hB (fun _ => by omega)) (fun y => ⟨sub, ⟨rfl, by omega⟩, ?_⟩)
                rw [hG]
                exact br_n (fun y2 => nx B (Nat.le_refl _) hB (fun q => absurd q y2)) (fun y2 => nx _ (by omega) (bG y2) (fun _ => Nat.le_refl _))
          have m0 : gq G (set &&& (set - 1)) (set &&& (set - 1)) ≤ gq G set set := gq_m s3
          refine ma_walk (mo_X0_least ms_X0_toldMany ms_X0_refresh ms_X0_offOf ms_X0_isGroup ms_J1_bitCount) hV [30, 137, 167, 200] (fun F hF => ?_)
          simp only [tb_X0_least, hF, in_no, in_push, in_ild, in_lld, in_ald, in_ist, in_ast, in_lst, in_inc, in_iii, in_idv, in_ldv, in_lll, in_lli, in_lil, in_ii, in_il, in_li, in_ll, in_dup, in_dp2, q_if1, q_if2, in_go, in_sw, ma_sw, in_rv, in_ri, in_rz, in_rl, in_get, in_put, in_puz, in_iar, in_bar, in_lar, in_aar, in_iaw, in_baw, in_law, in_len, in_cpy, in_s1, in_s2, in_s3, in_v1, in_v2, in_v3, in_v4, in_v5, in_v6, ma_bk, ma_gl, ma_sl, ma_nl, ma_wc, ma_wd, ma_nn, ma_en, List.mem_cons, List.not_mem_nil, or_false, or_true, true_or, false_or, true_and, and_true, false_and, and_false, if_true, if_false, forall_const, true_implies, false_implies, not_true_eq_false, not_false_eq_true, Classical.not_not, implies_true, and_self, Nat.add_zero, Nat.zero_add, eq_self, ne_eq, reduceCtorEq, Nat.reduceLT, Nat.reduceLeDiff, Nat.reduceEqDiff, Nat.reduceSub, Nat.reduceAdd, i10, i01, im10, Int32.reduceLT, Int32.reduceLE, ↓reduceIte, reduceIte, up_r, uL_r, cp_r, Int32.toInt_toInt64, Int64.reduceToInt, Int32.reduceToInt, ↓b1_or, b1_0, b1_1, lc_lt, lc_le, lc_gt, lc_ge, lc_eq, yx_0, yx_1, yx_2, yx_3, yx_4, yx_5, yx_6, yx_7, yx_8, yx_9, yx_10, yx_11, yx_12, yx_13, yx_14, yx_15, yx_16, yx_17, yx_18, yx_19, yx_20, yx_21, yx_22, yx_23, yx_24, yx_25, yx_26, yx_27, yx_28, yx_29, yx_30, yx_31, yx_32, yx_33, yx_34, yx_35, yx_36, yx_37, yx_38, yx_39, yx_40, yx_41, yx_42, yx_43, yx_44, yx_45, yx_46, yx_47, yx_48, yx_49, yx_50, yx_51, yx_52, yx_53, yx_54, yx_55, yx_56, yx_57, yx_58, yx_59, yx_60, yx_61, yx_62, yx_63, yx_64, yx_65, yx_66, yx_67, yx_68, rx_0, rx_1, rx_2, rx_3, rx_4, rx_5, rx_6, rx_7, rx_8, rx_9, rx_10, rx_11, rx_12, rx_13, rx_14, rx_15, rx_16, rx_17, rx_18, rx_19, rx_20, rx_21, rx_22, rx_23, rx_24, rx_25, rx_26, rx_27, rx_28, rx_29, rx_30, rx_31, rx_32, rx_33, rp_0, rp_1, rp_2, rp_3, rp_4, rp_5, rp_6, rp_7, rp_8, rs_0, rs_1, rs_2, rs_3, rs_4, re_0, re_1, re_2, re_3, re_4, re_5, rr_0, rr_1, rr_2, rr_3, rr_4, rk_0, rk_1, isP3, isP11, isP46, isP58, isS25, isS28, isS31, un_X0_toldMany, un_X0_refresh, un_X0_offOf, un_X0_isGroup, un_J1_bitCount, v1, v5, v6, s1, s2, v7, v8, v9]
          try simp only [iteP, Classical.not_not, b1_0, b1_1]
          exact lp2 set _ () (fun _ q => q) m0 (fun U u1 u2 _ => by have := ss_le u1; omega)
        · have v6 : ¬ nI (df set sm') = 0 := by rw [a_eq0 (by have := ss_le (df_ss set sm'); omega)]; exact c
          refine ma_walk (mo_X0_least ms_X0_toldMany ms_X0_refresh ms_X0_offOf ms_X0_isGroup ms_J1_bitCount) hV [30, 137, 167, 200] (fun F hF => ?_)
          simp only [tb_X0_least, hF, in_no, in_push, in_ild, in_lld, in_ald, in_ist, in_ast, in_lst, in_inc, in_iii, in_idv, in_ldv, in_lll, in_lli, in_lil, in_ii, in_il, in_li, in_ll, in_dup, in_dp2, q_if1, q_if2, in_go, in_sw, ma_sw, in_rv, in_ri, in_rz, in_rl, in_get, in_put, in_puz, in_iar, in_bar, in_lar, in_aar, in_iaw, in_baw, in_law, in_len, in_cpy, in_s1, in_s2, in_s3, in_v1, in_v2, in_v3, in_v4, in_v5, in_v6, ma_bk, ma_gl, ma_sl, ma_nl, ma_wc, ma_wd, ma_nn, ma_en, List.mem_cons, List.not_mem_nil, or_false, or_true, true_or, false_or, true_and, and_true, false_and, and_false, if_true, if_false, forall_const, true_implies, false_implies, not_true_eq_false, not_false_eq_true, Classical.not_not, implies_true, and_self, Nat.add_zero, Nat.zero_add, eq_self, ne_eq, reduceCtorEq, Nat.reduceLT, Nat.reduceLeDiff, Nat.reduceEqDiff, Nat.reduceSub, Nat.reduceAdd, i10, i01, im10, Int32.reduceLT, Int32.reduceLE, ↓reduceIte, reduceIte, up_r, uL_r, cp_r, Int32.toInt_toInt64, Int64.reduceToInt, Int32.reduceToInt, ↓b1_or, b1_0, b1_1, lc_lt, lc_le, lc_gt, lc_ge, lc_eq, yx_0, yx_1, yx_2, yx_3, yx_4, yx_5, yx_6, yx_7, yx_8, yx_9, yx_10, yx_11, yx_12, yx_13, yx_14, yx_15, yx_16, yx_17, yx_18, yx_19, yx_20, yx_21, yx_22, yx_23, yx_24, yx_25, yx_26, yx_27, yx_28, yx_29, yx_30, yx_31, yx_32, yx_33, yx_34, yx_35, yx_36, yx_37, yx_38, yx_39, yx_40, yx_41, yx_42, yx_43, yx_44, yx_45, yx_46, yx_47, yx_48, yx_49, yx_50, yx_51, yx_52, yx_53, yx_54, yx_55, yx_56, yx_57, yx_58, yx_59, yx_60, yx_61, yx_62, yx_63, yx_64, yx_65, yx_66, yx_67, yx_68, rx_0, rx_1, rx_2, rx_3, rx_4, rx_5, rx_6, rx_7, rx_8, rx_9, rx_10, rx_11, rx_12, rx_13, rx_14, rx_15, rx_16, rx_17, rx_18, rx_19, rx_20, rx_21, rx_22, rx_23, rx_24, rx_25, rx_26, rx_27, rx_28, rx_29, rx_30, rx_31, rx_32, rx_33, rp_0, rp_1, rp_2, rp_3, rp_4, rp_5, rp_6, rp_7, rp_8, rs_0, rs_1, rs_2, rs_3, rs_4, re_0, re_1, re_2, re_3, re_4, re_5, rr_0, rr_1, rr_2, rr_3, rr_4, rk_0, rk_1, isP3, isP11, isP46, isP58, isS25, isS28, isS31, un_X0_toldMany, un_X0_refresh, un_X0_offOf, un_X0_isGroup, un_J1_bitCount, v1, v4, v5, v6]
          try simp only [iteP, Classical.not_not, b1_0, b1_1]
          exact ih (set + 1) M2 _ _ (by omega) (by omega) hf (fun S hS hSs => by
            by_cases y : S = set
            · exact absurd (df_0.mpr (y ▸ hSs)) c
            · exact hI S (by omega) hSs)
    intro M2 hf h00
    refine lp sm' 1 M2 none none rfl (by omega) hf (fun S hS _ => ?_)
    rw [show S = 0 by omega, h00]; rfl
  -- clearing
  have cl : ∀ (L1 : ZL) (al : Int64), (∀ M2 : ZM, (∀ a, a ≠ 36 → M2 a = M1 a) → M2 36 0 = 0 → V 167 [some (.ref 0), some (.long al), none, some (.int (nI (mkm (zx x) 12))), some (.int 1), none, none] [] M2 L1) → ∀ T (M2 : ZM), T ≤ mkm (zx x) 12 → (∀ a, a ≠ 36 → M2 a = M1 a) → V 137 [some (.ref 0), some (.long al), none, some (.int (nI (mkm (zx x) 12))), some (.int (nI T)), none, none] [] M2 L1 := by
    intro L1 al hd T
    induction T using Nat.strongRecOn with
    | _ T ih =>
      intro M2 hT hf
      have v2 : vp_in (nI T) 4096 := vp_in_nI (by omega) (by decide)
      have v3 := a_cl (show T < 2147483648 by omega)
      by_cases c : T = 0
      · have v4 : (nI T = 0) = True := eq_true (by rw [c]; rfl)
        refine ma_walk (mo_X0_least ms_X0_toldMany ms_X0_refresh ms_X0_offOf ms_X0_isGroup ms_J1_bitCount) hV [30, 137, 167, 200] (fun F hF => ?_)
        simp only [tb_X0_least, hF, in_no, in_push, in_ild, in_lld, in_ald, in_ist, in_ast, in_lst, in_inc, in_iii, in_idv, in_ldv, in_lll, in_lli, in_lil, in_ii, in_il, in_li, in_ll, in_dup, in_dp2, q_if1, q_if2, in_go, in_sw, ma_sw, in_rv, in_ri, in_rz, in_rl, in_get, in_put, in_puz, in_iar, in_bar, in_lar, in_aar, in_iaw, in_baw, in_law, in_len, in_cpy, in_s1, in_s2, in_s3, in_v1, in_v2, in_v3, in_v4, in_v5, in_v6, ma_bk, ma_gl, ma_sl, ma_nl, ma_wc, ma_wd, ma_nn, ma_en, List.mem_cons, List.not_mem_nil, or_false, or_true, true_or, false_or, true_and, and_true, false_and, and_false, if_true, if_false, forall_const, true_implies, false_implies, not_true_eq_false, not_false_eq_true, Classical.not_not, implies_true, and_self, Nat.add_zero, Nat.zero_add, eq_self, ne_eq, reduceCtorEq, Nat.reduceLT, Nat.reduceLeDiff, Nat.reduceEqDiff, Nat.reduceSub, Nat.reduceAdd, i10, i01, im10, Int32.reduceLT, Int32.reduceLE, ↓reduceIte, reduceIte, up_r, uL_r, cp_r, Int32.toInt_toInt64, Int64.reduceToInt, Int32.reduceToInt, ↓b1_or, b1_0, b1_1, lc_lt, lc_le, lc_gt, lc_ge, lc_eq, yx_0, yx_1, yx_2, yx_3, yx_4, yx_5, yx_6, yx_7, yx_8, yx_9, yx_10, yx_11, yx_12, yx_13, yx_14, yx_15, yx_16, yx_17, yx_18, yx_19, yx_20, yx_21, yx_22, yx_23, yx_24, yx_25, yx_26, yx_27, yx_28, yx_29, yx_30, yx_31, yx_32, yx_33, yx_34, yx_35, yx_36, yx_37, yx_38, yx_39, yx_40, yx_41, yx_42, yx_43, yx_44, yx_45, yx_46, yx_47, yx_48, yx_49, yx_50, yx_51, yx_52, yx_53, yx_54, yx_55, yx_56, yx_57, yx_58, yx_59, yx_60, yx_61, yx_62, yx_63, yx_64, yx_65, yx_66, yx_67, yx_68, rx_0, rx_1, rx_2, rx_3, rx_4, rx_5, rx_6, rx_7, rx_8, rx_9, rx_10, rx_11, rx_12, rx_13, rx_14, rx_15, rx_16, rx_17, rx_18, rx_19, rx_20, rx_21, rx_22, rx_23, rx_24, rx_25, rx_26, rx_27, rx_28, rx_29, rx_30, rx_31, rx_32, rx_33, rp_0, rp_1, rp_2, rp_3, rp_4, rp_5, rp_6, rp_7, rp_8, rs_0, rs_1, rs_2, rs_3, rs_4, re_0, re_1, re_2, re_3, re_4, re_5, rr_0, rr_1, rr_2, rr_3, rr_4, rk_0, rk_1, isP3, isP11, isP46, isP58, isS25, isS28, isS31, un_X0_toldMany, un_X0_refresh, un_X0_offOf, un_X0_isGroup, un_J1_bitCount, v2, v3, v4]
        try simp only [iteP, Classical.not_not, b1_0, b1_1]
        refine hd _ (fun a ha => by rw [up_c ha]; exact hf a ha) ?_
        rw [up_r, if_pos ⟨rfl, c.symm⟩]
      · have v4 : ¬ nI T = 0 := by rw [a_eq0 (by omega)]; exact c
        have x7 : nI T - 1 = nI (T - 1) := pk_sub (b := 1) (by omega)
        have x8 : nI (T - 1) &&& nI (mkm (zx x) 12) = nI ((T - 1) &&& mkm (zx x) 12) := n_and _ _
        have l5 : (T - 1) &&& mkm (zx x) 12 ≤ T - 1 := Nat.and_le_left
        refine ma_walk (mo_X0_least ms_X0_toldMany ms_X0_refresh ms_X0_offOf ms_X0_isGroup ms_J1_bitCount) hV [30, 137, 167, 200] (fun F hF => ?_)
        simp only [tb_X0_least, hF, in_no, in_push, in_ild, in_lld, in_ald, in_ist, in_ast, in_lst, in_inc, in_iii, in_idv, in_ldv, in_lll, in_lli, in_lil, in_ii, in_il, in_li, in_ll, in_dup, in_dp2, q_if1, q_if2, in_go, in_sw, ma_sw, in_rv, in_ri, in_rz, in_rl, in_get, in_put, in_puz, in_iar, in_bar, in_lar, in_aar, in_iaw, in_baw, in_law, in_len, in_cpy, in_s1, in_s2, in_s3, in_v1, in_v2, in_v3, in_v4, in_v5, in_v6, ma_bk, ma_gl, ma_sl, ma_nl, ma_wc, ma_wd, ma_nn, ma_en, List.mem_cons, List.not_mem_nil, or_false, or_true, true_or, false_or, true_and, and_true, false_and, and_false, if_true, if_false, forall_const, true_implies, false_implies, not_true_eq_false, not_false_eq_true, Classical.not_not, implies_true, and_self, Nat.add_zero, Nat.zero_add, eq_self, ne_eq, reduceCtorEq, Nat.reduceLT, Nat.reduceLeDiff, Nat.reduceEqDiff, Nat.reduceSub, Nat.reduceAdd, i10, i01, im10, Int32.reduceLT, Int32.reduceLE, ↓reduceIte, reduceIte, up_r, uL_r, cp_r, Int32.toInt_toInt64, Int64.reduceToInt, Int32.reduceToInt, ↓b1_or, b1_0, b1_1, lc_lt, lc_le, lc_gt, lc_ge, lc_eq, yx_0, yx_1, yx_2, yx_3, yx_4, yx_5, yx_6, yx_7, yx_8, yx_9, yx_10, yx_11, yx_12, yx_13, yx_14, yx_15, yx_16, yx_17, yx_18, yx_19, yx_20, yx_21, yx_22, yx_23, yx_24, yx_25, yx_26, yx_27, yx_28, yx_29, yx_30, yx_31, yx_32, yx_33, yx_34, yx_35, yx_36, yx_37, yx_38, yx_39, yx_40, yx_41, yx_42, yx_43, yx_44, yx_45, yx_46, yx_47, yx_48, yx_49, yx_50, yx_51, yx_52, yx_53, yx_54, yx_55, yx_56, yx_57, yx_58, yx_59, yx_60, yx_61, yx_62, yx_63, yx_64, yx_65, yx_66, yx_67, yx_68, rx_0, rx_1, rx_2, rx_3, rx_4, rx_5, rx_6, rx_7, rx_8, rx_9, rx_10, rx_11, rx_12, rx_13, rx_14, rx_15, rx_16, rx_17, rx_18, rx_19, rx_20, rx_21, rx_22, rx_23, rx_24, rx_25, rx_26, rx_27, rx_28, rx_29, rx_30, rx_31, rx_32, rx_33, rp_0, rp_1, rp_2, rp_3, rp_4, rp_5, rp_6, rp_7, rp_8, rs_0, rs_1, rs_2, rs_3, rs_4, re_0, re_1, re_2, re_3, re_4, re_5, rr_0, rr_1, rr_2, rr_3, rr_4, rk_0, rk_1, isP3, isP11, isP46, isP58, isS25, isS28, isS31, un_X0_toldMany, un_X0_refresh, un_X0_offOf, un_X0_isGroup, un_J1_bitCount, v2, v3, v4, x7, x8]
        try simp only [iteP, Classical.not_not, b1_0, b1_1]
        exact ih _ (by omega) _ (by omega) (fun a ha => by rw [up_c ha]; exact hf a ha)
  have lp : ∀ n j Lj, n + j = 12 → Lj 34 = L 34 → (∀ i, i < j → Lj 35 i = offx x i) → V 30 [some (.ref 0), some (.long (sal (sox x) j)), none, some (.int (nI (mkm (zx x) j))), some (.int (nI j)), none, none] [] M1 Lj := by
    intro n
    induction n with
    | zero =>
      intro j Lj hj hL hof
      have e12 : j = 12 := by omega
      subst e12
      have v1 : (12 : Int32) ≤ nI 12 := by decide
      refine ma_walk (mo_X0_least ms_X0_toldMany ms_X0_refresh ms_X0_offOf ms_X0_isGroup ms_J1_bitCount) hV [30, 137, 167, 200] (fun F hF => ?_)
      simp only [tb_X0_least, hF, in_no, in_push, in_ild, in_lld, in_ald, in_ist, in_ast, in_lst, in_inc, in_iii, in_idv, in_ldv, in_lll, in_lli, in_lil, in_ii, in_il, in_li, in_ll, in_dup, in_dp2, q_if1, q_if2, in_go, in_sw, ma_sw, in_rv, in_ri, in_rz, in_rl, in_get, in_put, in_puz, in_iar, in_bar, in_lar, in_aar, in_iaw, in_baw, in_law, in_len, in_cpy, in_s1, in_s2, in_s3, in_v1, in_v2, in_v3, in_v4, in_v5, in_v6, ma_bk, ma_gl, ma_sl, ma_nl, ma_wc, ma_wd, ma_nn, ma_en, List.mem_cons, List.not_mem_nil, or_false, or_true, true_or, false_or, true_and, and_true, false_and, and_false, if_true, if_false, forall_const, true_implies, false_implies, not_true_eq_false, not_false_eq_true, Classical.not_not, implies_true, and_self, Nat.add_zero, Nat.zero_add, eq_self, ne_eq, reduceCtorEq, Nat.reduceLT, Nat.reduceLeDiff, Nat.reduceEqDiff, Nat.reduceSub, Nat.reduceAdd, i10, i01, im10, Int32.reduceLT, Int32.reduceLE, ↓reduceIte, reduceIte, up_r, uL_r, cp_r, Int32.toInt_toInt64, Int64.reduceToInt, Int32.reduceToInt, ↓b1_or, b1_0, b1_1, lc_lt, lc_le, lc_gt, lc_ge, lc_eq, yx_0, yx_1, yx_2, yx_3, yx_4, yx_5, yx_6, yx_7, yx_8, yx_9, yx_10, yx_11, yx_12, yx_13, yx_14, yx_15, yx_16, yx_17, yx_18, yx_19, yx_20, yx_21, yx_22, yx_23, yx_24, yx_25, yx_26, yx_27, yx_28, yx_29, yx_30, yx_31, yx_32, yx_33, yx_34, yx_35, yx_36, yx_37, yx_38, yx_39, yx_40, yx_41, yx_42, yx_43, yx_44, yx_45, yx_46, yx_47, yx_48, yx_49, yx_50, yx_51, yx_52, yx_53, yx_54, yx_55, yx_56, yx_57, yx_58, yx_59, yx_60, yx_61, yx_62, yx_63, yx_64, yx_65, yx_66, yx_67, yx_68, rx_0, rx_1, rx_2, rx_3, rx_4, rx_5, rx_6, rx_7, rx_8, rx_9, rx_10, rx_11, rx_12, rx_13, rx_14, rx_15, rx_16, rx_17, rx_18, rx_19, rx_20, rx_21, rx_22, rx_23, rx_24, rx_25, rx_26, rx_27, rx_28, rx_29, rx_30, rx_31, rx_32, rx_33, rp_0, rp_1, rp_2, rp_3, rp_4, rp_5, rp_6, rp_7, rp_8, rs_0, rs_1, rs_2, rs_3, rs_4, re_0, re_1, re_2, re_3, re_4, re_5, rr_0, rr_1, rr_2, rr_3, rr_4, rk_0, rk_1, isP3, isP11, isP46, isP58, isS25, isS28, isS31, un_X0_toldMany, un_X0_refresh, un_X0_offOf, un_X0_isGroup, un_J1_bitCount, v1]
      try simp only [iteP, Classical.not_not, b1_0, b1_1]
      refine sw_n (fun y => ?_) (fun y => by have g := h M1 Lj (g1.uL hL); rw [if_neg y] at g; exact g)
      exact cl Lj _ (dp Lj _ hL hof (fun M' r => by have g := h M' Lj r; rw [if_pos y] at g; exact g)) _ M1 (Nat.le_refl _) (fun _ _ => rfl)
    | succ n ih =>
      intro j Lj hj hL hof
      have v1 : ¬ (12 : Int32) ≤ nI j := fun y => by rw [show (12 : Int32) = nI 12 from rfl, a_le (by omega) (by omega)] at y; omega
      have v4 : nI j + 1 = nI (j + 1) := by rw [show (1 : Int32) = nI 1 from rfl, nI_add]
      have v2 : vp_in (nI j) 12 := vp_in_nI (by omega) (by decide)
      have v3 := a_cl (show j < 2147483648 by omega)
      have v5 : ((6 : Int32) ≤ nI j) = (6 ≤ j) := a_le (a := 6) (by omega) (by omega)
      have Lt : Lj 34 = sP x 17 := by rw [hL]; exact L34
      have mo := mkm_or (zx x) (show j < 12 by omega)
      have c68 : V 68 [some (.ref 0), some (.long (sal (sox x) j)), none, some (.int (nI (mkm (zx x) j))), some (.int (nI j)), none, none] [] M1 (ma_uL Lj 35 j (offx x j)) := by
        have q := ih (j + 1) (ma_uL Lj 35 j (offx x j)) (by omega) (by rw [uL_c (by decide)]; exact hL) (fun i hi => by
          by_cases y : i = j
          · rw [y, uL_r, if_pos ⟨rfl, rfl⟩]
          · rw [uL_r, if_neg (fun q => y q.2)]; exact hof i (by omega))
        rw [sal] at q
        by_cases c0 : offx x j = 0
        · have ez : ¬ zx x j = true := by unfold zx; rw [decide_eq_true c0]; decide
          have mo := mo.2 ez
          by_cases c6 : 6 ≤ j
          · have es : sox x j = -offx x j := by unfold sox; rw [if_neg (by omega)]
            rw [es] at q
            refine ma_walk (mo_X0_least ms_X0_toldMany ms_X0_refresh ms_X0_offOf ms_X0_isGroup ms_J1_bitCount) hV [30, 68, 137, 167, 200] (fun F hF => ?_)
            simp only [tb_X0_least, hF, in_no, in_push, in_ild, in_lld, in_ald, in_ist, in_ast, in_lst, in_inc, in_iii, in_idv, in_ldv, in_lll, in_lli, in_lil, in_ii, in_il, in_li, in_ll, in_dup, in_dp2, q_if1, q_if2, in_go, in_sw, ma_sw, in_rv, in_ri, in_rz, in_rl, in_get, in_put, in_puz, in_iar, in_bar, in_lar, in_aar, in_iaw, in_baw, in_law, in_len, in_cpy, in_s1, in_s2, in_s3, in_v1, in_v2, in_v3, in_v4, in_v5, in_v6, ma_bk, ma_gl, ma_sl, ma_nl, ma_wc, ma_wd, ma_nn, ma_en, List.mem_cons, List.not_mem_nil, or_false, or_true, true_or, false_or, true_and, and_true, false_and, and_false, if_true, if_false, forall_const, true_implies, false_implies, not_true_eq_false, not_false_eq_true, Classical.not_not, implies_true, and_self, Nat.add_zero, Nat.zero_add, eq_self, ne_eq, reduceCtorEq, Nat.reduceLT, Nat.reduceLeDiff, Nat.reduceEqDiff, Nat.reduceSub, Nat.reduceAdd, i10, i01, im10, Int32.reduceLT, Int32.reduceLE, ↓reduceIte, reduceIte, up_r, uL_r, cp_r, Int32.toInt_toInt64, Int64.reduceToInt, Int32.reduceToInt, ↓b1_or, b1_0, b1_1, lc_lt, lc_le, lc_gt, lc_ge, lc_eq, yx_0, yx_1, yx_2, yx_3, yx_4, yx_5, yx_6, yx_7, yx_8, yx_9, yx_10, yx_11, yx_12, yx_13, yx_14, yx_15, yx_16, yx_17, yx_18, yx_19, yx_20, yx_21, yx_22, yx_23, yx_24, yx_25, yx_26, yx_27, yx_28, yx_29, yx_30, yx_31, yx_32, yx_33, yx_34, yx_35, yx_36, yx_37, yx_38, yx_39, yx_40, yx_41, yx_42, yx_43, yx_44, yx_45, yx_46, yx_47, yx_48, yx_49, yx_50, yx_51, yx_52, yx_53, yx_54, yx_55, yx_56, yx_57, yx_58, yx_59, yx_60, yx_61, yx_62, yx_63, yx_64, yx_65, yx_66, yx_67, yx_68, rx_0, rx_1, rx_2, rx_3, rx_4, rx_5, rx_6, rx_7, rx_8, rx_9, rx_10, rx_11, rx_12, rx_13, rx_14, rx_15, rx_16, rx_17, rx_18, rx_19, rx_20, rx_21, rx_22, rx_23, rx_24, rx_25, rx_26, rx_27, rx_28, rx_29, rx_30, rx_31, rx_32, rx_33, rp_0, rp_1, rp_2, rp_3, rp_4, rp_5, rp_6, rp_7, rp_8, rs_0, rs_1, rs_2, rs_3, rs_4, re_0, re_1, re_2, re_3, re_4, re_5, rr_0, rr_1, rr_2, rr_3, rr_4, rk_0, rk_1, isP3, isP11, isP46, isP58, isS25, isS28, isS31, un_X0_toldMany, un_X0_refresh, un_X0_offOf, un_X0_isGroup, un_J1_bitCount, v2, v3, v4, v5, c6, mo, c0]
            try simp only [iteP, Classical.not_not, b1_0, b1_1]
            rw [c0] at q
            exact q
          · have es : sox x j = offx x j := by unfold sox; rw [if_pos (by omega)]
            rw [es] at q
            refine ma_walk (mo_X0_least ms_X0_toldMany ms_X0_refresh ms_X0_offOf ms_X0_isGroup ms_J1_bitCount) hV [30, 68, 137, 167, 200] (fun F hF => ?_)
            simp only [tb_X0_least, hF, in_no, in_push, in_ild, in_lld, in_ald, in_ist, in_ast, in_lst, in_inc, in_iii, in_idv, in_ldv, in_lll, in_lli, in_lil, in_ii, in_il, in_li, in_ll, in_dup, in_dp2, q_if1, q_if2, in_go, in_sw, ma_sw, in_rv, in_ri, in_rz, in_rl, in_get, in_put, in_puz, in_iar, in_bar, in_lar, in_aar, in_iaw, in_baw, in_law, in_len, in_cpy, in_s1, in_s2, in_s3, in_v1, in_v2, in_v3, in_v4, in_v5, in_v6, ma_bk, ma_gl, ma_sl, ma_nl, ma_wc, ma_wd, ma_nn, ma_en, List.mem_cons, List.not_mem_nil, or_false, or_true, true_or, false_or, true_and, and_true, false_and, and_false, if_true, if_false, forall_const, true_implies, false_implies, not_true_eq_false, not_false_eq_true, Classical.not_not, implies_true, and_self, Nat.add_zero, Nat.zero_add, eq_self, ne_eq, reduceCtorEq, Nat.reduceLT, Nat.reduceLeDiff, Nat.reduceEqDiff, Nat.reduceSub, Nat.reduceAdd, i10, i01, im10, Int32.reduceLT, Int32.reduceLE, ↓reduceIte, reduceIte, up_r, uL_r, cp_r, Int32.toInt_toInt64, Int64.reduceToInt, Int32.reduceToInt, ↓b1_or, b1_0, b1_1, lc_lt, lc_le, lc_gt, lc_ge, lc_eq, yx_0, yx_1, yx_2, yx_3, yx_4, yx_5, yx_6, yx_7, yx_8, yx_9, yx_10, yx_11, yx_12, yx_13, yx_14, yx_15, yx_16, yx_17, yx_18, yx_19, yx_20, yx_21, yx_22, yx_23, yx_24, yx_25, yx_26, yx_27, yx_28, yx_29, yx_30, yx_31, yx_32, yx_33, yx_34, yx_35, yx_36, yx_37, yx_38, yx_39, yx_40, yx_41, yx_42, yx_43, yx_44, yx_45, yx_46, yx_47, yx_48, yx_49, yx_50, yx_51, yx_52, yx_53, yx_54, yx_55, yx_56, yx_57, yx_58, yx_59, yx_60, yx_61, yx_62, yx_63, yx_64, yx_65, yx_66, yx_67, yx_68, rx_0, rx_1, rx_2, rx_3, rx_4, rx_5, rx_6, rx_7, rx_8, rx_9, rx_10, rx_11, rx_12, rx_13, rx_14, rx_15, rx_16, rx_17, rx_18, rx_19, rx_20, rx_21, rx_22, rx_23, rx_24, rx_25, rx_26, rx_27, rx_28, rx_29, rx_30, rx_31, rx_32, rx_33, rp_0, rp_1, rp_2, rp_3, rp_4, rp_5, rp_6, rp_7, rp_8, rs_0, rs_1, rs_2, rs_3, rs_4, re_0, re_1, re_2, re_3, re_4, re_5, rr_0, rr_1, rr_2, rr_3, rr_4, rk_0, rk_1, isP3, isP11, isP46, isP58, isS25, isS28, isS31, un_X0_toldMany, un_X0_refresh, un_X0_offOf, un_X0_isGroup, un_J1_bitCount, v2, v3, v4, v5, c6, mo, c0]
            try simp only [iteP, Classical.not_not, b1_0, b1_1]
            rw [c0] at q
            exact q
        · have ez : zx x j = true := by unfold zx; rw [decide_eq_false c0]; rfl
          have mo := mo.1 ez
          by_cases c6 : 6 ≤ j
          · have es : sox x j = -offx x j := by unfold sox; rw [if_neg (by omega)]
            rw [es] at q
            refine ma_walk (mo_X0_least ms_X0_toldMany ms_X0_refresh ms_X0_offOf ms_X0_isGroup ms_J1_bitCount) hV [30, 68, 137, 167, 200] (fun F hF => ?_)
            simp only [tb_X0_least, hF, in_no, in_push, in_ild, in_lld, in_ald, in_ist, in_ast, in_lst, in_inc, in_iii, in_idv, in_ldv, in_lll, in_lli, in_lil, in_ii, in_il, in_li, in_ll, in_dup, in_dp2, q_if1, q_if2, in_go, in_sw, ma_sw, in_rv, in_ri, in_rz, in_rl, in_get, in_put, in_puz, in_iar, in_bar, in_lar, in_aar, in_iaw, in_baw, in_law, in_len, in_cpy, in_s1, in_s2, in_s3, in_v1, in_v2, in_v3, in_v4, in_v5, in_v6, ma_bk, ma_gl, ma_sl, ma_nl, ma_wc, ma_wd, ma_nn, ma_en, List.mem_cons, List.not_mem_nil, or_false, or_true, true_or, false_or, true_and, and_true, false_and, and_false, if_true, if_false, forall_const, true_implies, false_implies, not_true_eq_false, not_false_eq_true, Classical.not_not, implies_true, and_self, Nat.add_zero, Nat.zero_add, eq_self, ne_eq, reduceCtorEq, Nat.reduceLT, Nat.reduceLeDiff, Nat.reduceEqDiff, Nat.reduceSub, Nat.reduceAdd, i10, i01, im10, Int32.reduceLT, Int32.reduceLE, ↓reduceIte, reduceIte, up_r, uL_r, cp_r, Int32.toInt_toInt64, Int64.reduceToInt, Int32.reduceToInt, ↓b1_or, b1_0, b1_1, lc_lt, lc_le, lc_gt, lc_ge, lc_eq, yx_0, yx_1, yx_2, yx_3, yx_4, yx_5, yx_6, yx_7, yx_8, yx_9, yx_10, yx_11, yx_12, yx_13, yx_14, yx_15, yx_16, yx_17, yx_18, yx_19, yx_20, yx_21, yx_22, yx_23, yx_24, yx_25, yx_26, yx_27, yx_28, yx_29, yx_30, yx_31, yx_32, yx_33, yx_34, yx_35, yx_36, yx_37, yx_38, yx_39, yx_40, yx_41, yx_42, yx_43, yx_44, yx_45, yx_46, yx_47, yx_48, yx_49, yx_50, yx_51, yx_52, yx_53, yx_54, yx_55, yx_56, yx_57, yx_58, yx_59, yx_60, yx_61, yx_62, yx_63, yx_64, yx_65, yx_66, yx_67, yx_68, rx_0, rx_1, rx_2, rx_3, rx_4, rx_5, rx_6, rx_7, rx_8, rx_9, rx_10, rx_11, rx_12, rx_13, rx_14, rx_15, rx_16, rx_17, rx_18, rx_19, rx_20, rx_21, rx_22, rx_23, rx_24, rx_25, rx_26, rx_27, rx_28, rx_29, rx_30, rx_31, rx_32, rx_33, rp_0, rp_1, rp_2, rp_3, rp_4, rp_5, rp_6, rp_7, rp_8, rs_0, rs_1, rs_2, rs_3, rs_4, re_0, re_1, re_2, re_3, re_4, re_5, rr_0, rr_1, rr_2, rr_3, rr_4, rk_0, rk_1, isP3, isP11, isP46, isP58, isS25, isS28, isS31, un_X0_toldMany, un_X0_refresh, un_X0_offOf, un_X0_isGroup, un_J1_bitCount, v2, v3, v4, v5, c6, mo, c0]
            try simp only [iteP, Classical.not_not, b1_0, b1_1]
            exact q
          · have es : sox x j = offx x j := by unfold sox; rw [if_pos (by omega)]
            rw [es] at q
            refine ma_walk (mo_X0_least ms_X0_toldMany ms_X0_refresh ms_X0_offOf ms_X0_isGroup ms_J1_bitCount) hV [30, 68, 137, 167, 200] (fun F hF => ?_)
            simp only [tb_X0_least, hF, in_no, in_push, in_ild, in_lld, in_ald, in_ist, in_ast, in_lst, in_inc, in_iii, in_idv, in_ldv, in_lll, in_lli, in_lil, in_ii, in_il, in_li, in_ll, in_dup, in_dp2, q_if1, q_if2, in_go, in_sw, ma_sw, in_rv, in_ri, in_rz, in_rl, in_get, in_put, in_puz, in_iar, in_bar, in_lar, in_aar, in_iaw, in_baw, in_law, in_len, in_cpy, in_s1, in_s2, in_s3, in_v1, in_v2, in_v3, in_v4, in_v5, in_v6, ma_bk, ma_gl, ma_sl, ma_nl, ma_wc, ma_wd, ma_nn, ma_en, List.mem_cons, List.not_mem_nil, or_false, or_true, true_or, false_or, true_and, and_true, false_and, and_false, if_true, if_false, forall_const, true_implies, false_implies, not_true_eq_false, not_false_eq_true, Classical.not_not, implies_true, and_self, Nat.add_zero, Nat.zero_add, eq_self, ne_eq, reduceCtorEq, Nat.reduceLT, Nat.reduceLeDiff, Nat.reduceEqDiff, Nat.reduceSub, Nat.reduceAdd, i10, i01, im10, Int32.reduceLT, Int32.reduceLE, ↓reduceIte, reduceIte, up_r, uL_r, cp_r, Int32.toInt_toInt64, Int64.reduceToInt, Int32.reduceToInt, ↓b1_or, b1_0, b1_1, lc_lt, lc_le, lc_gt, lc_ge, lc_eq, yx_0, yx_1, yx_2, yx_3, yx_4, yx_5, yx_6, yx_7, yx_8, yx_9, yx_10, yx_11, yx_12, yx_13, yx_14, yx_15, yx_16, yx_17, yx_18, yx_19, yx_20, yx_21, yx_22, yx_23, yx_24, yx_25, yx_26, yx_27, yx_28, yx_29, yx_30, yx_31, yx_32, yx_33, yx_34, yx_35, yx_36, yx_37, yx_38, yx_39, yx_40, yx_41, yx_42, yx_43, yx_44, yx_45, yx_46, yx_47, yx_48, yx_49, yx_50, yx_51, yx_52, yx_53, yx_54, yx_55, yx_56, yx_57, yx_58, yx_59, yx_60, yx_61, yx_62, yx_63, yx_64, yx_65, yx_66, yx_67, yx_68, rx_0, rx_1, rx_2, rx_3, rx_4, rx_5, rx_6, rx_7, rx_8, rx_9, rx_10, rx_11, rx_12, rx_13, rx_14, rx_15, rx_16, rx_17, rx_18, rx_19, rx_20, rx_21, rx_22, rx_23, rx_24, rx_25, rx_26, rx_27, rx_28, rx_29, rx_30, rx_31, rx_32, rx_33, rp_0, rp_1, rp_2, rp_3, rp_4, rp_5, rp_6, rp_7, rp_8, rs_0, rs_1, rs_2, rs_3, rs_4, re_0, re_1, re_2, re_3, re_4, re_5, rr_0, rr_1, rr_2, rr_3, rr_4, rk_0, rk_1, isP3, isP11, isP46, isP58, isS25, isS28, isS31, un_X0_toldMany, un_X0_refresh, un_X0_offOf, un_X0_isGroup, un_J1_bitCount, v2, v3, v4, v5, c6, mo, c0]
            try simp only [iteP, Classical.not_not, b1_0, b1_1]
            exact q
      unfold offx at c68
      refine ma_walk (mo_X0_least ms_X0_toldMany ms_X0_refresh ms_X0_offOf ms_X0_isGroup ms_J1_bitCount) hV [30, 68, 137, 167, 200] (fun F hF => ?_)
      simp only [tb_X0_least, hF, in_no, in_push, in_ild, in_lld, in_ald, in_ist, in_ast, in_lst, in_inc, in_iii, in_idv, in_ldv, in_lll, in_lli, in_lil, in_ii, in_il, in_li, in_ll, in_dup, in_dp2, q_if1, q_if2, in_go, in_sw, ma_sw, in_rv, in_ri, in_rz, in_rl, in_get, in_put, in_puz, in_iar, in_bar, in_lar, in_aar, in_iaw, in_baw, in_law, in_len, in_cpy, in_s1, in_s2, in_s3, in_v1, in_v2, in_v3, in_v4, in_v5, in_v6, ma_bk, ma_gl, ma_sl, ma_nl, ma_wc, ma_wd, ma_nn, ma_en, List.mem_cons, List.not_mem_nil, or_false, or_true, true_or, false_or, true_and, and_true, false_and, and_false, if_true, if_false, forall_const, true_implies, false_implies, not_true_eq_false, not_false_eq_true, Classical.not_not, implies_true, and_self, Nat.add_zero, Nat.zero_add, eq_self, ne_eq, reduceCtorEq, Nat.reduceLT, Nat.reduceLeDiff, Nat.reduceEqDiff, Nat.reduceSub, Nat.reduceAdd, i10, i01, im10, Int32.reduceLT, Int32.reduceLE, ↓reduceIte, reduceIte, up_r, uL_r, cp_r, Int32.toInt_toInt64, Int64.reduceToInt, Int32.reduceToInt, ↓b1_or, b1_0, b1_1, lc_lt, lc_le, lc_gt, lc_ge, lc_eq, yx_0, yx_1, yx_2, yx_3, yx_4, yx_5, yx_6, yx_7, yx_8, yx_9, yx_10, yx_11, yx_12, yx_13, yx_14, yx_15, yx_16, yx_17, yx_18, yx_19, yx_20, yx_21, yx_22, yx_23, yx_24, yx_25, yx_26, yx_27, yx_28, yx_29, yx_30, yx_31, yx_32, yx_33, yx_34, yx_35, yx_36, yx_37, yx_38, yx_39, yx_40, yx_41, yx_42, yx_43, yx_44, yx_45, yx_46, yx_47, yx_48, yx_49, yx_50, yx_51, yx_52, yx_53, yx_54, yx_55, yx_56, yx_57, yx_58, yx_59, yx_60, yx_61, yx_62, yx_63, yx_64, yx_65, yx_66, yx_67, yx_68, rx_0, rx_1, rx_2, rx_3, rx_4, rx_5, rx_6, rx_7, rx_8, rx_9, rx_10, rx_11, rx_12, rx_13, rx_14, rx_15, rx_16, rx_17, rx_18, rx_19, rx_20, rx_21, rx_22, rx_23, rx_24, rx_25, rx_26, rx_27, rx_28, rx_29, rx_30, rx_31, rx_32, rx_33, rp_0, rp_1, rp_2, rp_3, rp_4, rp_5, rp_6, rp_7, rp_8, rs_0, rs_1, rs_2, rs_3, rs_4, re_0, re_1, re_2, re_3, re_4, re_5, rr_0, rr_1, rr_2, rr_3, rr_4, rk_0, rk_1, isP3, isP11, isP46, isP58, isS25, isS28, isS31, un_X0_toldMany, un_X0_refresh, un_X0_offOf, un_X0_isGroup, un_J1_bitCount, v1, v2, v3, Lt]
      try simp only [iteP, Classical.not_not, b1_0, b1_1]
      exact sw_n (fun y => by rw [if_pos y] at c68; exact c68) (fun y => ⟨x, j, ⟨hJ, g1.uL hL, g2, rfl, by omega⟩, by rw [if_neg y] at c68; exact c68⟩)
  exact lp 12 0 L rfl rfl (fun i hi => by omega)
theorem pv_X0_least : ∀ as M L K, S_X0_least as M L K → ma_rn (tb_X0_least S_X0_toldMany S_X0_refresh S_X0_offOf S_X0_isGroup S_J1_bitCount) 7 as M L K := by
  intro as M L K h
  unfold S_X0_least at h
  split at h
  · obtain ⟨x, h⟩ := h; exact pw_X0_least h.1 h.2
  · exact h.elim
