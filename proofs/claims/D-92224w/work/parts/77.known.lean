/-! op: known -/
set_option maxRecDepth 100000
set_option maxHeartbeats 4000000
def kn (g : Nat → Nat) (t : Nat) : Nat → Nat → Nat
  | 0, j => j
  | n + 1, j => if t < g j then j else kn g t n (j + 1)
def oKnown (c t : Int32) (x : St) : Int32 := if (0 ≤ c.toInt ∧ c.toInt < (nat (sN x 0 0) * nat (sN x 0 1) : Nat)) ∧ (0 ≤ t.toInt ∧ t.toInt ≤ 100000) then nI (kn (fun s => esx x (s + 1) (nat c)) (nat t) 12 0) else -1
def S_X0_known : ma_Cs := fun as M L K => match as with
  | [.ref k, .int c, .int t] => ∃ (x : St), (k = 0 ∧ J x ∧ RX M L x) ∧ (∀ (M' : ZM), RX M' L x → K (some (.int (oKnown c t x))) M' L)
  | _ => False
theorem ms_X0_known : ma_ms S_X0_known := by
  intro as M L K K' hk h
  unfold S_X0_known at h ⊢
  split at h
  · obtain ⟨x, h⟩ := h
    exact ⟨x, h.1, fun x0 x1 => hk _ _ _ (h.2 x0 x1)⟩
  · exact h.elim
theorem un_X0_known {k : Nat} {c : Int32} {t : Int32} {M : ZM} {L : ZL} {K : ma_Kt} : S_X0_known [.ref k, .int c, .int t] M L K = (∃ (x : St), (k = 0 ∧ J x ∧ RX M L x) ∧ (∀ (M' : ZM), RX M' L x → K (some (.int (oKnown c t x))) M' L)) := rfl
theorem pw_X0_known {k : Nat} {c : Int32} {t : Int32} {x : St} {M : ZM} {L : ZL} {K : ma_Kt} (hp : k = 0 ∧ J x ∧ RX M L x) (h : (∀ (M' : ZM), RX M' L x → K (some (.int (oKnown c t x))) M' L)) : ma_rn (tb_X0_known S_X0_isCell S_X0_isIn S_X0_layEnds) 4 [.ref k, .int c, .int t] M L K := by
  refine ⟨Nat.le_of_ble_eq_true rfl, fun V hV => ?_⟩
  obtain ⟨rfl, hJ, hR⟩ := hp
  obtain ⟨w, u, e, wk, h1, h2, h3, h4, hs, hPe, hb, hpc, he, hlt, q0, q36, hn⟩ := hJ.people
  obtain ⟨⟨c0, c5, c6, c7, c10, c19, c20, c25, c33⟩, ⟨a19, a1, a20, a21, a22, a23, a24, a34, a37, a38, a39⟩, r3, r4⟩ := id hR
  rw [h1] at c5
  rw [h2] at c6
  unfold oKnown at h
  rw [hn] at h
  refine ma_walk (mo_X0_known ms_X0_isCell ms_X0_isIn ms_X0_layEnds) hV [34] (fun F hF => ?_)
  simp only [tb_X0_known, hF, in_no, in_push, in_ild, in_lld, in_ald, in_ist, in_ast, in_lst, in_inc, in_iii, in_idv, in_ldv, in_lll, in_lli, in_lil, in_ii, in_il, in_li, in_ll, in_dup, in_dp2, q_if1, q_if2, in_go, in_sw, ma_sw, in_rv, in_ri, in_rz, in_rl, in_get, in_put, in_puz, in_iar, in_bar, in_lar, in_aar, in_iaw, in_baw, in_law, in_len, in_cpy, in_s1, in_s2, in_s3, in_v1, in_v2, in_v3, in_v4, in_v5, in_v6, ma_bk, ma_gl, ma_sl, ma_nl, ma_wc, ma_wd, ma_nn, ma_en, List.mem_cons, List.not_mem_nil, or_false, or_true, true_or, false_or, true_and, and_true, false_and, and_false, if_true, if_false, forall_const, true_implies, false_implies, not_true_eq_false, not_false_eq_true, Classical.not_not, implies_true, and_self, Nat.add_zero, Nat.zero_add, eq_self, ne_eq, reduceCtorEq, Nat.reduceLT, Nat.reduceLeDiff, Nat.reduceEqDiff, Nat.reduceSub, Nat.reduceAdd, i10, i01, im10, Int32.reduceLT, Int32.reduceLE, ↓reduceIte, reduceIte, up_r, uL_r, cp_r, Int32.toInt_toInt64, Int64.reduceToInt, Int32.reduceToInt, ↓b1_or, b1_0, b1_1, lc_lt, lc_le, lc_gt, lc_ge, lc_eq, yx_0, yx_1, yx_2, yx_3, yx_4, yx_5, yx_6, yx_7, yx_8, yx_9, yx_10, yx_11, yx_12, yx_13, yx_14, yx_15, yx_16, yx_17, yx_18, yx_19, yx_20, yx_21, yx_22, yx_23, yx_24, yx_25, yx_26, yx_27, yx_28, yx_29, yx_30, yx_31, yx_32, yx_33, yx_34, yx_35, yx_36, yx_37, yx_38, yx_39, yx_40, yx_41, yx_42, yx_43, yx_44, yx_45, yx_46, yx_47, yx_48, yx_49, yx_50, yx_51, yx_52, yx_53, yx_54, yx_55, yx_56, yx_57, yx_58, yx_59, yx_60, yx_61, yx_62, yx_63, yx_64, yx_65, yx_66, yx_67, yx_68, rx_0, rx_1, rx_2, rx_3, rx_4, rx_5, rx_6, rx_7, rx_8, rx_9, rx_10, rx_11, rx_12, rx_13, rx_14, rx_15, rx_16, rx_17, rx_18, rx_19, rx_20, rx_21, rx_22, rx_23, rx_24, rx_25, rx_26, rx_27, rx_28, rx_29, rx_30, rx_31, rx_32, rx_33, rp_0, rp_1, rp_2, rp_3, rp_4, rp_5, rp_6, rp_7, rp_8, rs_0, rs_1, rs_2, rs_3, rs_4, re_0, re_1, re_2, re_3, re_4, re_5, rr_0, rr_1, rr_2, rr_3, rr_4, rk_0, rk_1, isP3, isP11, isP46, isP58, isS25, isS28, isS31, un_X0_isCell, un_X0_isIn, un_X0_layEnds, c5, c6]
  try simp only [iteP, Classical.not_not, b1_0, b1_1]
  clear hF
  have kq : (nI w * nI u - 1).toInt = ((w * u : Nat) : Int) - 1 := by
    rw [pk_mul, show (1 : Int32) = nI 1 from rfl, pk_sub (by omega), a_ti (by omega)]; omega
  rw [kq]
  refine br_n (fun z => by have g := h M hR; rw [if_neg (fun y => z (by omega))] at g; exact g) (fun z => br_n (fun z2 => by have g := h M hR; rw [if_neg (fun y => z2 y.2)] at g; exact g) (fun z2 => ?_))
  obtain ⟨d, ed, hd, bd'⟩ := a_of z.1
  obtain ⟨m, em, hm, bm⟩ := a_of z2.1
  have nd : nat c = d := by unfold nat; rw [ed, a_cl bd']
  have nm' : nat t = m := by unfold nat; rw [em, a_cl bm]
  rw [if_pos ⟨by omega, z2⟩, nd, nm'] at h
  refine ⟨w, u, e, wk, bbx x, pcx x, 12, ⟨rfl, rfl, by rw [c7, h3], hs, by rw [c25, h4], hPe, fun c hc => by rw [a39]; exact hb c hc, fun p hp => by rw [a38]; exact hpc p hp, rfl, by omega⟩, fun M' g1 g2 => ?_⟩
  have g := h M' (hR.lf g1 h1 h2)
  have lp : ∀ n j, n + j = 12 → K (some (.int (nI (kn (fun s => esx x (s + 1) d) m n j)))) M' L → V 34 [some (.ref 0), some (.int (nI d)), some (.int (nI m)), some (.int (nI j))] [] M' L := by
    intro n
    induction n with
    | zero =>
      intro j hj g
      have v1 : (12 : Int32) ≤ nI j := by rw [show j = 12 by omega]; decide
      refine ma_walk (mo_X0_known ms_X0_isCell ms_X0_isIn ms_X0_layEnds) hV [34] (fun F hF => ?_)
      simp only [tb_X0_known, hF, in_no, in_push, in_ild, in_lld, in_ald, in_ist, in_ast, in_lst, in_inc, in_iii, in_idv, in_ldv, in_lll, in_lli, in_lil, in_ii, in_il, in_li, in_ll, in_dup, in_dp2, q_if1, q_if2, in_go, in_sw, ma_sw, in_rv, in_ri, in_rz, in_rl, in_get, in_put, in_puz, in_iar, in_bar, in_lar, in_aar, in_iaw, in_baw, in_law, in_len, in_cpy, in_s1, in_s2, in_s3, in_v1, in_v2, in_v3, in_v4, in_v5, in_v6, ma_bk, ma_gl, ma_sl, ma_nl, ma_wc, ma_wd, ma_nn, ma_en, List.mem_cons, List.not_mem_nil, or_false, or_true, true_or, false_or, true_and, and_true, false_and, and_false, if_true, if_false, forall_const, true_implies, false_implies, not_true_eq_false, not_false_eq_true, Classical.not_not, implies_true, and_self, Nat.add_zero, Nat.zero_add, eq_self, ne_eq, reduceCtorEq, Nat.reduceLT, Nat.reduceLeDiff, Nat.reduceEqDiff, Nat.reduceSub, Nat.reduceAdd, i10, i01, im10, Int32.reduceLT, Int32.reduceLE, ↓reduceIte, reduceIte, up_r, uL_r, cp_r, Int32.toInt_toInt64, Int64.reduceToInt, Int32.reduceToInt, ↓b1_or, b1_0, b1_1, lc_lt, lc_le, lc_gt, lc_ge, lc_eq, yx_0, yx_1, yx_2, yx_3, yx_4, yx_5, yx_6, yx_7, yx_8, yx_9, yx_10, yx_11, yx_12, yx_13, yx_14, yx_15, yx_16, yx_17, yx_18, yx_19, yx_20, yx_21, yx_22, yx_23, yx_24, yx_25, yx_26, yx_27, yx_28, yx_29, yx_30, yx_31, yx_32, yx_33, yx_34, yx_35, yx_36, yx_37, yx_38, yx_39, yx_40, yx_41, yx_42, yx_43, yx_44, yx_45, yx_46, yx_47, yx_48, yx_49, yx_50, yx_51, yx_52, yx_53, yx_54, yx_55, yx_56, yx_57, yx_58, yx_59, yx_60, yx_61, yx_62, yx_63, yx_64, yx_65, yx_66, yx_67, yx_68, rx_0, rx_1, rx_2, rx_3, rx_4, rx_5, rx_6, rx_7, rx_8, rx_9, rx_10, rx_11, rx_12, rx_13, rx_14, rx_15, rx_16, rx_17, rx_18, rx_19, rx_20, rx_21, rx_22, rx_23, rx_24, rx_25, rx_26, rx_27, rx_28, rx_29, rx_30, rx_31, rx_32, rx_33, rp_0, rp_1, rp_2, rp_3, rp_4, rp_5, rp_6, rp_7, rp_8, rs_0, rs_1, rs_2, rs_3, rs_4, re_0, re_1, re_2, re_3, re_4, re_5, rr_0, rr_1, rr_2, rr_3, rr_4, rk_0, rk_1, isP3, isP11, isP46, isP58, isS25, isS28, isS31, un_X0_isCell, un_X0_isIn, un_X0_layEnds, v1]
      try simp only [iteP, Classical.not_not, b1_0, b1_1]
      exact g
    | succ n ih =>
      intro j hj g
      have v1 : ¬ (12 : Int32) ≤ nI j := fun y => by rw [show (12 : Int32) = nI 12 from rfl, a_le (by omega) (by omega)] at y; omega
      have v3 : nI j + 1 = nI (j + 1) := by rw [show (1 : Int32) = nI 1 from rfl, nI_add]
      have ix : nI (j + 1) * 36 + nI d = nI (36 * (j + 1) + d) := by rw [show (36 : Int32) = nI 36 from rfl, pk_mul, nI_add, Nat.mul_comm]
      have v2 : vp_in (nI (36 * (j + 1) + d)) 468 := vp_in_nI (by omega) (by decide)
      have v4 := a_cl (show 36 * (j + 1) + d < 2147483648 by omega)
      have v5 : M' 41 (36 * (j + 1) + d) = nI (esx x (j + 1) d) := by rw [he]; exact g2 _ _ (by omega) (by omega)
      have v6 := hlt (j + 1) d (by omega) (by omega)
      have v7 : (nI m < nI (esx x (j + 1) d)) = (m < esx x (j + 1) d) := a_lt (by omega) (by omega)
      rw [kn] at g
      refine ma_walk (mo_X0_known ms_X0_isCell ms_X0_isIn ms_X0_layEnds) hV [34] (fun F hF => ?_)
      simp only [tb_X0_known, hF, in_no, in_push, in_ild, in_lld, in_ald, in_ist, in_ast, in_lst, in_inc, in_iii, in_idv, in_ldv, in_lll, in_lli, in_lil, in_ii, in_il, in_li, in_ll, in_dup, in_dp2, q_if1, q_if2, in_go, in_sw, ma_sw, in_rv, in_ri, in_rz, in_rl, in_get, in_put, in_puz, in_iar, in_bar, in_lar, in_aar, in_iaw, in_baw, in_law, in_len, in_cpy, in_s1, in_s2, in_s3, in_v1, in_v2, in_v3, in_v4, in_v5, in_v6, ma_bk, ma_gl, ma_sl, ma_nl, ma_wc, ma_wd, ma_nn, ma_en, List.mem_cons, List.not_mem_nil, or_false, or_true, true_or, false_or, true_and, and_true, false_and, and_false, if_true, if_false, forall_const, true_implies, false_implies, not_true_eq_false, not_false_eq_true, Classical.not_not, implies_true, and_self, Nat.add_zero, Nat.zero_add, eq_self, ne_eq, reduceCtorEq, Nat.reduceLT, Nat.reduceLeDiff, Nat.reduceEqDiff, Nat.reduceSub, Nat.reduceAdd, i10, i01, im10, Int32.reduceLT, Int32.reduceLE, ↓reduceIte, reduceIte, up_r, uL_r, cp_r, Int32.toInt_toInt64, Int64.reduceToInt, Int32.reduceToInt, ↓b1_or, b1_0, b1_1, lc_lt, lc_le, lc_gt, lc_ge, lc_eq, yx_0, yx_1, yx_2, yx_3, yx_4, yx_5, yx_6, yx_7, yx_8, yx_9, yx_10, yx_11, yx_12, yx_13, yx_14, yx_15, yx_16, yx_17, yx_18, yx_19, yx_20, yx_21, yx_22, yx_23, yx_24, yx_25, yx_26, yx_27, yx_28, yx_29, yx_30, yx_31, yx_32, yx_33, yx_34, yx_35, yx_36, yx_37, yx_38, yx_39, yx_40, yx_41, yx_42, yx_43, yx_44, yx_45, yx_46, yx_47, yx_48, yx_49, yx_50, yx_51, yx_52, yx_53, yx_54, yx_55, yx_56, yx_57, yx_58, yx_59, yx_60, yx_61, yx_62, yx_63, yx_64, yx_65, yx_66, yx_67, yx_68, rx_0, rx_1, rx_2, rx_3, rx_4, rx_5, rx_6, rx_7, rx_8, rx_9, rx_10, rx_11, rx_12, rx_13, rx_14, rx_15, rx_16, rx_17, rx_18, rx_19, rx_20, rx_21, rx_22, rx_23, rx_24, rx_25, rx_26, rx_27, rx_28, rx_29, rx_30, rx_31, rx_32, rx_33, rp_0, rp_1, rp_2, rp_3, rp_4, rp_5, rp_6, rp_7, rp_8, rs_0, rs_1, rs_2, rs_3, rs_4, re_0, re_1, re_2, re_3, re_4, re_5, rr_0, rr_1, rr_2, rr_3, rr_4, rk_0, rk_1, isP3, isP11, isP46, isP58, isS25, isS28, isS31, un_X0_isCell, un_X0_isIn, un_X0_layEnds, v1, v3, ix, v2, v4, v5, v7]
      try simp only [iteP, Classical.not_not, b1_0, b1_1]
      exact sw_n (fun y => by rw [if_pos y] at g; exact g) (fun y => by rw [if_neg y] at g; exact ih (j + 1) (by omega) g)
  rw [ed, em]
  exact lp 12 0 rfl g
theorem pv_X0_known : ∀ as M L K, S_X0_known as M L K → ma_rn (tb_X0_known S_X0_isCell S_X0_isIn S_X0_layEnds) 4 as M L K := by
  intro as M L K h
  unfold S_X0_known at h
  split at h
  · obtain ⟨x, h⟩ := h; exact pw_X0_known h.1 h.2
  · exact h.elim
def S_X5_known : ma_Cs := fun as M L K => match as with
  | [.ref k, .int c, .int t] => ∃ (x : St), (k = 0 ∧ J x ∧ RY M L x) ∧ (∀ (M' : ZM), RY M' L x → K (some (.int (oKnown c t x))) M' L)
  | _ => False
theorem ms_X5_known : ma_ms S_X5_known := by
  intro as M L K K' hk h
  unfold S_X5_known at h ⊢
  split at h
  · obtain ⟨x, h⟩ := h
    exact ⟨x, h.1, fun x0 x1 => hk _ _ _ (h.2 x0 x1)⟩
  · exact h.elim
theorem un_X5_known {k : Nat} {c : Int32} {t : Int32} {M : ZM} {L : ZL} {K : ma_Kt} : S_X5_known [.ref k, .int c, .int t] M L K = (∃ (x : St), (k = 0 ∧ J x ∧ RY M L x) ∧ (∀ (M' : ZM), RY M' L x → K (some (.int (oKnown c t x))) M' L)) := rfl
theorem pw_X5_known {k : Nat} {c : Int32} {t : Int32} {x : St} {M : ZM} {L : ZL} {K : ma_Kt} (hp : k = 0 ∧ J x ∧ RY M L x) (h : (∀ (M' : ZM), RY M' L x → K (some (.int (oKnown c t x))) M' L)) : ma_rn (tb_X5_known S_X5_isCell S_X5_in S_X5_ownEnds) 4 [.ref k, .int c, .int t] M L K := by
  refine ⟨Nat.le_of_ble_eq_true rfl, fun V hV => ?_⟩
  obtain ⟨rfl, hJ, hR⟩ := hp
  obtain ⟨w, u, e, wk, h1, h2, h3, h4, hs, hPe, hb, hpc, he, hlt, q0, q36, hn⟩ := hJ.people
  obtain ⟨⟨c0, c1, c2, c3, c5, c19, c24, c25, c30⟩, ⟨a1, a2, a12, a13, a14, a15, a16, a17, a18, a19, a20⟩, r3, r4⟩ := id hR
  rw [h1] at c0
  rw [h2] at c1
  unfold oKnown at h
  rw [hn] at h
  refine ma_walk (mo_X5_known ms_X5_isCell ms_X5_in ms_X5_ownEnds) hV [28] (fun F hF => ?_)
  simp only [tb_X5_known, hF, in_no, in_push, in_ild, in_lld, in_ald, in_ist, in_ast, in_lst, in_inc, in_iii, in_idv, in_ldv, in_lll, in_lli, in_lil, in_ii, in_il, in_li, in_ll, in_dup, in_dp2, q_if1, q_if2, in_go, in_sw, ma_sw, in_rv, in_ri, in_rz, in_rl, in_get, in_put, in_puz, in_iar, in_bar, in_lar, in_aar, in_iaw, in_baw, in_law, in_len, in_cpy, in_s1, in_s2, in_s3, in_v1, in_v2, in_v3, in_v4, in_v5, in_v6, ma_bk, ma_gl, ma_sl, ma_nl, ma_wc, ma_wd, ma_nn, ma_en, List.mem_cons, List.not_mem_nil, or_false, or_true, true_or, false_or, true_and, and_true, false_and, and_false, if_true, if_false, forall_const, true_implies, false_implies, not_true_eq_false, not_false_eq_true, Classical.not_not, implies_true, and_self, Nat.add_zero, Nat.zero_add, eq_self, ne_eq, reduceCtorEq, Nat.reduceLT, Nat.reduceLeDiff, Nat.reduceEqDiff, Nat.reduceSub, Nat.reduceAdd, i10, i01, im10, Int32.reduceLT, Int32.reduceLE, ↓reduceIte, reduceIte, up_r, uL_r, cp_r, Int32.toInt_toInt64, Int64.reduceToInt, Int32.reduceToInt, ↓b1_or, b1_0, b1_1, lc_lt, lc_le, lc_gt, lc_ge, lc_eq, ym_0, ym_1, ym_2, ym_3, ym_4, ym_5, ym_6, ym_7, ym_8, ym_9, ym_10, ym_11, ym_12, ym_13, ym_14, ym_15, ym_16, ym_17, ym_18, ym_19, ym_20, ym_21, ym_22, ym_23, ym_24, ym_25, ym_26, ym_27, ym_28, ym_29, ym_30, rm__0, rm__1, rm__2, rm__3, rm__4, rm__5, rm__6, rm__7, rm__8, rm__9, rm__10, rm__11, rm__12, rm__13, rm__14, rm__15, rm__16, rm__17, rm__18, rm__19, rm__20, rm__21, rm__22, rm__23, rm__24, rm__25, rm__26, rm__27, rm__28, rm__29, rm__30, rm__31, rm__32, rm__33, rm__34, rm__35, rm__36, rm__37, rm__38, rm__39, rm__40, rm__41, rm__42, rm__43, rm__44, rm__45, un_X5_isCell, un_X5_in, un_X5_ownEnds, c0, c1]
  try simp only [iteP, Classical.not_not, b1_0, b1_1]
  clear hF
  have kq : (nI w * nI u - 1).toInt = ((w * u : Nat) : Int) - 1 := by
    rw [pk_mul, show (1 : Int32) = nI 1 from rfl, pk_sub (by omega), a_ti (by omega)]; omega
  rw [kq]
  refine br_n (fun z => by have g := h M hR; rw [if_neg (fun y => z (by omega))] at g; exact g) (fun z => br_n (fun z2 => by have g := h M hR; rw [if_neg (fun y => z2 y.2)] at g; exact g) (fun z2 => ?_))
  obtain ⟨d, ed, hd, bd'⟩ := a_of z.1
  obtain ⟨m, em, hm, bm⟩ := a_of z2.1
  have nd : nat c = d := by unfold nat; rw [ed, a_cl bd']
  have nm' : nat t = m := by unfold nat; rw [em, a_cl bm]
  rw [if_pos ⟨by omega, z2⟩, nd, nm'] at h
  refine ⟨w, u, e, wk, bbx x, pcx x, ⟨rfl, rfl, by rw [c2, h3], hs, by rw [c3, h4], hPe, fun c hc => by rw [a20]; exact hb c hc, fun p hp => by rw [a19]; exact hpc p hp⟩, fun M' g1 g2 g3 => ?_⟩
  have g := h M' (hR.fr g1 g2)
  have lp : ∀ n j, n + j = 12 → K (some (.int (nI (kn (fun s => esx x (s + 1) d) m n j)))) M' L → V 28 [some (.ref 0), some (.int (nI d)), some (.int (nI m)), some (.int (nI j))] [] M' L := by
    intro n
    induction n with
    | zero =>
      intro j hj g
      have v1 : (12 : Int32) ≤ nI j := by rw [show j = 12 by omega]; decide
      refine ma_walk (mo_X5_known ms_X5_isCell ms_X5_in ms_X5_ownEnds) hV [28] (fun F hF => ?_)
      simp only [tb_X5_known, hF, in_no, in_push, in_ild, in_lld, in_ald, in_ist, in_ast, in_lst, in_inc, in_iii, in_idv, in_ldv, in_lll, in_lli, in_lil, in_ii, in_il, in_li, in_ll, in_dup, in_dp2, q_if1, q_if2, in_go, in_sw, ma_sw, in_rv, in_ri, in_rz, in_rl, in_get, in_put, in_puz, in_iar, in_bar, in_lar, in_aar, in_iaw, in_baw, in_law, in_len, in_cpy, in_s1, in_s2, in_s3, in_v1, in_v2, in_v3, in_v4, in_v5, in_v6, ma_bk, ma_gl, ma_sl, ma_nl, ma_wc, ma_wd, ma_nn, ma_en, List.mem_cons, List.not_mem_nil, or_false, or_true, true_or, false_or, true_and, and_true, false_and, and_false, if_true, if_false, forall_const, true_implies, false_implies, not_true_eq_false, not_false_eq_true, Classical.not_not, implies_true, and_self, Nat.add_zero, Nat.zero_add, eq_self, ne_eq, reduceCtorEq, Nat.reduceLT, Nat.reduceLeDiff, Nat.reduceEqDiff, Nat.reduceSub, Nat.reduceAdd, i10, i01, im10, Int32.reduceLT, Int32.reduceLE, ↓reduceIte, reduceIte, up_r, uL_r, cp_r, Int32.toInt_toInt64, Int64.reduceToInt, Int32.reduceToInt, ↓b1_or, b1_0, b1_1, lc_lt, lc_le, lc_gt, lc_ge, lc_eq, ym_0, ym_1, ym_2, ym_3, ym_4, ym_5, ym_6, ym_7, ym_8, ym_9, ym_10, ym_11, ym_12, ym_13, ym_14, ym_15, ym_16, ym_17, ym_18, ym_19, ym_20, ym_21, ym_22, ym_23, ym_24, ym_25, ym_26, ym_27, ym_28, ym_29, ym_30, rm__0, rm__1, rm__2, rm__3, rm__4, rm__5, rm__6, rm__7, rm__8, rm__9, rm__10, rm__11, rm__12, rm__13, rm__14, rm__15, rm__16, rm__17, rm__18, rm__19, rm__20, rm__21, rm__22, rm__23, rm__24, rm__25, rm__26, rm__27, rm__28, rm__29, rm__30, rm__31, rm__32, rm__33, rm__34, rm__35, rm__36, rm__37, rm__38, rm__39, rm__40, rm__41, rm__42, rm__43, rm__44, rm__45, un_X5_isCell, un_X5_in, un_X5_ownEnds, v1]
      try simp only [iteP, Classical.not_not, b1_0, b1_1]
      exact g
    | succ n ih =>
      intro j hj g
      have v1 : ¬ (12 : Int32) ≤ nI j := fun y => by rw [show (12 : Int32) = nI 12 from rfl, a_le (by omega) (by omega)] at y; omega
      have v3 : nI j + 1 = nI (j + 1) := by rw [show (1 : Int32) = nI 1 from rfl, nI_add]
      have ix : 36 * nI (j + 1) + nI d = nI (36 * (j + 1) + d) := by rw [show (36 : Int32) = nI 36 from rfl, pk_mul, nI_add]
      have v2 : vp_in (nI (36 * (j + 1) + d)) 468 := vp_in_nI (by omega) (by decide)
      have v4 := a_cl (show 36 * (j + 1) + d < 2147483648 by omega)
      have v5 : M' 28 (36 * (j + 1) + d) = nI (esx x (j + 1) d) := by rw [he]; exact g3 _ _ (by omega) (by omega)
      have v6 := hlt (j + 1) d (by omega) (by omega)
      have v7 : (nI m < nI (esx x (j + 1) d)) = (m < esx x (j + 1) d) := a_lt (by omega) (by omega)
      rw [kn] at g
      refine ma_walk (mo_X5_known ms_X5_isCell ms_X5_in ms_X5_ownEnds) hV [28] (fun F hF => ?_)
      simp only [tb_X5_known, hF, in_no, in_push, in_ild, in_lld, in_ald, in_ist, in_ast, in_lst, in_inc, in_iii, in_idv, in_ldv, in_lll, in_lli, in_lil, in_ii, in_il, in_li, in_ll, in_dup, in_dp2, q_if1, q_if2, in_go, in_sw, ma_sw, in_rv, in_ri, in_rz, in_rl, in_get, in_put, in_puz, in_iar, in_bar, in_lar, in_aar, in_iaw, in_baw, in_law, in_len, in_cpy, in_s1, in_s2, in_s3, in_v1, in_v2, in_v3, in_v4, in_v5, in_v6, ma_bk, ma_gl, ma_sl, ma_nl, ma_wc, ma_wd, ma_nn, ma_en, List.mem_cons, List.not_mem_nil, or_false, or_true, true_or, false_or, true_and, and_true, false_and, and_false, if_true, if_false, forall_const, true_implies, false_implies, not_true_eq_false, not_false_eq_true, Classical.not_not, implies_true, and_self, Nat.add_zero, Nat.zero_add, eq_self, ne_eq, reduceCtorEq, Nat.reduceLT, Nat.reduceLeDiff, Nat.reduceEqDiff, Nat.reduceSub, Nat.reduceAdd, i10, i01, im10, Int32.reduceLT, Int32.reduceLE, ↓reduceIte, reduceIte, up_r, uL_r, cp_r, Int32.toInt_toInt64, Int64.reduceToInt, Int32.reduceToInt, ↓b1_or, b1_0, b1_1, lc_lt, lc_le, lc_gt, lc_ge, lc_eq, ym_0, ym_1, ym_2, ym_3, ym_4, ym_5, ym_6, ym_7, ym_8, ym_9, ym_10, ym_11, ym_12, ym_13, ym_14, ym_15, ym_16, ym_17, ym_18, ym_19, ym_20, ym_21, ym_22, ym_23, ym_24, ym_25, ym_26, ym_27, ym_28, ym_29, ym_30, rm__0, rm__1, rm__2, rm__3, rm__4, rm__5, rm__6, rm__7, rm__8, rm__9, rm__10, rm__11, rm__12, rm__13, rm__14, rm__15, rm__16, rm__17, rm__18, rm__19, rm__20, rm__21, rm__22, rm__23, rm__24, rm__25, rm__26, rm__27, rm__28, rm__29, rm__30, rm__31, rm__32, rm__33, rm__34, rm__35, rm__36, rm__37, rm__38, rm__39, rm__40, rm__41, rm__42, rm__43, rm__44, rm__45, un_X5_isCell, un_X5_in, un_X5_ownEnds, v1, v3, ix, v2, v4, v5, v7]
      try simp only [iteP, Classical.not_not, b1_0, b1_1]
      exact sw_n (fun y => by rw [if_pos y] at g; exact g) (fun y => by rw [if_neg y] at g; exact ih (j + 1) (by omega) g)
  rw [ed, em]
  exact lp 12 0 rfl g
theorem pv_X5_known : ∀ as M L K, S_X5_known as M L K → ma_rn (tb_X5_known S_X5_isCell S_X5_in S_X5_ownEnds) 4 as M L K := by
  intro as M L K h
  unfold S_X5_known at h
  split at h
  · obtain ⟨x, h⟩ := h; exact pw_X5_known h.1 h.2
  · exact h.elim
