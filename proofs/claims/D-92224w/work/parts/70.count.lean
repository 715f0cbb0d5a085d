/-! op: count -/
set_option maxRecDepth 100000
set_option maxHeartbeats 4000000
def cn (f : Nat → Int32) : Nat → Nat
  | 0 => 0
  | j + 1 => cn f j + (if f j = 2000000 then 1 else 0)
def oCount (a : Int32) (x : St) : Int32 :=
  if a = 0 then sN x 0 0 * sN x 0 1 else if a = 1 then sN x 0 5 else if a = 2 then nI (sp x).2.length else if a = 3 then nI (cn (sN x 12) (nat (sN x 0 0) * nat (sN x 0 1) * 4)) else if a = 4 then sN x 0 19 else if a = 5 then sN x 0 30 else if a = 6 then nI (tm (sP x 17) 12) else -1
theorem cn_w {x : St} (hJ : J x) : ∃ w u : Nat, sN x 0 0 = nI w ∧ sN x 0 1 = nI u ∧ w * u ≤ 36 ∧ nat (sN x 0 0) * nat (sN x 0 1) * 4 = w * u * 4 := by
  obtain ⟨⟨w, u, e', wk, m, ns, a, b, km, h1, h2, h3, h4, h5, h6, h7, h8, h9, g1, g2, g3, g4, g5, g6, g7, g8, g9, f1, f2⟩, ja, jp, jk⟩ := hJ
  refine ⟨w, u, h1, h2, Nat.mul_le_mul g2 g4, ?_⟩
  unfold nat
  rw [h1, h2, a_cl (by omega), a_cl (by omega)]
theorem sw_n {c A B : Prop} (a : c → A) (b : ¬ c → B) : (c → A) ∧ (¬ c → B) := ⟨a, b⟩
def S_X0_count : ma_Cs := fun as M L K => match as with
  | [.ref k, .int a] => ∃ (x : St), (k = 0 ∧ J x ∧ RX M L x) ∧ (∀ (M' : ZM), RX M' L x → K (some (.int (oCount a x))) M' L)
  | _ => False
theorem ms_X0_count : ma_ms S_X0_count := by
  intro as M L K K' hk h
  unfold S_X0_count at h ⊢
  split at h
  · obtain ⟨x, h⟩ := h
    exact ⟨x, h.1, fun x0 x1 => hk _ _ _ (h.2 x0 x1)⟩
  · exact h.elim
theorem un_X0_count {k : Nat} {a : Int32} {M : ZM} {L : ZL} {K : ma_Kt} : S_X0_count [.ref k, .int a] M L K = (∃ (x : St), (k = 0 ∧ J x ∧ RX M L x) ∧ (∀ (M' : ZM), RX M' L x → K (some (.int (oCount a x))) M' L)) := rfl
theorem pw_X0_count {k : Nat} {a : Int32} {x : St} {M : ZM} {L : ZL} {K : ma_Kt} (hp : k = 0 ∧ J x ∧ RX M L x) (h : (∀ (M' : ZM), RX M' L x → K (some (.int (oCount a x))) M' L)) : ma_rn (tb_X0_count S_X0_cells S_X0_toldMany) 4 [.ref k, .int a] M L K := by
  refine ⟨Nat.le_of_ble_eq_true rfl, fun V hV => ?_⟩
  obtain ⟨rfl, hJ, hR⟩ := hp
  obtain ⟨⟨c0, c5, c6, c7, c10, c19, c20, c25, c33⟩, ⟨a19, a1, a20, a21, a22, a23, a24, a34, a37, a38, a39⟩, r3, r4⟩ := id hR
  have hh := h M hR
  clear h
  have e2 := r3.1.1
  obtain ⟨w, u, hw, hu, hwu, hn⟩ := cn_w hJ
  have lp : K (some (.int (nI (cn (sN x 12) (w * u * 4))))) M L → ∀ j, j ≤ w * u * 4 → V 64 [some (.ref 0), some (.int a), some (.int (nI (cn (sN x 12) j))), some (.int (nI j))] [] M L := by
    intro hh
    rw [hw] at c5
    rw [hu] at c6
    have k4 : nI w * nI u * 4 = nI (w * u * 4) := by rw [show (4 : Int32) = nI 4 from rfl, pk_mul, pk_mul]
    refine lp_up ?_ ?_
    · refine ma_walk (mo_X0_count ms_X0_cells ms_X0_toldMany) hV [64] (fun F hF => ?_)
      simp only [tb_X0_count, hF, in_no, in_push, in_ild, in_lld, in_ald, in_ist, in_ast, in_lst, in_inc, in_iii, in_idv, in_ldv, in_lll, in_lli, in_lil, in_ii, in_il, in_li, in_ll, in_dup, in_dp2, q_if1, q_if2, in_go, in_sw, ma_sw, in_rv, in_ri, in_rz, in_rl, in_get, in_put, in_puz, in_iar, in_bar, in_lar, in_aar, in_iaw, in_baw, in_law, in_len, in_cpy, in_s1, in_s2, in_s3, in_v1, in_v2, in_v3, in_v4, in_v5, in_v6, ma_bk, ma_gl, ma_sl, ma_nl, ma_wc, ma_wd, ma_nn, ma_en, List.mem_cons, List.not_mem_nil, or_false, or_true, true_or, false_or, true_and, and_true, false_and, and_false, if_true, if_false, forall_const, true_implies, false_implies, not_true_eq_false, not_false_eq_true, Classical.not_not, implies_true, and_self, Nat.add_zero, Nat.zero_add, eq_self, ne_eq, reduceCtorEq, Nat.reduceLT, Nat.reduceLeDiff, Nat.reduceEqDiff, Nat.reduceSub, Nat.reduceAdd, i10, i01, im10, Int32.reduceLT, Int32.reduceLE, ↓reduceIte, reduceIte, up_r, uL_r, cp_r, Int32.toInt_toInt64, Int64.reduceToInt, Int32.reduceToInt, ↓b1_or, b1_0, b1_1, lc_lt, lc_le, lc_gt, lc_ge, lc_eq, yx_0, yx_1, yx_2, yx_3, yx_4, yx_5, yx_6, yx_7, yx_8, yx_9, yx_10, yx_11, yx_12, yx_13, yx_14, yx_15, yx_16, yx_17, yx_18, yx_19, yx_20, yx_21, yx_22, yx_23, yx_24, yx_25, yx_26, yx_27, yx_28, yx_29, yx_30, yx_31, yx_32, yx_33, yx_34, yx_35, yx_36, yx_37, yx_38, yx_39, yx_40, yx_41, yx_42, yx_43, yx_44, yx_45, yx_46, yx_47, yx_48, yx_49, yx_50, yx_51, yx_52, yx_53, yx_54, yx_55, yx_56, yx_57, yx_58, yx_59, yx_60, yx_61, yx_62, yx_63, yx_64, yx_65, yx_66, yx_67, yx_68, rx_0, rx_1, rx_2, rx_3, rx_4, rx_5, rx_6, rx_7, rx_8, rx_9, rx_10, rx_11, rx_12, rx_13, rx_14, rx_15, rx_16, rx_17, rx_18, rx_19, rx_20, rx_21, rx_22, rx_23, rx_24, rx_25, rx_26, rx_27, rx_28, rx_29, rx_30, rx_31, rx_32, rx_33, rp_0, rp_1, rp_2, rp_3, rp_4, rp_5, rp_6, rp_7, rp_8, rs_0, rs_1, rs_2, rs_3, rs_4, re_0, re_1, re_2, re_3, re_4, re_5, rr_0, rr_1, rr_2, rr_3, rr_4, rk_0, rk_1, isP3, isP11, isP46, isP58, isS25, isS28, isS31, un_X0_cells, un_X0_toldMany, c5, c6, k4]
      try simp only [iteP, Classical.not_not, b1_0, b1_1]
      exact ⟨fun _ => hh, fun c => absurd (Int32.le_refl _) c⟩
    · intro j hj ih
      have v1 : vp_in (nI j) 144 := vp_in_nI (by omega) (by decide)
      have v2 : ¬ nI (w * u * 4) ≤ nI j := fun q => by rw [a_le (by omega) (by omega)] at q; omega
      have v3 : nI j + 1 = nI (j + 1) := by rw [show (1 : Int32) = nI 1 from rfl, nI_add]
      have v4 := a_cl (show j < 2147483648 by omega)
      refine ma_walk (mo_X0_count ms_X0_cells ms_X0_toldMany) hV [64] (fun F hF => ?_)
      simp only [tb_X0_count, hF, in_no, in_push, in_ild, in_lld, in_ald, in_ist, in_ast, in_lst, in_inc, in_iii, in_idv, in_ldv, in_lll, in_lli, in_lil, in_ii, in_il, in_li, in_ll, in_dup, in_dp2, q_if1, q_if2, in_go, in_sw, ma_sw, in_rv, in_ri, in_rz, in_rl, in_get, in_put, in_puz, in_iar, in_bar, in_lar, in_aar, in_iaw, in_baw, in_law, in_len, in_cpy, in_s1, in_s2, in_s3, in_v1, in_v2, in_v3, in_v4, in_v5, in_v6, ma_bk, ma_gl, ma_sl, ma_nl, ma_wc, ma_wd, ma_nn, ma_en, List.mem_cons, List.not_mem_nil, or_false, or_true, true_or, false_or, true_and, and_true, false_and, and_false, if_true, if_false, forall_const, true_implies, false_implies, not_true_eq_false, not_false_eq_true, Classical.not_not, implies_true, and_self, Nat.add_zero, Nat.zero_add, eq_self, ne_eq, reduceCtorEq, Nat.reduceLT, Nat.reduceLeDiff, Nat.reduceEqDiff, Nat.reduceSub, Nat.reduceAdd, i10, i01, im10, Int32.reduceLT, Int32.reduceLE, ↓reduceIte, reduceIte, up_r, uL_r, cp_r, Int32.toInt_toInt64, Int64.reduceToInt, Int32.reduceToInt, ↓b1_or, b1_0, b1_1, lc_lt, lc_le, lc_gt, lc_ge, lc_eq, yx_0, yx_1, yx_2, yx_3, yx_4, yx_5, yx_6, yx_7, yx_8, yx_9, yx_10, yx_11, yx_12, yx_13, yx_14, yx_15, yx_16, yx_17, yx_18, yx_19, yx_20, yx_21, yx_22, yx_23, yx_24, yx_25, yx_26, yx_27, yx_28, yx_29, yx_30, yx_31, yx_32, yx_33, yx_34, yx_35, yx_36, yx_37, yx_38, yx_39, yx_40, yx_41, yx_42, yx_43, yx_44, yx_45, yx_46, yx_47, yx_48, yx_49, yx_50, yx_51, yx_52, yx_53, yx_54, yx_55, yx_56, yx_57, yx_58, yx_59, yx_60, yx_61, yx_62, yx_63, yx_64, yx_65, yx_66, yx_67, yx_68, rx_0, rx_1, rx_2, rx_3, rx_4, rx_5, rx_6, rx_7, rx_8, rx_9, rx_10, rx_11, rx_12, rx_13, rx_14, rx_15, rx_16, rx_17, rx_18, rx_19, rx_20, rx_21, rx_22, rx_23, rx_24, rx_25, rx_26, rx_27, rx_28, rx_29, rx_30, rx_31, rx_32, rx_33, rp_0, rp_1, rp_2, rp_3, rp_4, rp_5, rp_6, rp_7, rp_8, rs_0, rs_1, rs_2, rs_3, rs_4, re_0, re_1, re_2, re_3, re_4, re_5, rr_0, rr_1, rr_2, rr_3, rr_4, rk_0, rk_1, isP3, isP11, isP46, isP58, isS25, isS28, isS31, un_X0_cells, un_X0_toldMany, c5, c6, k4, v1, v2, v3, v4, a20]
      try simp only [iteP, Classical.not_not, b1_0, b1_1]
      refine ⟨fun c => ?_, fun c => ?_⟩
      · rw [cn, if_pos c, ← nI_add] at ih; exact ih
      · rw [cn, if_neg c, ← nI_add] at ih; exact ih
  unfold oCount at hh
  rw [hn] at hh
  refine ma_walk (mo_X0_count ms_X0_cells ms_X0_toldMany) hV [64] (fun F hF => ?_)
  simp only [tb_X0_count, hF, in_no, in_push, in_ild, in_lld, in_ald, in_ist, in_ast, in_lst, in_inc, in_iii, in_idv, in_ldv, in_lll, in_lli, in_lil, in_ii, in_il, in_li, in_ll, in_dup, in_dp2, q_if1, q_if2, in_go, in_sw, ma_sw, in_rv, in_ri, in_rz, in_rl, in_get, in_put, in_puz, in_iar, in_bar, in_lar, in_aar, in_iaw, in_baw, in_law, in_len, in_cpy, in_s1, in_s2, in_s3, in_v1, in_v2, in_v3, in_v4, in_v5, in_v6, ma_bk, ma_gl, ma_sl, ma_nl, ma_wc, ma_wd, ma_nn, ma_en, List.mem_cons, List.not_mem_nil, or_false, or_true, true_or, false_or, true_and, and_true, false_and, and_false, if_true, if_false, forall_const, true_implies, false_implies, not_true_eq_false, not_false_eq_true, Classical.not_not, implies_true, and_self, Nat.add_zero, Nat.zero_add, eq_self, ne_eq, reduceCtorEq, Nat.reduceLT, Nat.reduceLeDiff, Nat.reduceEqDiff, Nat.reduceSub, Nat.reduceAdd, i10, i01, im10, Int32.reduceLT, Int32.reduceLE, ↓reduceIte, reduceIte, up_r, uL_r, cp_r, Int32.toInt_toInt64, Int64.reduceToInt, Int32.reduceToInt, ↓b1_or, b1_0, b1_1, lc_lt, lc_le, lc_gt, lc_ge, lc_eq, yx_0, yx_1, yx_2, yx_3, yx_4, yx_5, yx_6, yx_7, yx_8, yx_9, yx_10, yx_11, yx_12, yx_13, yx_14, yx_15, yx_16, yx_17, yx_18, yx_19, yx_20, yx_21, yx_22, yx_23, yx_24, yx_25, yx_26, yx_27, yx_28, yx_29, yx_30, yx_31, yx_32, yx_33, yx_34, yx_35, yx_36, yx_37, yx_38, yx_39, yx_40, yx_41, yx_42, yx_43, yx_44, yx_45, yx_46, yx_47, yx_48, yx_49, yx_50, yx_51, yx_52, yx_53, yx_54, yx_55, yx_56, yx_57, yx_58, yx_59, yx_60, yx_61, yx_62, yx_63, yx_64, yx_65, yx_66, yx_67, yx_68, rx_0, rx_1, rx_2, rx_3, rx_4, rx_5, rx_6, rx_7, rx_8, rx_9, rx_10, rx_11, rx_12, rx_13, rx_14, rx_15, rx_16, rx_17, rx_18, rx_19, rx_20, rx_21, rx_22, rx_23, rx_24, rx_25, rx_26, rx_27, rx_28, rx_29, rx_30, rx_31, rx_32, rx_33, rp_0, rp_1, rp_2, rp_3, rp_4, rp_5, rp_6, rp_7, rp_8, rs_0, rs_1, rs_2, rs_3, rs_4, re_0, re_1, re_2, re_3, re_4, re_5, rr_0, rr_1, rr_2, rr_3, rr_4, rk_0, rk_1, isP3, isP11, isP46, isP58, isS25, isS28, isS31, un_X0_cells, un_X0_toldMany, c0, c5, c6, c10, c33, a34, e2]
  try simp only [iteP, Classical.not_not, b1_0, b1_1]
  simp only [show Int32.ofNat 0 = 0 from rfl, show Int32.ofNat 1 = 1 from rfl, show Int32.ofNat 2 = 2 from rfl, show Int32.ofNat 3 = 3 from rfl, show Int32.ofNat 4 = 4 from rfl, show Int32.ofNat 5 = 5 from rfl, show Int32.ofNat 6 = 6 from rfl]
  refine sw_n (fun z => ?_) (fun z0 => sw_n (fun z => ?_) (fun z1 => sw_n (fun z => ?_) (fun z2 => sw_n (fun z => ?_) (fun z3 => sw_n (fun z => ?_) (fun z4 => sw_n (fun z => ?_) (fun z5 => sw_n (fun z => ?_) (fun z => ?_)))))))
  · rw [if_pos z] at hh; exact hh
  · rw [if_neg z0, if_pos z] at hh; exact hh
  · rw [if_neg z0, if_neg z1, if_pos z] at hh; exact hh
  · rw [if_neg z0, if_neg z1, if_neg z2, if_pos z] at hh; exact lp hh 0 (by omega)
  · rw [if_neg z0, if_neg z1, if_neg z2, if_neg z3, if_pos z] at hh; exact hh
  · rw [if_neg z0, if_neg z1, if_neg z2, if_neg z3, if_neg z4, if_pos z] at hh; exact hh
  · rw [if_neg z0, if_neg z1, if_neg z2, if_neg z3, if_neg z4, if_neg z5, if_pos z] at hh; exact hh
  · rw [if_neg z0, if_neg z1, if_neg z2, if_neg z3, if_neg z4, if_neg z5, if_neg z] at hh; exact hh
theorem pv_X0_count : ∀ as M L K, S_X0_count as M L K → ma_rn (tb_X0_count S_X0_cells S_X0_toldMany) 4 as M L K := by
  intro as M L K h
  unfold S_X0_count at h
  split at h
  · obtain ⟨x, h⟩ := h; exact pw_X0_count h.1 h.2
  · exact h.elim
def S_X5_count : ma_Cs := fun as M L K => match as with
  | [.ref k, .int a] => ∃ (x : St), (k = 0 ∧ J x ∧ RY M L x) ∧ (∀ (M' : ZM), RY M' L x → K (some (.int (oCount a x))) M' L)
  | _ => False
theorem ms_X5_count : ma_ms S_X5_count := by
  intro as M L K K' hk h
  unfold S_X5_count at h ⊢
  split at h
  · obtain ⟨x, h⟩ := h
    exact ⟨x, h.1, fun x0 x1 => hk _ _ _ (h.2 x0 x1)⟩
  · exact h.elim
theorem un_X5_count {k : Nat} {a : Int32} {M : ZM} {L : ZL} {K : ma_Kt} : S_X5_count [.ref k, .int a] M L K = (∃ (x : St), (k = 0 ∧ J x ∧ RY M L x) ∧ (∀ (M' : ZM), RY M' L x → K (some (.int (oCount a x))) M' L)) := rfl
theorem pw_X5_count {k : Nat} {a : Int32} {x : St} {M : ZM} {L : ZL} {K : ma_Kt} (hp : k = 0 ∧ J x ∧ RY M L x) (h : (∀ (M' : ZM), RY M' L x → K (some (.int (oCount a x))) M' L)) : ma_rn (tb_X5_count S_X5_cells) 5 [.ref k, .int a] M L K := by
  refine ⟨Nat.le_of_ble_eq_true rfl, fun V hV => ?_⟩
  obtain ⟨rfl, hJ, hR⟩ := hp
  obtain ⟨⟨c0, c1, c2, c3, c5, c19, c24, c25, c30⟩, ⟨a1, a2, a12, a13, a14, a15, a16, a17, a18, a19, a20⟩, r3, r4⟩ := id hR
  have hh := h M hR
  clear h
  have e2 := r3.1
  obtain ⟨w, u, hw, hu, hwu, hn⟩ := cn_w hJ
  unfold oCount at hh
  rw [hn] at hh
  have lq : ∀ j, j ≤ 12 → V 47 [some (.ref 0), some (.int a), some (.int (nI (cn (sN x 12) (w * u * 4)))), some (.int (nI (tm (sP x 17) j))), some (.int (nI j))] [] M L := by
    refine lp_up ?_ ?_
    · have q : (12 : Int32) ≤ nI 12 := by decide
      refine ma_walk (mo_X5_count ms_X5_cells) hV [7, 47] (fun F hF => ?_)
      simp only [tb_X5_count, hF, in_no, in_push, in_ild, in_lld, in_ald, in_ist, in_ast, in_lst, in_inc, in_iii, in_idv, in_ldv, in_lll, in_lli, in_lil, in_ii, in_il, in_li, in_ll, in_dup, in_dp2, q_if1, q_if2, in_go, in_sw, ma_sw, in_rv, in_ri, in_rz, in_rl, in_get, in_put, in_puz, in_iar, in_bar, in_lar, in_aar, in_iaw, in_baw, in_law, in_len, in_cpy, in_s1, in_s2, in_s3, in_v1, in_v2, in_v3, in_v4, in_v5, in_v6, ma_bk, ma_gl, ma_sl, ma_nl, ma_wc, ma_wd, ma_nn, ma_en, List.mem_cons, List.not_mem_nil, or_false, or_true, true_or, false_or, true_and, and_true, false_and, and_false, if_true, if_false, forall_const, true_implies, false_implies, not_true_eq_false, not_false_eq_true, Classical.not_not, implies_true, and_self, Nat.add_zero, Nat.zero_add, eq_self, ne_eq, reduceCtorEq, Nat.reduceLT, Nat.reduceLeDiff, Nat.reduceEqDiff, Nat.reduceSub, Nat.reduceAdd, i10, i01, im10, Int32.reduceLT, Int32.reduceLE, ↓reduceIte, reduceIte, up_r, uL_r, cp_r, Int32.toInt_toInt64, Int64.reduceToInt, Int32.reduceToInt, ↓b1_or, b1_0, b1_1, lc_lt, lc_le, lc_gt, lc_ge, lc_eq, ym_0, ym_1, ym_2, ym_3, ym_4, ym_5, ym_6, ym_7, ym_8, ym_9, ym_10, ym_11, ym_12, ym_13, ym_14, ym_15, ym_16, ym_17, ym_18, ym_19, ym_20, ym_21, ym_22, ym_23, ym_24, ym_25, ym_26, ym_27, ym_28, ym_29, ym_30, rm__0, rm__1, rm__2, rm__3, rm__4, rm__5, rm__6, rm__7, rm__8, rm__9, rm__10, rm__11, rm__12, rm__13, rm__14, rm__15, rm__16, rm__17, rm__18, rm__19, rm__20, rm__21, rm__22, rm__23, rm__24, rm__25, rm__26, rm__27, rm__28, rm__29, rm__30, rm__31, rm__32, rm__33, rm__34, rm__35, rm__36, rm__37, rm__38, rm__39, rm__40, rm__41, rm__42, rm__43, rm__44, rm__45, un_X5_cells, c0, c1, c5, c19, c30, e2, q]
      try simp only [iteP, Classical.not_not, b1_0, b1_1]
      simp only [show Int32.ofNat 0 = 0 from rfl, show Int32.ofNat 1 = 1 from rfl, show Int32.ofNat 2 = 2 from rfl, show Int32.ofNat 3 = 3 from rfl, show Int32.ofNat 4 = 4 from rfl, show Int32.ofNat 5 = 5 from rfl, show Int32.ofNat 6 = 6 from rfl]
      refine sw_n (fun z => ?_) (fun z0 => sw_n (fun z => ?_) (fun z1 => sw_n (fun z => ?_) (fun z2 => sw_n (fun z => ?_) (fun z3 => sw_n (fun z => ?_) (fun z4 => sw_n (fun z => ?_) (fun z5 => sw_n (fun z => ?_) (fun z => ?_)))))))
      · rw [if_pos z] at hh; exact hh
      · rw [if_neg z0, if_pos z] at hh; exact hh
      · rw [if_neg z0, if_neg z1, if_pos z] at hh; exact hh
      · rw [if_neg z0, if_neg z1, if_neg z2, if_pos z] at hh; exact hh
      · rw [if_neg z0, if_neg z1, if_neg z2, if_neg z3, if_pos z] at hh; exact hh
      · rw [if_neg z0, if_neg z1, if_neg z2, if_neg z3, if_neg z4, if_pos z] at hh; exact hh
      · rw [if_neg z0, if_neg z1, if_neg z2, if_neg z3, if_neg z4, if_neg z5, if_pos z] at hh; exact hh
      · rw [if_neg z0, if_neg z1, if_neg z2, if_neg z3, if_neg z4, if_neg z5, if_neg z] at hh; exact hh
    · intro j hj ih
      have v1 : vp_in (nI j) 12 := vp_in_nI (by omega) (by decide)
      have v2 : ¬ 12 ≤ nI j := fun q => by rw [show (12 : Int32) = nI 12 from rfl, a_le (by omega) (by omega)] at q; omega
      have v3 : nI j + 1 = nI (j + 1) := by rw [show (1 : Int32) = nI 1 from rfl, nI_add]
      have v4 := a_cl (show j < 2147483648 by omega)
      refine ma_walk (mo_X5_count ms_X5_cells) hV [7, 47] (fun F hF => ?_)
      simp only [tb_X5_count, hF, in_no, in_push, in_ild, in_lld, in_ald, in_ist, in_ast, in_lst, in_inc, in_iii, in_idv, in_ldv, in_lll, in_lli, in_lil, in_ii, in_il, in_li, in_ll, in_dup, in_dp2, q_if1, q_if2, in_go, in_sw, ma_sw, in_rv, in_ri, in_rz, in_rl, in_get, in_put, in_puz, in_iar, in_bar, in_lar, in_aar, in_iaw, in_baw, in_law, in_len, in_cpy, in_s1, in_s2, in_s3, in_v1, in_v2, in_v3, in_v4, in_v5, in_v6, ma_bk, ma_gl, ma_sl, ma_nl, ma_wc, ma_wd, ma_nn, ma_en, List.mem_cons, List.not_mem_nil, or_false, or_true, true_or, false_or, true_and, and_true, false_and, and_false, if_true, if_false, forall_const, true_implies, false_implies, not_true_eq_false, not_false_eq_true, Classical.not_not, implies_true, and_self, Nat.add_zero, Nat.zero_add, eq_self, ne_eq, reduceCtorEq, Nat.reduceLT, Nat.reduceLeDiff, Nat.reduceEqDiff, Nat.reduceSub, Nat.reduceAdd, i10, i01, im10, Int32.reduceLT, Int32.reduceLE, ↓reduceIte, reduceIte, up_r, uL_r, cp_r, Int32.toInt_toInt64, Int64.reduceToInt, Int32.reduceToInt, ↓b1_or, b1_0, b1_1, lc_lt, lc_le, lc_gt, lc_ge, lc_eq, ym_0, ym_1, ym_2, ym_3, ym_4, ym_5, ym_6, ym_7, ym_8, ym_9, ym_10, ym_11, ym_12, ym_13, ym_14, ym_15, ym_16, ym_17, ym_18, ym_19, ym_20, ym_21, ym_22, ym_23, ym_24, ym_25, ym_26, ym_27, ym_28, ym_29, ym_30, rm__0, rm__1, rm__2, rm__3, rm__4, rm__5, rm__6, rm__7, rm__8, rm__9, rm__10, rm__11, rm__12, rm__13, rm__14, rm__15, rm__16, rm__17, rm__18, rm__19, rm__20, rm__21, rm__22, rm__23, rm__24, rm__25, rm__26, rm__27, rm__28, rm__29, rm__30, rm__31, rm__32, rm__33, rm__34, rm__35, rm__36, rm__37, rm__38, rm__39, rm__40, rm__41, rm__42, rm__43, rm__44, rm__45, un_X5_cells, v1, v2, v3, v4, a17]
      try simp only [iteP, Classical.not_not, b1_0, b1_1]
      refine ⟨fun c => ?_, fun c => ?_⟩
      · rw [tm, if_pos c, ← nI_add] at ih; exact ih
      · rw [tm, if_neg c, ← nI_add] at ih; exact ih
  have lp : ∀ j, j ≤ w * u * 4 → V 7 [some (.ref 0), some (.int a), some (.int (nI (cn (sN x 12) j))), some (.int 0), some (.int (nI j))] [] M L := by
    clear hh
    rw [hw] at c0
    rw [hu] at c1
    have k4 : 4 * (nI w * nI u) = nI (w * u * 4) := by rw [show (4 : Int32) = nI 4 from rfl, pk_mul, pk_mul, Nat.mul_comm]
    refine lp_up ?_ ?_
    · refine ma_walk (mo_X5_count ms_X5_cells) hV [7, 47] (fun F hF => ?_)
      simp only [tb_X5_count, hF, in_no, in_push, in_ild, in_lld, in_ald, in_ist, in_ast, in_lst, in_inc, in_iii, in_idv, in_ldv, in_lll, in_lli, in_lil, in_ii, in_il, in_li, in_ll, in_dup, in_dp2, q_if1, q_if2, in_go, in_sw, ma_sw, in_rv, in_ri, in_rz, in_rl, in_get, in_put, in_puz, in_iar, in_bar, in_lar, in_aar, in_iaw, in_baw, in_law, in_len, in_cpy, in_s1, in_s2, in_s3, in_v1, in_v2, in_v3, in_v4, in_v5, in_v6, ma_bk, ma_gl, ma_sl, ma_nl, ma_wc, ma_wd, ma_nn, ma_en, List.mem_cons, List.not_mem_nil, or_false, or_true, true_or, false_or, true_and, and_true, false_and, and_false, if_true, if_false, forall_const, true_implies, false_implies, not_true_eq_false, not_false_eq_true, Classical.not_not, implies_true, and_self, Nat.add_zero, Nat.zero_add, eq_self, ne_eq, reduceCtorEq, Nat.reduceLT, Nat.reduceLeDiff, Nat.reduceEqDiff, Nat.reduceSub, Nat.reduceAdd, i10, i01, im10, Int32.reduceLT, Int32.reduceLE, ↓reduceIte, reduceIte, up_r, uL_r, cp_r, Int32.toInt_toInt64, Int64.reduceToInt, Int32.reduceToInt, ↓b1_or, b1_0, b1_1, lc_lt, lc_le, lc_gt, lc_ge, lc_eq, ym_0, ym_1, ym_2, ym_3, ym_4, ym_5, ym_6, ym_7, ym_8, ym_9, ym_10, ym_11, ym_12, ym_13, ym_14, ym_15, ym_16, ym_17, ym_18, ym_19, ym_20, ym_21, ym_22, ym_23, ym_24, ym_25, ym_26, ym_27, ym_28, ym_29, ym_30, rm__0, rm__1, rm__2, rm__3, rm__4, rm__5, rm__6, rm__7, rm__8, rm__9, rm__10, rm__11, rm__12, rm__13, rm__14, rm__15, rm__16, rm__17, rm__18, rm__19, rm__20, rm__21, rm__22, rm__23, rm__24, rm__25, rm__26, rm__27, rm__28, rm__29, rm__30, rm__31, rm__32, rm__33, rm__34, rm__35, rm__36, rm__37, rm__38, rm__39, rm__40, rm__41, rm__42, rm__43, rm__44, rm__45, un_X5_cells, c0, c1, k4]
      try simp only [iteP, Classical.not_not, b1_0, b1_1]
      exact ⟨fun _ => lq 0 (by omega), fun c => absurd (Int32.le_refl _) c⟩
    · intro j hj ih
      have v1 : vp_in (nI j) 144 := vp_in_nI (by omega) (by decide)
      have v2 : ¬ nI (w * u * 4) ≤ nI j := fun q => by rw [a_le (by omega) (by omega)] at q; omega
      have v3 : nI j + 1 = nI (j + 1) := by rw [show (1 : Int32) = nI 1 from rfl, nI_add]
      have v4 := a_cl (show j < 2147483648 by omega)
      refine ma_walk (mo_X5_count ms_X5_cells) hV [7, 47] (fun F hF => ?_)
      simp only [tb_X5_count, hF, in_no, in_push, in_ild, in_lld, in_ald, in_ist, in_ast, in_lst, in_inc, in_iii, in_idv, in_ldv, in_lll, in_lli, in_lil, in_ii, in_il, in_li, in_ll, in_dup, in_dp2, q_if1, q_if2, in_go, in_sw, ma_sw, in_rv, in_ri, in_rz, in_rl, in_get, in_put, in_puz, in_iar, in_bar, in_lar, in_aar, in_iaw, in_baw, in_law, in_len, in_cpy, in_s1, in_s2, in_s3, in_v1, in_v2, in_v3, in_v4, in_v5, in_v6, ma_bk, ma_gl, ma_sl, ma_nl, ma_wc, ma_wd, ma_nn, ma_en, List.mem_cons, List.not_mem_nil, or_false, or_true, true_or, false_or, true_and, and_true, false_and, and_false, if_true, if_false, forall_const, true_implies, false_implies, not_true_eq_false, not_false_eq_true, Classical.not_not, implies_true, and_self, Nat.add_zero, Nat.zero_add, eq_self, ne_eq, reduceCtorEq, Nat.reduceLT, Nat.reduceLeDiff, Nat.reduceEqDiff, Nat.reduceSub, Nat.reduceAdd, i10, i01, im10, Int32.reduceLT, Int32.reduceLE, ↓reduceIte, reduceIte, up_r, uL_r, cp_r, Int32.toInt_toInt64, Int64.reduceToInt, Int32.reduceToInt, ↓b1_or, b1_0, b1_1, lc_lt, lc_le, lc_gt, lc_ge, lc_eq, ym_0, ym_1, ym_2, ym_3, ym_4, ym_5, ym_6, ym_7, ym_8, ym_9, ym_10, ym_11, ym_12, ym_13, ym_14, ym_15, ym_16, ym_17, ym_18, ym_19, ym_20, ym_21, ym_22, ym_23, ym_24, ym_25, ym_26, ym_27, ym_28, ym_29, ym_30, rm__0, rm__1, rm__2, rm__3, rm__4, rm__5, rm__6, rm__7, rm__8, rm__9, rm__10, rm__11, rm__12, rm__13, rm__14, rm__15, rm__16, rm__17, rm__18, rm__19, rm__20, rm__21, rm__22, rm__23, rm__24, rm__25, rm__26, rm__27, rm__28, rm__29, rm__30, rm__31, rm__32, rm__33, rm__34, rm__35, rm__36, rm__37, rm__38, rm__39, rm__40, rm__41, rm__42, rm__43, rm__44, rm__45, un_X5_cells, c0, c1, k4, v1, v2, v3, v4, a12]
      try simp only [iteP, Classical.not_not, b1_0, b1_1]
      refine ⟨fun c => ?_, fun c => ?_⟩
      · rw [cn, if_pos c, ← nI_add] at ih; exact ih
      · rw [cn, if_neg c, ← nI_add] at ih; exact ih
  refine ma_walk (mo_X5_count ms_X5_cells) hV [7, 47] (fun F hF => ?_)
  simp only [tb_X5_count, hF, in_no, in_push, in_ild, in_lld, in_ald, in_ist, in_ast, in_lst, in_inc, in_iii, in_idv, in_ldv, in_lll, in_lli, in_lil, in_ii, in_il, in_li, in_ll, in_dup, in_dp2, q_if1, q_if2, in_go, in_sw, ma_sw, in_rv, in_ri, in_rz, in_rl, in_get, in_put, in_puz, in_iar, in_bar, in_lar, in_aar, in_iaw, in_baw, in_law, in_len, in_cpy, in_s1, in_s2, in_s3, in_v1, in_v2, in_v3, in_v4, in_v5, in_v6, ma_bk, ma_gl, ma_sl, ma_nl, ma_wc, ma_wd, ma_nn, ma_en, List.mem_cons, List.not_mem_nil, or_false, or_true, true_or, false_or, true_and, and_true, false_and, and_false, if_true, if_false, forall_const, true_implies, false_implies, not_true_eq_false, not_false_eq_true, Classical.not_not, implies_true, and_self, Nat.add_zero, Nat.zero_add, eq_self, ne_eq, reduceCtorEq, Nat.reduceLT, Nat.reduceLeDiff, Nat.reduceEqDiff, Nat.reduceSub, Nat.reduceAdd, i10, i01, im10, Int32.reduceLT, Int32.reduceLE, ↓reduceIte, reduceIte, up_r, uL_r, cp_r, Int32.toInt_toInt64, Int64.reduceToInt, Int32.reduceToInt, ↓b1_or, b1_0, b1_1, lc_lt, lc_le, lc_gt, lc_ge, lc_eq, ym_0, ym_1, ym_2, ym_3, ym_4, ym_5, ym_6, ym_7, ym_8, ym_9, ym_10, ym_11, ym_12, ym_13, ym_14, ym_15, ym_16, ym_17, ym_18, ym_19, ym_20, ym_21, ym_22, ym_23, ym_24, ym_25, ym_26, ym_27, ym_28, ym_29, ym_30, rm__0, rm__1, rm__2, rm__3, rm__4, rm__5, rm__6, rm__7, rm__8, rm__9, rm__10, rm__11, rm__12, rm__13, rm__14, rm__15, rm__16, rm__17, rm__18, rm__19, rm__20, rm__21, rm__22, rm__23, rm__24, rm__25, rm__26, rm__27, rm__28, rm__29, rm__30, rm__31, rm__32, rm__33, rm__34, rm__35, rm__36, rm__37, rm__38, rm__39, rm__40, rm__41, rm__42, rm__43, rm__44, rm__45, un_X5_cells]
  try simp only [iteP, Classical.not_not, b1_0, b1_1]
  exact lp 0 (by omega)
theorem pv_X5_count : ∀ as M L K, S_X5_count as M L K → ma_rn (tb_X5_count S_X5_cells) 5 as M L K := by
  intro as M L K h
  unfold S_X5_count at h
  split at h
  · obtain ⟨x, h⟩ := h; exact pw_X5_count h.1 h.2
  · exact h.elim
