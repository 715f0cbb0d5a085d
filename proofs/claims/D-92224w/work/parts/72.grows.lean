/-! op: grows -/
set_option maxRecDepth 100000
set_option maxHeartbeats 4000000
def gr1 (p : Plan) (i : Nat) : Prop := ¬ hpr p.1 (lnA p.2 i).2.1 (lnA p.2 i).2.2.1 ∧ ¬ nI (lnA p.2 i).2.2.2.1 < fsm p.1 1 (lnA p.2 i).2.1 (lnA p.2 i).2.2.1
def grj (p : Plan) (j : Nat) : Prop := ∀ i, i < j → gr1 p i
theorem grj_s {p : Plan} {j : Nat} : grj p (j + 1) ↔ (grj p j ∧ gr1 p j) := by
  constructor
  · exact fun h => ⟨fun i hi => h i (by omega), h j (by omega)⟩
  · intro h i hi
    by_cases c : i = j
    · rw [c]; exact h.2
    · exact h.1 i (by omega)
theorem grj_0 {p : Plan} : grj p 0 := fun i hi => absurd hi (Nat.not_lt_zero i)
noncomputable def oGrows (x : St) : Int32 := b1 (grj (sp x) (sp x).2.length)
def S_X0_grows : ma_Cs := fun as M L K => match as with
  | [.ref k] => ∃ (x : St), (k = 0 ∧ J x ∧ RX M L x) ∧ (∀ (M' : ZM), RX M' L x → K (some (.int (oGrows x))) M' L)
  | _ => False
theorem ms_X0_grows : ma_ms S_X0_grows := by
  intro as M L K K' hk h
  unfold S_X0_grows at h ⊢
  split at h
  · obtain ⟨x, h⟩ := h
    exact ⟨x, h.1, fun x0 x1 => hk _ _ _ (h.2 x0 x1)⟩
  · exact h.elim
theorem un_X0_grows {k : Nat} {M : ZM} {L : ZL} {K : ma_Kt} : S_X0_grows [.ref k] M L K = (∃ (x : St), (k = 0 ∧ J x ∧ RX M L x) ∧ (∀ (M' : ZM), RX M' L x → K (some (.int (oGrows x))) M' L)) := rfl
theorem pw_X0_grows {k : Nat} {x : St} {M : ZM} {L : ZL} {K : ma_Kt} (hp : k = 0 ∧ J x ∧ RX M L x) (h : (∀ (M' : ZM), RX M' L x → K (some (.int (oGrows x))) M' L)) : ma_rn (tb_X0_grows S_X2_hasProduct S_X2_factors) 3 [.ref k] M L K := by
  refine ⟨Nat.le_of_ble_eq_true rfl, fun V hV => ?_⟩
  obtain ⟨rfl, hJ, hR⟩ := hp
  have hP := hR.2.2.1.1
  have hVq := hJ.2.2.1.1
  have l4 := hVq.1.2.1
  have hh := h M hR
  clear h
  unfold oGrows at hh
  have p0 := hP.1
  have lp : ∀ j, j ≤ (sp x).2.length → V 4 [some (.ref 0), some (.int (b1 (grj (sp x) j))), some (.int (nI j))] [] M L := by
    refine lp_up ?_ ?_
    · have w1 : nI (sp x).2.length ≤ nI (sp x).2.length := Int32.le_refl _
      refine ma_walk (mo_X0_grows ms_X2_hasProduct ms_X2_factors) hV [4] (fun F hF => ?_)
      simp only [tb_X0_grows, hF, in_no, in_push, in_ild, in_lld, in_ald, in_ist, in_ast, in_lst, in_inc, in_iii, in_idv, in_ldv, in_lll, in_lli, in_lil, in_ii, in_il, in_li, in_ll, in_dup, in_dp2, q_if1, q_if2, in_go, in_sw, ma_sw, in_rv, in_ri, in_rz, in_rl, in_get, in_put, in_puz, in_iar, in_bar, in_lar, in_aar, in_iaw, in_baw, in_law, in_len, in_cpy, in_s1, in_s2, in_s3, in_v1, in_v2, in_v3, in_v4, in_v5, in_v6, ma_bk, ma_gl, ma_sl, ma_nl, ma_wc, ma_wd, ma_nn, ma_en, List.mem_cons, List.not_mem_nil, or_false, or_true, true_or, false_or, true_and, and_true, false_and, and_false, if_true, if_false, forall_const, true_implies, false_implies, not_true_eq_false, not_false_eq_true, Classical.not_not, implies_true, and_self, Nat.add_zero, Nat.zero_add, eq_self, ne_eq, reduceCtorEq, Nat.reduceLT, Nat.reduceLeDiff, Nat.reduceEqDiff, Nat.reduceSub, Nat.reduceAdd, i10, i01, im10, Int32.reduceLT, Int32.reduceLE, ↓reduceIte, reduceIte, up_r, uL_r, cp_r, Int32.toInt_toInt64, Int64.reduceToInt, Int32.reduceToInt, ↓b1_or, b1_0, b1_1, lc_lt, lc_le, lc_gt, lc_ge, lc_eq, yx_0, yx_1, yx_2, yx_3, yx_4, yx_5, yx_6, yx_7, yx_8, yx_9, yx_10, yx_11, yx_12, yx_13, yx_14, yx_15, yx_16, yx_17, yx_18, yx_19, yx_20, yx_21, yx_22, yx_23, yx_24, yx_25, yx_26, yx_27, yx_28, yx_29, yx_30, yx_31, yx_32, yx_33, yx_34, yx_35, yx_36, yx_37, yx_38, yx_39, yx_40, yx_41, yx_42, yx_43, yx_44, yx_45, yx_46, yx_47, yx_48, yx_49, yx_50, yx_51, yx_52, yx_53, yx_54, yx_55, yx_56, yx_57, yx_58, yx_59, yx_60, yx_61, yx_62, yx_63, yx_64, yx_65, yx_66, yx_67, yx_68, rx_0, rx_1, rx_2, rx_3, rx_4, rx_5, rx_6, rx_7, rx_8, rx_9, rx_10, rx_11, rx_12, rx_13, rx_14, rx_15, rx_16, rx_17, rx_18, rx_19, rx_20, rx_21, rx_22, rx_23, rx_24, rx_25, rx_26, rx_27, rx_28, rx_29, rx_30, rx_31, rx_32, rx_33, rp_0, rp_1, rp_2, rp_3, rp_4, rp_5, rp_6, rp_7, rp_8, rs_0, rs_1, rs_2, rs_3, rs_4, re_0, re_1, re_2, re_3, re_4, re_5, rr_0, rr_1, rr_2, rr_3, rr_4, rk_0, rk_1, isP3, isP11, isP46, isP58, isS25, isS28, isS31, un_X2_hasProduct, un_X2_factors, p0, w1]
      try simp only [iteP, Classical.not_not, b1_0, b1_1]
      exact br_n (fun y => by rw [b1_f y] at hh; exact hh) (fun y => by rw [b1_t y] at hh; exact hh)
    · intro j hj ih
      have hL := hP.at hj
      have e4 : M 14 j = nI (lnA (sp x).2 j).2.2.2.1 := hL.2.2.2.1
      have w1 : ¬ nI (sp x).2.length ≤ nI j := fun y => by rw [a_le (by omega) (by omega)] at y; omega
      have v3 : nI j + 1 = nI (j + 1) := by rw [show (1 : Int32) = nI 1 from rfl, nI_add]
      have i4 : vp_in (nI j) 4 := vp_in_nI (by omega) (by decide)
      have ci := a_cl (show j < 2147483648 by omega)
      rw [b1_c grj_s] at ih
      refine ma_walk (mo_X0_grows ms_X2_hasProduct ms_X2_factors) hV [4] (fun F hF => ?_)
      simp only [tb_X0_grows, hF, in_no, in_push, in_ild, in_lld, in_ald, in_ist, in_ast, in_lst, in_inc, in_iii, in_idv, in_ldv, in_lll, in_lli, in_lil, in_ii, in_il, in_li, in_ll, in_dup, in_dp2, q_if1, q_if2, in_go, in_sw, ma_sw, in_rv, in_ri, in_rz, in_rl, in_get, in_put, in_puz, in_iar, in_bar, in_lar, in_aar, in_iaw, in_baw, in_law, in_len, in_cpy, in_s1, in_s2, in_s3, in_v1, in_v2, in_v3, in_v4, in_v5, in_v6, ma_bk, ma_gl, ma_sl, ma_nl, ma_wc, ma_wd, ma_nn, ma_en, List.mem_cons, List.not_mem_nil, or_false, or_true, true_or, false_or, true_and, and_true, false_and, and_false, if_true, if_false, forall_const, true_implies, false_implies, not_true_eq_false, not_false_eq_true, Classical.not_not, implies_true, and_self, Nat.add_zero, Nat.zero_add, eq_self, ne_eq, reduceCtorEq, Nat.reduceLT, Nat.reduceLeDiff, Nat.reduceEqDiff, Nat.reduceSub, Nat.reduceAdd, i10, i01, im10, Int32.reduceLT, Int32.reduceLE, ↓reduceIte, reduceIte, up_r, uL_r, cp_r, Int32.toInt_toInt64, Int64.reduceToInt, Int32.reduceToInt, ↓b1_or, b1_0, b1_1, lc_lt, lc_le, lc_gt, lc_ge, lc_eq, yx_0, yx_1, yx_2, yx_3, yx_4, yx_5, yx_6, yx_7, yx_8, yx_9, yx_10, yx_11, yx_12, yx_13, yx_14, yx_15, yx_16, yx_17, yx_18, yx_19, yx_20, yx_21, yx_22, yx_23, yx_24, yx_25, yx_26, yx_27, yx_28, yx_29, yx_30, yx_31, yx_32, yx_33, yx_34, yx_35, yx_36, yx_37, yx_38, yx_39, yx_40, yx_41, yx_42, yx_43, yx_44, yx_45, yx_46, yx_47, yx_48, yx_49, yx_50, yx_51, yx_52, yx_53, yx_54, yx_55, yx_56, yx_57, yx_58, yx_59, yx_60, yx_61, yx_62, yx_63, yx_64, yx_65, yx_66, yx_67, yx_68, rx_0, rx_1, rx_2, rx_3, rx_4, rx_5, rx_6, rx_7, rx_8, rx_9, rx_10, rx_11, rx_12, rx_13, rx_14, rx_15, rx_16, rx_17, rx_18, rx_19, rx_20, rx_21, rx_22, rx_23, rx_24, rx_25, rx_26, rx_27, rx_28, rx_29, rx_30, rx_31, rx_32, rx_33, rp_0, rp_1, rp_2, rp_3, rp_4, rp_5, rp_6, rp_7, rp_8, rs_0, rs_1, rs_2, rs_3, rs_4, re_0, re_1, re_2, re_3, re_4, re_5, rr_0, rr_1, rr_2, rr_3, rr_4, rk_0, rk_1, isP3, isP11, isP46, isP58, isS25, isS28, isS31, un_X2_hasProduct, un_X2_factors, p0, w1, v3, i4, ci, e4]
      try simp only [iteP, Classical.not_not, b1_0, b1_1]
      refine ⟨j, (sp x).1, (sp x).2, ⟨hj, rfl, hP, hVq.1⟩, ?_⟩
      refine br_n (fun y => ?_) (fun y => ?_)
      · refine ⟨j, (sp x).1, (sp x).2, ⟨hj, rfl, hP, hVq.1⟩, ?_⟩
        rw [← b1_band] at ih
        exact sw_n (fun y1 => by rw [b1_f (c := gr1 (sp x) j) (fun t => t.2 y1)] at ih; exact ih) (fun y1 => by rw [b1_t (c := gr1 (sp x) j) ⟨y, y1⟩] at ih; exact ih)
      · rw [← b1_band, b1_f (c := gr1 (sp x) j) (fun t => t.1 y)] at ih; exact ih
  refine ma_walk (mo_X0_grows ms_X2_hasProduct ms_X2_factors) hV [4] (fun F hF => ?_)
  simp only [tb_X0_grows, hF, in_no, in_push, in_ild, in_lld, in_ald, in_ist, in_ast, in_lst, in_inc, in_iii, in_idv, in_ldv, in_lll, in_lli, in_lil, in_ii, in_il, in_li, in_ll, in_dup, in_dp2, q_if1, q_if2, in_go, in_sw, ma_sw, in_rv, in_ri, in_rz, in_rl, in_get, in_put, in_puz, in_iar, in_bar, in_lar, in_aar, in_iaw, in_baw, in_law, in_len, in_cpy, in_s1, in_s2, in_s3, in_v1, in_v2, in_v3, in_v4, in_v5, in_v6, ma_bk, ma_gl, ma_sl, ma_nl, ma_wc, ma_wd, ma_nn, ma_en, List.mem_cons, List.not_mem_nil, or_false, or_true, true_or, false_or, true_and, and_true, false_and, and_false, if_true, if_false, forall_const, true_implies, false_implies, not_true_eq_false, not_false_eq_true, Classical.not_not, implies_true, and_self, Nat.add_zero, Nat.zero_add, eq_self, ne_eq, reduceCtorEq, Nat.reduceLT, Nat.reduceLeDiff, Nat.reduceEqDiff, Nat.reduceSub, Nat.reduceAdd, i10, i01, im10, Int32.reduceLT, Int32.reduceLE, ↓reduceIte, reduceIte, up_r, uL_r, cp_r, Int32.toInt_toInt64, Int64.reduceToInt, Int32.reduceToInt, ↓b1_or, b1_0, b1_1, lc_lt, lc_le, lc_gt, lc_ge, lc_eq, yx_0, yx_1, yx_2, yx_3, yx_4, yx_5, yx_6, yx_7, yx_8, yx_9, yx_10, yx_11, yx_12, yx_13, yx_14, yx_15, yx_16, yx_17, yx_18, yx_19, yx_20, yx_21, yx_22, yx_23, yx_24, yx_25, yx_26, yx_27, yx_28, yx_29, yx_30, yx_31, yx_32, yx_33, yx_34, yx_35, yx_36, yx_37, yx_38, yx_39, yx_40, yx_41, yx_42, yx_43, yx_44, yx_45, yx_46, yx_47, yx_48, yx_49, yx_50, yx_51, yx_52, yx_53, yx_54, yx_55, yx_56, yx_57, yx_58, yx_59, yx_60, yx_61, yx_62, yx_63, yx_64, yx_65, yx_66, yx_67, yx_68, rx_0, rx_1, rx_2, rx_3, rx_4, rx_5, rx_6, rx_7, rx_8, rx_9, rx_10, rx_11, rx_12, rx_13, rx_14, rx_15, rx_16, rx_17, rx_18, rx_19, rx_20, rx_21, rx_22, rx_23, rx_24, rx_25, rx_26, rx_27, rx_28, rx_29, rx_30, rx_31, rx_32, rx_33, rp_0, rp_1, rp_2, rp_3, rp_4, rp_5, rp_6, rp_7, rp_8, rs_0, rs_1, rs_2, rs_3, rs_4, re_0, re_1, re_2, re_3, re_4, re_5, rr_0, rr_1, rr_2, rr_3, rr_4, rk_0, rk_1, isP3, isP11, isP46, isP58, isS25, isS28, isS31, un_X2_hasProduct, un_X2_factors]
  try simp only [iteP, Classical.not_not, b1_0, b1_1]
  have q := lp 0 (Nat.zero_le _)
  rw [b1_t grj_0] at q; exact q
theorem pv_X0_grows : ∀ as M L K, S_X0_grows as M L K → ma_rn (tb_X0_grows S_X2_hasProduct S_X2_factors) 3 as M L K := by
  intro as M L K h
  unfold S_X0_grows at h
  split at h
  · obtain ⟨x, h⟩ := h; exact pw_X0_grows h.1 h.2
  · exact h.elim
def gm (p : Plan) (m : Nat) : Prop := ∀ i, i < p.2.length → (lnA p.2 i).1 < m → gr1 p i
theorem gm_s {p : Plan} {m : Nat} : gm p (m + 1) ↔ (gm p m ∧ ∀ i, i < p.2.length → (lnA p.2 i).1 = m → gr1 p i) := by
  constructor
  · exact fun h => ⟨fun i hi q => h i hi (by omega), fun i hi q => h i hi (by omega)⟩
  · intro h i hi q
    by_cases c : (lnA p.2 i).1 = m
    · exact h.2 i hi c
    · exact h.1 i hi (by omega)
def S_X5_grows : ma_Cs := fun as M L K => match as with
  | [.ref k] => ∃ (x : St), (k = 0 ∧ J x ∧ RY M L x) ∧ (∀ (M' : ZM), RY M' L x → K (some (.int (oGrows x))) M' L)
  | _ => False
theorem ms_X5_grows : ma_ms S_X5_grows := by
  intro as M L K K' hk h
  unfold S_X5_grows at h ⊢
  split at h
  · obtain ⟨x, h⟩ := h
    exact ⟨x, h.1, fun x0 x1 => hk _ _ _ (h.2 x0 x1)⟩
  · exact h.elim
theorem un_X5_grows {k : Nat} {M : ZM} {L : ZL} {K : ma_Kt} : S_X5_grows [.ref k] M L K = (∃ (x : St), (k = 0 ∧ J x ∧ RY M L x) ∧ (∀ (M' : ZM), RY M' L x → K (some (.int (oGrows x))) M' L)) := rfl
theorem pw_X5_grows {k : Nat} {x : St} {M : ZM} {L : ZL} {K : ma_Kt} (hp : k = 0 ∧ J x ∧ RY M L x) (h : (∀ (M' : ZM), RY M' L x → K (some (.int (oGrows x))) M' L)) : ma_rn (tb_X5_grows S_X5_hasProduct) 5 [.ref k] M L K := by
  refine ⟨Nat.le_of_ble_eq_true rfl, fun V hV => ?_⟩
  obtain ⟨rfl, hJ, hR⟩ := hp
  have hP := hR.2.2.1
  have hVq := hJ.2.2.1.1
  have l4 := hVq.1.2.1
  have t80 := hVq.1.1
  have hh := h M hR
  clear h
  unfold oGrows at hh
  rw [b1_c (show grj (sp x) (sp x).2.length ↔ gm (sp x) 4 from ⟨fun q i hi _ => q i hi, fun q i hi => q i hi (hVq.1.2.2.2 i hi).2.2.2.2⟩)] at hh
  have lp : ∀ m, m ≤ 4 → ∀ o3 o4, V 4 [some (.ref 0), some (.int (b1 (gm (sp x) m))), some (.int (nI m)), o3, o4] [] M L := by
    refine lp_up ?_ ?_
    · intro o3 o4
      have w1 : (4 : Int32) ≤ nI 4 := by decide
      refine ma_walk (mo_X5_grows ms_X5_hasProduct) hV [4, 19] (fun F hF => ?_)
      simp only [tb_X5_grows, hF, in_no, in_push, in_ild, in_lld, in_ald, in_ist, in_ast, in_lst, in_inc, in_iii, in_idv, in_ldv, in_lll, in_lli, in_lil, in_ii, in_il, in_li, in_ll, in_dup, in_dp2, q_if1, q_if2, in_go, in_sw, ma_sw, in_rv, in_ri, in_rz, in_rl, in_get, in_put, in_puz, in_iar, in_bar, in_lar, in_aar, in_iaw, in_baw, in_law, in_len, in_cpy, in_s1, in_s2, in_s3, in_v1, in_v2, in_v3, in_v4, in_v5, in_v6, ma_bk, ma_gl, ma_sl, ma_nl, ma_wc, ma_wd, ma_nn, ma_en, List.mem_cons, List.not_mem_nil, or_false, or_true, true_or, false_or, true_and, and_true, false_and, and_false, if_true, if_false, forall_const, true_implies, false_implies, not_true_eq_false, not_false_eq_true, Classical.not_not, implies_true, and_self, Nat.add_zero, Nat.zero_add, eq_self, ne_eq, reduceCtorEq, Nat.reduceLT, Nat.reduceLeDiff, Nat.reduceEqDiff, Nat.reduceSub, Nat.reduceAdd, i10, i01, im10, Int32.reduceLT, Int32.reduceLE, ↓reduceIte, reduceIte, up_r, uL_r, cp_r, Int32.toInt_toInt64, Int64.reduceToInt, Int32.reduceToInt, ↓b1_or, b1_0, b1_1, lc_lt, lc_le, lc_gt, lc_ge, lc_eq, ym_0, ym_1, ym_2, ym_3, ym_4, ym_5, ym_6, ym_7, ym_8, ym_9, ym_10, ym_11, ym_12, ym_13, ym_14, ym_15, ym_16, ym_17, ym_18, ym_19, ym_20, ym_21, ym_22, ym_23, ym_24, ym_25, ym_26, ym_27, ym_28, ym_29, ym_30, rm__0, rm__1, rm__2, rm__3, rm__4, rm__5, rm__6, rm__7, rm__8, rm__9, rm__10, rm__11, rm__12, rm__13, rm__14, rm__15, rm__16, rm__17, rm__18, rm__19, rm__20, rm__21, rm__22, rm__23, rm__24, rm__25, rm__26, rm__27, rm__28, rm__29, rm__30, rm__31, rm__32, rm__33, rm__34, rm__35, rm__36, rm__37, rm__38, rm__39, rm__40, rm__41, rm__42, rm__43, rm__44, rm__45, un_X5_hasProduct, w1]
      try simp only [iteP, Classical.not_not, b1_0, b1_1]
      exact br_n (fun y => by rw [b1_f y] at hh; exact hh) (fun y => by rw [b1_t y] at hh; exact hh)
    · intro m hm ih o3 o4
      have l8 : vp_in (nI m) 8 := vp_in_nI (by omega) (by decide)
      have cl := a_cl (show m < 2147483648 by omega)
      have w1 : ¬ (4 : Int32) ≤ nI m := fun y => by rw [show (4 : Int32) = nI 4 from rfl, a_le (by omega) (by omega)] at y; omega
      have v3 : nI m + 1 = nI (m + 1) := by rw [show (1 : Int32) = nI 1 from rfl, nI_add]
      have ex := ih
      rcases lix_s (sp x).2 m with q | q
      · generalize lix (sp x).2 m = i at *
        obtain ⟨hi, q2⟩ := q
        have un : (∀ i', i' < (sp x).2.length → (lnA (sp x).2 i').1 = m → gr1 (sp x) i') ↔ gr1 (sp x) i := by
          refine ⟨fun t => t i hi q2, fun t i' h1 h2 => ?_⟩
          have g1 := (hP.ln hi).2.1
          have g2 := (hP.ln h1).2.1
          rw [q2] at g1
          rw [h2, g1, a_eq (by omega) (by omega)] at g2
          rw [← g2]; exact t
        have hL := hP.ln hi
        have hb : (lnA (sp x).2 i).2.1 + (lnA (sp x).2 i).2.2.1 ≤ (sp x).1.length := (hVq.1.2.2.2 i hi).1
        rw [q2] at hL
        obtain ⟨e1, e2, e3, e4, e5, e6⟩ := hL
        have z3 : ¬ nI i < 0 := nI_pos (by omega)
        have lq : ∀ j, j ≤ (lnA (sp x).2 i).2.2.1 → V 19 [some (.ref 0), some (.int (b1 (gm (sp x) m))), some (.int (nI m)), some (.int (fsm (sp x).1 1 (lnA (sp x).2 i).2.1 j)), some (.int (nI ((lnA (sp x).2 i).2.1 + j)))] [] M L := by
          refine lp_up ?_ ?_
          · have w1 : nI ((lnA (sp x).2 i).2.1 + (lnA (sp x).2 i).2.2.1) ≤ nI ((lnA (sp x).2 i).2.1 + (lnA (sp x).2 i).2.2.1) := Int32.le_refl _
            have ih := ih (some (.int (fsm (sp x).1 1 (lnA (sp x).2 i).2.1 (lnA (sp x).2 i).2.2.1))) (some (.int (nI ((lnA (sp x).2 i).2.1 + (lnA (sp x).2 i).2.2.1))))
            rw [b1_c gm_s, b1_c (and_congr_right fun _ => un)] at ih
            refine ma_walk (mo_X5_grows ms_X5_hasProduct) hV [4, 19] (fun F hF => ?_)
            simp only [tb_X5_grows, hF, in_no, in_push, in_ild, in_lld, in_ald, in_ist, in_ast, in_lst, in_inc, in_iii, in_idv, in_ldv, in_lll, in_lli, in_lil, in_ii, in_il, in_li, in_ll, in_dup, in_dp2, q_if1, q_if2, in_go, in_sw, ma_sw, in_rv, in_ri, in_rz, in_rl, in_get, in_put, in_puz, in_iar, in_bar, in_lar, in_aar, in_iaw, in_baw, in_law, in_len, in_cpy, in_s1, in_s2, in_s3, in_v1, in_v2, in_v3, in_v4, in_v5, in_v6, ma_bk, ma_gl, ma_sl, ma_nl, ma_wc, ma_wd, ma_nn, ma_en, List.mem_cons, List.not_mem_nil, or_false, or_true, true_or, false_or, true_and, and_true, false_and, and_false, if_true, if_false, forall_const, true_implies, false_implies, not_true_eq_false, not_false_eq_true, Classical.not_not, implies_true, and_self, Nat.add_zero, Nat.zero_add, eq_self, ne_eq, reduceCtorEq, Nat.reduceLT, Nat.reduceLeDiff, Nat.reduceEqDiff, Nat.reduceSub, Nat.reduceAdd, i10, i01, im10, Int32.reduceLT, Int32.reduceLE, ↓reduceIte, reduceIte, up_r, uL_r, cp_r, Int32.toInt_toInt64, Int64.reduceToInt, Int32.reduceToInt, ↓b1_or, b1_0, b1_1, lc_lt, lc_le, lc_gt, lc_ge, lc_eq, ym_0, ym_1, ym_2, ym_3, ym_4, ym_5, ym_6, ym_7, ym_8, ym_9, ym_10, ym_11, ym_12, ym_13, ym_14, ym_15, ym_16, ym_17, ym_18, ym_19, ym_20, ym_21, ym_22, ym_23, ym_24, ym_25, ym_26, ym_27, ym_28, ym_29, ym_30, rm__0, rm__1, rm__2, rm__3, rm__4, rm__5, rm__6, rm__7, rm__8, rm__9, rm__10, rm__11, rm__12, rm__13, rm__14, rm__15, rm__16, rm__17, rm__18, rm__19, rm__20, rm__21, rm__22, rm__23, rm__24, rm__25, rm__26, rm__27, rm__28, rm__29, rm__30, rm__31, rm__32, rm__33, rm__34, rm__35, rm__36, rm__37, rm__38, rm__39, rm__40, rm__41, rm__42, rm__43, rm__44, rm__45, un_X5_hasProduct, l8, cl, e2, e3, e4, e5, nI_add, w1, z3, v3]
            try simp only [iteP, Classical.not_not, b1_0, b1_1]
            refine br_n (fun y => by rw [b1_f (fun t => y t.1)] at ih; exact ih) (fun y => ?_)
            refine ⟨i, (sp x).1, (sp x).2, ⟨hi, by rw [q2], hP, hVq.1⟩, ?_⟩
            refine br_n (fun y1 => ?_) (fun y1 => by rw [b1_f (fun t => t.2.1 y1)] at ih; exact ih)
            exact sw_n (fun y2 => by rw [b1_f (fun t => t.2.2 y2)] at ih; exact ih) (fun y2 => by rw [b1_t ⟨y, y1, y2⟩] at ih; exact ih)
          · intro j hj ih
            have ht : (lnA (sp x).2 i).2.1 + j < (sp x).1.length := by omega
            have t1 := (hP.tm ht).1
            rw [fsm, fa1, if_neg (by decide)] at ih
            have v160 : vp_in (nI ((lnA (sp x).2 i).2.1 + j)) 160 := vp_in_nI (by omega) (by decide)
            have ct := a_cl (show (lnA (sp x).2 i).2.1 + j < 2147483648 by omega)
            have w1 : ¬ nI ((lnA (sp x).2 i).2.1 + (lnA (sp x).2 i).2.2.1) ≤ nI ((lnA (sp x).2 i).2.1 + j) := fun y => by rw [a_le (by omega) (by omega)] at y; omega
            have v4 : nI ((lnA (sp x).2 i).2.1 + j) + 1 = nI ((lnA (sp x).2 i).2.1 + (j + 1)) := by rw [show (1 : Int32) = nI 1 from rfl, nI_add]; rfl
            refine ma_walk (mo_X5_grows ms_X5_hasProduct) hV [4, 19] (fun F hF => ?_)
            simp only [tb_X5_grows, hF, in_no, in_push, in_ild, in_lld, in_ald, in_ist, in_ast, in_lst, in_inc, in_iii, in_idv, in_ldv, in_lll, in_lli, in_lil, in_ii, in_il, in_li, in_ll, in_dup, in_dp2, q_if1, q_if2, in_go, in_sw, ma_sw, in_rv, in_ri, in_rz, in_rl, in_get, in_put, in_puz, in_iar, in_bar, in_lar, in_aar, in_iaw, in_baw, in_law, in_len, in_cpy, in_s1, in_s2, in_s3, in_v1, in_v2, in_v3, in_v4, in_v5, in_v6, ma_bk, ma_gl, ma_sl, ma_nl, ma_wc, ma_wd, ma_nn, ma_en, List.mem_cons, List.not_mem_nil, or_false, or_true, true_or, false_or, true_and, and_true, false_and, and_false, if_true, if_false, forall_const, true_implies, false_implies, not_true_eq_false, not_false_eq_true, Classical.not_not, implies_true, and_self, Nat.add_zero, Nat.zero_add, eq_self, ne_eq, reduceCtorEq, Nat.reduceLT, Nat.reduceLeDiff, Nat.reduceEqDiff, Nat.reduceSub, Nat.reduceAdd, i10, i01, im10, Int32.reduceLT, Int32.reduceLE, ↓reduceIte, reduceIte, up_r, uL_r, cp_r, Int32.toInt_toInt64, Int64.reduceToInt, Int32.reduceToInt, ↓b1_or, b1_0, b1_1, lc_lt, lc_le, lc_gt, lc_ge, lc_eq, ym_0, ym_1, ym_2, ym_3, ym_4, ym_5, ym_6, ym_7, ym_8, ym_9, ym_10, ym_11, ym_12, ym_13, ym_14, ym_15, ym_16, ym_17, ym_18, ym_19, ym_20, ym_21, ym_22, ym_23, ym_24, ym_25, ym_26, ym_27, ym_28, ym_29, ym_30, rm__0, rm__1, rm__2, rm__3, rm__4, rm__5, rm__6, rm__7, rm__8, rm__9, rm__10, rm__11, rm__12, rm__13, rm__14, rm__15, rm__16, rm__17, rm__18, rm__19, rm__20, rm__21, rm__22, rm__23, rm__24, rm__25, rm__26, rm__27, rm__28, rm__29, rm__30, rm__31, rm__32, rm__33, rm__34, rm__35, rm__36, rm__37, rm__38, rm__39, rm__40, rm__41, rm__42, rm__43, rm__44, rm__45, un_X5_hasProduct, l8, cl, e2, e3, e4, nI_add, w1, v160, ct, t1, z3, v4]
            try simp only [iteP, Classical.not_not, b1_0, b1_1]
            exact sw_n (fun y => by rw [if_pos y] at ih; exact ih) (fun y => by rw [if_neg y] at ih; exact ih)
        have lq := lq 0 (Nat.zero_le _)
        refine ma_walk (mo_X5_grows ms_X5_hasProduct) hV [4, 19] (fun F hF => ?_)
        simp only [tb_X5_grows, hF, in_no, in_push, in_ild, in_lld, in_ald, in_ist, in_ast, in_lst, in_inc, in_iii, in_idv, in_ldv, in_lll, in_lli, in_lil, in_ii, in_il, in_li, in_ll, in_dup, in_dp2, q_if1, q_if2, in_go, in_sw, ma_sw, in_rv, in_ri, in_rz, in_rl, in_get, in_put, in_puz, in_iar, in_bar, in_lar, in_aar, in_iaw, in_baw, in_law, in_len, in_cpy, in_s1, in_s2, in_s3, in_v1, in_v2, in_v3, in_v4, in_v5, in_v6, ma_bk, ma_gl, ma_sl, ma_nl, ma_wc, ma_wd, ma_nn, ma_en, List.mem_cons, List.not_mem_nil, or_false, or_true, true_or, false_or, true_and, and_true, false_and, and_false, if_true, if_false, forall_const, true_implies, false_implies, not_true_eq_false, not_false_eq_true, Classical.not_not, implies_true, and_self, Nat.add_zero, Nat.zero_add, eq_self, ne_eq, reduceCtorEq, Nat.reduceLT, Nat.reduceLeDiff, Nat.reduceEqDiff, Nat.reduceSub, Nat.reduceAdd, i10, i01, im10, Int32.reduceLT, Int32.reduceLE, ↓reduceIte, reduceIte, up_r, uL_r, cp_r, Int32.toInt_toInt64, Int64.reduceToInt, Int32.reduceToInt, ↓b1_or, b1_0, b1_1, lc_lt, lc_le, lc_gt, lc_ge, lc_eq, ym_0, ym_1, ym_2, ym_3, ym_4, ym_5, ym_6, ym_7, ym_8, ym_9, ym_10, ym_11, ym_12, ym_13, ym_14, ym_15, ym_16, ym_17, ym_18, ym_19, ym_20, ym_21, ym_22, ym_23, ym_24, ym_25, ym_26, ym_27, ym_28, ym_29, ym_30, rm__0, rm__1, rm__2, rm__3, rm__4, rm__5, rm__6, rm__7, rm__8, rm__9, rm__10, rm__11, rm__12, rm__13, rm__14, rm__15, rm__16, rm__17, rm__18, rm__19, rm__20, rm__21, rm__22, rm__23, rm__24, rm__25, rm__26, rm__27, rm__28, rm__29, rm__30, rm__31, rm__32, rm__33, rm__34, rm__35, rm__36, rm__37, rm__38, rm__39, rm__40, rm__41, rm__42, rm__43, rm__44, rm__45, un_X5_hasProduct, l8, cl, e3, w1]
        try simp only [iteP, Classical.not_not, b1_0, b1_1]
        exact lq
      · have e2 := hP.no hm q.2
        have un : gm (sp x) (m + 1) ↔ gm (sp x) m := gm_s.trans ⟨fun t => t.1, fun t => ⟨t, fun i hi y => absurd ⟨i, hi, y⟩ q.2⟩⟩
        have z3 : (-4 : Int32) < 0 := by decide
        rw [b1_c un] at ih
        have h19 : ∀ o, V 19 [some (.ref 0), some (.int (b1 (gm (sp x) m))), some (.int (nI m)), some (.int 0), some (.int o)] [] M L := by
          intro o
          have ih := ih (some (.int 0)) (some (.int o))
          refine ma_walk (mo_X5_grows ms_X5_hasProduct) hV [4, 19] (fun F hF => ?_)
          simp only [tb_X5_grows, hF, in_no, in_push, in_ild, in_lld, in_ald, in_ist, in_ast, in_lst, in_inc, in_iii, in_idv, in_ldv, in_lll, in_lli, in_lil, in_ii, in_il, in_li, in_ll, in_dup, in_dp2, q_if1, q_if2, in_go, in_sw, ma_sw, in_rv, in_ri, in_rz, in_rl, in_get, in_put, in_puz, in_iar, in_bar, in_lar, in_aar, in_iaw, in_baw, in_law, in_len, in_cpy, in_s1, in_s2, in_s3, in_v1, in_v2, in_v3, in_v4, in_v5, in_v6, ma_bk, ma_gl, ma_sl, ma_nl, ma_wc, ma_wd, ma_nn, ma_en, List.mem_cons, List.not_mem_nil, or_false, or_true, true_or, false_or, true_and, and_true, false_and, and_false, if_true, if_false, forall_const, true_implies, false_implies, not_true_eq_false, not_false_eq_true, Classical.not_not, implies_true, and_self, Nat.add_zero, Nat.zero_add, eq_self, ne_eq, reduceCtorEq, Nat.reduceLT, Nat.reduceLeDiff, Nat.reduceEqDiff, Nat.reduceSub, Nat.reduceAdd, i10, i01, im10, Int32.reduceLT, Int32.reduceLE, ↓reduceIte, reduceIte, up_r, uL_r, cp_r, Int32.toInt_toInt64, Int64.reduceToInt, Int32.reduceToInt, ↓b1_or, b1_0, b1_1, lc_lt, lc_le, lc_gt, lc_ge, lc_eq, ym_0, ym_1, ym_2, ym_3, ym_4, ym_5, ym_6, ym_7, ym_8, ym_9, ym_10, ym_11, ym_12, ym_13, ym_14, ym_15, ym_16, ym_17, ym_18, ym_19, ym_20, ym_21, ym_22, ym_23, ym_24, ym_25, ym_26, ym_27, ym_28, ym_29, ym_30, rm__0, rm__1, rm__2, rm__3, rm__4, rm__5, rm__6, rm__7, rm__8, rm__9, rm__10, rm__11, rm__12, rm__13, rm__14, rm__15, rm__16, rm__17, rm__18, rm__19, rm__20, rm__21, rm__22, rm__23, rm__24, rm__25, rm__26, rm__27, rm__28, rm__29, rm__30, rm__31, rm__32, rm__33, rm__34, rm__35, rm__36, rm__37, rm__38, rm__39, rm__40, rm__41, rm__42, rm__43, rm__44, rm__45, un_X5_hasProduct, l8, cl, e2, z3, v3]
          try simp only [iteP, Classical.not_not, b1_0, b1_1]
          exact br_n (fun y => by rw [b1_f y] at ih; exact ih) (fun y => by rw [b1_t y] at ih; exact ih)
        refine ma_walk (mo_X5_grows ms_X5_hasProduct) hV [4, 19] (fun F hF => ?_)
        simp only [tb_X5_grows, hF, in_no, in_push, in_ild, in_lld, in_ald, in_ist, in_ast, in_lst, in_inc, in_iii, in_idv, in_ldv, in_lll, in_lli, in_lil, in_ii, in_il, in_li, in_ll, in_dup, in_dp2, q_if1, q_if2, in_go, in_sw, ma_sw, in_rv, in_ri, in_rz, in_rl, in_get, in_put, in_puz, in_iar, in_bar, in_lar, in_aar, in_iaw, in_baw, in_law, in_len, in_cpy, in_s1, in_s2, in_s3, in_v1, in_v2, in_v3, in_v4, in_v5, in_v6, ma_bk, ma_gl, ma_sl, ma_nl, ma_wc, ma_wd, ma_nn, ma_en, List.mem_cons, List.not_mem_nil, or_false, or_true, true_or, false_or, true_and, and_true, false_and, and_false, if_true, if_false, forall_const, true_implies, false_implies, not_true_eq_false, not_false_eq_true, Classical.not_not, implies_true, and_self, Nat.add_zero, Nat.zero_add, eq_self, ne_eq, reduceCtorEq, Nat.reduceLT, Nat.reduceLeDiff, Nat.reduceEqDiff, Nat.reduceSub, Nat.reduceAdd, i10, i01, im10, Int32.reduceLT, Int32.reduceLE, ↓reduceIte, reduceIte, up_r, uL_r, cp_r, Int32.toInt_toInt64, Int64.reduceToInt, Int32.reduceToInt, ↓b1_or, b1_0, b1_1, lc_lt, lc_le, lc_gt, lc_ge, lc_eq, ym_0, ym_1, ym_2, ym_3, ym_4, ym_5, ym_6, ym_7, ym_8, ym_9, ym_10, ym_11, ym_12, ym_13, ym_14, ym_15, ym_16, ym_17, ym_18, ym_19, ym_20, ym_21, ym_22, ym_23, ym_24, ym_25, ym_26, ym_27, ym_28, ym_29, ym_30, rm__0, rm__1, rm__2, rm__3, rm__4, rm__5, rm__6, rm__7, rm__8, rm__9, rm__10, rm__11, rm__12, rm__13, rm__14, rm__15, rm__16, rm__17, rm__18, rm__19, rm__20, rm__21, rm__22, rm__23, rm__24, rm__25, rm__26, rm__27, rm__28, rm__29, rm__30, rm__31, rm__32, rm__33, rm__34, rm__35, rm__36, rm__37, rm__38, rm__39, rm__40, rm__41, rm__42, rm__43, rm__44, rm__45, un_X5_hasProduct, l8, cl, w1]
        try simp only [iteP, Classical.not_not, b1_0, b1_1]
        exact h19 _
  refine ma_walk (mo_X5_grows ms_X5_hasProduct) hV [4, 19] (fun F hF => ?_)
  simp only [tb_X5_grows, hF, in_no, in_push, in_ild, in_lld, in_ald, in_ist, in_ast, in_lst, in_inc, in_iii, in_idv, in_ldv, in_lll, in_lli, in_lil, in_ii, in_il, in_li, in_ll, in_dup, in_dp2, q_if1, q_if2, in_go, in_sw, ma_sw, in_rv, in_ri, in_rz, in_rl, in_get, in_put, in_puz, in_iar, in_bar, in_lar, in_aar, in_iaw, in_baw, in_law, in_len, in_cpy, in_s1, in_s2, in_s3, in_v1, in_v2, in_v3, in_v4, in_v5, in_v6, ma_bk, ma_gl, ma_sl, ma_nl, ma_wc, ma_wd, ma_nn, ma_en, List.mem_cons, List.not_mem_nil, or_false, or_true, true_or, false_or, true_and, and_true, false_and, and_false, if_true, if_false, forall_const, true_implies, false_implies, not_true_eq_false, not_false_eq_true, Classical.not_not, implies_true, and_self, Nat.add_zero, Nat.zero_add, eq_self, ne_eq, reduceCtorEq, Nat.reduceLT, Nat.reduceLeDiff, Nat.reduceEqDiff, Nat.reduceSub, Nat.reduceAdd, i10, i01, im10, Int32.reduceLT, Int32.reduceLE, ↓reduceIte, reduceIte, up_r, uL_r, cp_r, Int32.toInt_toInt64, Int64.reduceToInt, Int32.reduceToInt, ↓b1_or, b1_0, b1_1, lc_lt, lc_le, lc_gt, lc_ge, lc_eq, ym_0, ym_1, ym_2, ym_3, ym_4, ym_5, ym_6, ym_7, ym_8, ym_9, ym_10, ym_11, ym_12, ym_13, ym_14, ym_15, ym_16, ym_17, ym_18, ym_19, ym_20, ym_21, ym_22, ym_23, ym_24, ym_25, ym_26, ym_27, ym_28, ym_29, ym_30, rm__0, rm__1, rm__2, rm__3, rm__4, rm__5, rm__6, rm__7, rm__8, rm__9, rm__10, rm__11, rm__12, rm__13, rm__14, rm__15, rm__16, rm__17, rm__18, rm__19, rm__20, rm__21, rm__22, rm__23, rm__24, rm__25, rm__26, rm__27, rm__28, rm__29, rm__30, rm__31, rm__32, rm__33, rm__34, rm__35, rm__36, rm__37, rm__38, rm__39, rm__40, rm__41, rm__42, rm__43, rm__44, rm__45, un_X5_hasProduct]
  try simp only [iteP, Classical.not_not, b1_0, b1_1]
  have q := lp 0 (Nat.zero_le _) none none
  rw [b1_t (c := gm (sp x) 0) (fun i hi y => absurd y (Nat.not_lt_zero _))] at q; exact q
theorem pv_X5_grows : ∀ as M L K, S_X5_grows as M L K → ma_rn (tb_X5_grows S_X5_hasProduct) 5 as M L K := by
  intro as M L K h
  unfold S_X5_grows at h
  split at h
  · obtain ⟨x, h⟩ := h; exact pw_X5_grows h.1 h.2
  · exact h.elim
