/-! ops: rule, wipe, mend, pace, give, put, first -/
set_option maxRecDepth 100000
set_option maxHeartbeats 4000000
def wN (x : St) (N : ZM) : St := (N, sP x, sp x, sk x)
/-! rule -/
def oRule (a v : Int32) (x : St) : Int32 × St := if (0 ≤ a.toInt ∧ a.toInt ≤ 1) ∧ (0 ≤ v.toInt ∧ v.toInt ≤ (if a = 0 then 2 else 9)) then (if a = 0 then (sN x 0 2, wN x (ma_up (sN x) 0 2 v)) else (sN x 0 3, wN x (ma_up (sN x) 0 3 v))) else (-1, x)
def S_X0_rule : ma_Cs := fun as M L K => match as with
  | [.ref k, .int a, .int v] => ∃ (x : St), (k = 0 ∧ J x ∧ RX M L x) ∧ (∀ (M' : ZM) (L' : ZL), RX M' L' (oRule a v x).2 → K (some (.int (oRule a v x).1)) M' L')
  | _ => False
theorem ms_X0_rule : ma_ms S_X0_rule := by
  intro as M L K K' hk h
  unfold S_X0_rule at h ⊢
  split at h
  · obtain ⟨x, h⟩ := h
    exact ⟨x, h.1, fun x0 x1 x2 => hk _ _ _ (h.2 x0 x1 x2)⟩
  · exact h.elim
theorem un_X0_rule {k : Nat} {a : Int32} {v : Int32} {M : ZM} {L : ZL} {K : ma_Kt} : S_X0_rule [.ref k, .int a, .int v] M L K = (∃ (x : St), (k = 0 ∧ J x ∧ RX M L x) ∧ (∀ (M' : ZM) (L' : ZL), RX M' L' (oRule a v x).2 → K (some (.int (oRule a v x).1)) M' L')) := rfl
theorem pw_X0_rule {k : Nat} {a : Int32} {v : Int32} {x : St} {M : ZM} {L : ZL} {K : ma_Kt} (hp : k = 0 ∧ J x ∧ RX M L x) (h : (∀ (M' : ZM) (L' : ZL), RX M' L' (oRule a v x).2 → K (some (.int (oRule a v x).1)) M' L')) : ma_rn (tb_X0_rule S_X0_isIn) 4 [.ref k, .int a, .int v] M L K := by
  refine ⟨Nat.le_of_ble_eq_true rfl, fun V hV => ?_⟩
  obtain ⟨rfl, hJ, hR⟩ := hp
  obtain ⟨⟨c0, c5, c6, c7, c10, c19, c20, c25, c33⟩, r2, r3, r4⟩ := id hR
  unfold oRule at h
  by_cases a0 : a = 0
  · subst a0
    refine ma_walk (mo_X0_rule ms_X0_isIn) hV [] (fun F hF => ?_)
    simp only [tb_X0_rule, hF, in_no, in_push, in_ild, in_lld, in_ald, in_ist, in_ast, in_lst, in_inc, in_iii, in_idv, in_ldv, in_lll, in_lli, in_lil, in_ii, in_il, in_li, in_ll, in_dup, in_dp2, q_if1, q_if2, in_go, in_sw, ma_sw, in_rv, in_ri, in_rz, in_rl, in_get, in_put, in_puz, in_iar, in_bar, in_lar, in_aar, in_iaw, in_baw, in_law, in_len, in_cpy, in_s1, in_s2, in_s3, in_v1, in_v2, in_v3, in_v4, in_v5, in_v6, ma_bk, ma_gl, ma_sl, ma_nl, ma_wc, ma_wd, ma_nn, ma_en, List.mem_cons, List.not_mem_nil, or_false, or_true, true_or, false_or, true_and, and_true, false_and, and_false, if_true, if_false, forall_const, true_implies, false_implies, not_true_eq_false, not_false_eq_true, Classical.not_not, implies_true, and_self, Nat.add_zero, Nat.zero_add, eq_self, ne_eq, reduceCtorEq, Nat.reduceLT, Nat.reduceLeDiff, Nat.reduceEqDiff, Nat.reduceSub, Nat.reduceAdd, i10, i01, im10, Int32.reduceLT, Int32.reduceLE, ↓reduceIte, reduceIte, up_r, uL_r, cp_r, Int32.toInt_toInt64, Int64.reduceToInt, Int32.reduceToInt, ↓b1_or, b1_0, b1_1, lc_lt, lc_le, lc_gt, lc_ge, lc_eq, yx_0, yx_1, yx_2, yx_3, yx_4, yx_5, yx_6, yx_7, yx_8, yx_9, yx_10, yx_11, yx_12, yx_13, yx_14, yx_15, yx_16, yx_17, yx_18, yx_19, yx_20, yx_21, yx_22, yx_23, yx_24, yx_25, yx_26, yx_27, yx_28, yx_29, yx_30, yx_31, yx_32, yx_33, yx_34, yx_35, yx_36, yx_37, yx_38, yx_39, yx_40, yx_41, yx_42, yx_43, yx_44, yx_45, yx_46, yx_47, yx_48, yx_49, yx_50, yx_51, yx_52, yx_53, yx_54, yx_55, yx_56, yx_57, yx_58, yx_59, yx_60, yx_61, yx_62, yx_63, yx_64, yx_65, yx_66, yx_67, yx_68, rx_0, rx_1, rx_2, rx_3, rx_4, rx_5, rx_6, rx_7, rx_8, rx_9, rx_10, rx_11, rx_12, rx_13, rx_14, rx_15, rx_16, rx_17, rx_18, rx_19, rx_20, rx_21, rx_22, rx_23, rx_24, rx_25, rx_26, rx_27, rx_28, rx_29, rx_30, rx_31, rx_32, rx_33, rp_0, rp_1, rp_2, rp_3, rp_4, rp_5, rp_6, rp_7, rp_8, rs_0, rs_1, rs_2, rs_3, rs_4, re_0, re_1, re_2, re_3, re_4, re_5, rr_0, rr_1, rr_2, rr_3, rr_4, rk_0, rk_1, isP3, isP11, isP46, isP58, isS25, isS28, isS31, un_X0_isIn, Int.reduceLE]
    try simp only [iteP, Classical.not_not, b1_0, b1_1]
    refine ⟨fun z => ?_, fun z => ?_⟩
    · rw [if_neg (fun q => z q.2)] at h; exact h M L hR
    · rw [if_pos ⟨by decide, z⟩, if_pos rfl] at h
      rw [c7]
      refine h _ L ⟨⟨c0, c5, c6, rfl, c10, c19, c20, c25, c33⟩, r2, r3.to (fun a ha => by rw [up_c (by omega), up_c (by omega), up_c (by omega)]) rfl, Or.inl rfl⟩
  · by_cases a1 : a = 1
    · subst a1
      refine ma_walk (mo_X0_rule ms_X0_isIn) hV [] (fun F hF => ?_)
      simp only [tb_X0_rule, hF, in_no, in_push, in_ild, in_lld, in_ald, in_ist, in_ast, in_lst, in_inc, in_iii, in_idv, in_ldv, in_lll, in_lli, in_lil, in_ii, in_il, in_li, in_ll, in_dup, in_dp2, q_if1, q_if2, in_go, in_sw, ma_sw, in_rv, in_ri, in_rz, in_rl, in_get, in_put, in_puz, in_iar, in_bar, in_lar, in_aar, in_iaw, in_baw, in_law, in_len, in_cpy, in_s1, in_s2, in_s3, in_v1, in_v2, in_v3, in_v4, in_v5, in_v6, ma_bk, ma_gl, ma_sl, ma_nl, ma_wc, ma_wd, ma_nn, ma_en, List.mem_cons, List.not_mem_nil, or_false, or_true, true_or, false_or, true_and, and_true, false_and, and_false, if_true, if_false, forall_const, true_implies, false_implies, not_true_eq_false, not_false_eq_true, Classical.not_not, implies_true, and_self, Nat.add_zero, Nat.zero_add, eq_self, ne_eq, reduceCtorEq, Nat.reduceLT, Nat.reduceLeDiff, Nat.reduceEqDiff, Nat.reduceSub, Nat.reduceAdd, i10, i01, im10, Int32.reduceLT, Int32.reduceLE, ↓reduceIte, reduceIte, up_r, uL_r, cp_r, Int32.toInt_toInt64, Int64.reduceToInt, Int32.reduceToInt, ↓b1_or, b1_0, b1_1, lc_lt, lc_le, lc_gt, lc_ge, lc_eq, yx_0, yx_1, yx_2, yx_3, yx_4, yx_5, yx_6, yx_7, yx_8, yx_9, yx_10, yx_11, yx_12, yx_13, yx_14, yx_15, yx_16, yx_17, yx_18, yx_19, yx_20, yx_21, yx_22, yx_23, yx_24, yx_25, yx_26, yx_27, yx_28, yx_29, yx_30, yx_31, yx_32, yx_33, yx_34, yx_35, yx_36, yx_37, yx_38, yx_39, yx_40, yx_41, yx_42, yx_43, yx_44, yx_45, yx_46, yx_47, yx_48, yx_49, yx_50, yx_51, yx_52, yx_53, yx_54, yx_55, yx_56, yx_57, yx_58, yx_59, yx_60, yx_61, yx_62, yx_63, yx_64, yx_65, yx_66, yx_67, yx_68, rx_0, rx_1, rx_2, rx_3, rx_4, rx_5, rx_6, rx_7, rx_8, rx_9, rx_10, rx_11, rx_12, rx_13, rx_14, rx_15, rx_16, rx_17, rx_18, rx_19, rx_20, rx_21, rx_22, rx_23, rx_24, rx_25, rx_26, rx_27, rx_28, rx_29, rx_30, rx_31, rx_32, rx_33, rp_0, rp_1, rp_2, rp_3, rp_4, rp_5, rp_6, rp_7, rp_8, rs_0, rs_1, rs_2, rs_3, rs_4, re_0, re_1, re_2, re_3, re_4, re_5, rr_0, rr_1, rr_2, rr_3, rr_4, rk_0, rk_1, isP3, isP11, isP46, isP58, isS25, isS28, isS31, un_X0_isIn, Int.reduceLE]
      try simp only [iteP, Classical.not_not, b1_0, b1_1]
      refine ⟨fun z => ?_, fun z => ?_⟩
      · rw [if_neg (fun q => z q.2)] at h; exact h M L hR
      · rw [if_pos ⟨by decide, z⟩, if_neg (by decide)] at h
        rw [c25]
        refine h _ L ⟨⟨c0, c5, c6, c7, c10, c19, c20, rfl, c33⟩, r2, r3.to (fun a ha => by rw [up_c (by omega), up_c (by omega), up_c (by omega)]) rfl, Or.inl rfl⟩
    · have hz : ¬ (0 ≤ a.toInt ∧ a.toInt ≤ 1) := by
        intro q
        have q1 : a.toInt = 0 ∨ a.toInt = 1 := by omega
        rcases q1 with q1 | q1
        · exact a0 (i_ext q1)
        · exact a1 (i_ext q1)
      refine ma_walk (mo_X0_rule ms_X0_isIn) hV [] (fun F hF => ?_)
      simp only [tb_X0_rule, hF, in_no, in_push, in_ild, in_lld, in_ald, in_ist, in_ast, in_lst, in_inc, in_iii, in_idv, in_ldv, in_lll, in_lli, in_lil, in_ii, in_il, in_li, in_ll, in_dup, in_dp2, q_if1, q_if2, in_go, in_sw, ma_sw, in_rv, in_ri, in_rz, in_rl, in_get, in_put, in_puz, in_iar, in_bar, in_lar, in_aar, in_iaw, in_baw, in_law, in_len, in_cpy, in_s1, in_s2, in_s3, in_v1, in_v2, in_v3, in_v4, in_v5, in_v6, ma_bk, ma_gl, ma_sl, ma_nl, ma_wc, ma_wd, ma_nn, ma_en, List.mem_cons, List.not_mem_nil, or_false, or_true, true_or, false_or, true_and, and_true, false_and, and_false, if_true, if_false, forall_const, true_implies, false_implies, not_true_eq_false, not_false_eq_true, Classical.not_not, implies_true, and_self, Nat.add_zero, Nat.zero_add, eq_self, ne_eq, reduceCtorEq, Nat.reduceLT, Nat.reduceLeDiff, Nat.reduceEqDiff, Nat.reduceSub, Nat.reduceAdd, i10, i01, im10, Int32.reduceLT, Int32.reduceLE, ↓reduceIte, reduceIte, up_r, uL_r, cp_r, Int32.toInt_toInt64, Int64.reduceToInt, Int32.reduceToInt, ↓b1_or, b1_0, b1_1, lc_lt, lc_le, lc_gt, lc_ge, lc_eq, yx_0, yx_1, yx_2, yx_3, yx_4, yx_5, yx_6, yx_7, yx_8, yx_9, yx_10, yx_11, yx_12, yx_13, yx_14, yx_15, yx_16, yx_17, yx_18, yx_19, yx_20, yx_21, yx_22, yx_23, yx_24, yx_25, yx_26, yx_27, yx_28, yx_29, yx_30, yx_31, yx_32, yx_33, yx_34, yx_35, yx_36, yx_37, yx_38, yx_39, yx_40, yx_41, yx_42, yx_43, yx_44, yx_45, yx_46, yx_47, yx_48, yx_49, yx_50, yx_51, yx_52, yx_53, yx_54, yx_55, yx_56, yx_57, yx_58, yx_59, yx_60, yx_61, yx_62, yx_63, yx_64, yx_65, yx_66, yx_67, yx_68, rx_0, rx_1, rx_2, rx_3, rx_4, rx_5, rx_6, rx_7, rx_8, rx_9, rx_10, rx_11, rx_12, rx_13, rx_14, rx_15, rx_16, rx_17, rx_18, rx_19, rx_20, rx_21, rx_22, rx_23, rx_24, rx_25, rx_26, rx_27, rx_28, rx_29, rx_30, rx_31, rx_32, rx_33, rp_0, rp_1, rp_2, rp_3, rp_4, rp_5, rp_6, rp_7, rp_8, rs_0, rs_1, rs_2, rs_3, rs_4, re_0, re_1, re_2, re_3, re_4, re_5, rr_0, rr_1, rr_2, rr_3, rr_4, rk_0, rk_1, isP3, isP11, isP46, isP58, isS25, isS28, isS31, un_X0_isIn, hz]
      try simp only [iteP, Classical.not_not, b1_0, b1_1]
      rw [if_neg (fun q => hz q.1)] at h; exact h M L hR
theorem pv_X0_rule : ∀ as M L K, S_X0_rule as M L K → ma_rn (tb_X0_rule S_X0_isIn) 4 as M L K := by
  intro as M L K h
  unfold S_X0_rule at h
  split at h
  · obtain ⟨x, h⟩ := h; exact pw_X0_rule h.1 h.2
  · exact h.elim
def S_X5_rule : ma_Cs := fun as M L K => match as with
  | [.ref k, .int a, .int v] => ∃ (x : St), (k = 0 ∧ J x ∧ RY M L x) ∧ (∀ (M' : ZM) (L' : ZL), RY M' L' (oRule a v x).2 → K (some (.int (oRule a v x).1)) M' L')
  | _ => False
theorem ms_X5_rule : ma_ms S_X5_rule := by
  intro as M L K K' hk h
  unfold S_X5_rule at h ⊢
  split at h
  · obtain ⟨x, h⟩ := h
    exact ⟨x, h.1, fun x0 x1 x2 => hk _ _ _ (h.2 x0 x1 x2)⟩
  · exact h.elim
theorem un_X5_rule {k : Nat} {a : Int32} {v : Int32} {M : ZM} {L : ZL} {K : ma_Kt} : S_X5_rule [.ref k, .int a, .int v] M L K = (∃ (x : St), (k = 0 ∧ J x ∧ RY M L x) ∧ (∀ (M' : ZM) (L' : ZL), RY M' L' (oRule a v x).2 → K (some (.int (oRule a v x).1)) M' L')) := rfl
theorem pw_X5_rule {k : Nat} {a : Int32} {v : Int32} {x : St} {M : ZM} {L : ZL} {K : ma_Kt} (hp : k = 0 ∧ J x ∧ RY M L x) (h : (∀ (M' : ZM) (L' : ZL), RY M' L' (oRule a v x).2 → K (some (.int (oRule a v x).1)) M' L')) : ma_rn (tb_X5_rule S_X5_in) 4 [.ref k, .int a, .int v] M L K := by
  refine ⟨Nat.le_of_ble_eq_true rfl, fun V hV => ?_⟩
  obtain ⟨rfl, hJ, hR⟩ := hp
  obtain ⟨⟨c0, c1, c2, c3, c5, c19, c24, c25, c30⟩, r2, r3, r4⟩ := id hR
  unfold oRule at h
  by_cases a0 : a = 0
  · subst a0
    refine ma_walk (mo_X5_rule ms_X5_in) hV [] (fun F hF => ?_)
    simp only [tb_X5_rule, hF, in_no, in_push, in_ild, in_lld, in_ald, in_ist, in_ast, in_lst, in_inc, in_iii, in_idv, in_ldv, in_lll, in_lli, in_lil, in_ii, in_il, in_li, in_ll, in_dup, in_dp2, q_if1, q_if2, in_go, in_sw, ma_sw, in_rv, in_ri, in_rz, in_rl, in_get, in_put, in_puz, in_iar, in_bar, in_lar, in_aar, in_iaw, in_baw, in_law, in_len, in_cpy, in_s1, in_s2, in_s3, in_v1, in_v2, in_v3, in_v4, in_v5, in_v6, ma_bk, ma_gl, ma_sl, ma_nl, ma_wc, ma_wd, ma_nn, ma_en, List.mem_cons, List.not_mem_nil, or_false, or_true, true_or, false_or, true_and, and_true, false_and, and_false, if_true, if_false, forall_const, true_implies, false_implies, not_true_eq_false, not_false_eq_true, Classical.not_not, implies_true, and_self, Nat.add_zero, Nat.zero_add, eq_self, ne_eq, reduceCtorEq, Nat.reduceLT, Nat.reduceLeDiff, Nat.reduceEqDiff, Nat.reduceSub, Nat.reduceAdd, i10, i01, im10, Int32.reduceLT, Int32.reduceLE, ↓reduceIte, reduceIte, up_r, uL_r, cp_r, Int32.toInt_toInt64, Int64.reduceToInt, Int32.reduceToInt, ↓b1_or, b1_0, b1_1, lc_lt, lc_le, lc_gt, lc_ge, lc_eq, ym_0, ym_1, ym_2, ym_3, ym_4, ym_5, ym_6, ym_7, ym_8, ym_9, ym_10, ym_11, ym_12, ym_13, ym_14, ym_15, ym_16, ym_17, ym_18, ym_19, ym_20, ym_21, ym_22, ym_23, ym_24, ym_25, ym_26, ym_27, ym_28, ym_29, ym_30, rm__0, rm__1, rm__2, rm__3, rm__4, rm__5, rm__6, rm__7, rm__8, rm__9, rm__10, rm__11, rm__12, rm__13, rm__14, rm__15, rm__16, rm__17, rm__18, rm__19, rm__20, rm__21, rm__22, rm__23, rm__24, rm__25, rm__26, rm__27, rm__28, rm__29, rm__30, rm__31, rm__32, rm__33, rm__34, rm__35, rm__36, rm__37, rm__38, rm__39, rm__40, rm__41, rm__42, rm__43, rm__44, rm__45, un_X5_in, Int.reduceLE]
    try simp only [iteP, Classical.not_not, b1_0, b1_1]
    refine ⟨fun z => ?_, fun z => ?_⟩
    · rw [if_neg (fun q => z q.2)] at h; exact h M L hR
    · rw [if_pos ⟨by decide, z⟩, if_pos rfl] at h
      rw [c2]
      refine h _ L ⟨⟨c0, c1, rfl, c3, c5, c19, c24, c25, c30⟩, r2, r3.to rfl (fun a z1 z2 => by rw [up_c (by omega), up_c (by omega)]), r4.1, r4.2.to rfl rfl⟩
  · by_cases a1 : a = 1
    · subst a1
      refine ma_walk (mo_X5_rule ms_X5_in) hV [] (fun F hF => ?_)
      simp only [tb_X5_rule, hF, in_no, in_push, in_ild, in_lld, in_ald, in_ist, in_ast, in_lst, in_inc, in_iii, in_idv, in_ldv, in_lll, in_lli, in_lil, in_ii, in_il, in_li, in_ll, in_dup, in_dp2, q_if1, q_if2, in_go, in_sw, ma_sw, in_rv, in_ri, in_rz, in_rl, in_get, in_put, in_puz, in_iar, in_bar, in_lar, in_aar, in_iaw, in_baw, in_law, in_len, in_cpy, in_s1, in_s2, in_s3, in_v1, in_v2, in_v3, in_v4, in_v5, in_v6, ma_bk, ma_gl, ma_sl, ma_nl, ma_wc, ma_wd, ma_nn, ma_en, List.mem_cons, List.not_mem_nil, or_false, or_true, true_or, false_or, true_and, and_true, false_and, and_false, if_true, if_false, forall_const, true_implies, false_implies, not_true_eq_false, not_false_eq_true, Classical.not_not, implies_true, and_self, Nat.add_zero, Nat.zero_add, eq_self, ne_eq, reduceCtorEq, Nat.reduceLT, Nat.reduceLeDiff, Nat.reduceEqDiff, Nat.reduceSub, Nat.reduceAdd, i10, i01, im10, Int32.reduceLT, Int32.reduceLE, ↓reduceIte, reduceIte, up_r, uL_r, cp_r, Int32.toInt_toInt64, Int64.reduceToInt, Int32.reduceToInt, ↓b1_or, b1_0, b1_1, lc_lt, lc_le, lc_gt, lc_ge, lc_eq, ym_0, ym_1, ym_2, ym_3, ym_4, ym_5, ym_6, ym_7, ym_8, ym_9, ym_10, ym_11, ym_12, ym_13, ym_14, ym_15, ym_16, ym_17, ym_18, ym_19, ym_20, ym_21, ym_22, ym_23, ym_24, ym_25, ym_26, ym_27, ym_28, ym_29, ym_30, rm__0, rm__1, rm__2, rm__3, rm__4, rm__5, rm__6, rm__7, rm__8, rm__9, rm__10, rm__11, rm__12, rm__13, rm__14, rm__15, rm__16, rm__17, rm__18, rm__19, rm__20, rm__21, rm__22, rm__23, rm__24, rm__25, rm__26, rm__27, rm__28, rm__29, rm__30, rm__31, rm__32, rm__33, rm__34, rm__35, rm__36, rm__37, rm__38, rm__39, rm__40, rm__41, rm__42, rm__43, rm__44, rm__45, un_X5_in, Int.reduceLE]
      try simp only [iteP, Classical.not_not, b1_0, b1_1]
      refine ⟨fun z => ?_, fun z => ?_⟩
      · rw [if_neg (fun q => z q.2)] at h; exact h M L hR
      · rw [if_pos ⟨by decide, z⟩, if_neg (by decide)] at h
        rw [c3]
        refine h _ L ⟨⟨c0, c1, c2, rfl, c5, c19, c24, c25, c30⟩, r2, r3.to rfl (fun a z1 z2 => by rw [up_c (by omega), up_c (by omega)]), r4.1, r4.2.to rfl rfl⟩
    · have hz : ¬ (0 ≤ a.toInt ∧ a.toInt ≤ 1) := by
        intro q
        have q1 : a.toInt = 0 ∨ a.toInt = 1 := by omega
        rcases q1 with q1 | q1
        · exact a0 (i_ext q1)
        · exact a1 (i_ext q1)
      refine ma_walk (mo_X5_rule ms_X5_in) hV [] (fun F hF => ?_)
      simp only [tb_X5_rule, hF, in_no, in_push, in_ild, in_lld, in_ald, in_ist, in_ast, in_lst, in_inc, in_iii, in_idv, in_ldv, in_lll, in_lli, in_lil, in_ii, in_il, in_li, in_ll, in_dup, in_dp2, q_if1, q_if2, in_go, in_sw, ma_sw, in_rv, in_ri, in_rz, in_rl, in_get, in_put, in_puz, in_iar, in_bar, in_lar, in_aar, in_iaw, in_baw, in_law, in_len, in_cpy, in_s1, in_s2, in_s3, in_v1, in_v2, in_v3, in_v4, in_v5, in_v6, ma_bk, ma_gl, ma_sl, ma_nl, ma_wc, ma_wd, ma_nn, ma_en, List.mem_cons, List.not_mem_nil, or_false, or_true, true_or, false_or, true_and, and_true, false_and, and_false, if_true, if_false, forall_const, true_implies, false_implies, not_true_eq_false, not_false_eq_true, Classical.not_not, implies_true, and_self, Nat.add_zero, Nat.zero_add, eq_self, ne_eq, reduceCtorEq, Nat.reduceLT, Nat.reduceLeDiff, Nat.reduceEqDiff, Nat.reduceSub, Nat.reduceAdd, i10, i01, im10, Int32.reduceLT, Int32.reduceLE, ↓reduceIte, reduceIte, up_r, uL_r, cp_r, Int32.toInt_toInt64, Int64.reduceToInt, Int32.reduceToInt, ↓b1_or, b1_0, b1_1, lc_lt, lc_le, lc_gt, lc_ge, lc_eq, ym_0, ym_1, ym_2, ym_3, ym_4, ym_5, ym_6, ym_7, ym_8, ym_9, ym_10, ym_11, ym_12, ym_13, ym_14, ym_15, ym_16, ym_17, ym_18, ym_19, ym_20, ym_21, ym_22, ym_23, ym_24, ym_25, ym_26, ym_27, ym_28, ym_29, ym_30, rm__0, rm__1, rm__2, rm__3, rm__4, rm__5, rm__6, rm__7, rm__8, rm__9, rm__10, rm__11, rm__12, rm__13, rm__14, rm__15, rm__16, rm__17, rm__18, rm__19, rm__20, rm__21, rm__22, rm__23, rm__24, rm__25, rm__26, rm__27, rm__28, rm__29, rm__30, rm__31, rm__32, rm__33, rm__34, rm__35, rm__36, rm__37, rm__38, rm__39, rm__40, rm__41, rm__42, rm__43, rm__44, rm__45, un_X5_in, hz]
      try simp only [iteP, Classical.not_not, b1_0, b1_1]
      rw [if_neg (fun q => hz q.1)] at h; exact h M L hR
theorem pv_X5_rule : ∀ as M L K, S_X5_rule as M L K → ma_rn (tb_X5_rule S_X5_in) 4 as M L K := by
  intro as M L K h
  unfold S_X5_rule at h
  split at h
  · obtain ⟨x, h⟩ := h; exact pw_X5_rule h.1 h.2
  · exact h.elim
theorem J_rule {a v : Int32} {x : St} (h : J x) : J (oRule a v x).2 := by
  unfold oRule
  obtain ⟨⟨w, u, e, wk, n, ns, a', b, km, h1, h2, h3, h4, h5, h6, h7, h8, h9, g1, g2, g3, g4, g5, g6, g7, g8, g9, f1, f2⟩, ja, jp, jk⟩ := id h
  by_cases c2 : a = 0
  · simp only [if_pos c2]
    split
    · next c =>
      obtain ⟨m, em, hm, _⟩ := a_of c.2.1
      exact ⟨⟨w, u, m, wk, n, ns, a', b, km, h1, h2, em, h4, h5, h6, h7, h8, h9, g1, g2, g3, g4, by omega, g6, g7, g8, g9, f1, f2⟩, ja, jp, jk⟩
    · exact h
  · simp only [if_neg c2]
    split
    · next c =>
      obtain ⟨m, em, hm, _⟩ := a_of c.2.1
      exact ⟨⟨w, u, e, m, n, ns, a', b, km, h1, h2, h3, em, h5, h6, h7, h8, h9, g1, g2, g3, g4, g5, by omega, g7, g8, g9, f1, f2⟩, ja, jp, jk⟩
    · exact h
/-! wipe -/
def oWipe (x : St) : Int32 × St := (sN x 0 5, wN x (ma_up (sN x) 0 5 0))
def S_X0_wipe : ma_Cs := fun as M L K => match as with
  | [.ref k] => ∃ (x : St), (k = 0 ∧ J x ∧ RX M L x) ∧ (∀ (M' : ZM) (L' : ZL), RX M' L' (oWipe x).2 → K (some (.int (oWipe x).1)) M' L')
  | _ => False
theorem ms_X0_wipe : ma_ms S_X0_wipe := by
  intro as M L K K' hk h
  unfold S_X0_wipe at h ⊢
  split at h
  · obtain ⟨x, h⟩ := h
    exact ⟨x, h.1, fun x0 x1 x2 => hk _ _ _ (h.2 x0 x1 x2)⟩
  · exact h.elim
theorem un_X0_wipe {k : Nat} {M : ZM} {L : ZL} {K : ma_Kt} : S_X0_wipe [.ref k] M L K = (∃ (x : St), (k = 0 ∧ J x ∧ RX M L x) ∧ (∀ (M' : ZM) (L' : ZL), RX M' L' (oWipe x).2 → K (some (.int (oWipe x).1)) M' L')) := rfl
theorem pw_X0_wipe {k : Nat} {x : St} {M : ZM} {L : ZL} {K : ma_Kt} (hp : k = 0 ∧ J x ∧ RX M L x) (h : (∀ (M' : ZM) (L' : ZL), RX M' L' (oWipe x).2 → K (some (.int (oWipe x).1)) M' L')) : ma_rn tb_X0_wipe 2 [.ref k] M L K := by
  refine ⟨Nat.le_of_ble_eq_true rfl, fun V hV => ?_⟩
  obtain ⟨rfl, hJ, hR⟩ := hp
  obtain ⟨⟨c0, c5, c6, c7, c10, c19, c20, c25, c33⟩, r2, r3, r4⟩ := id hR
  refine ma_walk mo_X0_wipe hV [] (fun F hF => ?_)
  simp only [tb_X0_wipe, hF, in_no, in_push, in_ild, in_lld, in_ald, in_ist, in_ast, in_lst, in_inc, in_iii, in_idv, in_ldv, in_lll, in_lli, in_lil, in_ii, in_il, in_li, in_ll, in_dup, in_dp2, q_if1, q_if2, in_go, in_sw, ma_sw, in_rv, in_ri, in_rz, in_rl, in_get, in_put, in_puz, in_iar, in_bar, in_lar, in_aar, in_iaw, in_baw, in_law, in_len, in_cpy, in_s1, in_s2, in_s3, in_v1, in_v2, in_v3, in_v4, in_v5, in_v6, ma_bk, ma_gl, ma_sl, ma_nl, ma_wc, ma_wd, ma_nn, ma_en, List.mem_cons, List.not_mem_nil, or_false, or_true, true_or, false_or, true_and, and_true, false_and, and_false, if_true, if_false, forall_const, true_implies, false_implies, not_true_eq_false, not_false_eq_true, Classical.not_not, implies_true, and_self, Nat.add_zero, Nat.zero_add, eq_self, ne_eq, reduceCtorEq, Nat.reduceLT, Nat.reduceLeDiff, Nat.reduceEqDiff, Nat.reduceSub, Nat.reduceAdd, i10, i01, im10, Int32.reduceLT, Int32.reduceLE, ↓reduceIte, reduceIte, up_r, uL_r, cp_r, Int32.toInt_toInt64, Int64.reduceToInt, Int32.reduceToInt, ↓b1_or, b1_0, b1_1, lc_lt, lc_le, lc_gt, lc_ge, lc_eq, yx_0, yx_1, yx_2, yx_3, yx_4, yx_5, yx_6, yx_7, yx_8, yx_9, yx_10, yx_11, yx_12, yx_13, yx_14, yx_15, yx_16, yx_17, yx_18, yx_19, yx_20, yx_21, yx_22, yx_23, yx_24, yx_25, yx_26, yx_27, yx_28, yx_29, yx_30, yx_31, yx_32, yx_33, yx_34, yx_35, yx_36, yx_37, yx_38, yx_39, yx_40, yx_41, yx_42, yx_43, yx_44, yx_45, yx_46, yx_47, yx_48, yx_49, yx_50, yx_51, yx_52, yx_53, yx_54, yx_55, yx_56, yx_57, yx_58, yx_59, yx_60, yx_61, yx_62, yx_63, yx_64, yx_65, yx_66, yx_67, yx_68, rx_0, rx_1, rx_2, rx_3, rx_4, rx_5, rx_6, rx_7, rx_8, rx_9, rx_10, rx_11, rx_12, rx_13, rx_14, rx_15, rx_16, rx_17, rx_18, rx_19, rx_20, rx_21, rx_22, rx_23, rx_24, rx_25, rx_26, rx_27, rx_28, rx_29, rx_30, rx_31, rx_32, rx_33, rp_0, rp_1, rp_2, rp_3, rp_4, rp_5, rp_6, rp_7, rp_8, rs_0, rs_1, rs_2, rs_3, rs_4, re_0, re_1, re_2, re_3, re_4, re_5, rr_0, rr_1, rr_2, rr_3, rr_4, rk_0, rk_1, isP3, isP11, isP46, isP58, isS25, isS28, isS31, c0]
  try simp only [iteP, Classical.not_not, b1_0, b1_1]
  exact h _ L ⟨⟨rfl, c5, c6, c7, c10, c19, c20, c25, c33⟩, r2, r3.to (fun a ha => up_c (by omega)) rfl, r4⟩
theorem pv_X0_wipe : ∀ as M L K, S_X0_wipe as M L K → ma_rn tb_X0_wipe 2 as M L K := by
  intro as M L K h
  unfold S_X0_wipe at h
  split at h
  · obtain ⟨x, h⟩ := h; exact pw_X0_wipe h.1 h.2
  · exact h.elim
def S_X5_wipe : ma_Cs := fun as M L K => match as with
  | [.ref k] => ∃ (x : St), (k = 0 ∧ J x ∧ RY M L x) ∧ (∀ (M' : ZM) (L' : ZL), RY M' L' (oWipe x).2 → K (some (.int (oWipe x).1)) M' L')
  | _ => False
theorem ms_X5_wipe : ma_ms S_X5_wipe := by
  intro as M L K K' hk h
  unfold S_X5_wipe at h ⊢
  split at h
  · obtain ⟨x, h⟩ := h
    exact ⟨x, h.1, fun x0 x1 x2 => hk _ _ _ (h.2 x0 x1 x2)⟩
  · exact h.elim
theorem un_X5_wipe {k : Nat} {M : ZM} {L : ZL} {K : ma_Kt} : S_X5_wipe [.ref k] M L K = (∃ (x : St), (k = 0 ∧ J x ∧ RY M L x) ∧ (∀ (M' : ZM) (L' : ZL), RY M' L' (oWipe x).2 → K (some (.int (oWipe x).1)) M' L')) := rfl
theorem pw_X5_wipe {k : Nat} {x : St} {M : ZM} {L : ZL} {K : ma_Kt} (hp : k = 0 ∧ J x ∧ RY M L x) (h : (∀ (M' : ZM) (L' : ZL), RY M' L' (oWipe x).2 → K (some (.int (oWipe x).1)) M' L')) : ma_rn tb_X5_wipe 2 [.ref k] M L K := by
  refine ⟨Nat.le_of_ble_eq_true rfl, fun V hV => ?_⟩
  obtain ⟨rfl, hJ, hR⟩ := hp
  obtain ⟨⟨c0, c1, c2, c3, c5, c19, c24, c25, c30⟩, r2, r3, r4⟩ := id hR
  refine ma_walk mo_X5_wipe hV [] (fun F hF => ?_)
  simp only [tb_X5_wipe, hF, in_no, in_push, in_ild, in_lld, in_ald, in_ist, in_ast, in_lst, in_inc, in_iii, in_idv, in_ldv, in_lll, in_lli, in_lil, in_ii, in_il, in_li, in_ll, in_dup, in_dp2, q_if1, q_if2, in_go, in_sw, ma_sw, in_rv, in_ri, in_rz, in_rl, in_get, in_put, in_puz, in_iar, in_bar, in_lar, in_aar, in_iaw, in_baw, in_law, in_len, in_cpy, in_s1, in_s2, in_s3, in_v1, in_v2, in_v3, in_v4, in_v5, in_v6, ma_bk, ma_gl, ma_sl, ma_nl, ma_wc, ma_wd, ma_nn, ma_en, List.mem_cons, List.not_mem_nil, or_false, or_true, true_or, false_or, true_and, and_true, false_and, and_false, if_true, if_false, forall_const, true_implies, false_implies, not_true_eq_false, not_false_eq_true, Classical.not_not, implies_true, and_self, Nat.add_zero, Nat.zero_add, eq_self, ne_eq, reduceCtorEq, Nat.reduceLT, Nat.reduceLeDiff, Nat.reduceEqDiff, Nat.reduceSub, Nat.reduceAdd, i10, i01, im10, Int32.reduceLT, Int32.reduceLE, ↓reduceIte, reduceIte, up_r, uL_r, cp_r, Int32.toInt_toInt64, Int64.reduceToInt, Int32.reduceToInt, ↓b1_or, b1_0, b1_1, lc_lt, lc_le, lc_gt, lc_ge, lc_eq, ym_0, ym_1, ym_2, ym_3, ym_4, ym_5, ym_6, ym_7, ym_8, ym_9, ym_10, ym_11, ym_12, ym_13, ym_14, ym_15, ym_16, ym_17, ym_18, ym_19, ym_20, ym_21, ym_22, ym_23, ym_24, ym_25, ym_26, ym_27, ym_28, ym_29, ym_30, rm__0, rm__1, rm__2, rm__3, rm__4, rm__5, rm__6, rm__7, rm__8, rm__9, rm__10, rm__11, rm__12, rm__13, rm__14, rm__15, rm__16, rm__17, rm__18, rm__19, rm__20, rm__21, rm__22, rm__23, rm__24, rm__25, rm__26, rm__27, rm__28, rm__29, rm__30, rm__31, rm__32, rm__33, rm__34, rm__35, rm__36, rm__37, rm__38, rm__39, rm__40, rm__41, rm__42, rm__43, rm__44, rm__45, c5]
  try simp only [iteP, Classical.not_not, b1_0, b1_1]
  exact h _ L ⟨⟨c0, c1, c2, c3, rfl, c19, c24, c25, c30⟩, r2, r3.to rfl (fun a z1 z2 => up_c (by omega)), r4.1, r4.2.to rfl rfl⟩
theorem pv_X5_wipe : ∀ as M L K, S_X5_wipe as M L K → ma_rn tb_X5_wipe 2 as M L K := by
  intro as M L K h
  unfold S_X5_wipe at h
  split at h
  · obtain ⟨x, h⟩ := h; exact pw_X5_wipe h.1 h.2
  · exact h.elim
theorem J_wipe {x : St} (h : J x) : J (oWipe x).2 := by
  obtain ⟨⟨w, u, e, wk, n, ns, a, b, km, h1, h2, h3, h4, h5, h6, h7, h8, h9, g1, g2, g3, g4, g5, g6, g7, g8, g9, f1, f2⟩, ja, jp, jk⟩ := h
  exact ⟨⟨w, u, e, wk, 0, ns, a, b, km, h1, h2, h3, h4, rfl, h6, h7, h8, h9, g1, g2, g3, g4, g5, g6, by omega, g8, g9, f1, f2⟩, ja, jp, jk⟩
/-! mend -/
def oMend (x : St) : Int32 × St := if sN x 0 19 = 0 then (-2, x) else (sN x 0 19 - 1, wN x (ma_up (sN x) 0 19 (sN x 0 19 - 1)))
def S_X0_mend : ma_Cs := fun as M L K => match as with
  | [.ref k] => ∃ (x : St), (k = 0 ∧ J x ∧ RX M L x) ∧ (∀ (M' : ZM) (L' : ZL), RX M' L' (oMend x).2 → K (some (.int (oMend x).1)) M' L')
  | _ => False
theorem ms_X0_mend : ma_ms S_X0_mend := by
  intro as M L K K' hk h
  unfold S_X0_mend at h ⊢
  split at h
  · obtain ⟨x, h⟩ := h
    exact ⟨x, h.1, fun x0 x1 x2 => hk _ _ _ (h.2 x0 x1 x2)⟩
  · exact h.elim
theorem un_X0_mend {k : Nat} {M : ZM} {L : ZL} {K : ma_Kt} : S_X0_mend [.ref k] M L K = (∃ (x : St), (k = 0 ∧ J x ∧ RX M L x) ∧ (∀ (M' : ZM) (L' : ZL), RX M' L' (oMend x).2 → K (some (.int (oMend x).1)) M' L')) := rfl
theorem pw_X0_mend {k : Nat} {x : St} {M : ZM} {L : ZL} {K : ma_Kt} (hp : k = 0 ∧ J x ∧ RX M L x) (h : (∀ (M' : ZM) (L' : ZL), RX M' L' (oMend x).2 → K (some (.int (oMend x).1)) M' L')) : ma_rn tb_X0_mend 1 [.ref k] M L K := by
  refine ⟨Nat.le_of_ble_eq_true rfl, fun V hV => ?_⟩
  obtain ⟨rfl, hJ, hR⟩ := hp
  obtain ⟨⟨c0, c5, c6, c7, c10, c19, c20, c25, c33⟩, r2, r3, r4⟩ := id hR
  unfold oMend at h
  refine ma_walk mo_X0_mend hV [] (fun F hF => ?_)
  simp only [tb_X0_mend, hF, in_no, in_push, in_ild, in_lld, in_ald, in_ist, in_ast, in_lst, in_inc, in_iii, in_idv, in_ldv, in_lll, in_lli, in_lil, in_ii, in_il, in_li, in_ll, in_dup, in_dp2, q_if1, q_if2, in_go, in_sw, ma_sw, in_rv, in_ri, in_rz, in_rl, in_get, in_put, in_puz, in_iar, in_bar, in_lar, in_aar, in_iaw, in_baw, in_law, in_len, in_cpy, in_s1, in_s2, in_s3, in_v1, in_v2, in_v3, in_v4, in_v5, in_v6, ma_bk, ma_gl, ma_sl, ma_nl, ma_wc, ma_wd, ma_nn, ma_en, List.mem_cons, List.not_mem_nil, or_false, or_true, true_or, false_or, true_and, and_true, false_and, and_false, if_true, if_false, forall_const, true_implies, false_implies, not_true_eq_false, not_false_eq_true, Classical.not_not, implies_true, and_self, Nat.add_zero, Nat.zero_add, eq_self, ne_eq, reduceCtorEq, Nat.reduceLT, Nat.reduceLeDiff, Nat.reduceEqDiff, Nat.reduceSub, Nat.reduceAdd, i10, i01, im10, Int32.reduceLT, Int32.reduceLE, ↓reduceIte, reduceIte, up_r, uL_r, cp_r, Int32.toInt_toInt64, Int64.reduceToInt, Int32.reduceToInt, ↓b1_or, b1_0, b1_1, lc_lt, lc_le, lc_gt, lc_ge, lc_eq, yx_0, yx_1, yx_2, yx_3, yx_4, yx_5, yx_6, yx_7, yx_8, yx_9, yx_10, yx_11, yx_12, yx_13, yx_14, yx_15, yx_16, yx_17, yx_18, yx_19, yx_20, yx_21, yx_22, yx_23, yx_24, yx_25, yx_26, yx_27, yx_28, yx_29, yx_30, yx_31, yx_32, yx_33, yx_34, yx_35, yx_36, yx_37, yx_38, yx_39, yx_40, yx_41, yx_42, yx_43, yx_44, yx_45, yx_46, yx_47, yx_48, yx_49, yx_50, yx_51, yx_52, yx_53, yx_54, yx_55, yx_56, yx_57, yx_58, yx_59, yx_60, yx_61, yx_62, yx_63, yx_64, yx_65, yx_66, yx_67, yx_68, rx_0, rx_1, rx_2, rx_3, rx_4, rx_5, rx_6, rx_7, rx_8, rx_9, rx_10, rx_11, rx_12, rx_13, rx_14, rx_15, rx_16, rx_17, rx_18, rx_19, rx_20, rx_21, rx_22, rx_23, rx_24, rx_25, rx_26, rx_27, rx_28, rx_29, rx_30, rx_31, rx_32, rx_33, rp_0, rp_1, rp_2, rp_3, rp_4, rp_5, rp_6, rp_7, rp_8, rs_0, rs_1, rs_2, rs_3, rs_4, re_0, re_1, re_2, re_3, re_4, re_5, rr_0, rr_1, rr_2, rr_3, rr_4, rk_0, rk_1, isP3, isP11, isP46, isP58, isS25, isS28, isS31, c10]
  try simp only [iteP, Classical.not_not, b1_0, b1_1]
  refine ⟨fun z => ?_, fun z => ?_⟩
  · rw [if_pos z] at h; exact h M L hR
  · rw [if_neg z] at h
    exact h _ L ⟨⟨c0, c5, c6, c7, rfl, c19, c20, c25, c33⟩, r2, r3.to (fun a ha => by rw [up_c (by omega), up_c (by omega)]) rfl, Or.inl rfl⟩
theorem pv_X0_mend : ∀ as M L K, S_X0_mend as M L K → ma_rn tb_X0_mend 1 as M L K := by
  intro as M L K h
  unfold S_X0_mend at h
  split at h
  · obtain ⟨x, h⟩ := h; exact pw_X0_mend h.1 h.2
  · exact h.elim
def S_X5_mend : ma_Cs := fun as M L K => match as with
  | [.ref k] => ∃ (x : St), (k = 0 ∧ J x ∧ RY M L x) ∧ (∀ (M' : ZM) (L' : ZL), RY M' L' (oMend x).2 → K (some (.int (oMend x).1)) M' L')
  | _ => False
theorem ms_X5_mend : ma_ms S_X5_mend := by
  intro as M L K K' hk h
  unfold S_X5_mend at h ⊢
  split at h
  · obtain ⟨x, h⟩ := h
    exact ⟨x, h.1, fun x0 x1 x2 => hk _ _ _ (h.2 x0 x1 x2)⟩
  · exact h.elim
theorem un_X5_mend {k : Nat} {M : ZM} {L : ZL} {K : ma_Kt} : S_X5_mend [.ref k] M L K = (∃ (x : St), (k = 0 ∧ J x ∧ RY M L x) ∧ (∀ (M' : ZM) (L' : ZL), RY M' L' (oMend x).2 → K (some (.int (oMend x).1)) M' L')) := rfl
theorem pw_X5_mend {k : Nat} {x : St} {M : ZM} {L : ZL} {K : ma_Kt} (hp : k = 0 ∧ J x ∧ RY M L x) (h : (∀ (M' : ZM) (L' : ZL), RY M' L' (oMend x).2 → K (some (.int (oMend x).1)) M' L')) : ma_rn tb_X5_mend 1 [.ref k] M L K := by
  refine ⟨Nat.le_of_ble_eq_true rfl, fun V hV => ?_⟩
  obtain ⟨rfl, hJ, hR⟩ := hp
  obtain ⟨⟨c0, c1, c2, c3, c5, c19, c24, c25, c30⟩, r2, r3, r4⟩ := id hR
  unfold oMend at h
  refine ma_walk mo_X5_mend hV [] (fun F hF => ?_)
  simp only [tb_X5_mend, hF, in_no, in_push, in_ild, in_lld, in_ald, in_ist, in_ast, in_lst, in_inc, in_iii, in_idv, in_ldv, in_lll, in_lli, in_lil, in_ii, in_il, in_li, in_ll, in_dup, in_dp2, q_if1, q_if2, in_go, in_sw, ma_sw, in_rv, in_ri, in_rz, in_rl, in_get, in_put, in_puz, in_iar, in_bar, in_lar, in_aar, in_iaw, in_baw, in_law, in_len, in_cpy, in_s1, in_s2, in_s3, in_v1, in_v2, in_v3, in_v4, in_v5, in_v6, ma_bk, ma_gl, ma_sl, ma_nl, ma_wc, ma_wd, ma_nn, ma_en, List.mem_cons, List.not_mem_nil, or_false, or_true, true_or, false_or, true_and, and_true, false_and, and_false, if_true, if_false, forall_const, true_implies, false_implies, not_true_eq_false, not_false_eq_true, Classical.not_not, implies_true, and_self, Nat.add_zero, Nat.zero_add, eq_self, ne_eq, reduceCtorEq, Nat.reduceLT, Nat.reduceLeDiff, Nat.reduceEqDiff, Nat.reduceSub, Nat.reduceAdd, i10, i01, im10, Int32.reduceLT, Int32.reduceLE, ↓reduceIte, reduceIte, up_r, uL_r, cp_r, Int32.toInt_toInt64, Int64.reduceToInt, Int32.reduceToInt, ↓b1_or, b1_0, b1_1, lc_lt, lc_le, lc_gt, lc_ge, lc_eq, ym_0, ym_1, ym_2, ym_3, ym_4, ym_5, ym_6, ym_7, ym_8, ym_9, ym_10, ym_11, ym_12, ym_13, ym_14, ym_15, ym_16, ym_17, ym_18, ym_19, ym_20, ym_21, ym_22, ym_23, ym_24, ym_25, ym_26, ym_27, ym_28, ym_29, ym_30, rm__0, rm__1, rm__2, rm__3, rm__4, rm__5, rm__6, rm__7, rm__8, rm__9, rm__10, rm__11, rm__12, rm__13, rm__14, rm__15, rm__16, rm__17, rm__18, rm__19, rm__20, rm__21, rm__22, rm__23, rm__24, rm__25, rm__26, rm__27, rm__28, rm__29, rm__30, rm__31, rm__32, rm__33, rm__34, rm__35, rm__36, rm__37, rm__38, rm__39, rm__40, rm__41, rm__42, rm__43, rm__44, rm__45, c19]
  try simp only [iteP, Classical.not_not, b1_0, b1_1]
  refine ⟨fun z => ?_, fun z => ?_⟩
  · rw [if_pos z] at h; exact h M L hR
  · rw [if_neg z] at h
    exact h _ L ⟨⟨c0, c1, c2, c3, c5, rfl, c24, c25, c30⟩, r2, r3.to rfl (fun a z1 z2 => up_c (by omega)), r4.1, r4.2.to rfl rfl⟩
theorem pv_X5_mend : ∀ as M L K, S_X5_mend as M L K → ma_rn tb_X5_mend 1 as M L K := by
  intro as M L K h
  unfold S_X5_mend at h
  split at h
  · obtain ⟨x, h⟩ := h; exact pw_X5_mend h.1 h.2
  · exact h.elim
theorem J_mend {x : St} (h : J x) : J (oMend x).2 := by
  unfold oMend
  split
  · exact h
  · next c =>
    obtain ⟨⟨w, u, e, wk, n, ns, a', b, km, h1, h2, h3, h4, h5, h6, h7, h8, h9, g1, g2, g3, g4, g5, g6, g7, g8, g9, f1, f2⟩, ja, jp, jk⟩ := h
    have c2 : ns ≠ 0 := fun z => c (by rw [h6, z]; rfl)
    refine ⟨⟨w, u, e, wk, n, ns - 1, a', b, km, h1, h2, h3, h4, h5, ?_, h7, h8, h9, g1, g2, g3, g4, g5, g6, g7, by omega, g9, f1, f2⟩, ja, jp, jk⟩
    show sN x 0 19 - 1 = _
    rw [h6]; exact pk_sub (b := 1) (by omega)
/-! pace -/
def oPace (p v : Int32) (x : St) : Int32 × St := if (0 ≤ p.toInt ∧ p.toInt ≤ 5) ∧ (1 ≤ v.toInt ∧ v.toInt ≤ 20) then (sN x 19 (nat p), wN x (ma_up (sN x) 19 (nat p) v)) else (-1, x)
def S_X0_pace : ma_Cs := fun as M L K => match as with
  | [.ref k, .int p, .int v] => ∃ (x : St), (k = 0 ∧ J x ∧ RX M L x) ∧ (∀ (M' : ZM) (L' : ZL), RX M' L' (oPace p v x).2 → K (some (.int (oPace p v x).1)) M' L')
  | _ => False
theorem ms_X0_pace : ma_ms S_X0_pace := by
  intro as M L K K' hk h
  unfold S_X0_pace at h ⊢
  split at h
  · obtain ⟨x, h⟩ := h
    exact ⟨x, h.1, fun x0 x1 x2 => hk _ _ _ (h.2 x0 x1 x2)⟩
  · exact h.elim
theorem un_X0_pace {k : Nat} {p : Int32} {v : Int32} {M : ZM} {L : ZL} {K : ma_Kt} : S_X0_pace [.ref k, .int p, .int v] M L K = (∃ (x : St), (k = 0 ∧ J x ∧ RX M L x) ∧ (∀ (M' : ZM) (L' : ZL), RX M' L' (oPace p v x).2 → K (some (.int (oPace p v x).1)) M' L')) := rfl
theorem pw_X0_pace {k : Nat} {p : Int32} {v : Int32} {x : St} {M : ZM} {L : ZL} {K : ma_Kt} (hp : k = 0 ∧ J x ∧ RX M L x) (h : (∀ (M' : ZM) (L' : ZL), RX M' L' (oPace p v x).2 → K (some (.int (oPace p v x).1)) M' L')) : ma_rn (tb_X0_pace S_X0_isPerson S_X0_isIn) 4 [.ref k, .int p, .int v] M L K := by
  refine ⟨Nat.le_of_ble_eq_true rfl, fun V hV => ?_⟩
  obtain ⟨rfl, hJ, hR⟩ := hp
  obtain ⟨r1, ⟨a19, a1, a20, a21, a22, a23, a24, a34, a37, a38, a39⟩, r3, r4⟩ := id hR
  unfold oPace at h
  refine ma_walk (mo_X0_pace ms_X0_isPerson ms_X0_isIn) hV [] (fun F hF => ?_)
  simp only [tb_X0_pace, hF, in_no, in_push, in_ild, in_lld, in_ald, in_ist, in_ast, in_lst, in_inc, in_iii, in_idv, in_ldv, in_lll, in_lli, in_lil, in_ii, in_il, in_li, in_ll, in_dup, in_dp2, q_if1, q_if2, in_go, in_sw, ma_sw, in_rv, in_ri, in_rz, in_rl, in_get, in_put, in_puz, in_iar, in_bar, in_lar, in_aar, in_iaw, in_baw, in_law, in_len, in_cpy, in_s1, in_s2, in_s3, in_v1, in_v2, in_v3, in_v4, in_v5, in_v6, ma_bk, ma_gl, ma_sl, ma_nl, ma_wc, ma_wd, ma_nn, ma_en, List.mem_cons, List.not_mem_nil, or_false, or_true, true_or, false_or, true_and, and_true, false_and, and_false, if_true, if_false, forall_const, true_implies, false_implies, not_true_eq_false, not_false_eq_true, Classical.not_not, implies_true, and_self, Nat.add_zero, Nat.zero_add, eq_self, ne_eq, reduceCtorEq, Nat.reduceLT, Nat.reduceLeDiff, Nat.reduceEqDiff, Nat.reduceSub, Nat.reduceAdd, i10, i01, im10, Int32.reduceLT, Int32.reduceLE, ↓reduceIte, reduceIte, up_r, uL_r, cp_r, Int32.toInt_toInt64, Int64.reduceToInt, Int32.reduceToInt, ↓b1_or, b1_0, b1_1, lc_lt, lc_le, lc_gt, lc_ge, lc_eq, yx_0, yx_1, yx_2, yx_3, yx_4, yx_5, yx_6, yx_7, yx_8, yx_9, yx_10, yx_11, yx_12, yx_13, yx_14, yx_15, yx_16, yx_17, yx_18, yx_19, yx_20, yx_21, yx_22, yx_23, yx_24, yx_25, yx_26, yx_27, yx_28, yx_29, yx_30, yx_31, yx_32, yx_33, yx_34, yx_35, yx_36, yx_37, yx_38, yx_39, yx_40, yx_41, yx_42, yx_43, yx_44, yx_45, yx_46, yx_47, yx_48, yx_49, yx_50, yx_51, yx_52, yx_53, yx_54, yx_55, yx_56, yx_57, yx_58, yx_59, yx_60, yx_61, yx_62, yx_63, yx_64, yx_65, yx_66, yx_67, yx_68, rx_0, rx_1, rx_2, rx_3, rx_4, rx_5, rx_6, rx_7, rx_8, rx_9, rx_10, rx_11, rx_12, rx_13, rx_14, rx_15, rx_16, rx_17, rx_18, rx_19, rx_20, rx_21, rx_22, rx_23, rx_24, rx_25, rx_26, rx_27, rx_28, rx_29, rx_30, rx_31, rx_32, rx_33, rp_0, rp_1, rp_2, rp_3, rp_4, rp_5, rp_6, rp_7, rp_8, rs_0, rs_1, rs_2, rs_3, rs_4, re_0, re_1, re_2, re_3, re_4, re_5, rr_0, rr_1, rr_2, rr_3, rr_4, rk_0, rk_1, isP3, isP11, isP46, isP58, isS25, isS28, isS31, un_X0_isPerson, un_X0_isIn]
  try simp only [iteP, Classical.not_not, b1_0, b1_1]
  refine ⟨fun z => ?_, fun z => ⟨fun z2 => ?_, fun z2 => ?_⟩⟩
  · rw [if_neg (fun q => z q.1)] at h; exact h M L hR
  · rw [if_neg (fun q => z2 q.2)] at h; exact h M L hR
  · rw [if_pos ⟨z, z2⟩] at h
    have hv : vp_in p 6 := vp_in_iff.2 (by omega)
    refine ⟨hv, hv, ?_⟩
    rw [a38]
    exact h _ L ⟨r1, ⟨a19, a1, a20, a21, a22, a23, a24, a34, a37, by show ma_up M 38 _ v 38 = ma_up (sN x) 19 _ v 19; rw [ma_up_at, ma_up_at, a38]; rfl, a39⟩, r3.to (fun a ha => up_c (by omega)) rfl, r4⟩
theorem pv_X0_pace : ∀ as M L K, S_X0_pace as M L K → ma_rn (tb_X0_pace S_X0_isPerson S_X0_isIn) 4 as M L K := by
  intro as M L K h
  unfold S_X0_pace at h
  split at h
  · obtain ⟨x, h⟩ := h; exact pw_X0_pace h.1 h.2
  · exact h.elim
def S_X5_pace : ma_Cs := fun as M L K => match as with
  | [.ref k, .int p, .int v] => ∃ (x : St), (k = 0 ∧ J x ∧ RY M L x) ∧ (∀ (M' : ZM) (L' : ZL), RY M' L' (oPace p v x).2 → K (some (.int (oPace p v x).1)) M' L')
  | _ => False
theorem ms_X5_pace : ma_ms S_X5_pace := by
  intro as M L K K' hk h
  unfold S_X5_pace at h ⊢
  split at h
  · obtain ⟨x, h⟩ := h
    exact ⟨x, h.1, fun x0 x1 x2 => hk _ _ _ (h.2 x0 x1 x2)⟩
  · exact h.elim
theorem un_X5_pace {k : Nat} {p : Int32} {v : Int32} {M : ZM} {L : ZL} {K : ma_Kt} : S_X5_pace [.ref k, .int p, .int v] M L K = (∃ (x : St), (k = 0 ∧ J x ∧ RY M L x) ∧ (∀ (M' : ZM) (L' : ZL), RY M' L' (oPace p v x).2 → K (some (.int (oPace p v x).1)) M' L')) := rfl
theorem pw_X5_pace {k : Nat} {p : Int32} {v : Int32} {x : St} {M : ZM} {L : ZL} {K : ma_Kt} (hp : k = 0 ∧ J x ∧ RY M L x) (h : (∀ (M' : ZM) (L' : ZL), RY M' L' (oPace p v x).2 → K (some (.int (oPace p v x).1)) M' L')) : ma_rn (tb_X5_pace S_X5_in) 4 [.ref k, .int p, .int v] M L K := by
  refine ⟨Nat.le_of_ble_eq_true rfl, fun V hV => ?_⟩
  obtain ⟨rfl, hJ, hR⟩ := hp
  obtain ⟨r1, ⟨a1, a2, a12, a13, a14, a15, a16, a17, a18, a19, a20⟩, r3, r4⟩ := id hR
  unfold oPace at h
  refine ma_walk (mo_X5_pace ms_X5_in) hV [] (fun F hF => ?_)
  simp only [tb_X5_pace, hF, in_no, in_push, in_ild, in_lld, in_ald, in_ist, in_ast, in_lst, in_inc, in_iii, in_idv, in_ldv, in_lll, in_lli, in_lil, in_ii, in_il, in_li, in_ll, in_dup, in_dp2, q_if1, q_if2, in_go, in_sw, ma_sw, in_rv, in_ri, in_rz, in_rl, in_get, in_put, in_puz, in_iar, in_bar, in_lar, in_aar, in_iaw, in_baw, in_law, in_len, in_cpy, in_s1, in_s2, in_s3, in_v1, in_v2, in_v3, in_v4, in_v5, in_v6, ma_bk, ma_gl, ma_sl, ma_nl, ma_wc, ma_wd, ma_nn, ma_en, List.mem_cons, List.not_mem_nil, or_false, or_true, true_or, false_or, true_and, and_true, false_and, and_false, if_true, if_false, forall_const, true_implies, false_implies, not_true_eq_false, not_false_eq_true, Classical.not_not, implies_true, and_self, Nat.add_zero, Nat.zero_add, eq_self, ne_eq, reduceCtorEq, Nat.reduceLT, Nat.reduceLeDiff, Nat.reduceEqDiff, Nat.reduceSub, Nat.reduceAdd, i10, i01, im10, Int32.reduceLT, Int32.reduceLE, ↓reduceIte, reduceIte, up_r, uL_r, cp_r, Int32.toInt_toInt64, Int64.reduceToInt, Int32.reduceToInt, ↓b1_or, b1_0, b1_1, lc_lt, lc_le, lc_gt, lc_ge, lc_eq, ym_0, ym_1, ym_2, ym_3, ym_4, ym_5, ym_6, ym_7, ym_8, ym_9, ym_10, ym_11, ym_12, ym_13, ym_14, ym_15, ym_16, ym_17, ym_18, ym_19, ym_20, ym_21, ym_22, ym_23, ym_24, ym_25, ym_26, ym_27, ym_28, ym_29, ym_30, rm__0, rm__1, rm__2, rm__3, rm__4, rm__5, rm__6, rm__7, rm__8, rm__9, rm__10, rm__11, rm__12, rm__13, rm__14, rm__15, rm__16, rm__17, rm__18, rm__19, rm__20, rm__21, rm__22, rm__23, rm__24, rm__25, rm__26, rm__27, rm__28, rm__29, rm__30, rm__31, rm__32, rm__33, rm__34, rm__35, rm__36, rm__37, rm__38, rm__39, rm__40, rm__41, rm__42, rm__43, rm__44, rm__45, un_X5_in]
  try simp only [iteP, Classical.not_not, b1_0, b1_1]
  refine ⟨fun z => ?_, fun z => ⟨fun z2 => ?_, fun z2 => ?_⟩⟩
  · rw [if_neg (fun q => z q.1)] at h; exact h M L hR
  · rw [if_neg (fun q => z2 q.2)] at h; exact h M L hR
  · rw [if_pos ⟨z, z2⟩] at h
    have hv : vp_in p 6 := vp_in_iff.2 (by omega)
    refine ⟨hv, hv, ?_⟩
    rw [a19]
    exact h _ L ⟨r1, ⟨a1, a2, a12, a13, a14, a15, a16, a17, a18, by show ma_up M 19 _ v 19 = ma_up (sN x) 19 _ v 19; rw [ma_up_at, ma_up_at, a19]; rfl, a20⟩, r3.to rfl (fun a z1 z2 => up_c (by omega)), r4.1, r4.2.to rfl rfl⟩
theorem pv_X5_pace : ∀ as M L K, S_X5_pace as M L K → ma_rn (tb_X5_pace S_X5_in) 4 as M L K := by
  intro as M L K h
  unfold S_X5_pace at h
  split at h
  · obtain ⟨x, h⟩ := h; exact pw_X5_pace h.1 h.2
  · exact h.elim
theorem J_pace {p v : Int32} {x : St} (h : J x) : J (oPace p v x).2 := by
  unfold oPace
  split
  · next c =>
    obtain ⟨h1, ⟨a1, a2, a3, a4, a5⟩, h3, h4⟩ := h
    refine ⟨h1, ⟨a1, a2, a3, fun q hq => ?_, a5⟩, h3, h4⟩
    show ∃ v', 1 ≤ v' ∧ v' ≤ 20 ∧ ma_up (sN x) 19 (nat p) v 19 q = nI v'
    rw [ma_up_at]
    by_cases e : q = nat p
    · obtain ⟨m, em, hm, _⟩ := a_of (x := v) (by omega)
      exact ⟨m, by omega, by omega, by rw [e, pk_us]; exact em⟩
    · rw [pk_un e]; exact a4 q hq
  · exact h
