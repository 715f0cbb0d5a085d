/-! op: line (the model) -/
set_option maxRecDepth 100000
set_option maxHeartbeats 4000000
def S_X5_line : ma_Cs := fun as M L K => match as with
  | [.ref k, .int l, .int w] => ∃ (x : St), (k = 0 ∧ J x ∧ RY M L x) ∧ (∀ (M' : ZM), RY M' L x → K (some (.int (oLine l w x))) M' L)
  | _ => False
theorem ms_X5_line : ma_ms S_X5_line := by
  intro as M L K K' hk h
  unfold S_X5_line at h ⊢
  split at h
  · obtain ⟨x, h⟩ := h
    exact ⟨x, h.1, fun x0 x1 => hk _ _ _ (h.2 x0 x1)⟩
  · exact h.elim
theorem un_X5_line {k : Nat} {l : Int32} {w : Int32} {M : ZM} {L : ZL} {K : ma_Kt} : S_X5_line [.ref k, .int l, .int w] M L K = (∃ (x : St), (k = 0 ∧ J x ∧ RY M L x) ∧ (∀ (M' : ZM), RY M' L x → K (some (.int (oLine l w x))) M' L)) := rfl
theorem pw_X5_line {k : Nat} {l : Int32} {w : Int32} {x : St} {M : ZM} {L : ZL} {K : ma_Kt} (hp : k = 0 ∧ J x ∧ RY M L x) (h : (∀ (M' : ZM), RY M' L x → K (some (.int (oLine l w x))) M' L)) : ma_rn (tb_X5_line S_X5_isLetter S_X5_in S_X5_hasProduct) 3 [.ref k, .int l, .int w] M L K := by
  refine ⟨Nat.le_of_ble_eq_true rfl, fun V hV => ?_⟩
  obtain ⟨rfl, hJ, hR⟩ := hp
  have hP := hR.2.2.1
  have hVq := hJ.2.2.1.1
  have l4 := hVq.1.2.1
  unfold oLine at h
  by_cases z : 0 ≤ l.toInt ∧ l.toInt ≤ 3
  · obtain ⟨m, em, hm, bm⟩ := a_of z.1
    have nm' : nat l = m := by unfold nat; rw [em, a_cl bm]
    have m4 : m < 4 := by omega
    have l8 : vp_in (nI m) 8 := vp_in_nI (by omega) (by decide)
    have cl := a_cl (show m < 2147483648 by omega)
    by_cases z2 : 0 ≤ w.toInt ∧ w.toInt ≤ 4
    · rw [if_pos ⟨z, z2⟩, nm'] at h
      rw [em]
      have zm : (0 ≤ (nI m).toInt ∧ (nI m).toInt ≤ 3) = True := eq_true (by rw [← em]; exact z)
      rcases lix_s (sp x).2 m with q | q
      · rw [if_pos q.1] at h
        generalize lix (sp x).2 m = i at *
        have hi := q.1
        have hL := hP.ln hi
        rw [q.2] at hL
        obtain ⟨e1, e2, e3, e4, e5, e6⟩ := hL
        have z3 : ¬ nI i < 0 := nI_pos (by omega)
        refine ma_walk (mo_X5_line ms_X5_isLetter ms_X5_in ms_X5_hasProduct) hV [] (fun F hF => ?_)
        simp only [tb_X5_line, hF, in_no, in_push, in_ild, in_lld, in_ald, in_ist, in_ast, in_lst, in_inc, in_iii, in_idv, in_ldv, in_lll, in_lli, in_lil, in_ii, in_il, in_li, in_ll, in_dup, in_dp2, q_if1, q_if2, in_go, in_sw, ma_sw, in_rv, in_ri, in_rz, in_rl, in_get, in_put, in_puz, in_iar, in_bar, in_lar, in_aar, in_iaw, in_baw, in_law, in_len, in_cpy, in_s1, in_s2, in_s3, in_v1, in_v2, in_v3, in_v4, in_v5, in_v6, ma_bk, ma_gl, ma_sl, ma_nl, ma_wc, ma_wd, ma_nn, ma_en, List.mem_cons, List.not_mem_nil, or_false, or_true, true_or, false_or, true_and, and_true, false_and, and_false, if_true, if_false, forall_const, true_implies, false_implies, not_true_eq_false, not_false_eq_true, Classical.not_not, implies_true, and_self, Nat.add_zero, Nat.zero_add, eq_self, ne_eq, reduceCtorEq, Nat.reduceLT, Nat.reduceLeDiff, Nat.reduceEqDiff, Nat.reduceSub, Nat.reduceAdd, i10, i01, im10, Int32.reduceLT, Int32.reduceLE, ↓reduceIte, reduceIte, up_r, uL_r, cp_r, Int32.toInt_toInt64, Int64.reduceToInt, Int32.reduceToInt, ↓b1_or, b1_0, b1_1, lc_lt, lc_le, lc_gt, lc_ge, lc_eq, ym_0, ym_1, ym_2, ym_3, ym_4, ym_5, ym_6, ym_7, ym_8, ym_9, ym_10, ym_11, ym_12, ym_13, ym_14, ym_15, ym_16, ym_17, ym_18, ym_19, ym_20, ym_21, ym_22, ym_23, ym_24, ym_25, ym_26, ym_27, ym_28, ym_29, ym_30, rm__0, rm__1, rm__2, rm__3, rm__4, rm__5, rm__6, rm__7, rm__8, rm__9, rm__10, rm__11, rm__12, rm__13, rm__14, rm__15, rm__16, rm__17, rm__18, rm__19, rm__20, rm__21, rm__22, rm__23, rm__24, rm__25, rm__26, rm__27, rm__28, rm__29, rm__30, rm__31, rm__32, rm__33, rm__34, rm__35, rm__36, rm__37, rm__38, rm__39, rm__40, rm__41, rm__42, rm__43, rm__44, rm__45, un_X5_isLetter, un_X5_in, un_X5_hasProduct, zm, eq_true z2, l8, cl, e2, e4, e5, e6, z3]
        try simp only [iteP, Classical.not_not, b1_0, b1_1]
        unfold aLine at h
        simp only [show Int32.ofNat 0 = 0 from rfl, show Int32.ofNat 1 = 1 from rfl, show Int32.ofNat 2 = 2 from rfl, show Int32.ofNat 3 = 3 from rfl]
        have g0 : (0 : Int32) ≤ nI i := nI_pos' (by omega)
        refine ⟨fun _ => ⟨fun y => ?_, fun y => ⟨fun y1 => ?_, fun y1 => ⟨fun y2 => ?_, fun y2 => ⟨fun y3 => ?_, fun y3 => ?_⟩⟩⟩⟩, fun y => absurd g0 y⟩
        · rw [if_pos y] at h; exact h M hR
        · rw [if_neg y, if_pos y1] at h; exact h M hR
        · rw [if_neg y, if_neg y1, if_pos y2] at h; exact h M hR
        · rw [if_neg y, if_neg y1, if_neg y2, if_pos y3] at h; exact h M hR
        · rw [if_neg y, if_neg y1, if_neg y2, if_neg y3] at h
          refine ⟨i, (sp x).1, (sp x).2, ⟨hi, by rw [q.2], hP, hVq.1⟩, fun y9 => ?_, fun y9 => ?_⟩
          · rw [b1_f y9] at h; exact h M hR
          · rw [b1_t y9] at h; exact h M hR
      · rw [if_neg (by omega)] at h
        have e2 := hP.no m4 q.2
        have g4 : ¬ (0 : Int32) ≤ -4 := by decide
        refine ma_walk (mo_X5_line ms_X5_isLetter ms_X5_in ms_X5_hasProduct) hV [] (fun F hF => ?_)
        simp only [tb_X5_line, hF, in_no, in_push, in_ild, in_lld, in_ald, in_ist, in_ast, in_lst, in_inc, in_iii, in_idv, in_ldv, in_lll, in_lli, in_lil, in_ii, in_il, in_li, in_ll, in_dup, in_dp2, q_if1, q_if2, in_go, in_sw, ma_sw, in_rv, in_ri, in_rz, in_rl, in_get, in_put, in_puz, in_iar, in_bar, in_lar, in_aar, in_iaw, in_baw, in_law, in_len, in_cpy, in_s1, in_s2, in_s3, in_v1, in_v2, in_v3, in_v4, in_v5, in_v6, ma_bk, ma_gl, ma_sl, ma_nl, ma_wc, ma_wd, ma_nn, ma_en, List.mem_cons, List.not_mem_nil, or_false, or_true, true_or, false_or, true_and, and_true, false_and, and_false, if_true, if_false, forall_const, true_implies, false_implies, not_true_eq_false, not_false_eq_true, Classical.not_not, implies_true, and_self, Nat.add_zero, Nat.zero_add, eq_self, ne_eq, reduceCtorEq, Nat.reduceLT, Nat.reduceLeDiff, Nat.reduceEqDiff, Nat.reduceSub, Nat.reduceAdd, i10, i01, im10, Int32.reduceLT, Int32.reduceLE, ↓reduceIte, reduceIte, up_r, uL_r, cp_r, Int32.toInt_toInt64, Int64.reduceToInt, Int32.reduceToInt, ↓b1_or, b1_0, b1_1, lc_lt, lc_le, lc_gt, lc_ge, lc_eq, ym_0, ym_1, ym_2, ym_3, ym_4, ym_5, ym_6, ym_7, ym_8, ym_9, ym_10, ym_11, ym_12, ym_13, ym_14, ym_15, ym_16, ym_17, ym_18, ym_19, ym_20, ym_21, ym_22, ym_23, ym_24, ym_25, ym_26, ym_27, ym_28, ym_29, ym_30, rm__0, rm__1, rm__2, rm__3, rm__4, rm__5, rm__6, rm__7, rm__8, rm__9, rm__10, rm__11, rm__12, rm__13, rm__14, rm__15, rm__16, rm__17, rm__18, rm__19, rm__20, rm__21, rm__22, rm__23, rm__24, rm__25, rm__26, rm__27, rm__28, rm__29, rm__30, rm__31, rm__32, rm__33, rm__34, rm__35, rm__36, rm__37, rm__38, rm__39, rm__40, rm__41, rm__42, rm__43, rm__44, rm__45, un_X5_isLetter, un_X5_in, un_X5_hasProduct, zm, eq_true z2, l8, cl, e2, g4]
        try simp only [iteP, Classical.not_not, b1_0, b1_1]
        exact h M hR
    · rw [if_neg (fun y => z2 y.2)] at h
      refine ma_walk (mo_X5_line ms_X5_isLetter ms_X5_in ms_X5_hasProduct) hV [] (fun F hF => ?_)
      simp only [tb_X5_line, hF, in_no, in_push, in_ild, in_lld, in_ald, in_ist, in_ast, in_lst, in_inc, in_iii, in_idv, in_ldv, in_lll, in_lli, in_lil, in_ii, in_il, in_li, in_ll, in_dup, in_dp2, q_if1, q_if2, in_go, in_sw, ma_sw, in_rv, in_ri, in_rz, in_rl, in_get, in_put, in_puz, in_iar, in_bar, in_lar, in_aar, in_iaw, in_baw, in_law, in_len, in_cpy, in_s1, in_s2, in_s3, in_v1, in_v2, in_v3, in_v4, in_v5, in_v6, ma_bk, ma_gl, ma_sl, ma_nl, ma_wc, ma_wd, ma_nn, ma_en, List.mem_cons, List.not_mem_nil, or_false, or_true, true_or, false_or, true_and, and_true, false_and, and_false, if_true, if_false, forall_const, true_implies, false_implies, not_true_eq_false, not_false_eq_true, Classical.not_not, implies_true, and_self, Nat.add_zero, Nat.zero_add, eq_self, ne_eq, reduceCtorEq, Nat.reduceLT, Nat.reduceLeDiff, Nat.reduceEqDiff, Nat.reduceSub, Nat.reduceAdd, i10, i01, im10, Int32.reduceLT, Int32.reduceLE, ↓reduceIte, reduceIte, up_r, uL_r, cp_r, Int32.toInt_toInt64, Int64.reduceToInt, Int32.reduceToInt, ↓b1_or, b1_0, b1_1, lc_lt, lc_le, lc_gt, lc_ge, lc_eq, ym_0, ym_1, ym_2, ym_3, ym_4, ym_5, ym_6, ym_7, ym_8, ym_9, ym_10, ym_11, ym_12, ym_13, ym_14, ym_15, ym_16, ym_17, ym_18, ym_19, ym_20, ym_21, ym_22, ym_23, ym_24, ym_25, ym_26, ym_27, ym_28, ym_29, ym_30, rm__0, rm__1, rm__2, rm__3, rm__4, rm__5, rm__6, rm__7, rm__8, rm__9, rm__10, rm__11, rm__12, rm__13, rm__14, rm__15, rm__16, rm__17, rm__18, rm__19, rm__20, rm__21, rm__22, rm__23, rm__24, rm__25, rm__26, rm__27, rm__28, rm__29, rm__30, rm__31, rm__32, rm__33, rm__34, rm__35, rm__36, rm__37, rm__38, rm__39, rm__40, rm__41, rm__42, rm__43, rm__44, rm__45, un_X5_isLetter, un_X5_in, un_X5_hasProduct, eq_true z, z2]
      try simp only [iteP, Classical.not_not, b1_0, b1_1]
      exact h M hR
  · rw [if_neg (fun y => z y.1)] at h
    refine ma_walk (mo_X5_line ms_X5_isLetter ms_X5_in ms_X5_hasProduct) hV [] (fun F hF => ?_)
    simp only [tb_X5_line, hF, in_no, in_push, in_ild, in_lld, in_ald, in_ist, in_ast, in_lst, in_inc, in_iii, in_idv, in_ldv, in_lll, in_lli, in_lil, in_ii, in_il, in_li, in_ll, in_dup, in_dp2, q_if1, q_if2, in_go, in_sw, ma_sw, in_rv, in_ri, in_rz, in_rl, in_get, in_put, in_puz, in_iar, in_bar, in_lar, in_aar, in_iaw, in_baw, in_law, in_len, in_cpy, in_s1, in_s2, in_s3, in_v1, in_v2, in_v3, in_v4, in_v5, in_v6, ma_bk, ma_gl, ma_sl, ma_nl, ma_wc, ma_wd, ma_nn, ma_en, List.mem_cons, List.not_mem_nil, or_false, or_true, true_or, false_or, true_and, and_true, false_and, and_false, if_true, if_false, forall_const, true_implies, false_implies, not_true_eq_false, not_false_eq_true, Classical.not_not, implies_true, and_self, Nat.add_zero, Nat.zero_add, eq_self, ne_eq, reduceCtorEq, Nat.reduceLT, Nat.reduceLeDiff, Nat.reduceEqDiff, Nat.reduceSub, Nat.reduceAdd, i10, i01, im10, Int32.reduceLT, Int32.reduceLE, ↓reduceIte, reduceIte, up_r, uL_r, cp_r, Int32.toInt_toInt64, Int64.reduceToInt, Int32.reduceToInt, ↓b1_or, b1_0, b1_1, lc_lt, lc_le, lc_gt, lc_ge, lc_eq, ym_0, ym_1, ym_2, ym_3, ym_4, ym_5, ym_6, ym_7, ym_8, ym_9, ym_10, ym_11, ym_12, ym_13, ym_14, ym_15, ym_16, ym_17, ym_18, ym_19, ym_20, ym_21, ym_22, ym_23, ym_24, ym_25, ym_26, ym_27, ym_28, ym_29, ym_30, rm__0, rm__1, rm__2, rm__3, rm__4, rm__5, rm__6, rm__7, rm__8, rm__9, rm__10, rm__11, rm__12, rm__13, rm__14, rm__15, rm__16, rm__17, rm__18, rm__19, rm__20, rm__21, rm__22, rm__23, rm__24, rm__25, rm__26, rm__27, rm__28, rm__29, rm__30, rm__31, rm__32, rm__33, rm__34, rm__35, rm__36, rm__37, rm__38, rm__39, rm__40, rm__41, rm__42, rm__43, rm__44, rm__45, un_X5_isLetter, un_X5_in, un_X5_hasProduct, z]
    try simp only [iteP, Classical.not_not, b1_0, b1_1]
    exact h M hR
theorem pv_X5_line : ∀ as M L K, S_X5_line as M L K → ma_rn (tb_X5_line S_X5_isLetter S_X5_in S_X5_hasProduct) 3 as M L K := by
  intro as M L K h
  unfold S_X5_line at h
  split at h
  · obtain ⟨x, h⟩ := h; exact pw_X5_line h.1 h.2
  · exact h.elim
