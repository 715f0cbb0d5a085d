/-! the greatest end, own ends, people by a number (the model); lines' products, factors -/
set_option maxRecDepth 100000
set_option maxHeartbeats 4000000
def S_X5_lastOf : ma_Cs := fun as M L K => match as with
  | [.ref k, .int ss] => ∃ (s : Nat) (q : Nat) (f : Nat → Nat), (k = 0 ∧ ss = nI s ∧ s < 13 ∧ M 0 0 * M 0 1 = nI q ∧ q ≤ 36 ∧ (∀ c, c < q → M 28 (36 * s + c) = nI (f c) ∧ f c < 100000)) ∧ (K (some (.int (nI (mxv f q)))) M L)
  | _ => False
theorem ms_X5_lastOf : ma_ms S_X5_lastOf := by
  intro as M L K K' hk h
  unfold S_X5_lastOf at h ⊢
  split at h
  · obtain ⟨s, q, f, h⟩ := h
    exact ⟨s, q, f, h.1, hk _ _ _ h.2⟩
  · exact h.elim
theorem un_X5_lastOf {k : Nat} {ss : Int32} {M : ZM} {L : ZL} {K : ma_Kt} : S_X5_lastOf [.ref k, .int ss] M L K = (∃ (s : Nat) (q : Nat) (f : Nat → Nat), (k = 0 ∧ ss = nI s ∧ s < 13 ∧ M 0 0 * M 0 1 = nI q ∧ q ≤ 36 ∧ (∀ c, c < q → M 28 (36 * s + c) = nI (f c) ∧ f c < 100000)) ∧ (K (some (.int (nI (mxv f q)))) M L)) := rfl
theorem pw_X5_lastOf {k : Nat} {ss : Int32} {s : Nat} {q : Nat} {f : Nat → Nat} {M : ZM} {L : ZL} {K : ma_Kt} (hp : k = 0 ∧ ss = nI s ∧ s < 13 ∧ M 0 0 * M 0 1 = nI q ∧ q ≤ 36 ∧ (∀ c, c < q → M 28 (36 * s + c) = nI (f c) ∧ f c < 100000)) (h : (K (some (.int (nI (mxv f q)))) M L)) : ma_rn (tb_X5_lastOf S_X5_cells) 4 [.ref k, .int ss] M L K := by
  refine ⟨Nat.le_of_ble_eq_true rfl, fun V hV => ?_⟩
  obtain ⟨rfl, rfl, hs, m0, hq, hf⟩ := hp
  have hb : ∀ n, n ≤ q → mxv f n < 100000 := by
    intro n
    induction n with
    | zero => intro _; rw [mxv]; omega
    | succ n ih =>
      intro hn
      have := ih (by omega)
      have := (hf n (by omega)).2
      rw [mxv]; split <;> omega
  have lp : ∀ c, c ≤ q → V 4 [some (.ref 0), some (.int (nI s)), some (.int (nI (mxv f c))), some (.int (nI c))] [] M L := by
    refine lp_up ?_ ?_
    · refine ma_walk (mo_X5_lastOf ms_X5_cells) hV [4] (fun F hF => ?_)
      simp only [tb_X5_lastOf, hF, in_no, in_push, in_ild, in_lld, in_ald, in_ist, in_ast, in_lst, in_inc, in_iii, in_idv, in_ldv, in_lll, in_lli, in_lil, in_ii, in_il, in_li, in_ll, in_dup, in_dp2, q_if1, q_if2, in_go, in_sw, ma_sw, in_rv, in_ri, in_rz, in_rl, in_get, in_put, in_puz, in_iar, in_bar, in_lar, in_aar, in_iaw, in_baw, in_law, in_len, in_cpy, in_s1, in_s2, in_s3, in_v1, in_v2, in_v3, in_v4, in_v5, in_v6, ma_bk, ma_gl, ma_sl, ma_nl, ma_wc, ma_wd, ma_nn, ma_en, List.mem_cons, List.not_mem_nil, or_false, or_true, true_or, false_or, true_and, and_true, false_and, and_false, if_true, if_false, forall_const, true_implies, false_implies, not_true_eq_false, not_false_eq_true, Classical.not_not, implies_true, and_self, Nat.add_zero, Nat.zero_add, eq_self, ne_eq, reduceCtorEq, Nat.reduceLT, Nat.reduceLeDiff, Nat.reduceEqDiff, Nat.reduceSub, Nat.reduceAdd, i10, i01, im10, Int32.reduceLT, Int32.reduceLE, ↓reduceIte, reduceIte, up_r, uL_r, cp_r, Int32.toInt_toInt64, Int64.reduceToInt, Int32.reduceToInt, ↓b1_or, b1_0, b1_1, lc_lt, lc_le, lc_gt, lc_ge, lc_eq, ym_0, ym_1, ym_2, ym_3, ym_4, ym_5, ym_6, ym_7, ym_8, ym_9, ym_10, ym_11, ym_12, ym_13, ym_14, ym_15, ym_16, ym_17, ym_18, ym_19, ym_20, ym_21, ym_22, ym_23, ym_24, ym_25, ym_26, ym_27, ym_28, ym_29, ym_30, rm__0, rm__1, rm__2, rm__3, rm__4, rm__5, rm__6, rm__7, rm__8, rm__9, rm__10, rm__11, rm__12, rm__13, rm__14, rm__15, rm__16, rm__17, rm__18, rm__19, rm__20, rm__21, rm__22, rm__23, rm__24, rm__25, rm__26, rm__27, rm__28, rm__29, rm__30, rm__31, rm__32, rm__33, rm__34, rm__35, rm__36, rm__37, rm__38, rm__39, rm__40, rm__41, rm__42, rm__43, rm__44, rm__45, un_X5_cells, m0]
      try simp only [iteP, Classical.not_not, b1_0, b1_1]
      exact ⟨fun _ => h, fun z => absurd (nI_le (Nat.le_refl _) (by omega)) z⟩
    · intro c hc ih
      have e1 := hf c hc
      have hb := hb c (by omega)
      have v1 : vp_in (nI (36 * s + c)) 468 := vp_in_nI (by omega) (by decide)
      have c1 := a_cl (show 36 * s + c < 2147483648 by omega)
      rw [mxv] at ih
      refine ma_walk (mo_X5_lastOf ms_X5_cells) hV [4] (fun F hF => ?_)
      simp only [tb_X5_lastOf, hF, in_no, in_push, in_ild, in_lld, in_ald, in_ist, in_ast, in_lst, in_inc, in_iii, in_idv, in_ldv, in_lll, in_lli, in_lil, in_ii, in_il, in_li, in_ll, in_dup, in_dp2, q_if1, q_if2, in_go, in_sw, ma_sw, in_rv, in_ri, in_rz, in_rl, in_get, in_put, in_puz, in_iar, in_bar, in_lar, in_aar, in_iaw, in_baw, in_law, in_len, in_cpy, in_s1, in_s2, in_s3, in_v1, in_v2, in_v3, in_v4, in_v5, in_v6, ma_bk, ma_gl, ma_sl, ma_nl, ma_wc, ma_wd, ma_nn, ma_en, List.mem_cons, List.not_mem_nil, or_false, or_true, true_or, false_or, true_and, and_true, false_and, and_false, if_true, if_false, forall_const, true_implies, false_implies, not_true_eq_false, not_false_eq_true, Classical.not_not, implies_true, and_self, Nat.add_zero, Nat.zero_add, eq_self, ne_eq, reduceCtorEq, Nat.reduceLT, Nat.reduceLeDiff, Nat.reduceEqDiff, Nat.reduceSub, Nat.reduceAdd, i10, i01, im10, Int32.reduceLT, Int32.reduceLE, ↓reduceIte, reduceIte, up_r, uL_r, cp_r, Int32.toInt_toInt64, Int64.reduceToInt, Int32.reduceToInt, ↓b1_or, b1_0, b1_1, lc_lt, lc_le, lc_gt, lc_ge, lc_eq, ym_0, ym_1, ym_2, ym_3, ym_4, ym_5, ym_6, ym_7, ym_8, ym_9, ym_10, ym_11, ym_12, ym_13, ym_14, ym_15, ym_16, ym_17, ym_18, ym_19, ym_20, ym_21, ym_22, ym_23, ym_24, ym_25, ym_26, ym_27, ym_28, ym_29, ym_30, rm__0, rm__1, rm__2, rm__3, rm__4, rm__5, rm__6, rm__7, rm__8, rm__9, rm__10, rm__11, rm__12, rm__13, rm__14, rm__15, rm__16, rm__17, rm__18, rm__19, rm__20, rm__21, rm__22, rm__23, rm__24, rm__25, rm__26, rm__27, rm__28, rm__29, rm__30, rm__31, rm__32, rm__33, rm__34, rm__35, rm__36, rm__37, rm__38, rm__39, rm__40, rm__41, rm__42, rm__43, rm__44, rm__45, un_X5_cells, m0, i36', v1, c1, e1.1, nI_1]
      try simp only [iteP, Classical.not_not, b1_0, b1_1]
      rw [a_le (by omega) (by omega), a_le (by omega) (by omega)]
      refine ⟨fun z => absurd z (by omega), fun _ => ⟨fun z => ?_, fun z => ?_⟩⟩
      · rw [if_neg (by omega)] at ih; exact ih
      · rw [if_pos (by omega)] at ih; exact ih
  refine ma_walk (mo_X5_lastOf ms_X5_cells) hV [4] (fun F hF => ?_)
  simp only [tb_X5_lastOf, hF, in_no, in_push, in_ild, in_lld, in_ald, in_ist, in_ast, in_lst, in_inc, in_iii, in_idv, in_ldv, in_lll, in_lli, in_lil, in_ii, in_il, in_li, in_ll, in_dup, in_dp2, q_if1, q_if2, in_go, in_sw, ma_sw, in_rv, in_ri, in_rz, in_rl, in_get, in_put, in_puz, in_iar, in_bar, in_lar, in_aar, in_iaw, in_baw, in_law, in_len, in_cpy, in_s1, in_s2, in_s3, in_v1, in_v2, in_v3, in_v4, in_v5, in_v6, ma_bk, ma_gl, ma_sl, ma_nl, ma_wc, ma_wd, ma_nn, ma_en, List.mem_cons, List.not_mem_nil, or_false, or_true, true_or, false_or, true_and, and_true, false_and, and_false, if_true, if_false, forall_const, true_implies, false_implies, not_true_eq_false, not_false_eq_true, Classical.not_not, implies_true, and_self, Nat.add_zero, Nat.zero_add, eq_self, ne_eq, reduceCtorEq, Nat.reduceLT, Nat.reduceLeDiff, Nat.reduceEqDiff, Nat.reduceSub, Nat.reduceAdd, i10, i01, im10, Int32.reduceLT, Int32.reduceLE, ↓reduceIte, reduceIte, up_r, uL_r, cp_r, Int32.toInt_toInt64, Int64.reduceToInt, Int32.reduceToInt, ↓b1_or, b1_0, b1_1, lc_lt, lc_le, lc_gt, lc_ge, lc_eq, ym_0, ym_1, ym_2, ym_3, ym_4, ym_5, ym_6, ym_7, ym_8, ym_9, ym_10, ym_11, ym_12, ym_13, ym_14, ym_15, ym_16, ym_17, ym_18, ym_19, ym_20, ym_21, ym_22, ym_23, ym_24, ym_25, ym_26, ym_27, ym_28, ym_29, ym_30, rm__0, rm__1, rm__2, rm__3, rm__4, rm__5, rm__6, rm__7, rm__8, rm__9, rm__10, rm__11, rm__12, rm__13, rm__14, rm__15, rm__16, rm__17, rm__18, rm__19, rm__20, rm__21, rm__22, rm__23, rm__24, rm__25, rm__26, rm__27, rm__28, rm__29, rm__30, rm__31, rm__32, rm__33, rm__34, rm__35, rm__36, rm__37, rm__38, rm__39, rm__40, rm__41, rm__42, rm__43, rm__44, rm__45, un_X5_cells]
  try simp only [iteP, Classical.not_not, b1_0, b1_1]
  exact lp 0 (Nat.zero_le _)
theorem pv_X5_lastOf : ∀ as M L K, S_X5_lastOf as M L K → ma_rn (tb_X5_lastOf S_X5_cells) 4 as M L K := by
  intro as M L K h
  unfold S_X5_lastOf at h
  split at h
  · obtain ⟨s, q, f, h⟩ := h; exact pw_X5_lastOf h.1 h.2
  · exact h.elim
def S_X5_ownEnds : ma_Cs := fun as M L K => match as with
  | [.ref k] => ∃ (w : Nat) (u : Nat) (e : Nat) (wk : Nat) (bb : Nat → Nat) (pc : Nat → Nat), (k = 0 ∧ M 0 0 = nI w ∧ M 0 1 = nI u ∧ M 0 2 = nI e ∧ Sh w u e 0 0 ∧ M 0 3 = nI wk ∧ Pe (w * u) wk bb pc ∧ (∀ c, c < w * u → M 20 c = nI (bb c)) ∧ (∀ p, p < 6 → M 19 p = nI (pc p))) ∧ (∀ (M' : ZM), (∀ x, x ≠ 0 → x ≠ 28 → x ≠ 29 → x ≠ 30 → M' x = M x) → (∀ j, j ≠ 35 → j ≠ 36 → M' 0 j = M 0 j) → (∀ s c, s ≤ 12 → c < w * u → M' 28 (36 * s + c) = nI ((es w u e wk bb pc s).1 c)) → K none M' L)
  | _ => False
theorem ms_X5_ownEnds : ma_ms S_X5_ownEnds := by
  intro as M L K K' hk h
  unfold S_X5_ownEnds at h ⊢
  split at h
  · obtain ⟨w, u, e, wk, bb, pc, h⟩ := h
    exact ⟨w, u, e, wk, bb, pc, h.1, fun x0 x1 x2 x3 => hk _ _ _ (h.2 x0 x1 x2 x3)⟩
  · exact h.elim
theorem un_X5_ownEnds {k : Nat} {M : ZM} {L : ZL} {K : ma_Kt} : S_X5_ownEnds [.ref k] M L K = (∃ (w : Nat) (u : Nat) (e : Nat) (wk : Nat) (bb : Nat → Nat) (pc : Nat → Nat), (k = 0 ∧ M 0 0 = nI w ∧ M 0 1 = nI u ∧ M 0 2 = nI e ∧ Sh w u e 0 0 ∧ M 0 3 = nI wk ∧ Pe (w * u) wk bb pc ∧ (∀ c, c < w * u → M 20 c = nI (bb c)) ∧ (∀ p, p < 6 → M 19 p = nI (pc p))) ∧ (∀ (M' : ZM), (∀ x, x ≠ 0 → x ≠ 28 → x ≠ 29 → x ≠ 30 → M' x = M x) → (∀ j, j ≠ 35 → j ≠ 36 → M' 0 j = M 0 j) → (∀ s c, s ≤ 12 → c < w * u → M' 28 (36 * s + c) = nI ((es w u e wk bb pc s).1 c)) → K none M' L)) := rfl
theorem pw_X5_ownEnds {k : Nat} {w : Nat} {u : Nat} {e : Nat} {wk : Nat} {bb : Nat → Nat} {pc : Nat → Nat} {M : ZM} {L : ZL} {K : ma_Kt} (hp : k = 0 ∧ M 0 0 = nI w ∧ M 0 1 = nI u ∧ M 0 2 = nI e ∧ Sh w u e 0 0 ∧ M 0 3 = nI wk ∧ Pe (w * u) wk bb pc ∧ (∀ c, c < w * u → M 20 c = nI (bb c)) ∧ (∀ p, p < 6 → M 19 p = nI (pc p))) (h : (∀ (M' : ZM), (∀ x, x ≠ 0 → x ≠ 28 → x ≠ 29 → x ≠ 30 → M' x = M x) → (∀ j, j ≠ 35 → j ≠ 36 → M' 0 j = M 0 j) → (∀ s c, s ≤ 12 → c < w * u → M' 28 (36 * s + c) = nI ((es w u e wk bb pc s).1 c)) → K none M' L)) : ma_rn (tb_X5_ownEnds S_X5_ends) 2 [.ref k] M L K := by
  refine ⟨Nat.le_of_ble_eq_true rfl, fun V hV => ?_⟩
  obtain ⟨rfl, m0, m1, m2, hs, m3, hPe, hby, hpc⟩ := hp
  obtain ⟨s1, s2, s3, s4, s5, s6, s7⟩ := id hs
  have h36 := Nat.mul_le_mul (Nat.le_of_lt_succ s2) (Nat.le_of_lt_succ s4)
  have lp : ∀ j, j ≤ 36 → ∀ M1 : ZM, (∀ x, x ≠ 28 → x ≠ 29 → M1 x = M x) → (∀ c, c < j → M1 29 c = M 20 c ∧ M1 28 c = 0) → V 2 [some (.ref 0), some (.int (nI j))] [] M1 L := by
    refine lp_up ?_ ?_
    · intro M1 e1 e2
      have g0 : M1 0 = M 0 := e1 0 (by decide) (by decide)
      have g19 : M1 19 = M 19 := e1 19 (by decide) (by decide)
      refine ma_walk (mo_X5_ownEnds ms_X5_ends) hV [2] (fun F hF => ?_)
      simp only [tb_X5_ownEnds, hF, in_no, in_push, in_ild, in_lld, in_ald, in_ist, in_ast, in_lst, in_inc, in_iii, in_idv, in_ldv, in_lll, in_lli, in_lil, in_ii, in_il, in_li, in_ll, in_dup, in_dp2, q_if1, q_if2, in_go, in_sw, ma_sw, in_rv, in_ri, in_rz, in_rl, in_get, in_put, in_puz, in_iar, in_bar, in_lar, in_aar, in_iaw, in_baw, in_law, in_len, in_cpy, in_s1, in_s2, in_s3, in_v1, in_v2, in_v3, in_v4, in_v5, in_v6, ma_bk, ma_gl, ma_sl, ma_nl, ma_wc, ma_wd, ma_nn, ma_en, List.mem_cons, List.not_mem_nil, or_false, or_true, true_or, false_or, true_and, and_true, false_and, and_false, if_true, if_false, forall_const, true_implies, false_implies, not_true_eq_false, not_false_eq_true, Classical.not_not, implies_true, and_self, Nat.add_zero, Nat.zero_add, eq_self, ne_eq, reduceCtorEq, Nat.reduceLT, Nat.reduceLeDiff, Nat.reduceEqDiff, Nat.reduceSub, Nat.reduceAdd, i10, i01, im10, Int32.reduceLT, Int32.reduceLE, ↓reduceIte, reduceIte, up_r, uL_r, cp_r, Int32.toInt_toInt64, Int64.reduceToInt, Int32.reduceToInt, ↓b1_or, b1_0, b1_1, lc_lt, lc_le, lc_gt, lc_ge, lc_eq, ym_0, ym_1, ym_2, ym_3, ym_4, ym_5, ym_6, ym_7, ym_8, ym_9, ym_10, ym_11, ym_12, ym_13, ym_14, ym_15, ym_16, ym_17, ym_18, ym_19, ym_20, ym_21, ym_22, ym_23, ym_24, ym_25, ym_26, ym_27, ym_28, ym_29, ym_30, rm__0, rm__1, rm__2, rm__3, rm__4, rm__5, rm__6, rm__7, rm__8, rm__9, rm__10, rm__11, rm__12, rm__13, rm__14, rm__15, rm__16, rm__17, rm__18, rm__19, rm__20, rm__21, rm__22, rm__23, rm__24, rm__25, rm__26, rm__27, rm__28, rm__29, rm__30, rm__31, rm__32, rm__33, rm__34, rm__35, rm__36, rm__37, rm__38, rm__39, rm__40, rm__41, rm__42, rm__43, rm__44, rm__45, un_X5_ends]
      try simp only [iteP, Classical.not_not, b1_0, b1_1]
      refine ⟨fun _ => ⟨w, u, e, wk, bb, pc, 12, ⟨by rw [g0]; exact m0, by rw [g0]; exact m1, by rw [g0]; exact m2, hs, by rw [g0]; exact m3, hPe, fun c hc => by rw [(e2 c (by omega)).1]; exact hby c hc, by rw [g19]; exact hpc, rfl, by omega⟩, fun M2 g1 g2 => ?_⟩, fun z => absurd (by decide) z⟩
      refine h M2 (fun x z0 z1 z2 z3 => (g1.1 x z0 z1 z3).trans (e1 x z1 z2)) (fun j z1 z2 => by rw [g1.2.1 j z1 z2, g0]) (fun s c h1 h2 => ?_)
      by_cases z : s = 0
      · subst z
        rw [show 36 * 0 + c = c by omega, g1.2.2.2.2 c (by omega), (e2 c (by omega)).2]; rfl
      · exact g2 s c (by omega) h1 h2
    · intro j hj ih M1 e1 e2
      have g20 : M1 20 = M 20 := e1 20 (by decide) (by decide)
      have v36 : vp_in (nI j) 36 := vp_in_nI hj (by decide)
      have v468 : vp_in (nI j) 468 := vp_in_nI (by omega) (by decide)
      have cj := a_cl (show j < 2147483648 by omega)
      refine ma_walk (mo_X5_ownEnds ms_X5_ends) hV [2] (fun F hF => ?_)
      simp only [tb_X5_ownEnds, hF, in_no, in_push, in_ild, in_lld, in_ald, in_ist, in_ast, in_lst, in_inc, in_iii, in_idv, in_ldv, in_lll, in_lli, in_lil, in_ii, in_il, in_li, in_ll, in_dup, in_dp2, q_if1, q_if2, in_go, in_sw, ma_sw, in_rv, in_ri, in_rz, in_rl, in_get, in_put, in_puz, in_iar, in_bar, in_lar, in_aar, in_iaw, in_baw, in_law, in_len, in_cpy, in_s1, in_s2, in_s3, in_v1, in_v2, in_v3, in_v4, in_v5, in_v6, ma_bk, ma_gl, ma_sl, ma_nl, ma_wc, ma_wd, ma_nn, ma_en, List.mem_cons, List.not_mem_nil, or_false, or_true, true_or, false_or, true_and, and_true, false_and, and_false, if_true, if_false, forall_const, true_implies, false_implies, not_true_eq_false, not_false_eq_true, Classical.not_not, implies_true, and_self, Nat.add_zero, Nat.zero_add, eq_self, ne_eq, reduceCtorEq, Nat.reduceLT, Nat.reduceLeDiff, Nat.reduceEqDiff, Nat.reduceSub, Nat.reduceAdd, i10, i01, im10, Int32.reduceLT, Int32.reduceLE, ↓reduceIte, reduceIte, up_r, uL_r, cp_r, Int32.toInt_toInt64, Int64.reduceToInt, Int32.reduceToInt, ↓b1_or, b1_0, b1_1, lc_lt, lc_le, lc_gt, lc_ge, lc_eq, ym_0, ym_1, ym_2, ym_3, ym_4, ym_5, ym_6, ym_7, ym_8, ym_9, ym_10, ym_11, ym_12, ym_13, ym_14, ym_15, ym_16, ym_17, ym_18, ym_19, ym_20, ym_21, ym_22, ym_23, ym_24, ym_25, ym_26, ym_27, ym_28, ym_29, ym_30, rm__0, rm__1, rm__2, rm__3, rm__4, rm__5, rm__6, rm__7, rm__8, rm__9, rm__10, rm__11, rm__12, rm__13, rm__14, rm__15, rm__16, rm__17, rm__18, rm__19, rm__20, rm__21, rm__22, rm__23, rm__24, rm__25, rm__26, rm__27, rm__28, rm__29, rm__30, rm__31, rm__32, rm__33, rm__34, rm__35, rm__36, rm__37, rm__38, rm__39, rm__40, rm__41, rm__42, rm__43, rm__44, rm__45, un_X5_ends, v36, v468, cj, g20, nI_1]
      try simp only [iteP, Classical.not_not, b1_0, b1_1]
      rw [show ((36 : Int32) ≤ nI j) = (36 ≤ j) from a_le (a := 36) (by omega) (by omega)]
      refine ⟨fun z => absurd z (by omega), fun _ => ih _ (fun x z1 z2 => by rw [up_c z1, up_c z2]; exact e1 x z1 z2) (fun c hc => ?_)⟩
      by_cases z : c = j
      · subst z
        exact ⟨by rw [up_c (by decide), up_r, if_pos ⟨rfl, rfl⟩], by rw [up_r, if_pos ⟨rfl, rfl⟩]⟩
      · have q := e2 c (by omega)
        exact ⟨by rw [up_c (by decide), up_r, if_neg (fun y => z y.2)]; exact q.1, by rw [up_r, if_neg (fun y => z y.2), up_c (by decide)]; exact q.2⟩
  refine ma_walk (mo_X5_ownEnds ms_X5_ends) hV [2] (fun F hF => ?_)
  simp only [tb_X5_ownEnds, hF, in_no, in_push, in_ild, in_lld, in_ald, in_ist, in_ast, in_lst, in_inc, in_iii, in_idv, in_ldv, in_lll, in_lli, in_lil, in_ii, in_il, in_li, in_ll, in_dup, in_dp2, q_if1, q_if2, in_go, in_sw, ma_sw, in_rv, in_ri, in_rz, in_rl, in_get, in_put, in_puz, in_iar, in_bar, in_lar, in_aar, in_iaw, in_baw, in_law, in_len, in_cpy, in_s1, in_s2, in_s3, in_v1, in_v2, in_v3, in_v4, in_v5, in_v6, ma_bk, ma_gl, ma_sl, ma_nl, ma_wc, ma_wd, ma_nn, ma_en, List.mem_cons, List.not_mem_nil, or_false, or_true, true_or, false_or, true_and, and_true, false_and, and_false, if_true, if_false, forall_const, true_implies, false_implies, not_true_eq_false, not_false_eq_true, Classical.not_not, implies_true, and_self, Nat.add_zero, Nat.zero_add, eq_self, ne_eq, reduceCtorEq, Nat.reduceLT, Nat.reduceLeDiff, Nat.reduceEqDiff, Nat.reduceSub, Nat.reduceAdd, i10, i01, im10, Int32.reduceLT, Int32.reduceLE, ↓reduceIte, reduceIte, up_r, uL_r, cp_r, Int32.toInt_toInt64, Int64.reduceToInt, Int32.reduceToInt, ↓b1_or, b1_0, b1_1, lc_lt, lc_le, lc_gt, lc_ge, lc_eq, ym_0, ym_1, ym_2, ym_3, ym_4, ym_5, ym_6, ym_7, ym_8, ym_9, ym_10, ym_11, ym_12, ym_13, ym_14, ym_15, ym_16, ym_17, ym_18, ym_19, ym_20, ym_21, ym_22, ym_23, ym_24, ym_25, ym_26, ym_27, ym_28, ym_29, ym_30, rm__0, rm__1, rm__2, rm__3, rm__4, rm__5, rm__6, rm__7, rm__8, rm__9, rm__10, rm__11, rm__12, rm__13, rm__14, rm__15, rm__16, rm__17, rm__18, rm__19, rm__20, rm__21, rm__22, rm__23, rm__24, rm__25, rm__26, rm__27, rm__28, rm__29, rm__30, rm__31, rm__32, rm__33, rm__34, rm__35, rm__36, rm__37, rm__38, rm__39, rm__40, rm__41, rm__42, rm__43, rm__44, rm__45, un_X5_ends]
  try simp only [iteP, Classical.not_not, b1_0, b1_1]
  exact lp 0 (by omega) M (fun _ _ _ => rfl) (fun c hc => absurd hc (Nat.not_lt_zero c))
theorem pv_X5_ownEnds : ∀ as M L K, S_X5_ownEnds as M L K → ma_rn (tb_X5_ownEnds S_X5_ends) 2 as M L K := by
  intro as M L K h
  unfold S_X5_ownEnds at h
  split at h
  · obtain ⟨w, u, e, wk, bb, pc, h⟩ := h; exact pw_X5_ownEnds h.1 h.2
  · exact h.elim
/-- a figure of a number by q, of n figures, the highest first -/
def fg (q n cd c : Nat) : Nat := cd / q ^ (n - 1 - c) % q
def S_X5_gives : ma_Cs := fun as M L K => match as with
  | [.ref k, .int qq, .int cc] => ∃ (q : Nat) (n : Nat) (cd : Nat), (k = 0 ∧ qq = nI q ∧ cc = nI cd ∧ 0 < q ∧ q < 4 ∧ cd < 100000 ∧ M 0 0 * M 0 1 = nI n ∧ n ≤ 36) ∧ (∀ (M' : ZM), (∀ x, x ≠ 29 → M' x = M x) → (∀ c, c < n → M' 29 c = nI (fg q n cd c)) → K none M' L)
  | _ => False
theorem ms_X5_gives : ma_ms S_X5_gives := by
  intro as M L K K' hk h
  unfold S_X5_gives at h ⊢
  split at h
  · obtain ⟨q, n, cd, h⟩ := h
    exact ⟨q, n, cd, h.1, fun x0 x1 x2 => hk _ _ _ (h.2 x0 x1 x2)⟩
  · exact h.elim
theorem un_X5_gives {k : Nat} {qq : Int32} {cc : Int32} {M : ZM} {L : ZL} {K : ma_Kt} : S_X5_gives [.ref k, .int qq, .int cc] M L K = (∃ (q : Nat) (n : Nat) (cd : Nat), (k = 0 ∧ qq = nI q ∧ cc = nI cd ∧ 0 < q ∧ q < 4 ∧ cd < 100000 ∧ M 0 0 * M 0 1 = nI n ∧ n ≤ 36) ∧ (∀ (M' : ZM), (∀ x, x ≠ 29 → M' x = M x) → (∀ c, c < n → M' 29 c = nI (fg q n cd c)) → K none M' L)) := rfl
theorem pw_X5_gives {k : Nat} {qq : Int32} {cc : Int32} {q : Nat} {n : Nat} {cd : Nat} {M : ZM} {L : ZL} {K : ma_Kt} (hp : k = 0 ∧ qq = nI q ∧ cc = nI cd ∧ 0 < q ∧ q < 4 ∧ cd < 100000 ∧ M 0 0 * M 0 1 = nI n ∧ n ≤ 36) (h : (∀ (M' : ZM), (∀ x, x ≠ 29 → M' x = M x) → (∀ c, c < n → M' 29 c = nI (fg q n cd c)) → K none M' L)) : ma_rn (tb_X5_gives S_X5_cells) 5 [.ref k, .int qq, .int cc] M L K := by
  refine ⟨Nat.le_of_ble_eq_true rfl, fun V hV => ?_⟩
  obtain ⟨rfl, rfl, rfl, hq0, hq, hcd, m0, hn⟩ := hp
  have q0 : (nI q = 0) = False := eq_false (nI_ne0 hq0 (by omega))
  have lp : ∀ j, j ≤ n → ∀ M1 : ZM, (∀ x, x ≠ 29 → M1 x = M x) → (∀ c, j ≤ c → c < n → M1 29 c = nI (fg q n cd c)) → V 10 [some (.ref 0), some (.int (nI q)), some (.int (nI cd)), some (.int (nI (cd / q ^ (n - j)))), some (.int (nI j - 1))] [] M1 L := by
    intro j
    induction j with
    | zero =>
      intro _ M1 e1 e2
      have z : nI 0 - 1 < 0 := by decide
      refine ma_walk (mo_X5_gives ms_X5_cells) hV [10] (fun F hF => ?_)
      simp only [tb_X5_gives, hF, in_no, in_push, in_ild, in_lld, in_ald, in_ist, in_ast, in_lst, in_inc, in_iii, in_idv, in_ldv, in_lll, in_lli, in_lil, in_ii, in_il, in_li, in_ll, in_dup, in_dp2, q_if1, q_if2, in_go, in_sw, ma_sw, in_rv, in_ri, in_rz, in_rl, in_get, in_put, in_puz, in_iar, in_bar, in_lar, in_aar, in_iaw, in_baw, in_law, in_len, in_cpy, in_s1, in_s2, in_s3, in_v1, in_v2, in_v3, in_v4, in_v5, in_v6, ma_bk, ma_gl, ma_sl, ma_nl, ma_wc, ma_wd, ma_nn, ma_en, List.mem_cons, List.not_mem_nil, or_false, or_true, true_or, false_or, true_and, and_true, false_and, and_false, if_true, if_false, forall_const, true_implies, false_implies, not_true_eq_false, not_false_eq_true, Classical.not_not, implies_true, and_self, Nat.add_zero, Nat.zero_add, eq_self, ne_eq, reduceCtorEq, Nat.reduceLT, Nat.reduceLeDiff, Nat.reduceEqDiff, Nat.reduceSub, Nat.reduceAdd, i10, i01, im10, Int32.reduceLT, Int32.reduceLE, ↓reduceIte, reduceIte, up_r, uL_r, cp_r, Int32.toInt_toInt64, Int64.reduceToInt, Int32.reduceToInt, ↓b1_or, b1_0, b1_1, lc_lt, lc_le, lc_gt, lc_ge, lc_eq, ym_0, ym_1, ym_2, ym_3, ym_4, ym_5, ym_6, ym_7, ym_8, ym_9, ym_10, ym_11, ym_12, ym_13, ym_14, ym_15, ym_16, ym_17, ym_18, ym_19, ym_20, ym_21, ym_22, ym_23, ym_24, ym_25, ym_26, ym_27, ym_28, ym_29, ym_30, rm__0, rm__1, rm__2, rm__3, rm__4, rm__5, rm__6, rm__7, rm__8, rm__9, rm__10, rm__11, rm__12, rm__13, rm__14, rm__15, rm__16, rm__17, rm__18, rm__19, rm__20, rm__21, rm__22, rm__23, rm__24, rm__25, rm__26, rm__27, rm__28, rm__29, rm__30, rm__31, rm__32, rm__33, rm__34, rm__35, rm__36, rm__37, rm__38, rm__39, rm__40, rm__41, rm__42, rm__43, rm__44, rm__45, un_X5_cells, z]
      try simp only [iteP, Classical.not_not, b1_0, b1_1]
      exact h M1 e1 (fun c hc => e2 c (Nat.zero_le _) hc)
    | succ j ih =>
      intro hj M1 e1 e2
      have z : ¬ nI j < 0 := nI_pos (by omega)
      have v36 : vp_in (nI j) 36 := vp_in_nI (by omega) (by decide)
      have cj := a_cl (show j < 2147483648 by omega)
      have hle : cd / q ^ (n - (j + 1)) < 100000 := Nat.lt_of_le_of_lt (Nat.div_le_self _ _) hcd
      have r1 : nI (cd / q ^ (n - (j + 1))) / nI q = nI (cd / q ^ (n - (j + 1)) / q) := pk_div (by omega) hq0 (by omega)
      have r2 : nI (cd / q ^ (n - (j + 1))) - nI (cd / q ^ (n - (j + 1)) / q) * nI q = nI (cd / q ^ (n - (j + 1)) % q) := by rw [← r1]; exact pk_rem (by omega) hq0 (by omega)
      have e0 : nI (j + 1) - 1 = nI j := nI_pred j
      have e9 : nI j + (-1) = nI j - 1 := (Int32.sub_eq_add_neg _ _).symm
      have hd : cd / q ^ (n - (j + 1)) / q = cd / q ^ (n - j) := by
        rw [Nat.div_div_eq_div_mul, ← Nat.pow_succ]; congr 2; omega
      refine ma_walk (mo_X5_gives ms_X5_cells) hV [10] (fun F hF => ?_)
      simp only [tb_X5_gives, hF, in_no, in_push, in_ild, in_lld, in_ald, in_ist, in_ast, in_lst, in_inc, in_iii, in_idv, in_ldv, in_lll, in_lli, in_lil, in_ii, in_il, in_li, in_ll, in_dup, in_dp2, q_if1, q_if2, in_go, in_sw, ma_sw, in_rv, in_ri, in_rz, in_rl, in_get, in_put, in_puz, in_iar, in_bar, in_lar, in_aar, in_iaw, in_baw, in_law, in_len, in_cpy, in_s1, in_s2, in_s3, in_v1, in_v2, in_v3, in_v4, in_v5, in_v6, ma_bk, ma_gl, ma_sl, ma_nl, ma_wc, ma_wd, ma_nn, ma_en, List.mem_cons, List.not_mem_nil, or_false, or_true, true_or, false_or, true_and, and_true, false_and, and_false, if_true, if_false, forall_const, true_implies, false_implies, not_true_eq_false, not_false_eq_true, Classical.not_not, implies_true, and_self, Nat.add_zero, Nat.zero_add, eq_self, ne_eq, reduceCtorEq, Nat.reduceLT, Nat.reduceLeDiff, Nat.reduceEqDiff, Nat.reduceSub, Nat.reduceAdd, i10, i01, im10, Int32.reduceLT, Int32.reduceLE, ↓reduceIte, reduceIte, up_r, uL_r, cp_r, Int32.toInt_toInt64, Int64.reduceToInt, Int32.reduceToInt, ↓b1_or, b1_0, b1_1, lc_lt, lc_le, lc_gt, lc_ge, lc_eq, ym_0, ym_1, ym_2, ym_3, ym_4, ym_5, ym_6, ym_7, ym_8, ym_9, ym_10, ym_11, ym_12, ym_13, ym_14, ym_15, ym_16, ym_17, ym_18, ym_19, ym_20, ym_21, ym_22, ym_23, ym_24, ym_25, ym_26, ym_27, ym_28, ym_29, ym_30, rm__0, rm__1, rm__2, rm__3, rm__4, rm__5, rm__6, rm__7, rm__8, rm__9, rm__10, rm__11, rm__12, rm__13, rm__14, rm__15, rm__16, rm__17, rm__18, rm__19, rm__20, rm__21, rm__22, rm__23, rm__24, rm__25, rm__26, rm__27, rm__28, rm__29, rm__30, rm__31, rm__32, rm__33, rm__34, rm__35, rm__36, rm__37, rm__38, rm__39, rm__40, rm__41, rm__42, rm__43, rm__44, rm__45, un_X5_cells, e0, z, v36, cj, q0, r1, r2, e9]
      try simp only [iteP, Classical.not_not, b1_0, b1_1]
      rw [hd]
      refine ih (by omega) _ (fun x z1 => by rw [up_c z1]; exact e1 x z1) (fun c hc1 hc2 => ?_)
      by_cases y : c = j
      · rw [y, up_r, if_pos ⟨rfl, rfl⟩, fg, show n - 1 - j = n - (j + 1) by omega]
      · rw [up_r, if_neg (fun z => y z.2)]; exact e2 c (by omega) hc2
  refine ma_walk (mo_X5_gives ms_X5_cells) hV [10] (fun F hF => ?_)
  simp only [tb_X5_gives, hF, in_no, in_push, in_ild, in_lld, in_ald, in_ist, in_ast, in_lst, in_inc, in_iii, in_idv, in_ldv, in_lll, in_lli, in_lil, in_ii, in_il, in_li, in_ll, in_dup, in_dp2, q_if1, q_if2, in_go, in_sw, ma_sw, in_rv, in_ri, in_rz, in_rl, in_get, in_put, in_puz, in_iar, in_bar, in_lar, in_aar, in_iaw, in_baw, in_law, in_len, in_cpy, in_s1, in_s2, in_s3, in_v1, in_v2, in_v3, in_v4, in_v5, in_v6, ma_bk, ma_gl, ma_sl, ma_nl, ma_wc, ma_wd, ma_nn, ma_en, List.mem_cons, List.not_mem_nil, or_false, or_true, true_or, false_or, true_and, and_true, false_and, and_false, if_true, if_false, forall_const, true_implies, false_implies, not_true_eq_false, not_false_eq_true, Classical.not_not, implies_true, and_self, Nat.add_zero, Nat.zero_add, eq_self, ne_eq, reduceCtorEq, Nat.reduceLT, Nat.reduceLeDiff, Nat.reduceEqDiff, Nat.reduceSub, Nat.reduceAdd, i10, i01, im10, Int32.reduceLT, Int32.reduceLE, ↓reduceIte, reduceIte, up_r, uL_r, cp_r, Int32.toInt_toInt64, Int64.reduceToInt, Int32.reduceToInt, ↓b1_or, b1_0, b1_1, lc_lt, lc_le, lc_gt, lc_ge, lc_eq, ym_0, ym_1, ym_2, ym_3, ym_4, ym_5, ym_6, ym_7, ym_8, ym_9, ym_10, ym_11, ym_12, ym_13, ym_14, ym_15, ym_16, ym_17, ym_18, ym_19, ym_20, ym_21, ym_22, ym_23, ym_24, ym_25, ym_26, ym_27, ym_28, ym_29, ym_30, rm__0, rm__1, rm__2, rm__3, rm__4, rm__5, rm__6, rm__7, rm__8, rm__9, rm__10, rm__11, rm__12, rm__13, rm__14, rm__15, rm__16, rm__17, rm__18, rm__19, rm__20, rm__21, rm__22, rm__23, rm__24, rm__25, rm__26, rm__27, rm__28, rm__29, rm__30, rm__31, rm__32, rm__33, rm__34, rm__35, rm__36, rm__37, rm__38, rm__39, rm__40, rm__41, rm__42, rm__43, rm__44, rm__45, un_X5_cells, m0]
  try simp only [iteP, Classical.not_not, b1_0, b1_1]
  have q9 := lp n (Nat.le_refl _) M (fun _ _ => rfl) (fun c h1 h2 => by omega)
  rw [Nat.sub_self, Nat.pow_zero, Nat.div_one] at q9
  exact q9
theorem pv_X5_gives : ∀ as M L K, S_X5_gives as M L K → ma_rn (tb_X5_gives S_X5_cells) 5 as M L K := by
  intro as M L K h
  unfold S_X5_gives at h
  split at h
  · obtain ⟨q, n, cd, h⟩ := h; exact pw_X5_gives h.1 h.2
  · exact h.elim
def hpr (ts : List Tm) (a n : Nat) : Prop := ∃ t, a ≤ t ∧ t < a + n ∧ ¬ (ts.getD t (0, 0, none)).2.2 = none
theorem hpr_0 {ts : List Tm} {a : Nat} : ¬ hpr ts a 0 := fun ⟨t, h1, h2, _⟩ => by omega
theorem hpr_s {ts : List Tm} {a n : Nat} : hpr ts a (n + 1) ↔ (hpr ts a n ∨ ¬ (ts.getD (a + n) (0, 0, none)).2.2 = none) := by
  constructor
  · intro ⟨t, h1, h2, h3⟩
    by_cases c : t = a + n
    · rw [c] at h3; exact Or.inr h3
    · exact Or.inl ⟨t, h1, by omega, h3⟩
  · intro h
    rcases h with ⟨t, h1, h2, h3⟩ | h
    · exact ⟨t, h1, by omega, h3⟩
    · exact ⟨a + n, by omega, by omega, h⟩
def S_X5_hasProduct : ma_Cs := fun as M L K => match as with
  | [.ref k, .int ll] => ∃ (i : Nat) (ts : List Tm) (ls : List Ln), (k = 0 ∧ i < ls.length ∧ ll = nI (lnA ls i).1 ∧ Pc M ts ls ∧ Vp ts ls) ∧ (K (some (.int (b1 (hpr ts (lnA ls i).2.1 (lnA ls i).2.2.1)))) M L)
  | _ => False
theorem ms_X5_hasProduct : ma_ms S_X5_hasProduct := by
  intro as M L K K' hk h
  unfold S_X5_hasProduct at h ⊢
  split at h
  · obtain ⟨i, ts, ls, h⟩ := h
    exact ⟨i, ts, ls, h.1, hk _ _ _ h.2⟩
  · exact h.elim
theorem un_X5_hasProduct {k : Nat} {ll : Int32} {M : ZM} {L : ZL} {K : ma_Kt} : S_X5_hasProduct [.ref k, .int ll] M L K = (∃ (i : Nat) (ts : List Tm) (ls : List Ln), (k = 0 ∧ i < ls.length ∧ ll = nI (lnA ls i).1 ∧ Pc M ts ls ∧ Vp ts ls) ∧ (K (some (.int (b1 (hpr ts (lnA ls i).2.1 (lnA ls i).2.2.1)))) M L)) := rfl
theorem pw_X5_hasProduct {k : Nat} {ll : Int32} {i : Nat} {ts : List Tm} {ls : List Ln} {M : ZM} {L : ZL} {K : ma_Kt} (hp : k = 0 ∧ i < ls.length ∧ ll = nI (lnA ls i).1 ∧ Pc M ts ls ∧ Vp ts ls) (h : (K (some (.int (b1 (hpr ts (lnA ls i).2.1 (lnA ls i).2.2.1)))) M L)) : ma_rn tb_X5_hasProduct 4 [.ref k, .int ll] M L K := by
  refine ⟨Nat.le_of_ble_eq_true rfl, fun V hV => ?_⟩
  obtain ⟨rfl, hi, rfl, hP, hV0⟩ := hp
  obtain ⟨v1, v2, v3, v4⟩ := id hV0
  have hL := hP.ln hi
  have hV4 : (lnA ls i).2.1 + (lnA ls i).2.2.1 ≤ ts.length ∧ 0 < (lnA ls i).2.2.2.1 ∧ (lnA ls i).2.2.2.1 ≤ 1000 ∧ (lnA ls i).2.2.2.2 ≤ 1 ∧ (lnA ls i).1 < 4 := v4 i hi
  generalize lnA ls i = rr at *
  obtain ⟨l1, l2, l3, l4, l5, l6⟩ := hL
  have l8 : vp_in (nI rr.1) 8 := vp_in_nI (by omega) (by decide)
  have cl := a_cl (show rr.1 < 2147483648 by omega)
  have lp : ∀ j, j ≤ rr.2.2.1 → V 9 [some (.ref 0), some (.int (nI rr.1)), some (.int (b1 (hpr ts rr.2.1 j))), some (.int (nI (rr.2.1 + j)))] [] M L := by
    refine lp_up ?_ ?_
    · refine ma_walk mo_X5_hasProduct hV [9] (fun F hF => ?_)
      simp only [tb_X5_hasProduct, hF, in_no, in_push, in_ild, in_lld, in_ald, in_ist, in_ast, in_lst, in_inc, in_iii, in_idv, in_ldv, in_lll, in_lli, in_lil, in_ii, in_il, in_li, in_ll, in_dup, in_dp2, q_if1, q_if2, in_go, in_sw, ma_sw, in_rv, in_ri, in_rz, in_rl, in_get, in_put, in_puz, in_iar, in_bar, in_lar, in_aar, in_iaw, in_baw, in_law, in_len, in_cpy, in_s1, in_s2, in_s3, in_v1, in_v2, in_v3, in_v4, in_v5, in_v6, ma_bk, ma_gl, ma_sl, ma_nl, ma_wc, ma_wd, ma_nn, ma_en, List.mem_cons, List.not_mem_nil, or_false, or_true, true_or, false_or, true_and, and_true, false_and, and_false, if_true, if_false, forall_const, true_implies, false_implies, not_true_eq_false, not_false_eq_true, Classical.not_not, implies_true, and_self, Nat.add_zero, Nat.zero_add, eq_self, ne_eq, reduceCtorEq, Nat.reduceLT, Nat.reduceLeDiff, Nat.reduceEqDiff, Nat.reduceSub, Nat.reduceAdd, i10, i01, im10, Int32.reduceLT, Int32.reduceLE, ↓reduceIte, reduceIte, up_r, uL_r, cp_r, Int32.toInt_toInt64, Int64.reduceToInt, Int32.reduceToInt, ↓b1_or, b1_0, b1_1, lc_lt, lc_le, lc_gt, lc_ge, lc_eq, ym_0, ym_1, ym_2, ym_3, ym_4, ym_5, ym_6, ym_7, ym_8, ym_9, ym_10, ym_11, ym_12, ym_13, ym_14, ym_15, ym_16, ym_17, ym_18, ym_19, ym_20, ym_21, ym_22, ym_23, ym_24, ym_25, ym_26, ym_27, ym_28, ym_29, ym_30, rm__0, rm__1, rm__2, rm__3, rm__4, rm__5, rm__6, rm__7, rm__8, rm__9, rm__10, rm__11, rm__12, rm__13, rm__14, rm__15, rm__16, rm__17, rm__18, rm__19, rm__20, rm__21, rm__22, rm__23, rm__24, rm__25, rm__26, rm__27, rm__28, rm__29, rm__30, rm__31, rm__32, rm__33, rm__34, rm__35, rm__36, rm__37, rm__38, rm__39, rm__40, rm__41, rm__42, rm__43, rm__44, rm__45, l8, cl, l3, l4, nI_add]
      try simp only [iteP, Classical.not_not, b1_0, b1_1]
      rw [a_le (by omega) (by omega)]
      exact ⟨fun _ => h, fun z => absurd (by omega) z⟩
    · intro j hj ih
      have ht : rr.2.1 + j < ts.length := by omega
      have hT := (hP.tm ht).2.2
      have hq := v3 _ ht
      rw [b1_c hpr_s] at ih
      generalize ts.getD (rr.2.1 + j) (0, 0, none) = tm at *
      have v160 : vp_in (nI (rr.2.1 + j)) 160 := vp_in_nI (by omega) (by decide)
      have ct := a_cl (show rr.2.1 + j < 2147483648 by omega)
      refine ma_walk mo_X5_hasProduct hV [9] (fun F hF => ?_)
      simp only [tb_X5_hasProduct, hF, in_no, in_push, in_ild, in_lld, in_ald, in_ist, in_ast, in_lst, in_inc, in_iii, in_idv, in_ldv, in_lll, in_lli, in_lil, in_ii, in_il, in_li, in_ll, in_dup, in_dp2, q_if1, q_if2, in_go, in_sw, ma_sw, in_rv, in_ri, in_rz, in_rl, in_get, in_put, in_puz, in_iar, in_bar, in_lar, in_aar, in_iaw, in_baw, in_law, in_len, in_cpy, in_s1, in_s2, in_s3, in_v1, in_v2, in_v3, in_v4, in_v5, in_v6, ma_bk, ma_gl, ma_sl, ma_nl, ma_wc, ma_wd, ma_nn, ma_en, List.mem_cons, List.not_mem_nil, or_false, or_true, true_or, false_or, true_and, and_true, false_and, and_false, if_true, if_false, forall_const, true_implies, false_implies, not_true_eq_false, not_false_eq_true, Classical.not_not, implies_true, and_self, Nat.add_zero, Nat.zero_add, eq_self, ne_eq, reduceCtorEq, Nat.reduceLT, Nat.reduceLeDiff, Nat.reduceEqDiff, Nat.reduceSub, Nat.reduceAdd, i10, i01, im10, Int32.reduceLT, Int32.reduceLE, ↓reduceIte, reduceIte, up_r, uL_r, cp_r, Int32.toInt_toInt64, Int64.reduceToInt, Int32.reduceToInt, ↓b1_or, b1_0, b1_1, lc_lt, lc_le, lc_gt, lc_ge, lc_eq, ym_0, ym_1, ym_2, ym_3, ym_4, ym_5, ym_6, ym_7, ym_8, ym_9, ym_10, ym_11, ym_12, ym_13, ym_14, ym_15, ym_16, ym_17, ym_18, ym_19, ym_20, ym_21, ym_22, ym_23, ym_24, ym_25, ym_26, ym_27, ym_28, ym_29, ym_30, rm__0, rm__1, rm__2, rm__3, rm__4, rm__5, rm__6, rm__7, rm__8, rm__9, rm__10, rm__11, rm__12, rm__13, rm__14, rm__15, rm__16, rm__17, rm__18, rm__19, rm__20, rm__21, rm__22, rm__23, rm__24, rm__25, rm__26, rm__27, rm__28, rm__29, rm__30, rm__31, rm__32, rm__33, rm__34, rm__35, rm__36, rm__37, rm__38, rm__39, rm__40, rm__41, rm__42, rm__43, rm__44, rm__45, l8, cl, l3, l4, nI_add, v160, ct, hT, nI_1]
      try simp only [iteP, Classical.not_not, b1_0, b1_1]
      rw [a_le (by omega) (by omega)]
      refine ⟨fun z => absurd z (by omega), fun _ => ⟨fun z => ?_, fun z => ?_⟩⟩
      · cases ho : tm.2.2 with
        | none =>
          rw [ho] at ih
          rw [b1_f (fun y => by rcases y with y | y; exact z y; exact y rfl)] at ih
          exact ⟨fun _ => ih, fun z => absurd (by decide) z⟩
        | some q2 =>
          have q24 := hq.2 q2 ho
          rw [ho, b1_t (Or.inr (fun z => by cases z))] at ih
          exact ⟨fun z => absurd z (nI_pos (by omega)), fun _ => ih⟩
      · rw [b1_t (Or.inl z)] at ih; exact ih
  refine ma_walk mo_X5_hasProduct hV [9] (fun F hF => ?_)
  simp only [tb_X5_hasProduct, hF, in_no, in_push, in_ild, in_lld, in_ald, in_ist, in_ast, in_lst, in_inc, in_iii, in_idv, in_ldv, in_lll, in_lli, in_lil, in_ii, in_il, in_li, in_ll, in_dup, in_dp2, q_if1, q_if2, in_go, in_sw, ma_sw, in_rv, in_ri, in_rz, in_rl, in_get, in_put, in_puz, in_iar, in_bar, in_lar, in_aar, in_iaw, in_baw, in_law, in_len, in_cpy, in_s1, in_s2, in_s3, in_v1, in_v2, in_v3, in_v4, in_v5, in_v6, ma_bk, ma_gl, ma_sl, ma_nl, ma_wc, ma_wd, ma_nn, ma_en, List.mem_cons, List.not_mem_nil, or_false, or_true, true_or, false_or, true_and, and_true, false_and, and_false, if_true, if_false, forall_const, true_implies, false_implies, not_true_eq_false, not_false_eq_true, Classical.not_not, implies_true, and_self, Nat.add_zero, Nat.zero_add, eq_self, ne_eq, reduceCtorEq, Nat.reduceLT, Nat.reduceLeDiff, Nat.reduceEqDiff, Nat.reduceSub, Nat.reduceAdd, i10, i01, im10, Int32.reduceLT, Int32.reduceLE, ↓reduceIte, reduceIte, up_r, uL_r, cp_r, Int32.toInt_toInt64, Int64.reduceToInt, Int32.reduceToInt, ↓b1_or, b1_0, b1_1, lc_lt, lc_le, lc_gt, lc_ge, lc_eq, ym_0, ym_1, ym_2, ym_3, ym_4, ym_5, ym_6, ym_7, ym_8, ym_9, ym_10, ym_11, ym_12, ym_13, ym_14, ym_15, ym_16, ym_17, ym_18, ym_19, ym_20, ym_21, ym_22, ym_23, ym_24, ym_25, ym_26, ym_27, ym_28, ym_29, ym_30, rm__0, rm__1, rm__2, rm__3, rm__4, rm__5, rm__6, rm__7, rm__8, rm__9, rm__10, rm__11, rm__12, rm__13, rm__14, rm__15, rm__16, rm__17, rm__18, rm__19, rm__20, rm__21, rm__22, rm__23, rm__24, rm__25, rm__26, rm__27, rm__28, rm__29, rm__30, rm__31, rm__32, rm__33, rm__34, rm__35, rm__36, rm__37, rm__38, rm__39, rm__40, rm__41, rm__42, rm__43, rm__44, rm__45, l8, cl, l3]
  try simp only [iteP, Classical.not_not, b1_0, b1_1]
  have q := lp 0 (Nat.zero_le _)
  rw [b1_f hpr_0] at q; exact q
theorem pv_X5_hasProduct : ∀ as M L K, S_X5_hasProduct as M L K → ma_rn tb_X5_hasProduct 4 as M L K := by
  intro as M L K h
  unfold S_X5_hasProduct at h
  split at h
  · obtain ⟨i, ts, ls, h⟩ := h; exact pw_X5_hasProduct h.1 h.2
  · exact h.elim
