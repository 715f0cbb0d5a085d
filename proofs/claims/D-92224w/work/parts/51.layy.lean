/-! when steps are ended: the model -/
set_option maxRecDepth 100000
set_option maxHeartbeats 4000000
def Ly (M M1 : ZM) (w u : Nat) : Prop := (∀ x, x ≠ 0 → x ≠ 28 → x ≠ 30 → M1 x = M x) ∧ (∀ j, j ≠ 35 → j ≠ 36 → M1 0 j = M 0 j) ∧ M1 0 35 = nI w ∧ M1 0 36 = nI u ∧ ∀ c, c < 36 → M1 28 c = M 28 c
def S_X5_ends : ma_Cs := fun as M L K => match as with
  | [.ref k, .int st'] => ∃ (w : Nat) (u : Nat) (e : Nat) (wk : Nat) (bb : Nat → Nat) (pc : Nat → Nat) (st : Nat), (k = 0 ∧ M 0 0 = nI w ∧ M 0 1 = nI u ∧ M 0 2 = nI e ∧ Sh w u e 0 0 ∧ M 0 3 = nI wk ∧ Pe (w * u) wk bb pc ∧ (∀ c, c < w * u → M 29 c = nI (bb c)) ∧ (∀ p, p < 6 → M 19 p = nI (pc p)) ∧ st' = nI st ∧ st < 13) ∧ (∀ (M' : ZM), Ly M M' w u → (∀ s c, 1 ≤ s → s ≤ st → c < w * u → M' 28 (36 * s + c) = nI ((es w u e wk bb pc s).1 c)) → K none M' L)
  | _ => False
theorem ms_X5_ends : ma_ms S_X5_ends := by
  intro as M L K K' hk h
  unfold S_X5_ends at h ⊢
  split at h
  · obtain ⟨w, u, e, wk, bb, pc, st, h⟩ := h
    exact ⟨w, u, e, wk, bb, pc, st, h.1, fun x0 x1 x2 => hk _ _ _ (h.2 x0 x1 x2)⟩
  · exact h.elim
theorem un_X5_ends {k : Nat} {st' : Int32} {M : ZM} {L : ZL} {K : ma_Kt} : S_X5_ends [.ref k, .int st'] M L K = (∃ (w : Nat) (u : Nat) (e : Nat) (wk : Nat) (bb : Nat → Nat) (pc : Nat → Nat) (st : Nat), (k = 0 ∧ M 0 0 = nI w ∧ M 0 1 = nI u ∧ M 0 2 = nI e ∧ Sh w u e 0 0 ∧ M 0 3 = nI wk ∧ Pe (w * u) wk bb pc ∧ (∀ c, c < w * u → M 29 c = nI (bb c)) ∧ (∀ p, p < 6 → M 19 p = nI (pc p)) ∧ st' = nI st ∧ st < 13) ∧ (∀ (M' : ZM), Ly M M' w u → (∀ s c, 1 ≤ s → s ≤ st → c < w * u → M' 28 (36 * s + c) = nI ((es w u e wk bb pc s).1 c)) → K none M' L)) := rfl
theorem pw_X5_ends {k : Nat} {st' : Int32} {w : Nat} {u : Nat} {e : Nat} {wk : Nat} {bb : Nat → Nat} {pc : Nat → Nat} {st : Nat} {M : ZM} {L : ZL} {K : ma_Kt} (hp : k = 0 ∧ M 0 0 = nI w ∧ M 0 1 = nI u ∧ M 0 2 = nI e ∧ Sh w u e 0 0 ∧ M 0 3 = nI wk ∧ Pe (w * u) wk bb pc ∧ (∀ c, c < w * u → M 29 c = nI (bb c)) ∧ (∀ p, p < 6 → M 19 p = nI (pc p)) ∧ st' = nI st ∧ st < 13) (h : (∀ (M' : ZM), Ly M M' w u → (∀ s c, 1 ≤ s → s ≤ st → c < w * u → M' 28 (36 * s + c) = nI ((es w u e wk bb pc s).1 c)) → K none M' L)) : ma_rn (tb_X5_ends S_X5_cells S_X5_next) 9 [.ref k, .int st'] M L K := by
  refine ⟨Nat.le_of_ble_eq_true rfl, fun V hV => ?_⟩
  obtain ⟨rfl, m0, m1, m2, hs, m3, hPe, hby, hpc, rfl, hst⟩ := hp
  obtain ⟨s1, s2, s3, s4, s5, s6, s7⟩ := id hs
  have h36 := Nat.mul_le_mul (Nat.le_of_lt_succ s2) (Nat.le_of_lt_succ s4)
  have hwu : nI w * nI u = nI (w * u) := pk_mul w u
  have hb := fun s => es_b (e := e) s2 s4 hPe s
  have hdep : ∀ d s c, s < 12 → c < w * u → bgn w u e wk bb (s + 1) (es w u e wk bb pc s).1 (fe w u e wk bb pc (s + 1) (es w u e wk bb pc s).1 (es w u e wk bb pc s).2 c) c d ≤ 16000 := by
    intro d s c h1 h2
    have q := (fe_b (e := e) (s := s + 1) s2 s4 hPe (hb s).1 (hb s).2 c (by omega)).2 h2 d
    omega
  have v74 : ∀ s c, s < st → c < w * u → ∀ (M1 : ZM), Ly M M1 w u → Eg (M1 28) (M1 30) 1 (w * u) (fun s => (es w u e wk bb pc s).1) (fe w u e wk bb pc (s + 1) (es w u e wk bb pc s).1 (es w u e wk bb pc s).2 c) (s + 1) c →
      (∀ (M2 : ZM) (o4 o5 o6 o7 o8 : Option Value), Ly M M2 w u → Eg (M2 28) (M2 30) 1 (w * u) (fun s => (es w u e wk bb pc s).1) (fe w u e wk bb pc (s + 1) (es w u e wk bb pc s).1 (es w u e wk bb pc s).2 (c + 1)) (s + 1) (c + 1) → V 46 [some (.ref 0), some (.int (nI st)), some (.int (nI (s + 1))), some (.int (nI (c + 1))), o4, o5, o6, o7, o8] [] M2 L) →
      ∀ d, d ≤ 4 → ∀ o7 o8 : Option Value, V 74 [some (.ref 0), some (.int (nI st)), some (.int (nI (s + 1))), some (.int (nI c)), some (.int (nI (bb c))), some (.int (nI (bgn w u e wk bb (s + 1) (es w u e wk bb pc s).1 (fe w u e wk bb pc (s + 1) (es w u e wk bb pc s).1 (es w u e wk bb pc s).2 c) c d))), some (.int (nI (d + 1))), o7, o8] [] M1 L := by
    intro s c h1 h2 M1 e3 e4 H
    obtain ⟨g1, g1b, g2, g3, g4⟩ := id e3
    have hc6 := hPe.2.1 c h2
    have gp : M1 19 (bb c) = nI (pc (bb c)) := by rw [g1 19 (by decide) (by decide) (by decide)]; exact hpc _ hc6
    have hpc20 := hPe.2.2 _ hc6
    have vb : vp_in (nI (bb c)) 6 := vp_in_nI hc6 (by decide)
    have cb := a_cl (show bb c < 2147483648 by omega)
    have h158 : ∀ d (o6 o7 o8 : Option Value), bgn w u e wk bb (s + 1) (es w u e wk bb pc s).1 (fe w u e wk bb pc (s + 1) (es w u e wk bb pc s).1 (es w u e wk bb pc s).2 c) c d = bgn w u e wk bb (s + 1) (es w u e wk bb pc s).1 (fe w u e wk bb pc (s + 1) (es w u e wk bb pc s).1 (es w u e wk bb pc s).2 c) c 4 → V 158 [some (.ref 0), some (.int (nI st)), some (.int (nI (s + 1))), some (.int (nI c)), some (.int (nI (bb c))), some (.int (nI (bgn w u e wk bb (s + 1) (es w u e wk bb pc s).1 (fe w u e wk bb pc (s + 1) (es w u e wk bb pc s).1 (es w u e wk bb pc s).2 c) c d))), o6, o7, o8] [] M1 L := by
      intro d o6 o7 o8 hd
      rw [hd]
      have vE : vp_in (nI (36 * (s + 1) + c)) 468 := vp_in_nI (by omega) (by decide)
      have cE := a_cl (show 36 * (s + 1) + c < 2147483648 by omega)
      refine ma_walk (mo_X5_ends ms_X5_cells ms_X5_next) hV [39, 46, 74] (fun F hF => ?_)
      simp only [tb_X5_ends, hF, in_no, in_push, in_ild, in_lld, in_ald, in_ist, in_ast, in_lst, in_inc, in_iii, in_idv, in_ldv, in_lll, in_lli, in_lil, in_ii, in_il, in_li, in_ll, in_dup, in_dp2, q_if1, q_if2, in_go, in_sw, ma_sw, in_rv, in_ri, in_rz, in_rl, in_get, in_put, in_puz, in_iar, in_bar, in_lar, in_aar, in_iaw, in_baw, in_law, in_len, in_cpy, in_s1, in_s2, in_s3, in_v1, in_v2, in_v3, in_v4, in_v5, in_v6, ma_bk, ma_gl, ma_sl, ma_nl, ma_wc, ma_wd, ma_nn, ma_en, List.mem_cons, List.not_mem_nil, or_false, or_true, true_or, false_or, true_and, and_true, false_and, and_false, if_true, if_false, forall_const, true_implies, false_implies, not_true_eq_false, not_false_eq_true, Classical.not_not, implies_true, and_self, Nat.add_zero, Nat.zero_add, eq_self, ne_eq, reduceCtorEq, Nat.reduceLT, Nat.reduceLeDiff, Nat.reduceEqDiff, Nat.reduceSub, Nat.reduceAdd, i10, i01, im10, Int32.reduceLT, Int32.reduceLE, ↓reduceIte, reduceIte, up_r, uL_r, cp_r, Int32.toInt_toInt64, Int64.reduceToInt, Int32.reduceToInt, ↓b1_or, b1_0, b1_1, lc_lt, lc_le, lc_gt, lc_ge, lc_eq, ym_0, ym_1, ym_2, ym_3, ym_4, ym_5, ym_6, ym_7, ym_8, ym_9, ym_10, ym_11, ym_12, ym_13, ym_14, ym_15, ym_16, ym_17, ym_18, ym_19, ym_20, ym_21, ym_22, ym_23, ym_24, ym_25, ym_26, ym_27, ym_28, ym_29, ym_30, rm__0, rm__1, rm__2, rm__3, rm__4, rm__5, rm__6, rm__7, rm__8, rm__9, rm__10, rm__11, rm__12, rm__13, rm__14, rm__15, rm__16, rm__17, rm__18, rm__19, rm__20, rm__21, rm__22, rm__23, rm__24, rm__25, rm__26, rm__27, rm__28, rm__29, rm__30, rm__31, rm__32, rm__33, rm__34, rm__35, rm__36, rm__37, rm__38, rm__39, rm__40, rm__41, rm__42, rm__43, rm__44, rm__45, un_X5_cells, un_X5_next, gp, vb, cb, i36', vE, cE, nI_add, nI_1]
      try simp only [iteP, Classical.not_not, b1_0, b1_1]
      refine H _ _ _ _ _ _ ⟨fun x z1 z2 z3 => by rw [up_c z3, up_c z2]; exact g1 x z1 z2 z3, g1b, g2, g3, fun c9 hc9 => ?_⟩ ?_
      · rw [up_c (by decide), up_r, if_neg (by omega)]; exact g4 c9 hc9
      rw [up_c (show (28 : Nat) ≠ 30 by decide), ma_up_at, ma_up_at, up_c (show (30 : Nat) ≠ 28 by decide)]
      refine e4.put h36 h2 rfl (fun p hp => ?_)
      rw [fe]; rfl
    refine lp_up ?_ ?_
    · intro o7 o8
      refine ma_walk (mo_X5_ends ms_X5_cells ms_X5_next) hV [39, 46, 74, 158] (fun F hF => ?_)
      simp only [tb_X5_ends, hF, in_no, in_push, in_ild, in_lld, in_ald, in_ist, in_ast, in_lst, in_inc, in_iii, in_idv, in_ldv, in_lll, in_lli, in_lil, in_ii, in_il, in_li, in_ll, in_dup, in_dp2, q_if1, q_if2, in_go, in_sw, ma_sw, in_rv, in_ri, in_rz, in_rl, in_get, in_put, in_puz, in_iar, in_bar, in_lar, in_aar, in_iaw, in_baw, in_law, in_len, in_cpy, in_s1, in_s2, in_s3, in_v1, in_v2, in_v3, in_v4, in_v5, in_v6, ma_bk, ma_gl, ma_sl, ma_nl, ma_wc, ma_wd, ma_nn, ma_en, List.mem_cons, List.not_mem_nil, or_false, or_true, true_or, false_or, true_and, and_true, false_and, and_false, if_true, if_false, forall_const, true_implies, false_implies, not_true_eq_false, not_false_eq_true, Classical.not_not, implies_true, and_self, Nat.add_zero, Nat.zero_add, eq_self, ne_eq, reduceCtorEq, Nat.reduceLT, Nat.reduceLeDiff, Nat.reduceEqDiff, Nat.reduceSub, Nat.reduceAdd, i10, i01, im10, Int32.reduceLT, Int32.reduceLE, ↓reduceIte, reduceIte, up_r, uL_r, cp_r, Int32.toInt_toInt64, Int64.reduceToInt, Int32.reduceToInt, ↓b1_or, b1_0, b1_1, lc_lt, lc_le, lc_gt, lc_ge, lc_eq, ym_0, ym_1, ym_2, ym_3, ym_4, ym_5, ym_6, ym_7, ym_8, ym_9, ym_10, ym_11, ym_12, ym_13, ym_14, ym_15, ym_16, ym_17, ym_18, ym_19, ym_20, ym_21, ym_22, ym_23, ym_24, ym_25, ym_26, ym_27, ym_28, ym_29, ym_30, rm__0, rm__1, rm__2, rm__3, rm__4, rm__5, rm__6, rm__7, rm__8, rm__9, rm__10, rm__11, rm__12, rm__13, rm__14, rm__15, rm__16, rm__17, rm__18, rm__19, rm__20, rm__21, rm__22, rm__23, rm__24, rm__25, rm__26, rm__27, rm__28, rm__29, rm__30, rm__31, rm__32, rm__33, rm__34, rm__35, rm__36, rm__37, rm__38, rm__39, rm__40, rm__41, rm__42, rm__43, rm__44, rm__45, un_X5_cells, un_X5_next]
      try simp only [iteP, Classical.not_not, b1_0, b1_1]
      exact ⟨fun _ => h158 4 _ _ _ rfl, fun z => absurd (by decide) z⟩
    · intro d hd ih o7 o8
      have hn := nn_lt (e := e) (d := d + 1) s2 s4 h2
      have hB := hdep d s c (by omega) h2
      have s11 : nI (s + 1) - 1 = nI s := nI_pred s
      have z1s : (nI (s + 1) ≤ (1 : Int32)) = (s = 0) := by
        rw [show (1 : Int32) = nI 1 from rfl, a_le (by omega) (by omega)]; exact propext (by omega)
      have m25 : M1 0 3 = nI wk := (g1b 3 (by decide) (by decide)).trans m3
      refine ma_walk (mo_X5_ends ms_X5_cells ms_X5_next) hV [39, 46, 74, 158] (fun F hF => ?_)
      simp only [tb_X5_ends, hF, in_no, in_push, in_ild, in_lld, in_ald, in_ist, in_ast, in_lst, in_inc, in_iii, in_idv, in_ldv, in_lll, in_lli, in_lil, in_ii, in_il, in_li, in_ll, in_dup, in_dp2, q_if1, q_if2, in_go, in_sw, ma_sw, in_rv, in_ri, in_rz, in_rl, in_get, in_put, in_puz, in_iar, in_bar, in_lar, in_aar, in_iaw, in_baw, in_law, in_len, in_cpy, in_s1, in_s2, in_s3, in_v1, in_v2, in_v3, in_v4, in_v5, in_v6, ma_bk, ma_gl, ma_sl, ma_nl, ma_wc, ma_wd, ma_nn, ma_en, List.mem_cons, List.not_mem_nil, or_false, or_true, true_or, false_or, true_and, and_true, false_and, and_false, if_true, if_false, forall_const, true_implies, false_implies, not_true_eq_false, not_false_eq_true, Classical.not_not, implies_true, and_self, Nat.add_zero, Nat.zero_add, eq_self, ne_eq, reduceCtorEq, Nat.reduceLT, Nat.reduceLeDiff, Nat.reduceEqDiff, Nat.reduceSub, Nat.reduceAdd, i10, i01, im10, Int32.reduceLT, Int32.reduceLE, ↓reduceIte, reduceIte, up_r, uL_r, cp_r, Int32.toInt_toInt64, Int64.reduceToInt, Int32.reduceToInt, ↓b1_or, b1_0, b1_1, lc_lt, lc_le, lc_gt, lc_ge, lc_eq, ym_0, ym_1, ym_2, ym_3, ym_4, ym_5, ym_6, ym_7, ym_8, ym_9, ym_10, ym_11, ym_12, ym_13, ym_14, ym_15, ym_16, ym_17, ym_18, ym_19, ym_20, ym_21, ym_22, ym_23, ym_24, ym_25, ym_26, ym_27, ym_28, ym_29, ym_30, rm__0, rm__1, rm__2, rm__3, rm__4, rm__5, rm__6, rm__7, rm__8, rm__9, rm__10, rm__11, rm__12, rm__13, rm__14, rm__15, rm__16, rm__17, rm__18, rm__19, rm__20, rm__21, rm__22, rm__23, rm__24, rm__25, rm__26, rm__27, rm__28, rm__29, rm__30, rm__31, rm__32, rm__33, rm__34, rm__35, rm__36, rm__37, rm__38, rm__39, rm__40, rm__41, rm__42, rm__43, rm__44, rm__45, un_X5_cells, un_X5_next, nI_1, s11, g2, g3, m25]
      try simp only [iteP, Classical.not_not, b1_0, b1_1]
      rw [show ((5 : Int32) ≤ nI (d + 1)) = (5 ≤ d + 1) from a_le (a := 5) (by omega) (by omega), z1s]
      refine ⟨fun z => absurd z (by omega), fun _ => ⟨fun z => ?_, fun z => ⟨w, u, e, c, d + 1, ⟨rfl, rfl, (g1b 2 (by decide) (by decide)).trans m2, ⟨s1, s2, s3, s4, s5, h2, by omega⟩, rfl, rfl⟩, ?_⟩⟩⟩
      · have hs1 : s + 1 = 1 := by omega
        exact h158 d _ _ _ (by rw [bgn_le hs1, bgn_le hs1])
      have hs1 : ¬ s + 1 = 1 := by omega
      rw [bgn_s hs1] at ih
      refine ⟨fun z2 => ?_, fun z2 => ?_⟩
      · have z3 : nn w u e c (d + 1) = 99 := Classical.byContradiction fun z3 => by
          rw [nbr_n z3] at z2; exact absurd z2 (nI_pos (by omega))
        rw [if_pos z3] at ih; exact ih _ _
      · have z3 : ¬ nn w u e c (d + 1) = 99 := fun z3 => by
          rw [z3] at z2; exact z2 (by decide)
        have hn2 : nn w u e c (d + 1) < w * u := by omega
        have e9 : M1 28 (36 * s + nn w u e c (d + 1)) = nI ((es w u e wk bb pc s).1 (nn w u e c (d + 1))) := e4.1 s (nn w u e c (d + 1)) (by omega) hn2 (Or.inl (by omega))
        have hb9 := (hb s).1 _ hn2
        have gb : M1 29 (nn w u e c (d + 1)) = nI (bb (nn w u e c (d + 1))) := by rw [g1 29 (by decide) (by decide) (by decide)]; exact hby _ hn2
        have hb6 := hPe.2.1 _ hn2
        have hwk := hPe.1
        rw [if_neg z3] at ih
        rw [nbr_n z3, i36', a_cl (show 36 * s + nn w u e c (d + 1) < 2147483648 by omega), a_cl (show nn w u e c (d + 1) < 2147483648 by omega), a_vi (by omega), a_vi (by omega), e9, gb, a_eq (by omega) (by omega)]
        refine ⟨by omega, by omega, fun z4 => ?_, fun z4 => ?_⟩
        · rw [if_pos z4] at ih
          rw [Int32.add_zero, a_le (by omega) (by omega)]
          refine ⟨fun z5 => ?_, fun z5 => ?_⟩
          · rw [Nat.max_eq_left (by omega)] at ih; exact ih _ _
          · rw [Nat.max_eq_right (by omega)] at ih; exact ih _ _
        · rw [if_neg z4] at ih
          rw [nI_add, a_le (by omega) (by omega)]
          refine ⟨fun z5 => ?_, fun z5 => ?_⟩
          · rw [Nat.max_eq_left (by omega)] at ih; exact ih _ _
          · rw [Nat.max_eq_right (by omega)] at ih; exact ih _ _
  have v46 : ∀ s, s < st → (∀ (M2 : ZM) (o3 o4 o5 o6 o7 o8 : Option Value), Ly M M2 w u → Eg (M2 28) (M2 30) 1 (w * u) (fun s => (es w u e wk bb pc s).1) (es w u e wk bb pc (s + 1)).2 (s + 2) 0 → V 39 [some (.ref 0), some (.int (nI st)), some (.int (nI (s + 2))), o3, o4, o5, o6, o7, o8] [] M2 L) →
      ∀ c, c ≤ w * u → ∀ (M1 : ZM) (o4 o5 o6 o7 o8 : Option Value), Ly M M1 w u → Eg (M1 28) (M1 30) 1 (w * u) (fun s => (es w u e wk bb pc s).1) (fe w u e wk bb pc (s + 1) (es w u e wk bb pc s).1 (es w u e wk bb pc s).2 c) (s + 1) c → V 46 [some (.ref 0), some (.int (nI st)), some (.int (nI (s + 1))), some (.int (nI c)), o4, o5, o6, o7, o8] [] M1 L := by
    intro s h1 H
    refine lp_up ?_ ?_
    · intro M1 o4 o5 o6 o7 o8 e3 e4
      have z0 := (e3.2.1 0 (by decide) (by decide)).trans m0
      have z1 := (e3.2.1 1 (by decide) (by decide)).trans m1
      refine ma_walk (mo_X5_ends ms_X5_cells ms_X5_next) hV [39, 46, 74] (fun F hF => ?_)
      simp only [tb_X5_ends, hF, in_no, in_push, in_ild, in_lld, in_ald, in_ist, in_ast, in_lst, in_inc, in_iii, in_idv, in_ldv, in_lll, in_lli, in_lil, in_ii, in_il, in_li, in_ll, in_dup, in_dp2, q_if1, q_if2, in_go, in_sw, ma_sw, in_rv, in_ri, in_rz, in_rl, in_get, in_put, in_puz, in_iar, in_bar, in_lar, in_aar, in_iaw, in_baw, in_law, in_len, in_cpy, in_s1, in_s2, in_s3, in_v1, in_v2, in_v3, in_v4, in_v5, in_v6, ma_bk, ma_gl, ma_sl, ma_nl, ma_wc, ma_wd, ma_nn, ma_en, List.mem_cons, List.not_mem_nil, or_false, or_true, true_or, false_or, true_and, and_true, false_and, and_false, if_true, if_false, forall_const, true_implies, false_implies, not_true_eq_false, not_false_eq_true, Classical.not_not, implies_true, and_self, Nat.add_zero, Nat.zero_add, eq_self, ne_eq, reduceCtorEq, Nat.reduceLT, Nat.reduceLeDiff, Nat.reduceEqDiff, Nat.reduceSub, Nat.reduceAdd, i10, i01, im10, Int32.reduceLT, Int32.reduceLE, ↓reduceIte, reduceIte, up_r, uL_r, cp_r, Int32.toInt_toInt64, Int64.reduceToInt, Int32.reduceToInt, ↓b1_or, b1_0, b1_1, lc_lt, lc_le, lc_gt, lc_ge, lc_eq, ym_0, ym_1, ym_2, ym_3, ym_4, ym_5, ym_6, ym_7, ym_8, ym_9, ym_10, ym_11, ym_12, ym_13, ym_14, ym_15, ym_16, ym_17, ym_18, ym_19, ym_20, ym_21, ym_22, ym_23, ym_24, ym_25, ym_26, ym_27, ym_28, ym_29, ym_30, rm__0, rm__1, rm__2, rm__3, rm__4, rm__5, rm__6, rm__7, rm__8, rm__9, rm__10, rm__11, rm__12, rm__13, rm__14, rm__15, rm__16, rm__17, rm__18, rm__19, rm__20, rm__21, rm__22, rm__23, rm__24, rm__25, rm__26, rm__27, rm__28, rm__29, rm__30, rm__31, rm__32, rm__33, rm__34, rm__35, rm__36, rm__37, rm__38, rm__39, rm__40, rm__41, rm__42, rm__43, rm__44, rm__45, un_X5_cells, un_X5_next, z0, z1, hwu, nI_1]
      try simp only [iteP, Classical.not_not, b1_0, b1_1]
      exact ⟨fun _ => H _ _ _ _ _ _ _ e3 e4.next, fun z => absurd (nI_le (Nat.le_refl _) (by omega)) z⟩
    · intro c hc ih M1 o4 o5 o6 o7 o8 e3 e4
      obtain ⟨g1, g1b, g2, g3, g4⟩ := id e3
      have z0 := (e3.2.1 0 (by decide) (by decide)).trans m0
      have z1 := (e3.2.1 1 (by decide) (by decide)).trans m1
      have ga : M1 29 c = nI (bb c) := by rw [g1 29 (by decide) (by decide) (by decide)]; exact hby c hc
      have hc6 := hPe.2.1 c hc
      have vc : vp_in (nI c) 36 := vp_in_nI (by omega) (by decide)
      have cc := a_cl (show c < 2147483648 by omega)
      have vb : vp_in (nI (bb c)) 6 := vp_in_nI hc6 (by decide)
      have cb := a_cl (show bb c < 2147483648 by omega)
      have gf := e4.2 _ hc6
      refine ma_walk (mo_X5_ends ms_X5_cells ms_X5_next) hV [39, 46, 74] (fun F hF => ?_)
      simp only [tb_X5_ends, hF, in_no, in_push, in_ild, in_lld, in_ald, in_ist, in_ast, in_lst, in_inc, in_iii, in_idv, in_ldv, in_lll, in_lli, in_lil, in_ii, in_il, in_li, in_ll, in_dup, in_dp2, q_if1, q_if2, in_go, in_sw, ma_sw, in_rv, in_ri, in_rz, in_rl, in_get, in_put, in_puz, in_iar, in_bar, in_lar, in_aar, in_iaw, in_baw, in_law, in_len, in_cpy, in_s1, in_s2, in_s3, in_v1, in_v2, in_v3, in_v4, in_v5, in_v6, ma_bk, ma_gl, ma_sl, ma_nl, ma_wc, ma_wd, ma_nn, ma_en, List.mem_cons, List.not_mem_nil, or_false, or_true, true_or, false_or, true_and, and_true, false_and, and_false, if_true, if_false, forall_const, true_implies, false_implies, not_true_eq_false, not_false_eq_true, Classical.not_not, implies_true, and_self, Nat.add_zero, Nat.zero_add, eq_self, ne_eq, reduceCtorEq, Nat.reduceLT, Nat.reduceLeDiff, Nat.reduceEqDiff, Nat.reduceSub, Nat.reduceAdd, i10, i01, im10, Int32.reduceLT, Int32.reduceLE, ↓reduceIte, reduceIte, up_r, uL_r, cp_r, Int32.toInt_toInt64, Int64.reduceToInt, Int32.reduceToInt, ↓b1_or, b1_0, b1_1, lc_lt, lc_le, lc_gt, lc_ge, lc_eq, ym_0, ym_1, ym_2, ym_3, ym_4, ym_5, ym_6, ym_7, ym_8, ym_9, ym_10, ym_11, ym_12, ym_13, ym_14, ym_15, ym_16, ym_17, ym_18, ym_19, ym_20, ym_21, ym_22, ym_23, ym_24, ym_25, ym_26, ym_27, ym_28, ym_29, ym_30, rm__0, rm__1, rm__2, rm__3, rm__4, rm__5, rm__6, rm__7, rm__8, rm__9, rm__10, rm__11, rm__12, rm__13, rm__14, rm__15, rm__16, rm__17, rm__18, rm__19, rm__20, rm__21, rm__22, rm__23, rm__24, rm__25, rm__26, rm__27, rm__28, rm__29, rm__30, rm__31, rm__32, rm__33, rm__34, rm__35, rm__36, rm__37, rm__38, rm__39, rm__40, rm__41, rm__42, rm__43, rm__44, rm__45, un_X5_cells, un_X5_next, z0, z1, hwu, ga, vc, cc, vb, cb, gf]
      try simp only [iteP, Classical.not_not, b1_0, b1_1]
      rw [a_le (by omega) (by omega)]
      refine ⟨fun z => absurd z (by omega), fun _ => ?_⟩
      have q := v74 s c h1 hc M1 e3 e4 ih 0 (by omega)
      rw [bgn_0] at q; exact q _ _
  have v39 : ∀ s, s ≤ st → ∀ (M1 : ZM) (o3 o4 o5 o6 o7 o8 : Option Value), Ly M M1 w u → Eg (M1 28) (M1 30) 1 (w * u) (fun s => (es w u e wk bb pc s).1) (es w u e wk bb pc s).2 (s + 1) 0 → V 39 [some (.ref 0), some (.int (nI st)), some (.int (nI (s + 1))), o3, o4, o5, o6, o7, o8] [] M1 L := by
    refine lp_up ?_ ?_
    · intro M1 o3 o4 o5 o6 o7 o8 e3 e4
      refine ma_walk (mo_X5_ends ms_X5_cells ms_X5_next) hV [39, 46, 74] (fun F hF => ?_)
      simp only [tb_X5_ends, hF, in_no, in_push, in_ild, in_lld, in_ald, in_ist, in_ast, in_lst, in_inc, in_iii, in_idv, in_ldv, in_lll, in_lli, in_lil, in_ii, in_il, in_li, in_ll, in_dup, in_dp2, q_if1, q_if2, in_go, in_sw, ma_sw, in_rv, in_ri, in_rz, in_rl, in_get, in_put, in_puz, in_iar, in_bar, in_lar, in_aar, in_iaw, in_baw, in_law, in_len, in_cpy, in_s1, in_s2, in_s3, in_v1, in_v2, in_v3, in_v4, in_v5, in_v6, ma_bk, ma_gl, ma_sl, ma_nl, ma_wc, ma_wd, ma_nn, ma_en, List.mem_cons, List.not_mem_nil, or_false, or_true, true_or, false_or, true_and, and_true, false_and, and_false, if_true, if_false, forall_const, true_implies, false_implies, not_true_eq_false, not_false_eq_true, Classical.not_not, implies_true, and_self, Nat.add_zero, Nat.zero_add, eq_self, ne_eq, reduceCtorEq, Nat.reduceLT, Nat.reduceLeDiff, Nat.reduceEqDiff, Nat.reduceSub, Nat.reduceAdd, i10, i01, im10, Int32.reduceLT, Int32.reduceLE, ↓reduceIte, reduceIte, up_r, uL_r, cp_r, Int32.toInt_toInt64, Int64.reduceToInt, Int32.reduceToInt, ↓b1_or, b1_0, b1_1, lc_lt, lc_le, lc_gt, lc_ge, lc_eq, ym_0, ym_1, ym_2, ym_3, ym_4, ym_5, ym_6, ym_7, ym_8, ym_9, ym_10, ym_11, ym_12, ym_13, ym_14, ym_15, ym_16, ym_17, ym_18, ym_19, ym_20, ym_21, ym_22, ym_23, ym_24, ym_25, ym_26, ym_27, ym_28, ym_29, ym_30, rm__0, rm__1, rm__2, rm__3, rm__4, rm__5, rm__6, rm__7, rm__8, rm__9, rm__10, rm__11, rm__12, rm__13, rm__14, rm__15, rm__16, rm__17, rm__18, rm__19, rm__20, rm__21, rm__22, rm__23, rm__24, rm__25, rm__26, rm__27, rm__28, rm__29, rm__30, rm__31, rm__32, rm__33, rm__34, rm__35, rm__36, rm__37, rm__38, rm__39, rm__40, rm__41, rm__42, rm__43, rm__44, rm__45, un_X5_cells, un_X5_next]
      try simp only [iteP, Classical.not_not, b1_0, b1_1]
      rw [a_lt (by omega) (by omega)]
      exact ⟨fun _ => h M1 e3 (fun s c h0 h1 h2 => e4.1 s c h0 h2 (Or.inl (by omega))), fun z => absurd (by omega) z⟩
    · intro s hs ih M1 o3 o4 o5 o6 o7 o8 e3 e4
      refine ma_walk (mo_X5_ends ms_X5_cells ms_X5_next) hV [39, 46, 74] (fun F hF => ?_)
      simp only [tb_X5_ends, hF, in_no, in_push, in_ild, in_lld, in_ald, in_ist, in_ast, in_lst, in_inc, in_iii, in_idv, in_ldv, in_lll, in_lli, in_lil, in_ii, in_il, in_li, in_ll, in_dup, in_dp2, q_if1, q_if2, in_go, in_sw, ma_sw, in_rv, in_ri, in_rz, in_rl, in_get, in_put, in_puz, in_iar, in_bar, in_lar, in_aar, in_iaw, in_baw, in_law, in_len, in_cpy, in_s1, in_s2, in_s3, in_v1, in_v2, in_v3, in_v4, in_v5, in_v6, ma_bk, ma_gl, ma_sl, ma_nl, ma_wc, ma_wd, ma_nn, ma_en, List.mem_cons, List.not_mem_nil, or_false, or_true, true_or, false_or, true_and, and_true, false_and, and_false, if_true, if_false, forall_const, true_implies, false_implies, not_true_eq_false, not_false_eq_true, Classical.not_not, implies_true, and_self, Nat.add_zero, Nat.zero_add, eq_self, ne_eq, reduceCtorEq, Nat.reduceLT, Nat.reduceLeDiff, Nat.reduceEqDiff, Nat.reduceSub, Nat.reduceAdd, i10, i01, im10, Int32.reduceLT, Int32.reduceLE, ↓reduceIte, reduceIte, up_r, uL_r, cp_r, Int32.toInt_toInt64, Int64.reduceToInt, Int32.reduceToInt, ↓b1_or, b1_0, b1_1, lc_lt, lc_le, lc_gt, lc_ge, lc_eq, ym_0, ym_1, ym_2, ym_3, ym_4, ym_5, ym_6, ym_7, ym_8, ym_9, ym_10, ym_11, ym_12, ym_13, ym_14, ym_15, ym_16, ym_17, ym_18, ym_19, ym_20, ym_21, ym_22, ym_23, ym_24, ym_25, ym_26, ym_27, ym_28, ym_29, ym_30, rm__0, rm__1, rm__2, rm__3, rm__4, rm__5, rm__6, rm__7, rm__8, rm__9, rm__10, rm__11, rm__12, rm__13, rm__14, rm__15, rm__16, rm__17, rm__18, rm__19, rm__20, rm__21, rm__22, rm__23, rm__24, rm__25, rm__26, rm__27, rm__28, rm__29, rm__30, rm__31, rm__32, rm__33, rm__34, rm__35, rm__36, rm__37, rm__38, rm__39, rm__40, rm__41, rm__42, rm__43, rm__44, rm__45, un_X5_cells, un_X5_next]
      try simp only [iteP, Classical.not_not, b1_0, b1_1]
      rw [a_lt (by omega) (by omega)]
      refine ⟨fun z => absurd z (by omega), fun _ => ?_⟩
      exact v46 s hs ih 0 (Nat.zero_le _) M1 _ _ _ _ _ e3 e4
  have v18 : ∀ j, j ≤ 6 → V 18 [some (.ref 0), some (.int (nI st)), some (.int (nI j)), none, none, none, none, none, none] [] (fi (ma_up (ma_up M 0 35 (nI w)) 0 36 (nI u)) 30 j 0) L := by
    refine lp_up ?_ ?_
    · refine ma_walk (mo_X5_ends ms_X5_cells ms_X5_next) hV [18, 39] (fun F hF => ?_)
      simp only [tb_X5_ends, hF, in_no, in_push, in_ild, in_lld, in_ald, in_ist, in_ast, in_lst, in_inc, in_iii, in_idv, in_ldv, in_lll, in_lli, in_lil, in_ii, in_il, in_li, in_ll, in_dup, in_dp2, q_if1, q_if2, in_go, in_sw, ma_sw, in_rv, in_ri, in_rz, in_rl, in_get, in_put, in_puz, in_iar, in_bar, in_lar, in_aar, in_iaw, in_baw, in_law, in_len, in_cpy, in_s1, in_s2, in_s3, in_v1, in_v2, in_v3, in_v4, in_v5, in_v6, ma_bk, ma_gl, ma_sl, ma_nl, ma_wc, ma_wd, ma_nn, ma_en, List.mem_cons, List.not_mem_nil, or_false, or_true, true_or, false_or, true_and, and_true, false_and, and_false, if_true, if_false, forall_const, true_implies, false_implies, not_true_eq_false, not_false_eq_true, Classical.not_not, implies_true, and_self, Nat.add_zero, Nat.zero_add, eq_self, ne_eq, reduceCtorEq, Nat.reduceLT, Nat.reduceLeDiff, Nat.reduceEqDiff, Nat.reduceSub, Nat.reduceAdd, i10, i01, im10, Int32.reduceLT, Int32.reduceLE, ↓reduceIte, reduceIte, up_r, uL_r, cp_r, Int32.toInt_toInt64, Int64.reduceToInt, Int32.reduceToInt, ↓b1_or, b1_0, b1_1, lc_lt, lc_le, lc_gt, lc_ge, lc_eq, ym_0, ym_1, ym_2, ym_3, ym_4, ym_5, ym_6, ym_7, ym_8, ym_9, ym_10, ym_11, ym_12, ym_13, ym_14, ym_15, ym_16, ym_17, ym_18, ym_19, ym_20, ym_21, ym_22, ym_23, ym_24, ym_25, ym_26, ym_27, ym_28, ym_29, ym_30, rm__0, rm__1, rm__2, rm__3, rm__4, rm__5, rm__6, rm__7, rm__8, rm__9, rm__10, rm__11, rm__12, rm__13, rm__14, rm__15, rm__16, rm__17, rm__18, rm__19, rm__20, rm__21, rm__22, rm__23, rm__24, rm__25, rm__26, rm__27, rm__28, rm__29, rm__30, rm__31, rm__32, rm__33, rm__34, rm__35, rm__36, rm__37, rm__38, rm__39, rm__40, rm__41, rm__42, rm__43, rm__44, rm__45, un_X5_cells, un_X5_next]
      try simp only [iteP, Classical.not_not, b1_0, b1_1]
      refine ⟨fun _ => v39 0 (Nat.zero_le _) _ _ _ _ _ _ _ ⟨fun x z1 z2 z3 => ?_, fun j z1 z2 => ?_, rfl, rfl, fun c hc => rfl⟩ ⟨fun s' c' h1 h2 h3 => by omega, fun p hp => ?_⟩, fun z => absurd (by decide) z⟩
      · funext y
        show fi _ 30 6 0 x y = _
        rw [fi, if_neg (fun z => z3 z.1), up_c z1, up_c z1]
      · show ma_up (ma_up M 0 35 (nI w)) 0 36 (nI u) 0 j = _
        simp only [up_r, z1, z2, and_false, if_false]
      · show fi _ 30 6 0 30 p = _
        rw [fi, if_pos ⟨rfl, hp⟩]; rfl
    · intro j hj ih
      refine ma_walk (mo_X5_ends ms_X5_cells ms_X5_next) hV [18, 39] (fun F hF => ?_)
      simp only [tb_X5_ends, hF, in_no, in_push, in_ild, in_lld, in_ald, in_ist, in_ast, in_lst, in_inc, in_iii, in_idv, in_ldv, in_lll, in_lli, in_lil, in_ii, in_il, in_li, in_ll, in_dup, in_dp2, q_if1, q_if2, in_go, in_sw, ma_sw, in_rv, in_ri, in_rz, in_rl, in_get, in_put, in_puz, in_iar, in_bar, in_lar, in_aar, in_iaw, in_baw, in_law, in_len, in_cpy, in_s1, in_s2, in_s3, in_v1, in_v2, in_v3, in_v4, in_v5, in_v6, ma_bk, ma_gl, ma_sl, ma_nl, ma_wc, ma_wd, ma_nn, ma_en, List.mem_cons, List.not_mem_nil, or_false, or_true, true_or, false_or, true_and, and_true, false_and, and_false, if_true, if_false, forall_const, true_implies, false_implies, not_true_eq_false, not_false_eq_true, Classical.not_not, implies_true, and_self, Nat.add_zero, Nat.zero_add, eq_self, ne_eq, reduceCtorEq, Nat.reduceLT, Nat.reduceLeDiff, Nat.reduceEqDiff, Nat.reduceSub, Nat.reduceAdd, i10, i01, im10, Int32.reduceLT, Int32.reduceLE, ↓reduceIte, reduceIte, up_r, uL_r, cp_r, Int32.toInt_toInt64, Int64.reduceToInt, Int32.reduceToInt, ↓b1_or, b1_0, b1_1, lc_lt, lc_le, lc_gt, lc_ge, lc_eq, ym_0, ym_1, ym_2, ym_3, ym_4, ym_5, ym_6, ym_7, ym_8, ym_9, ym_10, ym_11, ym_12, ym_13, ym_14, ym_15, ym_16, ym_17, ym_18, ym_19, ym_20, ym_21, ym_22, ym_23, ym_24, ym_25, ym_26, ym_27, ym_28, ym_29, ym_30, rm__0, rm__1, rm__2, rm__3, rm__4, rm__5, rm__6, rm__7, rm__8, rm__9, rm__10, rm__11, rm__12, rm__13, rm__14, rm__15, rm__16, rm__17, rm__18, rm__19, rm__20, rm__21, rm__22, rm__23, rm__24, rm__25, rm__26, rm__27, rm__28, rm__29, rm__30, rm__31, rm__32, rm__33, rm__34, rm__35, rm__36, rm__37, rm__38, rm__39, rm__40, rm__41, rm__42, rm__43, rm__44, rm__45, un_X5_cells, un_X5_next]
      try simp only [iteP, Classical.not_not, b1_0, b1_1]
      simp (disch := omega) only [a_ti, nI_add, nI_1, pk_mul, a_le, a_lt, a_eq, a_cl, a_vi, a_0le, a_lt0, a_0lt, a_le0, a_eq0, a_lit]
      refine ⟨fun c => absurd c (by omega), fun _ => ⟨hj, ?_⟩⟩
      exact kv ih rfl rfl fi_s rfl
  refine ma_walk (mo_X5_ends ms_X5_cells ms_X5_next) hV [18] (fun F hF => ?_)
  simp only [tb_X5_ends, hF, in_no, in_push, in_ild, in_lld, in_ald, in_ist, in_ast, in_lst, in_inc, in_iii, in_idv, in_ldv, in_lll, in_lli, in_lil, in_ii, in_il, in_li, in_ll, in_dup, in_dp2, q_if1, q_if2, in_go, in_sw, ma_sw, in_rv, in_ri, in_rz, in_rl, in_get, in_put, in_puz, in_iar, in_bar, in_lar, in_aar, in_iaw, in_baw, in_law, in_len, in_cpy, in_s1, in_s2, in_s3, in_v1, in_v2, in_v3, in_v4, in_v5, in_v6, ma_bk, ma_gl, ma_sl, ma_nl, ma_wc, ma_wd, ma_nn, ma_en, List.mem_cons, List.not_mem_nil, or_false, or_true, true_or, false_or, true_and, and_true, false_and, and_false, if_true, if_false, forall_const, true_implies, false_implies, not_true_eq_false, not_false_eq_true, Classical.not_not, implies_true, and_self, Nat.add_zero, Nat.zero_add, eq_self, ne_eq, reduceCtorEq, Nat.reduceLT, Nat.reduceLeDiff, Nat.reduceEqDiff, Nat.reduceSub, Nat.reduceAdd, i10, i01, im10, Int32.reduceLT, Int32.reduceLE, ↓reduceIte, reduceIte, up_r, uL_r, cp_r, Int32.toInt_toInt64, Int64.reduceToInt, Int32.reduceToInt, ↓b1_or, b1_0, b1_1, lc_lt, lc_le, lc_gt, lc_ge, lc_eq, ym_0, ym_1, ym_2, ym_3, ym_4, ym_5, ym_6, ym_7, ym_8, ym_9, ym_10, ym_11, ym_12, ym_13, ym_14, ym_15, ym_16, ym_17, ym_18, ym_19, ym_20, ym_21, ym_22, ym_23, ym_24, ym_25, ym_26, ym_27, ym_28, ym_29, ym_30, rm__0, rm__1, rm__2, rm__3, rm__4, rm__5, rm__6, rm__7, rm__8, rm__9, rm__10, rm__11, rm__12, rm__13, rm__14, rm__15, rm__16, rm__17, rm__18, rm__19, rm__20, rm__21, rm__22, rm__23, rm__24, rm__25, rm__26, rm__27, rm__28, rm__29, rm__30, rm__31, rm__32, rm__33, rm__34, rm__35, rm__36, rm__37, rm__38, rm__39, rm__40, rm__41, rm__42, rm__43, rm__44, rm__45, un_X5_cells, un_X5_next, m0, m1]
  try simp only [iteP, Classical.not_not, b1_0, b1_1]
  exact kv (v18 0 (by omega)) rfl rfl fi_0.symm rfl
theorem pv_X5_ends : ∀ as M L K, S_X5_ends as M L K → ma_rn (tb_X5_ends S_X5_cells S_X5_next) 9 as M L K := by
  intro as M L K h
  unfold S_X5_ends at h
  split at h
  · obtain ⟨w, u, e, wk, bb, pc, st, h⟩ := h; exact pw_X5_ends h.1 h.2
  · exact h.elim
