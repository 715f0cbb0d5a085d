/-! marks of a line (the model); bounds of the numbers -/
set_option maxRecDepth 100000
set_option maxHeartbeats 4000000
def S_X5_madeMarked : ma_Cs := fun as M L K => match as with
  | [.ref k, .int ll, .int ss, .int cc] => ∃ (w : Nat) (u : Nat) (e : Nat) (c : Nat) (s : Nat) (l : Nat) (ts : List Tm) (ls : List Ln), (k = 0 ∧ Sy M w u e c s ∧ 0 < s ∧ ss = nI s ∧ cc = nI c ∧ ll = nI l ∧ l < 4 ∧ Pc M ts ls ∧ Vp ts ls ∧ B24 M) ∧ ((¬ ∃ i, i < ls.length ∧ (lnA ls i).1 = l) → K (some (.int (rwv (M 24) (s - 1) c l))) M L) ∧ (∀ i, i < ls.length → (lnA ls i).1 = l → K (some (.int (b1 (mkl (nk w u e (rwv (M 24) (s - 1)) (rwv (M 24) s c) c) ts (lnA ls i).2.1 (lnA ls i).2.2.1)))) M L)
  | _ => False
theorem ms_X5_madeMarked : ma_ms S_X5_madeMarked := by
  intro as M L K K' hk h
  unfold S_X5_madeMarked at h ⊢
  split at h
  · obtain ⟨w, u, e, c, s, l, ts, ls, h⟩ := h
    exact ⟨w, u, e, c, s, l, ts, ls, h.1, fun x0 => hk _ _ _ (h.2.1 x0), fun x0 x1 x2 => hk _ _ _ (h.2.2 x0 x1 x2)⟩
  · exact h.elim
theorem un_X5_madeMarked {k : Nat} {ll : Int32} {ss : Int32} {cc : Int32} {M : ZM} {L : ZL} {K : ma_Kt} : S_X5_madeMarked [.ref k, .int ll, .int ss, .int cc] M L K = (∃ (w : Nat) (u : Nat) (e : Nat) (c : Nat) (s : Nat) (l : Nat) (ts : List Tm) (ls : List Ln), (k = 0 ∧ Sy M w u e c s ∧ 0 < s ∧ ss = nI s ∧ cc = nI c ∧ ll = nI l ∧ l < 4 ∧ Pc M ts ls ∧ Vp ts ls ∧ B24 M) ∧ ((¬ ∃ i, i < ls.length ∧ (lnA ls i).1 = l) → K (some (.int (rwv (M 24) (s - 1) c l))) M L) ∧ (∀ i, i < ls.length → (lnA ls i).1 = l → K (some (.int (b1 (mkl (nk w u e (rwv (M 24) (s - 1)) (rwv (M 24) s c) c) ts (lnA ls i).2.1 (lnA ls i).2.2.1)))) M L)) := rfl
theorem pw_X5_madeMarked {k : Nat} {ll : Int32} {ss : Int32} {cc : Int32} {w : Nat} {u : Nat} {e : Nat} {c : Nat} {s : Nat} {l : Nat} {ts : List Tm} {ls : List Ln} {M : ZM} {L : ZL} {K : ma_Kt} (hp : k = 0 ∧ Sy M w u e c s ∧ 0 < s ∧ ss = nI s ∧ cc = nI c ∧ ll = nI l ∧ l < 4 ∧ Pc M ts ls ∧ Vp ts ls ∧ B24 M) (h : ((¬ ∃ i, i < ls.length ∧ (lnA ls i).1 = l) → K (some (.int (rwv (M 24) (s - 1) c l))) M L) ∧ (∀ i, i < ls.length → (lnA ls i).1 = l → K (some (.int (b1 (mkl (nk w u e (rwv (M 24) (s - 1)) (rwv (M 24) s c) c) ts (lnA ls i).2.1 (lnA ls i).2.2.1)))) M L)) : ma_rn (tb_X5_madeMarked S_X5_place S_X5_namedMarked) 6 [.ref k, .int ll, .int ss, .int cc] M L K := by
  refine ⟨Nat.le_of_ble_eq_true rfl, fun V hV => ?_⟩
  obtain ⟨rfl, hk, h0, rfl, rfl, rfl, hl, hP, hV0, hB⟩ := hp
  obtain ⟨m0, m1, m2, hs, hs2⟩ := id hk
  obtain ⟨s1, s2, s3, s4, s5, s6, s7⟩ := id hs
  have h36 := Nat.mul_le_mul (Nat.le_of_lt_succ s2) (Nat.le_of_lt_succ s4)
  obtain ⟨v1, v2, v3, v4⟩ := id hV0
  have l8 : vp_in (nI l) 8 := vp_in_nI (by omega) (by decide)
  have cl := a_cl (show l < 2147483648 by omega)
  have s11 : nI s - 1 = nI (s - 1) := pk_sub (b := 1) h0
  by_cases hno : ∃ i, i < ls.length ∧ (lnA ls i).1 = l
  · obtain ⟨i, hi, hil⟩ := hno
    have h := h.2 i hi hil
    have hL := hP.ln hi
    have hV4 : (lnA ls i).2.1 + (lnA ls i).2.2.1 ≤ ts.length ∧ 0 < (lnA ls i).2.2.2.1 ∧ (lnA ls i).2.2.2.1 ≤ 1000 ∧ (lnA ls i).2.2.2.2 ≤ 1 ∧ (lnA ls i).1 < 4 := v4 i hi
    rw [hil] at hL
    generalize lnA ls i = rr at *
    generalize hf : nk w u e (rwv (M 24) (s - 1)) (rwv (M 24) s c) c = nkf at *
    obtain ⟨l1, l2, l3, l4, l5, l6⟩ := hL
    have i0 : (0 : Int32) ≤ nI i := nI_pos' (by omega)
    have lp : ∀ j, j ≤ rr.2.2.1 → V 34 [some (.ref 0), some (.int (nI l)), some (.int (nI s)), some (.int (nI c)), some (.int (b1 (mkl nkf ts rr.2.1 j))), some (.int (nI (rr.2.1 + j)))] [] M L := by
      refine lp_up ?_ ?_
      · refine ma_walk (mo_X5_madeMarked ms_X5_place ms_X5_namedMarked) hV [34, 104] (fun F hF => ?_)
        simp only [tb_X5_madeMarked, hF, in_no, in_push, in_ild, in_lld, in_ald, in_ist, in_ast, in_lst, in_inc, in_iii, in_idv, in_ldv, in_lll, in_lli, in_lil, in_ii, in_il, in_li, in_ll, in_dup, in_dp2, q_if1, q_if2, in_go, in_sw, ma_sw, in_rv, in_ri, in_rz, in_rl, in_get, in_put, in_puz, in_iar, in_bar, in_lar, in_aar, in_iaw, in_baw, in_law, in_len, in_cpy, in_s1, in_s2, in_s3, in_v1, in_v2, in_v3, in_v4, in_v5, in_v6, ma_bk, ma_gl, ma_sl, ma_nl, ma_wc, ma_wd, ma_nn, ma_en, List.mem_cons, List.not_mem_nil, or_false, or_true, true_or, false_or, true_and, and_true, false_and, and_false, if_true, if_false, forall_const, true_implies, false_implies, not_true_eq_false, not_false_eq_true, Classical.not_not, implies_true, and_self, Nat.add_zero, Nat.zero_add, eq_self, ne_eq, reduceCtorEq, Nat.reduceLT, Nat.reduceLeDiff, Nat.reduceEqDiff, Nat.reduceSub, Nat.reduceAdd, i10, i01, im10, Int32.reduceLT, Int32.reduceLE, ↓reduceIte, reduceIte, up_r, uL_r, cp_r, Int32.toInt_toInt64, Int64.reduceToInt, Int32.reduceToInt, ↓b1_or, b1_0, b1_1, lc_lt, lc_le, lc_gt, lc_ge, lc_eq, ym_0, ym_1, ym_2, ym_3, ym_4, ym_5, ym_6, ym_7, ym_8, ym_9, ym_10, ym_11, ym_12, ym_13, ym_14, ym_15, ym_16, ym_17, ym_18, ym_19, ym_20, ym_21, ym_22, ym_23, ym_24, ym_25, ym_26, ym_27, ym_28, ym_29, ym_30, rm__0, rm__1, rm__2, rm__3, rm__4, rm__5, rm__6, rm__7, rm__8, rm__9, rm__10, rm__11, rm__12, rm__13, rm__14, rm__15, rm__16, rm__17, rm__18, rm__19, rm__20, rm__21, rm__22, rm__23, rm__24, rm__25, rm__26, rm__27, rm__28, rm__29, rm__30, rm__31, rm__32, rm__33, rm__34, rm__35, rm__36, rm__37, rm__38, rm__39, rm__40, rm__41, rm__42, rm__43, rm__44, rm__45, un_X5_place, un_X5_namedMarked, l8, cl, l3, l4, nI_add]
        try simp only [iteP, Classical.not_not, b1_0, b1_1]
        rw [a_le (by omega) (by omega)]
        exact ⟨fun _ => h, fun z => absurd (by omega) z⟩
      · intro j hj ih
        have ht : rr.2.1 + j < ts.length := by omega
        have hT := hP.tm ht
        have hq := v3 _ ht
        rw [b1_c mkl_s] at ih
        generalize ts.getD (rr.2.1 + j) (0, 0, none) = tm at *
        obtain ⟨t1, t2, t3⟩ := hT
        have v160 : vp_in (nI (rr.2.1 + j)) 160 := vp_in_nI (by omega) (by decide)
        have ct := a_cl (show rr.2.1 + j < 2147483648 by omega)
        have h104 : ∀ b, b = b1 (mkl nkf ts rr.2.1 j ∨ mk1 nkf tm) → V 104 [some (.ref 0), some (.int (nI l)), some (.int (nI s)), some (.int (nI c)), some (.int (b1 (mkl nkf ts rr.2.1 j))), some (.int (nI (rr.2.1 + j)))] [.int b] M L := by
          intro b hb
          rw [hb]
          refine ma_walk (mo_X5_madeMarked ms_X5_place ms_X5_namedMarked) hV [34] (fun F hF => ?_)
          simp only [tb_X5_madeMarked, hF, in_no, in_push, in_ild, in_lld, in_ald, in_ist, in_ast, in_lst, in_inc, in_iii, in_idv, in_ldv, in_lll, in_lli, in_lil, in_ii, in_il, in_li, in_ll, in_dup, in_dp2, q_if1, q_if2, in_go, in_sw, ma_sw, in_rv, in_ri, in_rz, in_rl, in_get, in_put, in_puz, in_iar, in_bar, in_lar, in_aar, in_iaw, in_baw, in_law, in_len, in_cpy, in_s1, in_s2, in_s3, in_v1, in_v2, in_v3, in_v4, in_v5, in_v6, ma_bk, ma_gl, ma_sl, ma_nl, ma_wc, ma_wd, ma_nn, ma_en, List.mem_cons, List.not_mem_nil, or_false, or_true, true_or, false_or, true_and, and_true, false_and, and_false, if_true, if_false, forall_const, true_implies, false_implies, not_true_eq_false, not_false_eq_true, Classical.not_not, implies_true, and_self, Nat.add_zero, Nat.zero_add, eq_self, ne_eq, reduceCtorEq, Nat.reduceLT, Nat.reduceLeDiff, Nat.reduceEqDiff, Nat.reduceSub, Nat.reduceAdd, i10, i01, im10, Int32.reduceLT, Int32.reduceLE, ↓reduceIte, reduceIte, up_r, uL_r, cp_r, Int32.toInt_toInt64, Int64.reduceToInt, Int32.reduceToInt, ↓b1_or, b1_0, b1_1, lc_lt, lc_le, lc_gt, lc_ge, lc_eq, ym_0, ym_1, ym_2, ym_3, ym_4, ym_5, ym_6, ym_7, ym_8, ym_9, ym_10, ym_11, ym_12, ym_13, ym_14, ym_15, ym_16, ym_17, ym_18, ym_19, ym_20, ym_21, ym_22, ym_23, ym_24, ym_25, ym_26, ym_27, ym_28, ym_29, ym_30, rm__0, rm__1, rm__2, rm__3, rm__4, rm__5, rm__6, rm__7, rm__8, rm__9, rm__10, rm__11, rm__12, rm__13, rm__14, rm__15, rm__16, rm__17, rm__18, rm__19, rm__20, rm__21, rm__22, rm__23, rm__24, rm__25, rm__26, rm__27, rm__28, rm__29, rm__30, rm__31, rm__32, rm__33, rm__34, rm__35, rm__36, rm__37, rm__38, rm__39, rm__40, rm__41, rm__42, rm__43, rm__44, rm__45, un_X5_place, un_X5_namedMarked, nI_1]
          try simp only [iteP, Classical.not_not, b1_0, b1_1]
          exact ih
        unfold mk1 at h104
        refine ma_walk (mo_X5_madeMarked ms_X5_place ms_X5_namedMarked) hV [34, 104] (fun F hF => ?_)
        simp only [tb_X5_madeMarked, hF, in_no, in_push, in_ild, in_lld, in_ald, in_ist, in_ast, in_lst, in_inc, in_iii, in_idv, in_ldv, in_lll, in_lli, in_lil, in_ii, in_il, in_li, in_ll, in_dup, in_dp2, q_if1, q_if2, in_go, in_sw, ma_sw, in_rv, in_ri, in_rz, in_rl, in_get, in_put, in_puz, in_iar, in_bar, in_lar, in_aar, in_iaw, in_baw, in_law, in_len, in_cpy, in_s1, in_s2, in_s3, in_v1, in_v2, in_v3, in_v4, in_v5, in_v6, ma_bk, ma_gl, ma_sl, ma_nl, ma_wc, ma_wd, ma_nn, ma_en, List.mem_cons, List.not_mem_nil, or_false, or_true, true_or, false_or, true_and, and_true, false_and, and_false, if_true, if_false, forall_const, true_implies, false_implies, not_true_eq_false, not_false_eq_true, Classical.not_not, implies_true, and_self, Nat.add_zero, Nat.zero_add, eq_self, ne_eq, reduceCtorEq, Nat.reduceLT, Nat.reduceLeDiff, Nat.reduceEqDiff, Nat.reduceSub, Nat.reduceAdd, i10, i01, im10, Int32.reduceLT, Int32.reduceLE, ↓reduceIte, reduceIte, up_r, uL_r, cp_r, Int32.toInt_toInt64, Int64.reduceToInt, Int32.reduceToInt, ↓b1_or, b1_0, b1_1, lc_lt, lc_le, lc_gt, lc_ge, lc_eq, ym_0, ym_1, ym_2, ym_3, ym_4, ym_5, ym_6, ym_7, ym_8, ym_9, ym_10, ym_11, ym_12, ym_13, ym_14, ym_15, ym_16, ym_17, ym_18, ym_19, ym_20, ym_21, ym_22, ym_23, ym_24, ym_25, ym_26, ym_27, ym_28, ym_29, ym_30, rm__0, rm__1, rm__2, rm__3, rm__4, rm__5, rm__6, rm__7, rm__8, rm__9, rm__10, rm__11, rm__12, rm__13, rm__14, rm__15, rm__16, rm__17, rm__18, rm__19, rm__20, rm__21, rm__22, rm__23, rm__24, rm__25, rm__26, rm__27, rm__28, rm__29, rm__30, rm__31, rm__32, rm__33, rm__34, rm__35, rm__36, rm__37, rm__38, rm__39, rm__40, rm__41, rm__42, rm__43, rm__44, rm__45, un_X5_place, un_X5_namedMarked, l8, cl, l3, l4, nI_add, v160, ct, t2, t3]
        try simp only [iteP, Classical.not_not, b1_0, b1_1]
        rw [a_le (by omega) (by omega)]
        refine ⟨fun z => absurd z (by omega), fun _ => ⟨fun z => ⟨w, u, e, c, s, tm.2.1, ⟨hk, h0, rfl, rfl, rfl, hq.1, hB⟩, ?_⟩, fun z => h104 _ (b1_t (Or.inl z)).symm⟩⟩
        rw [hf]
        refine ⟨fun z1 => ?_, fun z1 => h104 _ (b1_t (Or.inr (Or.inl z1))).symm⟩
        cases ho : tm.2.2 with
        | none =>
          rw [ho] at h104
          refine ⟨fun _ => h104 _ (b1_f (fun q => ?_)).symm, fun z => absurd (by decide) z⟩
          rcases q with q | q | ⟨q, q2, _⟩
          · exact z q
          · exact z1 q
          · cases q2
        | some q2 =>
          rw [ho] at h104
          have q24 := hq.2 q2 ho
          refine ⟨fun z => absurd z (nI_pos (by omega)), fun _ => ⟨w, u, e, c, s, q2, ⟨hk, h0, rfl, rfl, rfl, q24, hB⟩, ?_⟩⟩
          rw [hf]
          refine ⟨fun z2 => h104 _ (b1_f (fun q => ?_)).symm, fun z2 => h104 _ (b1_t (Or.inr (Or.inr ⟨q2, rfl, z2⟩))).symm⟩
          rcases q with q | q | ⟨q, q3, q4⟩
          · exact z q
          · exact z1 q
          · cases q3; exact z2 q4
    refine ma_walk (mo_X5_madeMarked ms_X5_place ms_X5_namedMarked) hV [34] (fun F hF => ?_)
    simp only [tb_X5_madeMarked, hF, in_no, in_push, in_ild, in_lld, in_ald, in_ist, in_ast, in_lst, in_inc, in_iii, in_idv, in_ldv, in_lll, in_lli, in_lil, in_ii, in_il, in_li, in_ll, in_dup, in_dp2, q_if1, q_if2, in_go, in_sw, ma_sw, in_rv, in_ri, in_rz, in_rl, in_get, in_put, in_puz, in_iar, in_bar, in_lar, in_aar, in_iaw, in_baw, in_law, in_len, in_cpy, in_s1, in_s2, in_s3, in_v1, in_v2, in_v3, in_v4, in_v5, in_v6, ma_bk, ma_gl, ma_sl, ma_nl, ma_wc, ma_wd, ma_nn, ma_en, List.mem_cons, List.not_mem_nil, or_false, or_true, true_or, false_or, true_and, and_true, false_and, and_false, if_true, if_false, forall_const, true_implies, false_implies, not_true_eq_false, not_false_eq_true, Classical.not_not, implies_true, and_self, Nat.add_zero, Nat.zero_add, eq_self, ne_eq, reduceCtorEq, Nat.reduceLT, Nat.reduceLeDiff, Nat.reduceEqDiff, Nat.reduceSub, Nat.reduceAdd, i10, i01, im10, Int32.reduceLT, Int32.reduceLE, ↓reduceIte, reduceIte, up_r, uL_r, cp_r, Int32.toInt_toInt64, Int64.reduceToInt, Int32.reduceToInt, ↓b1_or, b1_0, b1_1, lc_lt, lc_le, lc_gt, lc_ge, lc_eq, ym_0, ym_1, ym_2, ym_3, ym_4, ym_5, ym_6, ym_7, ym_8, ym_9, ym_10, ym_11, ym_12, ym_13, ym_14, ym_15, ym_16, ym_17, ym_18, ym_19, ym_20, ym_21, ym_22, ym_23, ym_24, ym_25, ym_26, ym_27, ym_28, ym_29, ym_30, rm__0, rm__1, rm__2, rm__3, rm__4, rm__5, rm__6, rm__7, rm__8, rm__9, rm__10, rm__11, rm__12, rm__13, rm__14, rm__15, rm__16, rm__17, rm__18, rm__19, rm__20, rm__21, rm__22, rm__23, rm__24, rm__25, rm__26, rm__27, rm__28, rm__29, rm__30, rm__31, rm__32, rm__33, rm__34, rm__35, rm__36, rm__37, rm__38, rm__39, rm__40, rm__41, rm__42, rm__43, rm__44, rm__45, un_X5_place, un_X5_namedMarked, l8, cl, l2, l3, i0]
    try simp only [iteP, Classical.not_not, b1_0, b1_1]
    have q := lp 0 (Nat.zero_le _)
    rw [b1_f mkl_0] at q; exact q
  · have h := h.1 hno
    have hz := hP.no hl hno
    have g4 : ¬ (0 : Int32) ≤ -4 := by decide
    refine ma_walk (mo_X5_madeMarked ms_X5_place ms_X5_namedMarked) hV [34] (fun F hF => ?_)
    simp only [tb_X5_madeMarked, hF, in_no, in_push, in_ild, in_lld, in_ald, in_ist, in_ast, in_lst, in_inc, in_iii, in_idv, in_ldv, in_lll, in_lli, in_lil, in_ii, in_il, in_li, in_ll, in_dup, in_dp2, q_if1, q_if2, in_go, in_sw, ma_sw, in_rv, in_ri, in_rz, in_rl, in_get, in_put, in_puz, in_iar, in_bar, in_lar, in_aar, in_iaw, in_baw, in_law, in_len, in_cpy, in_s1, in_s2, in_s3, in_v1, in_v2, in_v3, in_v4, in_v5, in_v6, ma_bk, ma_gl, ma_sl, ma_nl, ma_wc, ma_wd, ma_nn, ma_en, List.mem_cons, List.not_mem_nil, or_false, or_true, true_or, false_or, true_and, and_true, false_and, and_false, if_true, if_false, forall_const, true_implies, false_implies, not_true_eq_false, not_false_eq_true, Classical.not_not, implies_true, and_self, Nat.add_zero, Nat.zero_add, eq_self, ne_eq, reduceCtorEq, Nat.reduceLT, Nat.reduceLeDiff, Nat.reduceEqDiff, Nat.reduceSub, Nat.reduceAdd, i10, i01, im10, Int32.reduceLT, Int32.reduceLE, ↓reduceIte, reduceIte, up_r, uL_r, cp_r, Int32.toInt_toInt64, Int64.reduceToInt, Int32.reduceToInt, ↓b1_or, b1_0, b1_1, lc_lt, lc_le, lc_gt, lc_ge, lc_eq, ym_0, ym_1, ym_2, ym_3, ym_4, ym_5, ym_6, ym_7, ym_8, ym_9, ym_10, ym_11, ym_12, ym_13, ym_14, ym_15, ym_16, ym_17, ym_18, ym_19, ym_20, ym_21, ym_22, ym_23, ym_24, ym_25, ym_26, ym_27, ym_28, ym_29, ym_30, rm__0, rm__1, rm__2, rm__3, rm__4, rm__5, rm__6, rm__7, rm__8, rm__9, rm__10, rm__11, rm__12, rm__13, rm__14, rm__15, rm__16, rm__17, rm__18, rm__19, rm__20, rm__21, rm__22, rm__23, rm__24, rm__25, rm__26, rm__27, rm__28, rm__29, rm__30, rm__31, rm__32, rm__33, rm__34, rm__35, rm__36, rm__37, rm__38, rm__39, rm__40, rm__41, rm__42, rm__43, rm__44, rm__45, un_X5_place, un_X5_namedMarked, l8, cl, hz, g4, s11]
    try simp only [iteP, Classical.not_not, b1_0, b1_1]
    rw [pl_e, a_cl (by omega), a_vi (by omega)]
    exact ⟨by omega, hB _, h⟩
theorem pv_X5_madeMarked : ∀ as M L K, S_X5_madeMarked as M L K → ma_rn (tb_X5_madeMarked S_X5_place S_X5_namedMarked) 6 as M L K := by
  intro as M L K h
  unfold S_X5_madeMarked at h
  split at h
  · obtain ⟨w, u, e, c, s, l, ts, ls, h⟩ := h; exact pw_X5_madeMarked h.1 h.2
  · exact h.elim
theorem mdt_b {nvf : Nat → Int32} {ts : List Tm} (hf : Vf ts) : ∀ (n t : Nat) (x y : Int64) (B : Nat), t + n ≤ ts.length → B + 1000000000000000 * n ≤ 1000000000000000000 → x.toInt.natAbs ≤ B → mdt nvf ts n t x = some y → y.toInt.natAbs ≤ B + 1000000000000000 * n
  | 0, _, x, y, B, _, _, h3, h4 => by rw [mdt] at h4; cases h4; omega
  | n + 1, t, x, y, B, h1, h2, h3, h4 => by
    rw [mdt] at h4
    split at h4
    · cases h4
    · next z e =>
      have hz : -1000000000000000 ≤ z.toInt ∧ z.toInt ≤ 1000000000000000 := by
        unfold tmv at e
        split at e
        · cases e
        · next q =>
          cases e
          exact tm_b (hf t (by omega)) (fun y => q (Or.inr (Or.inr (Or.inl y)))) (fun y => q (Or.inr (Or.inr (Or.inr y))))
      have := mdt_b hf n (t + 1) (x + z) y (B + 1000000000000000) (by omega) (by omega) (by rw [l_add (by omega) (by omega)]; omega) h4
      omega
theorem mdv_b {nvf : Nat → Int32} {ts : List Tm} {r : Ln} (hf : Vf ts) (h1 : r.2.1 + r.2.2.1 ≤ ts.length) (h2 : ts.length ≤ 80) (h3 : 0 < r.2.2.2.1) (h4 : r.2.2.2.1 ≤ 1000) : mdv nvf ts r = 2000000000 ∨ (-1000000000 ≤ (mdv nvf ts r).toInt ∧ (mdv nvf ts r).toInt ≤ 1000000000) := by
  unfold mdv
  cases e : mdt nvf ts r.2.2.1 r.2.1 0 with
  | none => exact Or.inl rfl
  | some s =>
    have hs := mdt_b hf _ _ _ _ 0 h1 (by omega) (by decide) e
    show (if 1000000000000000 < abL s then (2000000000 : Int32) else if 1000000000 < abL (mdq r.2.2.2.1 r.2.2.2.2 s) then 2000000000 else (mdq r.2.2.2.1 r.2.2.2.2 s).toInt32) = 2000000000 ∨ _
    unfold mdf
    dsimp only
    by_cases c1 : 1000000000000000 < abL s
    · rw [if_pos c1]; exact Or.inl rfl
    · rw [if_neg c1]
      rw [abL_n (by omega)] at c1
      by_cases c2 : 1000000000 < abL (mdq r.2.2.2.1 r.2.2.2.2 s)
      · rw [if_pos c2]; exact Or.inl rfl
      · rw [if_neg c2]
        right
        have bL : (nI r.2.2.2.1).toInt64.toInt = (r.2.2.2.1 : Int) := by rw [Int32.toInt_toInt64, a_ti (by omega)]
        have hq : -2000000000000001000 ≤ (mdq r.2.2.2.1 r.2.2.2.2 s).toInt ∧ (mdq r.2.2.2.1 r.2.2.2.2 s).toInt ≤ 2000000000000001000 := by
          unfold mdq
          have b2 : (2 * (nI r.2.2.2.1).toInt64).toInt = 2 * (r.2.2.2.1 : Int) := by
            rw [l_mul (by rw [bL, show (2 : Int64).toInt = 2 from rfl]; omega) (by rw [bL, show (2 : Int64).toInt = 2 from rfl]; omega), bL]; rfl
          have e2 : (2 * s).toInt = 2 * s.toInt := by
            rw [l_mul (by rw [show (2 : Int64).toInt = 2 from rfl]; omega) (by rw [show (2 : Int64).toInt = 2 from rfl]; omega)]; rfl
          have e3 : (2 * s + (nI r.2.2.2.1).toInt64).toInt = 2 * s.toInt + (r.2.2.2.1 : Int) := by
            rw [l_add (by rw [e2, bL]; omega) (by rw [e2, bL]; omega), e2, bL]
          have dv : ∀ a m : Int, 0 < m → -2000000000000001000 ≤ a → a ≤ 2000000000000001000 → -2000000000000001000 ≤ a / m ∧ a / m ≤ 2000000000000001000 := by
            intro a m hm h5 h6
            exact dv_b hm (by omega) (by omega)
          split
          · rw [fdL_ti (by rw [bL]; omega) (by omega), bL]
            exact dv _ _ (by omega) (by omega) (by omega)
          · rw [fdL_ti (by rw [b2]; omega) (by rw [e3]; omega), b2, e3]
            exact dv _ _ (by omega) (by omega) (by omega)
        rw [Int64.lt_iff_toInt_lt, abL, l_abs (by omega), show (1000000000 : Int64).toInt = 1000000000 from rfl] at c2
        rw [l_i (by omega) (by omega)]; omega
def bd (x : Int32) : Prop := x = 2000000000 ∨ (-1000000000 ≤ x.toInt ∧ x.toInt ≤ 1000000000)
theorem nwv_b {r : Nat → Int32} {w u e : Nat} {ts : List Tm} {ls : List Ln} {Z : Nat → Nat → Nat → Int32 → Int32} {pr : Nat → Nat → Int32} {s c : Nat} (hV : Vp ts ls) (hf : Vf ts) (hZ : ∀ s c l v, bd v → bd (Z s c l v)) {l : Nat} (hp : bd (pr c l)) : ∀ j, j ≤ ls.length → bd (nwv r w u e ts ls Z pr s c j l)
  | 0, _ => hZ _ _ _ _ hp
  | j + 1, h => by
    rw [nwv]
    split
    · have q := hV.2.2.2 j (by omega)
      exact hZ _ _ _ _ (mdv_b hf q.1 hV.1 q.2.1 q.2.2.1)
    · exact nwv_b hV hf hZ hp j (by omega)
theorem val_b {r : Nat → Int32} {w u e : Nat} {ts : List Tm} {ls : List Ln} {Z : Nat → Nat → Nat → Int32 → Int32} {r0 : Nat → Nat → Int32} (hV : Vp ts ls) (hf : Vf ts) (hZ : ∀ s c l v, bd v → bd (Z s c l v)) {c l : Nat} (h0 : bd (r0 c l)) : ∀ s, bd (val r w u e ts ls Z r0 s c l)
  | 0 => h0
  | s + 1 => by
    rw [val]
    exact nwv_b hV hf hZ (val_b hV hf hZ h0 s) _ (Nat.le_refl _)
