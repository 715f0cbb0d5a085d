/-! op: plan (the model) -/
set_option maxRecDepth 100000
set_option maxHeartbeats 4000000
def S_X5_plan : ma_Cs := fun as M L K => match as with
  | [.ref k] => ∃ (x : St), (k = 0 ∧ J x ∧ RY M L x) ∧ (∀ (M' : ZM) (L' : ZL), RY M' L' (oPlan x).2 → K (some (.int (oPlan x).1)) M' L')
  | _ => False
theorem ms_X5_plan : ma_ms S_X5_plan := by
  intro as M L K K' hk h
  unfold S_X5_plan at h ⊢
  split at h
  · obtain ⟨x, h⟩ := h
    exact ⟨x, h.1, fun x0 x1 x2 => hk _ _ _ (h.2 x0 x1 x2)⟩
  · exact h.elim
theorem un_X5_plan {k : Nat} {M : ZM} {L : ZL} {K : ma_Kt} : S_X5_plan [.ref k] M L K = (∃ (x : St), (k = 0 ∧ J x ∧ RY M L x) ∧ (∀ (M' : ZM) (L' : ZL), RY M' L' (oPlan x).2 → K (some (.int (oPlan x).1)) M' L')) := rfl
theorem pw_X5_plan {k : Nat} {x : St} {M : ZM} {L : ZL} {K : ma_Kt} (hp : k = 0 ∧ J x ∧ RY M L x) (h : (∀ (M' : ZM) (L' : ZL), RY M' L' (oPlan x).2 → K (some (.int (oPlan x).1)) M' L')) : ma_rn (tb_X5_plan S_X5_faultOf) 2 [.ref k] M L K := by
  refine ⟨Nat.le_of_ble_eq_true rfl, fun V hV => ?_⟩
  obtain ⟨rfl, hJ, hR⟩ := hp
  unfold oPlan at h
  have ok : ∀ (M2 : ZM) (ts : List Tm) (ls : List Ln), rT x = .ok (ts, ls) → Rf M M2 → PY M2 ts ls → V 22 [some (.ref 0), some (.int 0)] [] (ma_up M2 0 7 (nI ls.length)) L := by
    intro M2 ts ls e1 e2 e3
    rw [e1] at h
    obtain ⟨b1, b2, b3, b4, b5⟩ := gT_b hJ
    have hVq := rd_ok b2 b3 e1
    have hR2 := RY.rf hJ hR e2
    generalize hMb : ma_up M2 0 7 (nI ls.length) = Mb
    have hb0 : ∀ a, a ≠ 0 → Mb a = M2 a := fun a ha => by rw [← hMb]; exact up_c ha
    have hb7 : Mb 0 7 = nI ls.length := by rw [← hMb]; rfl
    have hbj : ∀ j, j ≠ 7 → Mb 0 j = M2 0 j := fun j hj => by rw [← hMb, up_r, if_neg (fun z => hj z.2)]
    have l80 := hVq.1.1.1
    have l4 := hVq.1.1.2.1
    have v2 : ∀ j, j ≤ 80 → ∀ M1 : ZM, (∀ a, a < 3 ∨ 11 < a → M1 a = Mb a) → (∀ a, 3 ≤ a → a ≤ 8 → ∀ i, i < 4 → M1 a i = Mb a (4 + i)) → (∀ a, 9 ≤ a → a ≤ 11 → ∀ i, M1 a i = if i < j then Mb a (80 + i) else Mb a i) → V 119 [some (.ref 0), some (.int (nI j))] [] M1 L := by
      refine lp_up ?_ ?_
      · intro M1 p1 p2 p3
        have q0 : M1 0 = Mb 0 := p1 0 (by omega)
        have q7 : M1 0 7 = nI ls.length := by rw [q0]; exact hb7
        refine ma_walk (mo_X5_plan ms_X5_faultOf) hV [119] (fun F hF => ?_)
        simp only [tb_X5_plan, hF, in_no, in_push, in_ild, in_lld, in_ald, in_ist, in_ast, in_lst, in_inc, in_iii, in_idv, in_ldv, in_lll, in_lli, in_lil, in_ii, in_il, in_li, in_ll, in_dup, in_dp2, q_if1, q_if2, in_go, in_sw, ma_sw, in_rv, in_ri, in_rz, in_rl, in_get, in_put, in_puz, in_iar, in_bar, in_lar, in_aar, in_iaw, in_baw, in_law, in_len, in_cpy, in_s1, in_s2, in_s3, in_v1, in_v2, in_v3, in_v4, in_v5, in_v6, ma_bk, ma_gl, ma_sl, ma_nl, ma_wc, ma_wd, ma_nn, ma_en, List.mem_cons, List.not_mem_nil, or_false, or_true, true_or, false_or, true_and, and_true, false_and, and_false, if_true, if_false, forall_const, true_implies, false_implies, not_true_eq_false, not_false_eq_true, Classical.not_not, implies_true, and_self, Nat.add_zero, Nat.zero_add, eq_self, ne_eq, reduceCtorEq, Nat.reduceLT, Nat.reduceLeDiff, Nat.reduceEqDiff, Nat.reduceSub, Nat.reduceAdd, i10, i01, im10, Int32.reduceLT, Int32.reduceLE, ↓reduceIte, reduceIte, up_r, uL_r, cp_r, Int32.toInt_toInt64, Int64.reduceToInt, Int32.reduceToInt, ↓b1_or, b1_0, b1_1, lc_lt, lc_le, lc_gt, lc_ge, lc_eq, ym_0, ym_1, ym_2, ym_3, ym_4, ym_5, ym_6, ym_7, ym_8, ym_9, ym_10, ym_11, ym_12, ym_13, ym_14, ym_15, ym_16, ym_17, ym_18, ym_19, ym_20, ym_21, ym_22, ym_23, ym_24, ym_25, ym_26, ym_27, ym_28, ym_29, ym_30, rm__0, rm__1, rm__2, rm__3, rm__4, rm__5, rm__6, rm__7, rm__8, rm__9, rm__10, rm__11, rm__12, rm__13, rm__14, rm__15, rm__16, rm__17, rm__18, rm__19, rm__20, rm__21, rm__22, rm__23, rm__24, rm__25, rm__26, rm__27, rm__28, rm__29, rm__30, rm__31, rm__32, rm__33, rm__34, rm__35, rm__36, rm__37, rm__38, rm__39, rm__40, rm__41, rm__42, rm__43, rm__44, rm__45, un_X5_faultOf, q7]
        try simp only [iteP, Classical.not_not, b1_0, b1_1]
        refine ⟨fun _ => h M1 L ?_, fun z => absurd (by decide) z⟩
        obtain ⟨⟨c0, c1, c2, c3, c5, c19, c24, c25, c30⟩, ⟨a1, a2, a12, a13, a14, a15, a16, a17, a18, a19, a20⟩, r3, r4, r5⟩ := hR2
        have g : ∀ a, a ≠ 0 → a < 3 ∨ 11 < a → M1 a = M2 a := fun a h0 ha => (p1 a ha).trans (hb0 a h0)
        have f : ∀ j, j ≠ 7 → M1 0 j = M2 0 j := fun j hj => by rw [q0]; exact hbj j hj
        refine ⟨⟨(f 0 (by decide)).trans c0, (f 1 (by decide)).trans c1, (f 2 (by decide)).trans c2, (f 3 (by decide)).trans c3, (f 5 (by decide)).trans c5, (f 19 (by decide)).trans c19, (f 24 (by decide)).trans c24, (f 25 (by decide)).trans c25, (f 30 (by decide)).trans c30⟩, ⟨(g 1 (by decide) (by omega)).trans a1, (g 2 (by decide) (by omega)).trans a2, (g 12 (by decide) (by omega)).trans a12, (g 13 (by decide) (by omega)).trans a13, (g 14 (by decide) (by omega)).trans a14, (g 15 (by decide) (by omega)).trans a15, (g 16 (by decide) (by omega)).trans a16, a17, (g 18 (by decide) (by omega)).trans a18, (g 19 (by decide) (by omega)).trans a19, (g 20 (by decide) (by omega)).trans a20⟩, ⟨q7, ⟨fun i hi => ?_, fun l hl hm => ?_⟩, fun t ht => ?_⟩, fun i => by rw [g 24 (by decide) (by omega)]; exact r4 i, r5.to (g 21 (by decide) (by omega)) rfl⟩
        · have v4 := (hVq.1.1.2.2.2 i hi).2.2.2.2
          have hi4 : i < 4 := Nat.lt_of_lt_of_le hi l4
          have q := e3.2.2.1.1 i hi
          show M1 3 (0 + i) = nI (ls.getD i (0, 0, 0, 0, 0)).1 ∧ M1 4 (0 + (ls.getD i (0, 0, 0, 0, 0)).1) = nI i ∧ M1 5 (0 + (ls.getD i (0, 0, 0, 0, 0)).1) = _ ∧ M1 6 (0 + (ls.getD i (0, 0, 0, 0, 0)).1) = _ ∧ M1 7 (0 + (ls.getD i (0, 0, 0, 0, 0)).1) = _ ∧ M1 8 (0 + (ls.getD i (0, 0, 0, 0, 0)).1) = _
          simp only [Nat.zero_add]
          rw [p2 3 (by omega) (by omega) i hi4, p2 4 (by omega) (by omega) _ v4, p2 5 (by omega) (by omega) _ v4, p2 6 (by omega) (by omega) _ v4, p2 7 (by omega) (by omega) _ v4, p2 8 (by omega) (by omega) _ v4, hb0 3 (by decide), hb0 4 (by decide), hb0 5 (by decide), hb0 6 (by decide), hb0 7 (by decide), hb0 8 (by decide)]
          exact q
        · rw [Nat.zero_add, p2 4 (by omega) (by omega) l hl, hb0 4 (by decide)]
          exact e3.2.2.1.2 l hl hm
        · have ht : t < ts.length := ht
          have q := e3.2.2.2 t ht
          show M1 9 (0 + t) = (ts.getD t (0, 0, none)).1 ∧ M1 10 (0 + t) = _ ∧ M1 11 (0 + t) = _
          simp only [Nat.zero_add]
          rw [p3 9 (by omega) (by omega), p3 10 (by omega) (by omega), p3 11 (by omega) (by omega), if_pos (by omega), if_pos (by omega), if_pos (by omega), hb0 9 (by decide), hb0 10 (by decide), hb0 11 (by decide)]
          exact q
      · intro j hj ih M1 p1 p2 p3
        have v1 : vp_in (nI (80 + j)) 160 := vp_in_nI (by omega) (by decide)
        have v3 : vp_in (nI j) 160 := vp_in_nI (by omega) (by decide)
        have c1 := a_cl (show 80 + j < 2147483648 by omega)
        have c2 := a_cl (show j < 2147483648 by omega)
        refine ma_walk (mo_X5_plan ms_X5_faultOf) hV [119] (fun F hF => ?_)
        simp only [tb_X5_plan, hF, in_no, in_push, in_ild, in_lld, in_ald, in_ist, in_ast, in_lst, in_inc, in_iii, in_idv, in_ldv, in_lll, in_lli, in_lil, in_ii, in_il, in_li, in_ll, in_dup, in_dp2, q_if1, q_if2, in_go, in_sw, ma_sw, in_rv, in_ri, in_rz, in_rl, in_get, in_put, in_puz, in_iar, in_bar, in_lar, in_aar, in_iaw, in_baw, in_law, in_len, in_cpy, in_s1, in_s2, in_s3, in_v1, in_v2, in_v3, in_v4, in_v5, in_v6, ma_bk, ma_gl, ma_sl, ma_nl, ma_wc, ma_wd, ma_nn, ma_en, List.mem_cons, List.not_mem_nil, or_false, or_true, true_or, false_or, true_and, and_true, false_and, and_false, if_true, if_false, forall_const, true_implies, false_implies, not_true_eq_false, not_false_eq_true, Classical.not_not, implies_true, and_self, Nat.add_zero, Nat.zero_add, eq_self, ne_eq, reduceCtorEq, Nat.reduceLT, Nat.reduceLeDiff, Nat.reduceEqDiff, Nat.reduceSub, Nat.reduceAdd, i10, i01, im10, Int32.reduceLT, Int32.reduceLE, ↓reduceIte, reduceIte, up_r, uL_r, cp_r, Int32.toInt_toInt64, Int64.reduceToInt, Int32.reduceToInt, ↓b1_or, b1_0, b1_1, lc_lt, lc_le, lc_gt, lc_ge, lc_eq, ym_0, ym_1, ym_2, ym_3, ym_4, ym_5, ym_6, ym_7, ym_8, ym_9, ym_10, ym_11, ym_12, ym_13, ym_14, ym_15, ym_16, ym_17, ym_18, ym_19, ym_20, ym_21, ym_22, ym_23, ym_24, ym_25, ym_26, ym_27, ym_28, ym_29, ym_30, rm__0, rm__1, rm__2, rm__3, rm__4, rm__5, rm__6, rm__7, rm__8, rm__9, rm__10, rm__11, rm__12, rm__13, rm__14, rm__15, rm__16, rm__17, rm__18, rm__19, rm__20, rm__21, rm__22, rm__23, rm__24, rm__25, rm__26, rm__27, rm__28, rm__29, rm__30, rm__31, rm__32, rm__33, rm__34, rm__35, rm__36, rm__37, rm__38, rm__39, rm__40, rm__41, rm__42, rm__43, rm__44, rm__45, un_X5_faultOf, show (80 : Int32) + nI j = nI (80 + j) from nI_add 80 j, v1, v3, c1, c2, nI_1]
        try simp only [iteP, Classical.not_not, b1_0, b1_1]
        rw [show ((80 : Int32) ≤ nI j) = (80 ≤ j) from a_le (a := 80) (by omega) (by omega)]
        refine ⟨fun z => absurd z (by omega), fun _ => ih _ (fun a ha => ?_) (fun a z1 z2 i hi => ?_) (fun a z1 z2 => ?_)⟩
        · rw [up_c (by omega), up_c (by omega), up_c (by omega)]; exact p1 a ha
        · rw [up_c (by omega), up_c (by omega), up_c (by omega)]; exact p2 a z1 z2 i hi
        · have key : ma_up (ma_up (ma_up M1 9 j (M1 9 (80 + j))) 10 j (M1 10 (80 + j))) 11 j (M1 11 (80 + j)) a = upd (M1 a) j (M1 a (80 + j)) := by
            have : a = 9 ∨ a = 10 ∨ a = 11 := by omega
            rcases this with rfl | rfl | rfl
            · simp only [up_c, ma_up_at, ud_2, ne_eq, Nat.reduceEqDiff, not_false_eq_true] <;> try rfl
            · simp only [up_c, ma_up_at, ud_2, ne_eq, Nat.reduceEqDiff, not_false_eq_true] <;> try rfl
            · simp only [up_c, ma_up_at, ud_2, ne_eq, Nat.reduceEqDiff, not_false_eq_true] <;> try rfl
          intro i
          rw [key]
          by_cases c : i = j
          · rw [c, pk_us, p3 a z1 z2 (80 + j), if_neg (by omega), if_pos (by omega)]
          · rw [pk_un c, p3 a z1 z2 i]
            by_cases c3 : i < j
            · rw [if_pos c3, if_pos (by omega)]
            · rw [if_neg c3, if_neg (by omega)]
    have v1 : ∀ j, j ≤ 4 → ∀ M1 : ZM, (∀ a, a < 3 ∨ 8 < a → M1 a = Mb a) → (∀ a, 3 ≤ a → a ≤ 8 → ∀ i, M1 a i = if i < j then Mb a (4 + i) else Mb a i) → V 22 [some (.ref 0), some (.int (nI j))] [] M1 L := by
      refine lp_up ?_ ?_
      · intro M1 p1 p2
        refine ma_walk (mo_X5_plan ms_X5_faultOf) hV [22, 119] (fun F hF => ?_)
        simp only [tb_X5_plan, hF, in_no, in_push, in_ild, in_lld, in_ald, in_ist, in_ast, in_lst, in_inc, in_iii, in_idv, in_ldv, in_lll, in_lli, in_lil, in_ii, in_il, in_li, in_ll, in_dup, in_dp2, q_if1, q_if2, in_go, in_sw, ma_sw, in_rv, in_ri, in_rz, in_rl, in_get, in_put, in_puz, in_iar, in_bar, in_lar, in_aar, in_iaw, in_baw, in_law, in_len, in_cpy, in_s1, in_s2, in_s3, in_v1, in_v2, in_v3, in_v4, in_v5, in_v6, ma_bk, ma_gl, ma_sl, ma_nl, ma_wc, ma_wd, ma_nn, ma_en, List.mem_cons, List.not_mem_nil, or_false, or_true, true_or, false_or, true_and, and_true, false_and, and_false, if_true, if_false, forall_const, true_implies, false_implies, not_true_eq_false, not_false_eq_true, Classical.not_not, implies_true, and_self, Nat.add_zero, Nat.zero_add, eq_self, ne_eq, reduceCtorEq, Nat.reduceLT, Nat.reduceLeDiff, Nat.reduceEqDiff, Nat.reduceSub, Nat.reduceAdd, i10, i01, im10, Int32.reduceLT, Int32.reduceLE, ↓reduceIte, reduceIte, up_r, uL_r, cp_r, Int32.toInt_toInt64, Int64.reduceToInt, Int32.reduceToInt, ↓b1_or, b1_0, b1_1, lc_lt, lc_le, lc_gt, lc_ge, lc_eq, ym_0, ym_1, ym_2, ym_3, ym_4, ym_5, ym_6, ym_7, ym_8, ym_9, ym_10, ym_11, ym_12, ym_13, ym_14, ym_15, ym_16, ym_17, ym_18, ym_19, ym_20, ym_21, ym_22, ym_23, ym_24, ym_25, ym_26, ym_27, ym_28, ym_29, ym_30, rm__0, rm__1, rm__2, rm__3, rm__4, rm__5, rm__6, rm__7, rm__8, rm__9, rm__10, rm__11, rm__12, rm__13, rm__14, rm__15, rm__16, rm__17, rm__18, rm__19, rm__20, rm__21, rm__22, rm__23, rm__24, rm__25, rm__26, rm__27, rm__28, rm__29, rm__30, rm__31, rm__32, rm__33, rm__34, rm__35, rm__36, rm__37, rm__38, rm__39, rm__40, rm__41, rm__42, rm__43, rm__44, rm__45, un_X5_faultOf]
        try simp only [iteP, Classical.not_not, b1_0, b1_1]
        refine ⟨fun _ => v2 0 (by omega) M1 (fun a ha => p1 a (by omega)) (fun a z1 z2 i hi => by rw [p2 a z1 z2 i, if_pos hi]) (fun a z1 z2 i => by rw [p1 a (by omega), if_neg (Nat.not_lt_zero i)]), fun z => absurd (by decide) z⟩
      · intro j hj ih M1 p1 p2
        have v1 : vp_in (nI (4 + j)) 8 := vp_in_nI (by omega) (by decide)
        have v3 : vp_in (nI j) 8 := vp_in_nI (by omega) (by decide)
        have c1 := a_cl (show 4 + j < 2147483648 by omega)
        have c2 := a_cl (show j < 2147483648 by omega)
        refine ma_walk (mo_X5_plan ms_X5_faultOf) hV [22, 119] (fun F hF => ?_)
        simp only [tb_X5_plan, hF, in_no, in_push, in_ild, in_lld, in_ald, in_ist, in_ast, in_lst, in_inc, in_iii, in_idv, in_ldv, in_lll, in_lli, in_lil, in_ii, in_il, in_li, in_ll, in_dup, in_dp2, q_if1, q_if2, in_go, in_sw, ma_sw, in_rv, in_ri, in_rz, in_rl, in_get, in_put, in_puz, in_iar, in_bar, in_lar, in_aar, in_iaw, in_baw, in_law, in_len, in_cpy, in_s1, in_s2, in_s3, in_v1, in_v2, in_v3, in_v4, in_v5, in_v6, ma_bk, ma_gl, ma_sl, ma_nl, ma_wc, ma_wd, ma_nn, ma_en, List.mem_cons, List.not_mem_nil, or_false, or_true, true_or, false_or, true_and, and_true, false_and, and_false, if_true, if_false, forall_const, true_implies, false_implies, not_true_eq_false, not_false_eq_true, Classical.not_not, implies_true, and_self, Nat.add_zero, Nat.zero_add, eq_self, ne_eq, reduceCtorEq, Nat.reduceLT, Nat.reduceLeDiff, Nat.reduceEqDiff, Nat.reduceSub, Nat.reduceAdd, i10, i01, im10, Int32.reduceLT, Int32.reduceLE, ↓reduceIte, reduceIte, up_r, uL_r, cp_r, Int32.toInt_toInt64, Int64.reduceToInt, Int32.reduceToInt, ↓b1_or, b1_0, b1_1, lc_lt, lc_le, lc_gt, lc_ge, lc_eq, ym_0, ym_1, ym_2, ym_3, ym_4, ym_5, ym_6, ym_7, ym_8, ym_9, ym_10, ym_11, ym_12, ym_13, ym_14, ym_15, ym_16, ym_17, ym_18, ym_19, ym_20, ym_21, ym_22, ym_23, ym_24, ym_25, ym_26, ym_27, ym_28, ym_29, ym_30, rm__0, rm__1, rm__2, rm__3, rm__4, rm__5, rm__6, rm__7, rm__8, rm__9, rm__10, rm__11, rm__12, rm__13, rm__14, rm__15, rm__16, rm__17, rm__18, rm__19, rm__20, rm__21, rm__22, rm__23, rm__24, rm__25, rm__26, rm__27, rm__28, rm__29, rm__30, rm__31, rm__32, rm__33, rm__34, rm__35, rm__36, rm__37, rm__38, rm__39, rm__40, rm__41, rm__42, rm__43, rm__44, rm__45, un_X5_faultOf, show (4 : Int32) + nI j = nI (4 + j) from nI_add 4 j, v1, v3, c1, c2, nI_1]
        try simp only [iteP, Classical.not_not, b1_0, b1_1]
        rw [show ((4 : Int32) ≤ nI j) = (4 ≤ j) from a_le (a := 4) (by omega) (by omega)]
        refine ⟨fun z => absurd z (by omega), fun _ => ih _ (fun a ha => ?_) (fun a z1 z2 => ?_)⟩
        · rw [up_c (by omega), up_c (by omega), up_c (by omega), up_c (by omega), up_c (by omega), up_c (by omega)]; exact p1 a ha
        · have key : ma_up (ma_up (ma_up (ma_up (ma_up (ma_up M1 3 j (M1 3 (4 + j))) 4 j (M1 4 (4 + j))) 5 j (M1 5 (4 + j))) 6 j (M1 6 (4 + j))) 7 j (M1 7 (4 + j))) 8 j (M1 8 (4 + j)) a = upd (M1 a) j (M1 a (4 + j)) := by
            have : a = 3 ∨ a = 4 ∨ a = 5 ∨ a = 6 ∨ a = 7 ∨ a = 8 := by omega
            rcases this with rfl | rfl | rfl | rfl | rfl | rfl
            · simp only [up_c, ma_up_at, ud_2, ne_eq, Nat.reduceEqDiff, not_false_eq_true] <;> try rfl
            · simp only [up_c, ma_up_at, ud_2, ne_eq, Nat.reduceEqDiff, not_false_eq_true] <;> try rfl
            · simp only [up_c, ma_up_at, ud_2, ne_eq, Nat.reduceEqDiff, not_false_eq_true] <;> try rfl
            · simp only [up_c, ma_up_at, ud_2, ne_eq, Nat.reduceEqDiff, not_false_eq_true] <;> try rfl
            · simp only [up_c, ma_up_at, ud_2, ne_eq, Nat.reduceEqDiff, not_false_eq_true] <;> try rfl
            · simp only [up_c, ma_up_at, ud_2, ne_eq, Nat.reduceEqDiff, not_false_eq_true] <;> try rfl
          intro i
          rw [key]
          by_cases c : i = j
          · rw [c, pk_us, p2 a z1 z2 (4 + j), if_neg (by omega), if_pos (by omega)]
          · rw [pk_un c, p2 a z1 z2 i]
            by_cases c3 : i < j
            · rw [if_pos c3, if_pos (by omega)]
            · rw [if_neg c3, if_neg (by omega)]
    exact v1 0 (by omega) Mb (fun _ _ => rfl) (fun a z1 z2 i => by rw [if_neg (Nat.not_lt_zero i)])
  refine ma_walk (mo_X5_plan ms_X5_faultOf) hV [22] (fun F hF => ?_)
  simp only [tb_X5_plan, hF, in_no, in_push, in_ild, in_lld, in_ald, in_ist, in_ast, in_lst, in_inc, in_iii, in_idv, in_ldv, in_lll, in_lli, in_lil, in_ii, in_il, in_li, in_ll, in_dup, in_dp2, q_if1, q_if2, in_go, in_sw, ma_sw, in_rv, in_ri, in_rz, in_rl, in_get, in_put, in_puz, in_iar, in_bar, in_lar, in_aar, in_iaw, in_baw, in_law, in_len, in_cpy, in_s1, in_s2, in_s3, in_v1, in_v2, in_v3, in_v4, in_v5, in_v6, ma_bk, ma_gl, ma_sl, ma_nl, ma_wc, ma_wd, ma_nn, ma_en, List.mem_cons, List.not_mem_nil, or_false, or_true, true_or, false_or, true_and, and_true, false_and, and_false, if_true, if_false, forall_const, true_implies, false_implies, not_true_eq_false, not_false_eq_true, Classical.not_not, implies_true, and_self, Nat.add_zero, Nat.zero_add, eq_self, ne_eq, reduceCtorEq, Nat.reduceLT, Nat.reduceLeDiff, Nat.reduceEqDiff, Nat.reduceSub, Nat.reduceAdd, i10, i01, im10, Int32.reduceLT, Int32.reduceLE, ↓reduceIte, reduceIte, up_r, uL_r, cp_r, Int32.toInt_toInt64, Int64.reduceToInt, Int32.reduceToInt, ↓b1_or, b1_0, b1_1, lc_lt, lc_le, lc_gt, lc_ge, lc_eq, ym_0, ym_1, ym_2, ym_3, ym_4, ym_5, ym_6, ym_7, ym_8, ym_9, ym_10, ym_11, ym_12, ym_13, ym_14, ym_15, ym_16, ym_17, ym_18, ym_19, ym_20, ym_21, ym_22, ym_23, ym_24, ym_25, ym_26, ym_27, ym_28, ym_29, ym_30, rm__0, rm__1, rm__2, rm__3, rm__4, rm__5, rm__6, rm__7, rm__8, rm__9, rm__10, rm__11, rm__12, rm__13, rm__14, rm__15, rm__16, rm__17, rm__18, rm__19, rm__20, rm__21, rm__22, rm__23, rm__24, rm__25, rm__26, rm__27, rm__28, rm__29, rm__30, rm__31, rm__32, rm__33, rm__34, rm__35, rm__36, rm__37, rm__38, rm__39, rm__40, rm__41, rm__42, rm__43, rm__44, rm__45, un_X5_faultOf]
  try simp only [iteP, Classical.not_not, b1_0, b1_1]
  refine ⟨gT x, nat (sN x 0 5), hR.Ty hJ, fun M2 ts ls e1 e2 e3 => ?_, fun M2 e e1 e2 => ?_⟩
  · rw [e3.1]
    exact ok M2 ts ls e1 e2 e3
  · have e0 := rT_er hJ e1
    have e1 : rT x = .error e := e1
    rw [e1] at h
    refine ⟨fun z => ?_, fun _ => h M2 L (RY.rf hJ hR e2)⟩
    have z3 : (nI e).toInt = (-4 : Int32).toInt := by rw [z]
    rw [a_ti (by omega), show (-4 : Int32).toInt = -4 from rfl] at z3; omega
theorem pv_X5_plan : ∀ as M L K, S_X5_plan as M L K → ma_rn (tb_X5_plan S_X5_faultOf) 2 as M L K := by
  intro as M L K h
  unfold S_X5_plan at h
  split at h
  · obtain ⟨x, h⟩ := h; exact pw_X5_plan h.1 h.2
  · exact h.elim
