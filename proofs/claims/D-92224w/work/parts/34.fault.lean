/-! the model's reading: the whole text -/
set_option maxRecDepth 100000
set_option maxHeartbeats 4000000
/-- a stretch filled with one number -/
def fr (M : ZM) (c a b : Nat) (v : Int32) : ZM := fun x y => if x = c ∧ a ≤ y ∧ y < b then v else M x y
theorem fr_r {M : ZM} {c a b : Nat} {v : Int32} {x y : Nat} : fr M c a b v x y = if x = c ∧ a ≤ y ∧ y < b then v else M x y := rfl
theorem fr_c {M : ZM} {c a b : Nat} {v : Int32} {x : Nat} (h : x ≠ c) : fr M c a b v x = M x := by
  funext y; exact if_neg (fun z => h z.1)
theorem fr_0 {M : ZM} {c a : Nat} {v : Int32} : fr M c a a v = M := by
  funext x y; exact if_neg (by omega)
theorem fr_s {M : ZM} {c a b : Nat} {v : Int32} (h : a ≤ b) : ma_up (fr M c a b v) c b v = fr M c a (b + 1) v := by
  funext x y
  rw [up_r, fr_r, fr_r]
  by_cases c1 : x = c <;> by_cases c2 : y = b
  · rw [if_pos ⟨c1, c2⟩, if_pos (by omega)]
  · rw [if_neg (fun z => c2 z.2)]
    by_cases c3 : a ≤ y ∧ y < b
    · rw [if_pos ⟨c1, c3⟩, if_pos ⟨c1, by omega, by omega⟩]
    · rw [if_neg (fun z => c3 z.2), if_neg (fun z => c3 ⟨z.2.1, by omega⟩)]
  · rw [if_neg (fun z => c1 z.1), if_neg (fun z => c1 z.1), if_neg (fun z => c1 z.1)]
  · rw [if_neg (fun z => c1 z.1), if_neg (fun z => c1 z.1), if_neg (fun z => c1 z.1)]
def S_X5_faultOf : ma_Cs := fun as M L K => match as with
  | [.ref k] => ∃ (g : Nat → Nat) (n : Nat), (k = 0 ∧ Ty M g n) ∧ (∀ (M' : ZM) (ts : List Tm) (ls : List Ln), rd g n = .ok (ts, ls) → Rf M M' → PY M' ts ls → K (some (.int (-4))) M' L) ∧ (∀ (M' : ZM) (e : Nat), rd g n = .error e → Rf M M' → K (some (.int (nI e))) M' L)
  | _ => False
theorem ms_X5_faultOf : ma_ms S_X5_faultOf := by
  intro as M L K K' hk h
  unfold S_X5_faultOf at h ⊢
  split at h
  · obtain ⟨g, n, h⟩ := h
    exact ⟨g, n, h.1, fun x0 x1 x2 x3 x4 x5 => hk _ _ _ (h.2.1 x0 x1 x2 x3 x4 x5), fun x0 x1 x2 x3 => hk _ _ _ (h.2.2 x0 x1 x2 x3)⟩
  · exact h.elim
theorem un_X5_faultOf {k : Nat} {M : ZM} {L : ZL} {K : ma_Kt} : S_X5_faultOf [.ref k] M L K = (∃ (g : Nat → Nat) (n : Nat), (k = 0 ∧ Ty M g n) ∧ (∀ (M' : ZM) (ts : List Tm) (ls : List Ln), rd g n = .ok (ts, ls) → Rf M M' → PY M' ts ls → K (some (.int (-4))) M' L) ∧ (∀ (M' : ZM) (e : Nat), rd g n = .error e → Rf M M' → K (some (.int (nI e))) M' L)) := rfl
theorem pw_X5_faultOf {k : Nat} {g : Nat → Nat} {n : Nat} {M : ZM} {L : ZL} {K : ma_Kt} (hp : k = 0 ∧ Ty M g n) (h : (∀ (M' : ZM) (ts : List Tm) (ls : List Ln), rd g n = .ok (ts, ls) → Rf M M' → PY M' ts ls → K (some (.int (-4))) M' L) ∧ (∀ (M' : ZM) (e : Nat), rd g n = .error e → Rf M M' → K (some (.int (nI e))) M' L)) : ma_rn (tb_X5_faultOf S_X5_readLine) 2 [.ref k] M L K := by
  refine ⟨Nat.le_of_ble_eq_true rfl, fun V hV => ?_⟩
  obtain ⟨rfl, h1⟩ := hp
  obtain ⟨k1, k4, k5, k6, k7⟩ := id h1
  have g33 : ¬ (0 : Int32) ≤ -1 := by decide
  have lp : ∀ (m : Nat) (M1 : ZM) (q f : Nat) (ts : List Tm) (ls : List Ln), n - q = m → 161 ≤ f + q → Rf M M1 → q ≤ n → M1 0 32 = nI q → M1 0 33 = -1 → PY M1 ts ls → (ls.map (·.1)).Nodup → (∀ x, x ∈ ls.map (·.1) → x < 4) → 2 * ts.length ≤ q → rd g n = alr g n f q ts ls →
      V 42 [some (.ref 0), some (.int 8)] [] M1 L := by
    intro m
    induction m using Nat.strongRecOn with
    | ind m ih =>
      intro M1 q f ts ls e0 ef e1 e10 e2 e2b e3 e5 e6 e7 e9
      obtain ⟨f, rfl⟩ : ∃ f', f = f' + 1 := ⟨f - 1, by omega⟩
      have hT : Ty M1 g n := h1.to (e1.2.1 5 (by decide) (by decide) (by decide) (by decide)) (e1.1 2 (by omega))
      rw [alr] at e9
      refine ma_walk (mo_X5_faultOf ms_X5_readLine) hV [42] (fun F hF => ?_)
      simp only [tb_X5_faultOf, hF, in_no, in_push, in_ild, in_lld, in_ald, in_ist, in_ast, in_lst, in_inc, in_iii, in_idv, in_ldv, in_lll, in_lli, in_lil, in_ii, in_il, in_li, in_ll, in_dup, in_dp2, q_if1, q_if2, in_go, in_sw, ma_sw, in_rv, in_ri, in_rz, in_rl, in_get, in_put, in_puz, in_iar, in_bar, in_lar, in_aar, in_iaw, in_baw, in_law, in_len, in_cpy, in_s1, in_s2, in_s3, in_v1, in_v2, in_v3, in_v4, in_v5, in_v6, ma_bk, ma_gl, ma_sl, ma_nl, ma_wc, ma_wd, ma_nn, ma_en, List.mem_cons, List.not_mem_nil, or_false, or_true, true_or, false_or, true_and, and_true, false_and, and_false, if_true, if_false, forall_const, true_implies, false_implies, not_true_eq_false, not_false_eq_true, Classical.not_not, implies_true, and_self, Nat.add_zero, Nat.zero_add, eq_self, ne_eq, reduceCtorEq, Nat.reduceLT, Nat.reduceLeDiff, Nat.reduceEqDiff, Nat.reduceSub, Nat.reduceAdd, i10, i01, im10, Int32.reduceLT, Int32.reduceLE, ↓reduceIte, reduceIte, up_r, uL_r, cp_r, Int32.toInt_toInt64, Int64.reduceToInt, Int32.reduceToInt, ↓b1_or, b1_0, b1_1, lc_lt, lc_le, lc_gt, lc_ge, lc_eq, ym_0, ym_1, ym_2, ym_3, ym_4, ym_5, ym_6, ym_7, ym_8, ym_9, ym_10, ym_11, ym_12, ym_13, ym_14, ym_15, ym_16, ym_17, ym_18, ym_19, ym_20, ym_21, ym_22, ym_23, ym_24, ym_25, ym_26, ym_27, ym_28, ym_29, ym_30, rm__0, rm__1, rm__2, rm__3, rm__4, rm__5, rm__6, rm__7, rm__8, rm__9, rm__10, rm__11, rm__12, rm__13, rm__14, rm__15, rm__16, rm__17, rm__18, rm__19, rm__20, rm__21, rm__22, rm__23, rm__24, rm__25, rm__26, rm__27, rm__28, rm__29, rm__30, rm__31, rm__32, rm__33, rm__34, rm__35, rm__36, rm__37, rm__38, rm__39, rm__40, rm__41, rm__42, rm__43, rm__44, rm__45, un_X5_readLine, e2, e2b, g33, hT.1]
      try simp only [iteP, Classical.not_not]
      rw [a_le (by omega) (by omega)]
      refine ⟨fun c => ?_, fun c => ?_⟩
      · rw [if_neg (by omega)] at e9
        exact h.1 M1 ts ls e9 e1 e3
      · rw [if_pos (by omega)] at e9
        refine ⟨g, n, q, ts, ls, ⟨hT, rfl, e10, e3, e5, e6, e7⟩, fun M2 r ts2 rr ea eb ec => ?_, fun M2 e ea eb ec => ?_⟩
        · rw [ea] at e9
          have hr := ln_le k7 e7 ea
          refine ih (n - r) (by omega) M2 r f ts2 (ls ++ [rr]) rfl (by omega) (e1.trans eb) hr.2.1 ec.1 ec.2.1 ec.2.2 ?_ ?_ hr.2.2.1 e9
          · rw [List.map_append]
            refine List.nodup_append.2 ⟨e5, List.nodup_cons.2 ⟨List.not_mem_nil, List.nodup_nil⟩, ?_⟩
            intro a ha b hb
            rcases List.mem_cons.1 hb with z | z
            · rw [z]; exact fun y => hr.2.2.2.2.1 (by rw [show rr.1 = a from y.symm]; exact ha)
            · exact absurd z List.not_mem_nil
          · intro x hx
            rw [List.map_append] at hx
            rcases List.mem_append.1 hx with z | z
            · exact e6 x z
            · rcases List.mem_cons.1 z with y | y
              · rw [y]; exact hr.2.2.2.1
              · exact absurd y List.not_mem_nil
        · rw [ea] at e9
          have hT2 : Ty M2 g n := hT.to (eb.2.1 5 (by decide) (by decide) (by decide) (by decide)) (eb.1 2 (by omega))
          have g34 : (0 : Int32) ≤ nI e := nI_pos' (by omega)
          refine ma_walk (mo_X5_faultOf ms_X5_readLine) hV [42] (fun F hF => ?_)
          simp only [tb_X5_faultOf, hF, in_no, in_push, in_ild, in_lld, in_ald, in_ist, in_ast, in_lst, in_inc, in_iii, in_idv, in_ldv, in_lll, in_lli, in_lil, in_ii, in_il, in_li, in_ll, in_dup, in_dp2, q_if1, q_if2, in_go, in_sw, ma_sw, in_rv, in_ri, in_rz, in_rl, in_get, in_put, in_puz, in_iar, in_bar, in_lar, in_aar, in_iaw, in_baw, in_law, in_len, in_cpy, in_s1, in_s2, in_s3, in_v1, in_v2, in_v3, in_v4, in_v5, in_v6, ma_bk, ma_gl, ma_sl, ma_nl, ma_wc, ma_wd, ma_nn, ma_en, List.mem_cons, List.not_mem_nil, or_false, or_true, true_or, false_or, true_and, and_true, false_and, and_false, if_true, if_false, forall_const, true_implies, false_implies, not_true_eq_false, not_false_eq_true, Classical.not_not, implies_true, and_self, Nat.add_zero, Nat.zero_add, eq_self, ne_eq, reduceCtorEq, Nat.reduceLT, Nat.reduceLeDiff, Nat.reduceEqDiff, Nat.reduceSub, Nat.reduceAdd, i10, i01, im10, Int32.reduceLT, Int32.reduceLE, ↓reduceIte, reduceIte, up_r, uL_r, cp_r, Int32.toInt_toInt64, Int64.reduceToInt, Int32.reduceToInt, ↓b1_or, b1_0, b1_1, lc_lt, lc_le, lc_gt, lc_ge, lc_eq, ym_0, ym_1, ym_2, ym_3, ym_4, ym_5, ym_6, ym_7, ym_8, ym_9, ym_10, ym_11, ym_12, ym_13, ym_14, ym_15, ym_16, ym_17, ym_18, ym_19, ym_20, ym_21, ym_22, ym_23, ym_24, ym_25, ym_26, ym_27, ym_28, ym_29, ym_30, rm__0, rm__1, rm__2, rm__3, rm__4, rm__5, rm__6, rm__7, rm__8, rm__9, rm__10, rm__11, rm__12, rm__13, rm__14, rm__15, rm__16, rm__17, rm__18, rm__19, rm__20, rm__21, rm__22, rm__23, rm__24, rm__25, rm__26, rm__27, rm__28, rm__29, rm__30, rm__31, rm__32, rm__33, rm__34, rm__35, rm__36, rm__37, rm__38, rm__39, rm__40, rm__41, rm__42, rm__43, rm__44, rm__45, un_X5_readLine, ec.1, g34]
          try simp only [iteP, Classical.not_not]
          have q9 := h.2 M2 e e9 (e1.trans eb)
          exact ⟨fun _ => q9, fun _ => q9⟩
  have l22 : ∀ j, j ≤ 8 → 4 ≤ j → V 22 [some (.ref 0), some (.int (nI j))] [] (fr (ma_up (ma_up (ma_up (ma_up M 0 32 0) 0 33 (-1)) 0 34 0) 0 8 0) 4 4 j (-4)) L := by
    refine lp_up ?_ ?_
    · intro _
      refine ma_walk (mo_X5_faultOf ms_X5_readLine) hV [22, 42] (fun F hF => ?_)
      simp only [tb_X5_faultOf, hF, in_no, in_push, in_ild, in_lld, in_ald, in_ist, in_ast, in_lst, in_inc, in_iii, in_idv, in_ldv, in_lll, in_lli, in_lil, in_ii, in_il, in_li, in_ll, in_dup, in_dp2, q_if1, q_if2, in_go, in_sw, ma_sw, in_rv, in_ri, in_rz, in_rl, in_get, in_put, in_puz, in_iar, in_bar, in_lar, in_aar, in_iaw, in_baw, in_law, in_len, in_cpy, in_s1, in_s2, in_s3, in_v1, in_v2, in_v3, in_v4, in_v5, in_v6, ma_bk, ma_gl, ma_sl, ma_nl, ma_wc, ma_wd, ma_nn, ma_en, List.mem_cons, List.not_mem_nil, or_false, or_true, true_or, false_or, true_and, and_true, false_and, and_false, if_true, if_false, forall_const, true_implies, false_implies, not_true_eq_false, not_false_eq_true, Classical.not_not, implies_true, and_self, Nat.add_zero, Nat.zero_add, eq_self, ne_eq, reduceCtorEq, Nat.reduceLT, Nat.reduceLeDiff, Nat.reduceEqDiff, Nat.reduceSub, Nat.reduceAdd, i10, i01, im10, Int32.reduceLT, Int32.reduceLE, ↓reduceIte, reduceIte, up_r, uL_r, cp_r, Int32.toInt_toInt64, Int64.reduceToInt, Int32.reduceToInt, ↓b1_or, b1_0, b1_1, lc_lt, lc_le, lc_gt, lc_ge, lc_eq, ym_0, ym_1, ym_2, ym_3, ym_4, ym_5, ym_6, ym_7, ym_8, ym_9, ym_10, ym_11, ym_12, ym_13, ym_14, ym_15, ym_16, ym_17, ym_18, ym_19, ym_20, ym_21, ym_22, ym_23, ym_24, ym_25, ym_26, ym_27, ym_28, ym_29, ym_30, rm__0, rm__1, rm__2, rm__3, rm__4, rm__5, rm__6, rm__7, rm__8, rm__9, rm__10, rm__11, rm__12, rm__13, rm__14, rm__15, rm__16, rm__17, rm__18, rm__19, rm__20, rm__21, rm__22, rm__23, rm__24, rm__25, rm__26, rm__27, rm__28, rm__29, rm__30, rm__31, rm__32, rm__33, rm__34, rm__35, rm__36, rm__37, rm__38, rm__39, rm__40, rm__41, rm__42, rm__43, rm__44, rm__45, un_X5_readLine]
      try simp only [iteP, Classical.not_not]
      refine ⟨fun _ => ?_, fun c => absurd (by decide) c⟩
      refine lp n _ 0 200 [] [] rfl (by omega) ⟨fun a z => ?_, fun j y1 y2 y3 y4 => ?_, fun j z => ?_, fun j z => ?_⟩ (Nat.zero_le n) rfl rfl ⟨rfl, rfl, ⟨fun i hi => absurd hi (Nat.not_lt_zero i), fun l hl _ => if_pos ⟨rfl, by omega, by omega⟩⟩, fun i hi => absurd hi (Nat.not_lt_zero i)⟩ List.nodup_nil (fun x hx => absurd hx List.not_mem_nil) (Nat.le_refl 0) rfl
      · rw [fr_c (by omega), up_c (by omega), up_c (by omega), up_c (by omega), up_c (by omega)]
      · rw [fr_c (by omega)]; simp only [up_r, y1, y2, y3, y4, and_false, if_false]
      · refine ⟨rfl, ?_, rfl, rfl, rfl, rfl⟩
        rw [fr_r, if_neg (by omega)]; rfl
      · exact ⟨rfl, rfl, rfl⟩
    · intro j hj ih z4
      have ih := ih (by omega)
      refine ma_walk (mo_X5_faultOf ms_X5_readLine) hV [22, 42] (fun F hF => ?_)
      simp only [tb_X5_faultOf, hF, in_no, in_push, in_ild, in_lld, in_ald, in_ist, in_ast, in_lst, in_inc, in_iii, in_idv, in_ldv, in_lll, in_lli, in_lil, in_ii, in_il, in_li, in_ll, in_dup, in_dp2, q_if1, q_if2, in_go, in_sw, ma_sw, in_rv, in_ri, in_rz, in_rl, in_get, in_put, in_puz, in_iar, in_bar, in_lar, in_aar, in_iaw, in_baw, in_law, in_len, in_cpy, in_s1, in_s2, in_s3, in_v1, in_v2, in_v3, in_v4, in_v5, in_v6, ma_bk, ma_gl, ma_sl, ma_nl, ma_wc, ma_wd, ma_nn, ma_en, List.mem_cons, List.not_mem_nil, or_false, or_true, true_or, false_or, true_and, and_true, false_and, and_false, if_true, if_false, forall_const, true_implies, false_implies, not_true_eq_false, not_false_eq_true, Classical.not_not, implies_true, and_self, Nat.add_zero, Nat.zero_add, eq_self, ne_eq, reduceCtorEq, Nat.reduceLT, Nat.reduceLeDiff, Nat.reduceEqDiff, Nat.reduceSub, Nat.reduceAdd, i10, i01, im10, Int32.reduceLT, Int32.reduceLE, ↓reduceIte, reduceIte, up_r, uL_r, cp_r, Int32.toInt_toInt64, Int64.reduceToInt, Int32.reduceToInt, ↓b1_or, b1_0, b1_1, lc_lt, lc_le, lc_gt, lc_ge, lc_eq, ym_0, ym_1, ym_2, ym_3, ym_4, ym_5, ym_6, ym_7, ym_8, ym_9, ym_10, ym_11, ym_12, ym_13, ym_14, ym_15, ym_16, ym_17, ym_18, ym_19, ym_20, ym_21, ym_22, ym_23, ym_24, ym_25, ym_26, ym_27, ym_28, ym_29, ym_30, rm__0, rm__1, rm__2, rm__3, rm__4, rm__5, rm__6, rm__7, rm__8, rm__9, rm__10, rm__11, rm__12, rm__13, rm__14, rm__15, rm__16, rm__17, rm__18, rm__19, rm__20, rm__21, rm__22, rm__23, rm__24, rm__25, rm__26, rm__27, rm__28, rm__29, rm__30, rm__31, rm__32, rm__33, rm__34, rm__35, rm__36, rm__37, rm__38, rm__39, rm__40, rm__41, rm__42, rm__43, rm__44, rm__45, un_X5_readLine]
      try simp only [iteP, Classical.not_not]
      simp (disch := omega) only [a_lit, a_le, a_vi, a_cl, nI_add]
      refine ⟨fun c => absurd c (by omega), fun _ => ⟨by omega, ?_⟩⟩
      exact kv ih rfl rfl (fr_s z4) rfl
  refine ma_walk (mo_X5_faultOf ms_X5_readLine) hV [22] (fun F hF => ?_)
  simp only [tb_X5_faultOf, hF, in_no, in_push, in_ild, in_lld, in_ald, in_ist, in_ast, in_lst, in_inc, in_iii, in_idv, in_ldv, in_lll, in_lli, in_lil, in_ii, in_il, in_li, in_ll, in_dup, in_dp2, q_if1, q_if2, in_go, in_sw, ma_sw, in_rv, in_ri, in_rz, in_rl, in_get, in_put, in_puz, in_iar, in_bar, in_lar, in_aar, in_iaw, in_baw, in_law, in_len, in_cpy, in_s1, in_s2, in_s3, in_v1, in_v2, in_v3, in_v4, in_v5, in_v6, ma_bk, ma_gl, ma_sl, ma_nl, ma_wc, ma_wd, ma_nn, ma_en, List.mem_cons, List.not_mem_nil, or_false, or_true, true_or, false_or, true_and, and_true, false_and, and_false, if_true, if_false, forall_const, true_implies, false_implies, not_true_eq_false, not_false_eq_true, Classical.not_not, implies_true, and_self, Nat.add_zero, Nat.zero_add, eq_self, ne_eq, reduceCtorEq, Nat.reduceLT, Nat.reduceLeDiff, Nat.reduceEqDiff, Nat.reduceSub, Nat.reduceAdd, i10, i01, im10, Int32.reduceLT, Int32.reduceLE, ↓reduceIte, reduceIte, up_r, uL_r, cp_r, Int32.toInt_toInt64, Int64.reduceToInt, Int32.reduceToInt, ↓b1_or, b1_0, b1_1, lc_lt, lc_le, lc_gt, lc_ge, lc_eq, ym_0, ym_1, ym_2, ym_3, ym_4, ym_5, ym_6, ym_7, ym_8, ym_9, ym_10, ym_11, ym_12, ym_13, ym_14, ym_15, ym_16, ym_17, ym_18, ym_19, ym_20, ym_21, ym_22, ym_23, ym_24, ym_25, ym_26, ym_27, ym_28, ym_29, ym_30, rm__0, rm__1, rm__2, rm__3, rm__4, rm__5, rm__6, rm__7, rm__8, rm__9, rm__10, rm__11, rm__12, rm__13, rm__14, rm__15, rm__16, rm__17, rm__18, rm__19, rm__20, rm__21, rm__22, rm__23, rm__24, rm__25, rm__26, rm__27, rm__28, rm__29, rm__30, rm__31, rm__32, rm__33, rm__34, rm__35, rm__36, rm__37, rm__38, rm__39, rm__40, rm__41, rm__42, rm__43, rm__44, rm__45, un_X5_readLine]
  try simp only [iteP, Classical.not_not]
  exact kv (l22 4 (by omega) (by omega)) rfl rfl fr_0.symm rfl
theorem pv_X5_faultOf : ∀ as M L K, S_X5_faultOf as M L K → ma_rn (tb_X5_faultOf S_X5_readLine) 2 as M L K := by
  intro as M L K h
  unfold S_X5_faultOf at h
  split at h
  · obtain ⟨g, n, h⟩ := h; exact pw_X5_faultOf h.1 h.2
  · exact h.elim
