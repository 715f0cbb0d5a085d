/-! op: least (the model) -/
set_option maxRecDepth 100000
set_option maxHeartbeats 4000000
theorem rk_b (z : Nat → Bool) : ∀ n, rk z n ≤ n
  | 0 => Nat.le_refl _
  | n + 1 => by have := rk_b z n; rw [rk]; split <;> omega
theorem pw_b {r : Nat} (h : r ≤ 12) : 0 < 2 ^ r ∧ 2 ^ r ≤ 4096 := ⟨Nat.pow_pos (by omega), by
  have h2 : 2 ^ r ≤ 2 ^ 12 := Nat.pow_le_pow_right (by omega) h
  have : (2 : Nat) ^ 12 = 4096 := by decide
  omega⟩
theorem RY.lo {M M1 : ZM} {L : ZL} {x : St} (h : RY M L x) (e : ∀ a, a < 25 → M1 a = M a) : RY M1 L x := by
  obtain ⟨r1, r2, r3, r4, r5⟩ := h
  refine ⟨?_, ?_, r3.to (by rw [e 0 (by omega)]) (fun a y1 y2 => e a (by omega)), ?_, r5.to (e 21 (by omega)) rfl⟩
  · unfold Ys at r1 ⊢; rw [e 0 (by omega)]; exact r1
  · unfold Ya at r2 ⊢
    rw [e 1 (by omega), e 2 (by omega), e 12 (by omega), e 13 (by omega), e 14 (by omega), e 15 (by omega), e 16 (by omega), e 18 (by omega), e 19 (by omega), e 20 (by omega)]; exact r2
  · unfold B24 at r4 ⊢; rw [e 24 (by omega)]; exact r4
def S_X5_isEven : ma_Cs := fun as M L K => match as with
  | [.ref k, .int s, .int rr] => ∃ (S : Nat) (r : Nat), (k = 0 ∧ s = nI S ∧ S < 4096 ∧ rr = nI r ∧ r ≤ 12) ∧ (K (some (.int (b1 (grY (L 26) r S)))) M L)
  | _ => False
theorem ms_X5_isEven : ma_ms S_X5_isEven := by
  intro as M L K K' hk h
  unfold S_X5_isEven at h ⊢
  split at h
  · obtain ⟨S, r, h⟩ := h
    exact ⟨S, r, h.1, hk _ _ _ h.2⟩
  · exact h.elim
theorem un_X5_isEven {k : Nat} {s : Int32} {rr : Int32} {M : ZM} {L : ZL} {K : ma_Kt} : S_X5_isEven [.ref k, .int s, .int rr] M L K = (∃ (S : Nat) (r : Nat), (k = 0 ∧ s = nI S ∧ S < 4096 ∧ rr = nI r ∧ r ≤ 12) ∧ (K (some (.int (b1 (grY (L 26) r S)))) M L)) := rfl
theorem pw_X5_isEven {k : Nat} {s : Int32} {rr : Int32} {S : Nat} {r : Nat} {M : ZM} {L : ZL} {K : ma_Kt} (hp : k = 0 ∧ s = nI S ∧ S < 4096 ∧ rr = nI r ∧ r ≤ 12) (h : (K (some (.int (b1 (grY (L 26) r S)))) M L)) : ma_rn tb_X5_isEven 7 [.ref k, .int s, .int rr] M L K := by
  refine ⟨Nat.le_of_ble_eq_true rfl, fun V hV => ?_⟩
  obtain ⟨rfl, rfl, hS, rfl, hr⟩ := hp
  have pb := pw_b hr
  have lm : S % 2 ^ r ≤ S := Nat.mod_le _ _
  have e0 : (1 : Int32) <<< (nI r &&& 31) = nI (2 ^ r) := sh_e ⟨r, by omega⟩
  have e1 : nI (2 ^ r) - 1 = nI (2 ^ r - 1) := pk_sub (b := 1) (by omega)
  have e2 : nI S &&& nI (2 ^ r - 1) = nI (S % 2 ^ r) := by rw [n_and, Nat.and_two_pow_sub_one_eq_mod]
  have e3 : (nI (S % 2 ^ r) = 0) = (S % 2 ^ r = 0) := a_eq0 (by omega)
  have e4 : (nI (S % 2 ^ r) = nI S) = (S % 2 ^ r = S) := a_eq (by omega) (by omega)
  rw [ge_e] at h
  have lp : ∀ j, j ≤ 12 → ¬ S % 2 ^ r = 0 → ¬ S % 2 ^ r = S → V 25 [some (.ref 0), some (.int (nI S)), some (.int (nI r)), some (.int (nI (S % 2 ^ r))), some (.long (sX (L 26) S j)), none, some (.int (nI j))] [] M L := by
    refine lp_up ?_ ?_
    · intro z1 z2
      have v1 : (12 : Int32) ≤ nI 12 := by decide
      refine ma_walk mo_X5_isEven hV [25] (fun F hF => ?_)
      simp only [tb_X5_isEven, hF, in_no, in_push, in_ild, in_lld, in_ald, in_ist, in_ast, in_lst, in_inc, in_iii, in_idv, in_ldv, in_lll, in_lli, in_lil, in_ii, in_il, in_li, in_ll, in_dup, in_dp2, q_if1, q_if2, in_go, in_sw, ma_sw, in_rv, in_ri, in_rz, in_rl, in_get, in_put, in_puz, in_iar, in_bar, in_lar, in_aar, in_iaw, in_baw, in_law, in_len, in_cpy, in_s1, in_s2, in_s3, in_v1, in_v2, in_v3, in_v4, in_v5, in_v6, ma_bk, ma_gl, ma_sl, ma_nl, ma_wc, ma_wd, ma_nn, ma_en, List.mem_cons, List.not_mem_nil, or_false, or_true, true_or, false_or, true_and, and_true, false_and, and_false, if_true, if_false, forall_const, true_implies, false_implies, not_true_eq_false, not_false_eq_true, Classical.not_not, implies_true, and_self, Nat.add_zero, Nat.zero_add, eq_self, ne_eq, reduceCtorEq, Nat.reduceLT, Nat.reduceLeDiff, Nat.reduceEqDiff, Nat.reduceSub, Nat.reduceAdd, i10, i01, im10, Int32.reduceLT, Int32.reduceLE, ↓reduceIte, reduceIte, up_r, uL_r, cp_r, Int32.toInt_toInt64, Int64.reduceToInt, Int32.reduceToInt, ↓b1_or, b1_0, b1_1, lc_lt, lc_le, lc_gt, lc_ge, lc_eq, ym_0, ym_1, ym_2, ym_3, ym_4, ym_5, ym_6, ym_7, ym_8, ym_9, ym_10, ym_11, ym_12, ym_13, ym_14, ym_15, ym_16, ym_17, ym_18, ym_19, ym_20, ym_21, ym_22, ym_23, ym_24, ym_25, ym_26, ym_27, ym_28, ym_29, ym_30, rm__0, rm__1, rm__2, rm__3, rm__4, rm__5, rm__6, rm__7, rm__8, rm__9, rm__10, rm__11, rm__12, rm__13, rm__14, rm__15, rm__16, rm__17, rm__18, rm__19, rm__20, rm__21, rm__22, rm__23, rm__24, rm__25, rm__26, rm__27, rm__28, rm__29, rm__30, rm__31, rm__32, rm__33, rm__34, rm__35, rm__36, rm__37, rm__38, rm__39, rm__40, rm__41, rm__42, rm__43, rm__44, rm__45, v1]
      try simp only [iteP, Classical.not_not, b1_0, b1_1]
      refine sw_n (fun y => ?_) (fun y => ?_)
      · rw [b1_t ⟨y, z1, z2⟩] at h; exact h
      · rw [b1_f (fun q => y q.1)] at h; exact h
    · intro j hj ih z1 z2
      have ih := ih z1 z2
      have v1 : ¬ (12 : Int32) ≤ nI j := fun y => by rw [show (12 : Int32) = nI 12 from rfl, a_le (by omega) (by omega)] at y; omega
      have v4 : nI j + 1 = nI (j + 1) := by rw [show (1 : Int32) = nI 1 from rfl, nI_add]
      have v2 : vp_in (nI j) 12 := vp_in_nI (by omega) (by decide)
      have v3 := a_cl (show j < 2147483648 by omega)
      have v6 := o_bit1 hS hj
      rw [sX] at ih
      cases e : S.testBit j
      · rw [e] at ih v6
        simp only [Bool.false_eq_true, ↓reduceIte] at ih v6
        refine ma_walk mo_X5_isEven hV [25] (fun F hF => ?_)
        simp only [tb_X5_isEven, hF, in_no, in_push, in_ild, in_lld, in_ald, in_ist, in_ast, in_lst, in_inc, in_iii, in_idv, in_ldv, in_lll, in_lli, in_lil, in_ii, in_il, in_li, in_ll, in_dup, in_dp2, q_if1, q_if2, in_go, in_sw, ma_sw, in_rv, in_ri, in_rz, in_rl, in_get, in_put, in_puz, in_iar, in_bar, in_lar, in_aar, in_iaw, in_baw, in_law, in_len, in_cpy, in_s1, in_s2, in_s3, in_v1, in_v2, in_v3, in_v4, in_v5, in_v6, ma_bk, ma_gl, ma_sl, ma_nl, ma_wc, ma_wd, ma_nn, ma_en, List.mem_cons, List.not_mem_nil, or_false, or_true, true_or, false_or, true_and, and_true, false_and, and_false, if_true, if_false, forall_const, true_implies, false_implies, not_true_eq_false, not_false_eq_true, Classical.not_not, implies_true, and_self, Nat.add_zero, Nat.zero_add, eq_self, ne_eq, reduceCtorEq, Nat.reduceLT, Nat.reduceLeDiff, Nat.reduceEqDiff, Nat.reduceSub, Nat.reduceAdd, i10, i01, im10, Int32.reduceLT, Int32.reduceLE, ↓reduceIte, reduceIte, up_r, uL_r, cp_r, Int32.toInt_toInt64, Int64.reduceToInt, Int32.reduceToInt, ↓b1_or, b1_0, b1_1, lc_lt, lc_le, lc_gt, lc_ge, lc_eq, ym_0, ym_1, ym_2, ym_3, ym_4, ym_5, ym_6, ym_7, ym_8, ym_9, ym_10, ym_11, ym_12, ym_13, ym_14, ym_15, ym_16, ym_17, ym_18, ym_19, ym_20, ym_21, ym_22, ym_23, ym_24, ym_25, ym_26, ym_27, ym_28, ym_29, ym_30, rm__0, rm__1, rm__2, rm__3, rm__4, rm__5, rm__6, rm__7, rm__8, rm__9, rm__10, rm__11, rm__12, rm__13, rm__14, rm__15, rm__16, rm__17, rm__18, rm__19, rm__20, rm__21, rm__22, rm__23, rm__24, rm__25, rm__26, rm__27, rm__28, rm__29, rm__30, rm__31, rm__32, rm__33, rm__34, rm__35, rm__36, rm__37, rm__38, rm__39, rm__40, rm__41, rm__42, rm__43, rm__44, rm__45, v1, v4, v6]
        try simp only [iteP, Classical.not_not, b1_0, b1_1]
        exact ih
      · rw [e] at ih v6
        simp only [↓reduceIte] at ih
        refine ma_walk mo_X5_isEven hV [25] (fun F hF => ?_)
        simp only [tb_X5_isEven, hF, in_no, in_push, in_ild, in_lld, in_ald, in_ist, in_ast, in_lst, in_inc, in_iii, in_idv, in_ldv, in_lll, in_lli, in_lil, in_ii, in_il, in_li, in_ll, in_dup, in_dp2, q_if1, q_if2, in_go, in_sw, ma_sw, in_rv, in_ri, in_rz, in_rl, in_get, in_put, in_puz, in_iar, in_bar, in_lar, in_aar, in_iaw, in_baw, in_law, in_len, in_cpy, in_s1, in_s2, in_s3, in_v1, in_v2, in_v3, in_v4, in_v5, in_v6, ma_bk, ma_gl, ma_sl, ma_nl, ma_wc, ma_wd, ma_nn, ma_en, List.mem_cons, List.not_mem_nil, or_false, or_true, true_or, false_or, true_and, and_true, false_and, and_false, if_true, if_false, forall_const, true_implies, false_implies, not_true_eq_false, not_false_eq_true, Classical.not_not, implies_true, and_self, Nat.add_zero, Nat.zero_add, eq_self, ne_eq, reduceCtorEq, Nat.reduceLT, Nat.reduceLeDiff, Nat.reduceEqDiff, Nat.reduceSub, Nat.reduceAdd, i10, i01, im10, Int32.reduceLT, Int32.reduceLE, ↓reduceIte, reduceIte, up_r, uL_r, cp_r, Int32.toInt_toInt64, Int64.reduceToInt, Int32.reduceToInt, ↓b1_or, b1_0, b1_1, lc_lt, lc_le, lc_gt, lc_ge, lc_eq, ym_0, ym_1, ym_2, ym_3, ym_4, ym_5, ym_6, ym_7, ym_8, ym_9, ym_10, ym_11, ym_12, ym_13, ym_14, ym_15, ym_16, ym_17, ym_18, ym_19, ym_20, ym_21, ym_22, ym_23, ym_24, ym_25, ym_26, ym_27, ym_28, ym_29, ym_30, rm__0, rm__1, rm__2, rm__3, rm__4, rm__5, rm__6, rm__7, rm__8, rm__9, rm__10, rm__11, rm__12, rm__13, rm__14, rm__15, rm__16, rm__17, rm__18, rm__19, rm__20, rm__21, rm__22, rm__23, rm__24, rm__25, rm__26, rm__27, rm__28, rm__29, rm__30, rm__31, rm__32, rm__33, rm__34, rm__35, rm__36, rm__37, rm__38, rm__39, rm__40, rm__41, rm__42, rm__43, rm__44, rm__45, v1, v4, v6, v2, v3]
        try simp only [iteP, Classical.not_not, b1_0, b1_1]
        exact ih
  refine ma_walk mo_X5_isEven hV [25] (fun F hF => ?_)
  simp only [tb_X5_isEven, hF, in_no, in_push, in_ild, in_lld, in_ald, in_ist, in_ast, in_lst, in_inc, in_iii, in_idv, in_ldv, in_lll, in_lli, in_lil, in_ii, in_il, in_li, in_ll, in_dup, in_dp2, q_if1, q_if2, in_go, in_sw, ma_sw, in_rv, in_ri, in_rz, in_rl, in_get, in_put, in_puz, in_iar, in_bar, in_lar, in_aar, in_iaw, in_baw, in_law, in_len, in_cpy, in_s1, in_s2, in_s3, in_v1, in_v2, in_v3, in_v4, in_v5, in_v6, ma_bk, ma_gl, ma_sl, ma_nl, ma_wc, ma_wd, ma_nn, ma_en, List.mem_cons, List.not_mem_nil, or_false, or_true, true_or, false_or, true_and, and_true, false_and, and_false, if_true, if_false, forall_const, true_implies, false_implies, not_true_eq_false, not_false_eq_true, Classical.not_not, implies_true, and_self, Nat.add_zero, Nat.zero_add, eq_self, ne_eq, reduceCtorEq, Nat.reduceLT, Nat.reduceLeDiff, Nat.reduceEqDiff, Nat.reduceSub, Nat.reduceAdd, i10, i01, im10, Int32.reduceLT, Int32.reduceLE, ↓reduceIte, reduceIte, up_r, uL_r, cp_r, Int32.toInt_toInt64, Int64.reduceToInt, Int32.reduceToInt, ↓b1_or, b1_0, b1_1, lc_lt, lc_le, lc_gt, lc_ge, lc_eq, ym_0, ym_1, ym_2, ym_3, ym_4, ym_5, ym_6, ym_7, ym_8, ym_9, ym_10, ym_11, ym_12, ym_13, ym_14, ym_15, ym_16, ym_17, ym_18, ym_19, ym_20, ym_21, ym_22, ym_23, ym_24, ym_25, ym_26, ym_27, ym_28, ym_29, ym_30, rm__0, rm__1, rm__2, rm__3, rm__4, rm__5, rm__6, rm__7, rm__8, rm__9, rm__10, rm__11, rm__12, rm__13, rm__14, rm__15, rm__16, rm__17, rm__18, rm__19, rm__20, rm__21, rm__22, rm__23, rm__24, rm__25, rm__26, rm__27, rm__28, rm__29, rm__30, rm__31, rm__32, rm__33, rm__34, rm__35, rm__36, rm__37, rm__38, rm__39, rm__40, rm__41, rm__42, rm__43, rm__44, rm__45, e0, e1, e2, e3, e4]
  try simp only [iteP, Classical.not_not, b1_0, b1_1]
  refine sw_n (fun y => ?_) (fun y => sw_n (fun y1 => ?_) (fun y1 => lp 0 (by omega) y y1))
  · rw [b1_f (fun q => q.2.1 y)] at h; exact h
  · rw [b1_f (fun q => q.2.2 y1)] at h; exact h
theorem pv_X5_isEven : ∀ as M L K, S_X5_isEven as M L K → ma_rn tb_X5_isEven 7 as M L K := by
  intro as M L K h
  unfold S_X5_isEven at h
  split at h
  · obtain ⟨S, r, h⟩ := h; exact pw_X5_isEven h.1 h.2
  · exact h.elim
def S_X5_least : ma_Cs := fun as M L K => match as with
  | [.ref k] => ∃ (x : St), (k = 0 ∧ J x ∧ RY M L x) ∧ (∀ (M' : ZM) (L' : ZL), RY M' L' x → K (some (.int (oLeast x))) M' L')
  | _ => False
theorem ms_X5_least : ma_ms S_X5_least := by
  intro as M L K K' hk h
  unfold S_X5_least at h ⊢
  split at h
  · obtain ⟨x, h⟩ := h
    exact ⟨x, h.1, fun x0 x1 x2 => hk _ _ _ (h.2 x0 x1 x2)⟩
  · exact h.elim
theorem un_X5_least {k : Nat} {M : ZM} {L : ZL} {K : ma_Kt} : S_X5_least [.ref k] M L K = (∃ (x : St), (k = 0 ∧ J x ∧ RY M L x) ∧ (∀ (M' : ZM) (L' : ZL), RY M' L' x → K (some (.int (oLeast x))) M' L')) := rfl
theorem pw_X5_least {k : Nat} {x : St} {M : ZM} {L : ZL} {K : ma_Kt} (hp : k = 0 ∧ J x ∧ RY M L x) (h : (∀ (M' : ZM) (L' : ZL), RY M' L' x → K (some (.int (oLeast x))) M' L')) : ma_rn (tb_X5_least S_X5_tells S_X5_isEven) 9 [.ref k] M L K := by
  refine ⟨Nat.le_of_ble_eq_true rfl, fun V hV => ?_⟩
  obtain ⟨rfl, hJ, hR⟩ := hp
  obtain ⟨w, u, e, ns, ta, tb, h1, h2, h3, h6, h7, h8, hs, w2, w6, u2, u6, e3, n12, ta12, tb4, q0, q36, n1, n2, n3, n6⟩ := hJ.sky
  have tl := tm_le (sP x 17) 12
  have t0 : (nI w + nI u ≤ nI (tm (sP x 17) 12)) = (w + u ≤ tm (sP x 17) 12) := by rw [nI_add, a_le (by omega) (by omega)]
  unfold oLeast at h
  rw [n1, n2] at h
  refine ma_walk (mo_X5_least ms_X5_tells ms_X5_isEven) hV [29] (fun F hF => ?_)
  simp only [tb_X5_least, hF, in_no, in_push, in_ild, in_lld, in_ald, in_ist, in_ast, in_lst, in_inc, in_iii, in_idv, in_ldv, in_lll, in_lli, in_lil, in_ii, in_il, in_li, in_ll, in_dup, in_dp2, q_if1, q_if2, in_go, in_sw, ma_sw, in_rv, in_ri, in_rz, in_rl, in_get, in_put, in_puz, in_iar, in_bar, in_lar, in_aar, in_iaw, in_baw, in_law, in_len, in_cpy, in_s1, in_s2, in_s3, in_v1, in_v2, in_v3, in_v4, in_v5, in_v6, ma_bk, ma_gl, ma_sl, ma_nl, ma_wc, ma_wd, ma_nn, ma_en, List.mem_cons, List.not_mem_nil, or_false, or_true, true_or, false_or, true_and, and_true, false_and, and_false, if_true, if_false, forall_const, true_implies, false_implies, not_true_eq_false, not_false_eq_true, Classical.not_not, implies_true, and_self, Nat.add_zero, Nat.zero_add, eq_self, ne_eq, reduceCtorEq, Nat.reduceLT, Nat.reduceLeDiff, Nat.reduceEqDiff, Nat.reduceSub, Nat.reduceAdd, i10, i01, im10, Int32.reduceLT, Int32.reduceLE, ↓reduceIte, reduceIte, up_r, uL_r, cp_r, Int32.toInt_toInt64, Int64.reduceToInt, Int32.reduceToInt, ↓b1_or, b1_0, b1_1, lc_lt, lc_le, lc_gt, lc_ge, lc_eq, ym_0, ym_1, ym_2, ym_3, ym_4, ym_5, ym_6, ym_7, ym_8, ym_9, ym_10, ym_11, ym_12, ym_13, ym_14, ym_15, ym_16, ym_17, ym_18, ym_19, ym_20, ym_21, ym_22, ym_23, ym_24, ym_25, ym_26, ym_27, ym_28, ym_29, ym_30, rm__0, rm__1, rm__2, rm__3, rm__4, rm__5, rm__6, rm__7, rm__8, rm__9, rm__10, rm__11, rm__12, rm__13, rm__14, rm__15, rm__16, rm__17, rm__18, rm__19, rm__20, rm__21, rm__22, rm__23, rm__24, rm__25, rm__26, rm__27, rm__28, rm__29, rm__30, rm__31, rm__32, rm__33, rm__34, rm__35, rm__36, rm__37, rm__38, rm__39, rm__40, rm__41, rm__42, rm__43, rm__44, rm__45, un_X5_tells, un_X5_isEven]
  try simp only [iteP, Classical.not_not, b1_0, b1_1]
  clear hF
  refine ⟨x, ⟨hJ, hR⟩, fun M1 L1 g1 g2 => ?_⟩
  have d0 := g1.1.1.trans h1
  have d1 := g1.1.2.1.trans h2
  have L17 := g1.2.1.2.2.2.2.2.2.2.1
  rw [d0, d1, t0]
  refine sw_n (fun z => ?_) (fun z => by have g := h M1 L1 g1; rw [if_pos (by omega)] at g; exact g)
  rw [if_neg (by omega)] at h
  generalize hm : rk (zx x) 12 = m at *
  generalize hrw : rk (zx x) 6 = r at *
  have m12 : m ≤ 12 := by rw [← hm]; exact rk_b _ _
  have r12 : r ≤ 12 := by rw [← hrw]; have := rk_b (zx x) 6; omega
  have pb := pw_b m12
  have e0 : (1 : Int32) <<< (nI m &&& 31) = nI (2 ^ m) := sh_e ⟨m, by omega⟩
  -- the DP
  have dp : ∀ (L2 : ZL) (al : Int64), L2 17 = L1 17 → (∀ k, k < 12 → zx x k = true → L2 26 (rk (zx x) k) = sox x k) → sal (sox x) 12 = 0 → ∀ (o6 o7 o8 : Option Value), V 191 [some (.ref 0), some (.long al), none, some (.int (nI m)), some (.int (nI r)), some (.int 0), o6, o7, o8] [] M1 L2 := by
    intro L2 al hL hof hz
    have xy := gq_xy (z := zx x) (so := sox x) (of := L2 26) hof
    rw [hm, hrw] at xy
    rw [if_pos hz, xy] at h
    generalize hGG : grY (L2 26) r = G at *
    have lp : ∀ n set (M2 : ZM) (o6 o7 o8 : Option Value), n + set = 2 ^ m → (∀ a, a ≠ 27 → M2 a = M1 a) → (∀ S, S < set → M2 27 S = nI (gq G S S)) → V 191 [some (.ref 0), some (.long al), none, some (.int (nI m)), some (.int (nI r)), some (.int (nI set)), o6, o7, o8] [] M2 L2 := by
      intro n
      induction n with
      | zero =>
        intro set M2 o6 o7 o8 hn hf hI
        have v1 : nI (2 ^ m) ≤ nI set := by rw [a_le (by omega) (by omega)]; omega
        have e1 : nI (2 ^ m) - 1 = nI (2 ^ m - 1) := pk_sub (b := 1) (by omega)
        have v2 : vp_in (nI (2 ^ m - 1)) 4096 := vp_in_nI (by omega) (by decide)
        have v3 := a_cl (show 2 ^ m - 1 < 2147483648 by omega)
        have v4 := hI (2 ^ m - 1) (by omega)
        refine ma_walk (mo_X5_least ms_X5_tells ms_X5_isEven) hV [29, 167, 191, 234] (fun F hF => ?_)
        simp only [tb_X5_least, hF, in_no, in_push, in_ild, in_lld, in_ald, in_ist, in_ast, in_lst, in_inc, in_iii, in_idv, in_ldv, in_lll, in_lli, in_lil, in_ii, in_il, in_li, in_ll, in_dup, in_dp2, q_if1, q_if2, in_go, in_sw, ma_sw, in_rv, in_ri, in_rz, in_rl, in_get, in_put, in_puz, in_iar, in_bar, in_lar, in_aar, in_iaw, in_baw, in_law, in_len, in_cpy, in_s1, in_s2, in_s3, in_v1, in_v2, in_v3, in_v4, in_v5, in_v6, ma_bk, ma_gl, ma_sl, ma_nl, ma_wc, ma_wd, ma_nn, ma_en, List.mem_cons, List.not_mem_nil, or_false, or_true, true_or, false_or, true_and, and_true, false_and, and_false, if_true, if_false, forall_const, true_implies, false_implies, not_true_eq_false, not_false_eq_true, Classical.not_not, implies_true, and_self, Nat.add_zero, Nat.zero_add, eq_self, ne_eq, reduceCtorEq, Nat.reduceLT, Nat.reduceLeDiff, Nat.reduceEqDiff, Nat.reduceSub, Nat.reduceAdd, i10, i01, im10, Int32.reduceLT, Int32.reduceLE, ↓reduceIte, reduceIte, up_r, uL_r, cp_r, Int32.toInt_toInt64, Int64.reduceToInt, Int32.reduceToInt, ↓b1_or, b1_0, b1_1, lc_lt, lc_le, lc_gt, lc_ge, lc_eq, ym_0, ym_1, ym_2, ym_3, ym_4, ym_5, ym_6, ym_7, ym_8, ym_9, ym_10, ym_11, ym_12, ym_13, ym_14, ym_15, ym_16, ym_17, ym_18, ym_19, ym_20, ym_21, ym_22, ym_23, ym_24, ym_25, ym_26, ym_27, ym_28, ym_29, ym_30, rm__0, rm__1, rm__2, rm__3, rm__4, rm__5, rm__6, rm__7, rm__8, rm__9, rm__10, rm__11, rm__12, rm__13, rm__14, rm__15, rm__16, rm__17, rm__18, rm__19, rm__20, rm__21, rm__22, rm__23, rm__24, rm__25, rm__26, rm__27, rm__28, rm__29, rm__30, rm__31, rm__32, rm__33, rm__34, rm__35, rm__36, rm__37, rm__38, rm__39, rm__40, rm__41, rm__42, rm__43, rm__44, rm__45, un_X5_tells, un_X5_isEven, e0, v1, e1, v2, v3, v4]
        try simp only [iteP, Classical.not_not, b1_0, b1_1]
        exact h M2 L2 ((g1.uL hL).lo (fun a ha => hf a (by omega)))
      | succ n ih =>
        intro set M2 o6 o7 o8 hn hf hI
        have v1 : ¬ nI (2 ^ m) ≤ nI set := by rw [a_le (by omega) (by omega)]; omega
        have v4 : nI set + 1 = nI (set + 1) := by rw [show (1 : Int32) = nI 1 from rfl, nI_add]
        have ng : nI set &&& (-(nI set)) = nI (lw set) := neg_e ⟨set, by omega⟩
        have v5 : nI set &&& (nI (lw set) ^^^ (-1)) = nI (df set (lw set)) := n_df _ _
        have w1 : vp_in (nI set) 4096 := vp_in_nI (by omega) (by decide)
        have w2' := a_cl (show set < 2147483648 by omega)
        have gl := gq_le G set
        have lwl := ss_le (df_ss set (set - 1))
        have fin : ∀ (o6 : Option Value) (o8 : Option Value) (B : Nat), B = gq G set set → V 191 [some (.ref 0), some (.long al), none, some (.int (nI m)), some (.int (nI r)), some (.int (nI (set + 1))), o6, some (.int (nI B)), o8] [] (ma_up M2 27 set (nI B)) L2 := by
          intro o6 o8 B hB
          refine ih (set + 1) _ _ _ _ (by omega) (fun a ha => by rw [up_c ha]; exact hf a ha) (fun S hS => ?_)
          by_cases y : S = set
          · rw [y, up_r, if_pos ⟨rfl, rfl⟩, hB]
          · rw [up_r, if_neg (fun q => y q.2)]; exact hI S (by omega)
        by_cases c : set = 0
        · have v6 : (nI set = 0) = True := eq_true (by rw [c]; rfl)
          have x1 : (nI set ≤ 0) = True := eq_true (by rw [c]; decide)
          have B0 : gq G set set = 0 := by omega
          have fin0 := fun o6 o8 => fin o6 o8 0 B0.symm
          have c234 : V 234 [some (.ref 0), some (.long al), none, some (.int (nI m)), some (.int (nI r)), some (.int (nI set)), some (.int (nI (lw set))), some (.int 0), some (.int (nI set))] [] M2 L2 := by
            refine ma_walk (mo_X5_least ms_X5_tells ms_X5_isEven) hV [29, 167, 191, 234] (fun F hF => ?_)
            simp only [tb_X5_least, hF, in_no, in_push, in_ild, in_lld, in_ald, in_ist, in_ast, in_lst, in_inc, in_iii, in_idv, in_ldv, in_lll, in_lli, in_lil, in_ii, in_il, in_li, in_ll, in_dup, in_dp2, q_if1, q_if2, in_go, in_sw, ma_sw, in_rv, in_ri, in_rz, in_rl, in_get, in_put, in_puz, in_iar, in_bar, in_lar, in_aar, in_iaw, in_baw, in_law, in_len, in_cpy, in_s1, in_s2, in_s3, in_v1, in_v2, in_v3, in_v4, in_v5, in_v6, ma_bk, ma_gl, ma_sl, ma_nl, ma_wc, ma_wd, ma_nn, ma_en, List.mem_cons, List.not_mem_nil, or_false, or_true, true_or, false_or, true_and, and_true, false_and, and_false, if_true, if_false, forall_const, true_implies, false_implies, not_true_eq_false, not_false_eq_true, Classical.not_not, implies_true, and_self, Nat.add_zero, Nat.zero_add, eq_self, ne_eq, reduceCtorEq, Nat.reduceLT, Nat.reduceLeDiff, Nat.reduceEqDiff, Nat.reduceSub, Nat.reduceAdd, i10, i01, im10, Int32.reduceLT, Int32.reduceLE, ↓reduceIte, reduceIte, up_r, uL_r, cp_r, Int32.toInt_toInt64, Int64.reduceToInt, Int32.reduceToInt, ↓b1_or, b1_0, b1_1, lc_lt, lc_le, lc_gt, lc_ge, lc_eq, ym_0, ym_1, ym_2, ym_3, ym_4, ym_5, ym_6, ym_7, ym_8, ym_9, ym_10, ym_11, ym_12, ym_13, ym_14, ym_15, ym_16, ym_17, ym_18, ym_19, ym_20, ym_21, ym_22, ym_23, ym_24, ym_25, ym_26, ym_27, ym_28, ym_29, ym_30, rm__0, rm__1, rm__2, rm__3, rm__4, rm__5, rm__6, rm__7, rm__8, rm__9, rm__10, rm__11, rm__12, rm__13, rm__14, rm__15, rm__16, rm__17, rm__18, rm__19, rm__20, rm__21, rm__22, rm__23, rm__24, rm__25, rm__26, rm__27, rm__28, rm__29, rm__30, rm__31, rm__32, rm__33, rm__34, rm__35, rm__36, rm__37, rm__38, rm__39, rm__40, rm__41, rm__42, rm__43, rm__44, rm__45, un_X5_tells, un_X5_isEven, x1, w1, w2', v4]
            try simp only [iteP, Classical.not_not, b1_0, b1_1]
            exact fin0 _ _
          refine ma_walk (mo_X5_least ms_X5_tells ms_X5_isEven) hV [29, 167, 191, 234] (fun F hF => ?_)
          simp only [tb_X5_least, hF, in_no, in_push, in_ild, in_lld, in_ald, in_ist, in_ast, in_lst, in_inc, in_iii, in_idv, in_ldv, in_lll, in_lli, in_lil, in_ii, in_il, in_li, in_ll, in_dup, in_dp2, q_if1, q_if2, in_go, in_sw, ma_sw, in_rv, in_ri, in_rz, in_rl, in_get, in_put, in_puz, in_iar, in_bar, in_lar, in_aar, in_iaw, in_baw, in_law, in_len, in_cpy, in_s1, in_s2, in_s3, in_v1, in_v2, in_v3, in_v4, in_v5, in_v6, ma_bk, ma_gl, ma_sl, ma_nl, ma_wc, ma_wd, ma_nn, ma_en, List.mem_cons, List.not_mem_nil, or_false, or_true, true_or, false_or, true_and, and_true, false_and, and_false, if_true, if_false, forall_const, true_implies, false_implies, not_true_eq_false, not_false_eq_true, Classical.not_not, implies_true, and_self, Nat.add_zero, Nat.zero_add, eq_self, ne_eq, reduceCtorEq, Nat.reduceLT, Nat.reduceLeDiff, Nat.reduceEqDiff, Nat.reduceSub, Nat.reduceAdd, i10, i01, im10, Int32.reduceLT, Int32.reduceLE, ↓reduceIte, reduceIte, up_r, uL_r, cp_r, Int32.toInt_toInt64, Int64.reduceToInt, Int32.reduceToInt, ↓b1_or, b1_0, b1_1, lc_lt, lc_le, lc_gt, lc_ge, lc_eq, ym_0, ym_1, ym_2, ym_3, ym_4, ym_5, ym_6, ym_7, ym_8, ym_9, ym_10, ym_11, ym_12, ym_13, ym_14, ym_15, ym_16, ym_17, ym_18, ym_19, ym_20, ym_21, ym_22, ym_23, ym_24, ym_25, ym_26, ym_27, ym_28, ym_29, ym_30, rm__0, rm__1, rm__2, rm__3, rm__4, rm__5, rm__6, rm__7, rm__8, rm__9, rm__10, rm__11, rm__12, rm__13, rm__14, rm__15, rm__16, rm__17, rm__18, rm__19, rm__20, rm__21, rm__22, rm__23, rm__24, rm__25, rm__26, rm__27, rm__28, rm__29, rm__30, rm__31, rm__32, rm__33, rm__34, rm__35, rm__36, rm__37, rm__38, rm__39, rm__40, rm__41, rm__42, rm__43, rm__44, rm__45, un_X5_tells, un_X5_isEven, e0, v1, ng, v6]
          try simp only [iteP, Classical.not_not, b1_0, b1_1]
          exact c234
        · have l3 := df_lt (lw_ss c) (lw_nz c)
          have v7 : vp_in (nI (df set (lw set))) 4096 := vp_in_nI (by omega) (by decide)
          have v8 := a_cl (show df set (lw set) < 2147483648 by omega)
          have v9 := hI _ l3
          have lp2 : ∀ sub B, ss sub set → gq G (df set (lw set)) (df set (lw set)) ≤ B → B ≤ gq G set set → (∀ U, ss U set → sub < U → ss (lw set) U → G U → gq G (df set U) (df set U) + 1 ≤ B) → V 234 [some (.ref 0), some (.long al), none, some (.int (nI m)), some (.int (nI r)), some (.int (nI set)), some (.int (nI (lw set))), some (.int (nI B)), some (.int (nI sub))] [] M2 L2 := by
            intro sub
            induction sub using Nat.strongRecOn with
            | _ sub ih2 =>
              intro B hsub hB0 hB hU
              by_cases z0 : sub = 0
              · have x1 : nI sub ≤ 0 := by rw [z0]; decide
                have eB : B = gq G set set := by
                  rcases gq_lw G set c with q | ⟨U, u1, u2, u3, u4⟩
                  · omega
                  · obtain ⟨i, hi⟩ := nz_t (lw_nz c)
                    have := t_nz (u2 i hi)
                    have := hU U u1 (by omega) u2 u3
                    omega
                refine ma_walk (mo_X5_least ms_X5_tells ms_X5_isEven) hV [29, 167, 191, 234] (fun F hF => ?_)
                simp only [tb_X5_least, hF, in_no, in_push, in_ild, in_lld, in_ald, in_ist, in_ast, in_lst, in_inc, in_iii, in_idv, in_ldv, in_lll, in_lli, in_lil, in_ii, in_il, in_li, in_ll, in_dup, in_dp2, q_if1, q_if2, in_go, in_sw, ma_sw, in_rv, in_ri, in_rz, in_rl, in_get, in_put, in_puz, in_iar, in_bar, in_lar, in_aar, in_iaw, in_baw, in_law, in_len, in_cpy, in_s1, in_s2, in_s3, in_v1, in_v2, in_v3, in_v4, in_v5, in_v6, ma_bk, ma_gl, ma_sl, ma_nl, ma_wc, ma_wd, ma_nn, ma_en, List.mem_cons, List.not_mem_nil, or_false, or_true, true_or, false_or, true_and, and_true, false_and, and_false, if_true, if_false, forall_const, true_implies, false_implies, not_true_eq_false, not_false_eq_true, Classical.not_not, implies_true, and_self, Nat.add_zero, Nat.zero_add, eq_self, ne_eq, reduceCtorEq, Nat.reduceLT, Nat.reduceLeDiff, Nat.reduceEqDiff, Nat.reduceSub, Nat.reduceAdd, i10, i01, im10, Int32.reduceLT, Int32.reduceLE, ↓reduceIte, reduceIte, up_r, uL_r, cp_r, Int32.toInt_toInt64, Int64.reduceToInt, Int32.reduceToInt, ↓b1_or, b1_0, b1_1, lc_lt, lc_le, lc_gt, lc_ge, lc_eq, ym_0, ym_1, ym_2, ym_3, ym_4, ym_5, ym_6, ym_7, ym_8, ym_9, ym_10, ym_11, ym_12, ym_13, ym_14, ym_15, ym_16, ym_17, ym_18, ym_19, ym_20, ym_21, ym_22, ym_23, ym_24, ym_25, ym_26, ym_27, ym_28, ym_29, ym_30, rm__0, rm__1, rm__2, rm__3, rm__4, rm__5, rm__6, rm__7, rm__8, rm__9, rm__10, rm__11, rm__12, rm__13, rm__14, rm__15, rm__16, rm__17, rm__18, rm__19, rm__20, rm__21, rm__22, rm__23, rm__24, rm__25, rm__26, rm__27, rm__28, rm__29, rm__30, rm__31, rm__32, rm__33, rm__34, rm__35, rm__36, rm__37, rm__38, rm__39, rm__40, rm__41, rm__42, rm__43, rm__44, rm__45, un_X5_tells, un_X5_isEven, x1, w1, w2', v4]
                try simp only [iteP, Classical.not_not, b1_0, b1_1]
                exact fin _ _ B eB
              · have l2 := ss_le hsub
                have x1 : ¬ nI sub ≤ 0 := by rw [a_le0 (by omega)]; omega
                have y1 : nI sub &&& nI (lw set) = nI (sub &&& lw set) := n_and _ _
                have y1l : sub &&& lw set ≤ sub := Nat.and_le_left
                have y2 : (nI (sub &&& lw set) = 0) = (sub &&& lw set = 0) := a_eq0 (by omega)
                have x2 : nI set &&& (nI sub ^^^ (-1)) = nI (df set sub) := n_df _ _
                have l3 := df_lt hsub z0
                have x3 : vp_in (nI (df set sub)) 4096 := vp_in_nI (by omega) (by decide)
                have x4 := a_cl (show df set sub < 2147483648 by omega)
                have x5 := hI _ l3
                have l4 := gq_le G (df set sub)
                have x9 : nI (gq G (df set sub) (df set sub)) + 1 = nI (gq G (df set sub) (df set sub) + 1) := by rw [show (1 : Int32) = nI 1 from rfl, nI_add]
                have x6 : (nI (gq G (df set sub) (df set sub) + 1) ≤ nI B) = (gq G (df set sub) (df set sub) + 1 ≤ B) := a_le (by omega) (by omega)
                have x7 : nI sub - 1 = nI (sub - 1) := pk_sub (b := 1) (by omega)
                have x8 : nI (sub - 1) &&& nI set = nI ((sub - 1) &&& set) := n_and _ _
                have l5 : (sub - 1) &&& set ≤ sub - 1 := Nat.and_le_left
                have nx : ∀ B', B ≤ B' → B' ≤ gq G set set → (ss (lw set) sub → G sub → gq G (df set sub) (df set sub) + 1 ≤ B') → V 234 [some (.ref 0), some (.long al), none, some (.int (nI m)), some (.int (nI r)), some (.int (nI set)), some (.int (nI (lw set))), some (.int (nI B')), some (.int (nI ((sub - 1) &&& set)))] [] M2 L2 := fun B' y1 y2 y3 => by
                  refine ih2 _ (by omega) B' (and_ss _ _) (by omega) y2 (fun U u1 u2 u3 u4 => ?_)
                  by_cases y : sub < U
                  · have := hU U u1 y u3 u4; omega
                  · by_cases y' : U = sub
                    · rw [y'] at u3 u4 ⊢; exact y3 u3 u4
                    · have := nx_le sub sub set U (Nat.le_refl _) hsub (by omega) u1 (by omega)
                      omega
                have bG : G sub → gq G (df set sub) (df set sub) + 1 ≤ gq G set set := fun y => gq_b hsub z0 y
                have la := lw_and (u := sub) c
                refine ma_walk (mo_X5_least ms_X5_tells ms_X5_isEven) hV [29, 167, 191, 234] (fun F hF => ?_)
                simp only [tb_X5_least, hF, in_no, in_push, in_ild, in_lld, in_ald, in_ist, in_ast, in_lst, in_inc, in_iii, in_idv, in_ldv, in_lll, in_lli, in_lil, in_ii, in_il, in_li, in_ll, in_dup, in_dp2, q_if1, q_if2, in_go, in_sw, ma_sw, in_rv, in_ri, in_rz, in_rl, in_get, in_put, in_puz, in_iar, in_bar, in_lar, in_aar, in_iaw, in_baw, in_law, in_len, in_cpy, in_s1, in_s2, in_s3, in_v1, in_v2, in_v3, in_v4, in_v5, in_v6, ma_bk, ma_gl, ma_sl, ma_nl, ma_wc, ma_wd, ma_nn, ma_en, List.mem_cons, List.not_mem_nil, or_false, or_true, true_or, false_or, true_and, and_true, false_and, and_false, if_true, if_false, forall_const, true_implies, false_implies, not_true_eq_false, not_false_eq_true, Classical.not_not, implies_true, and_self, Nat.add_zero, Nat.zero_add, eq_self, ne_eq, reduceCtorEq, Nat.reduceLT, Nat.reduceLeDiff, Nat.reduceEqDiff, Nat.reduceSub, Nat.reduceAdd, i10, i01, im10, Int32.reduceLT, Int32.reduceLE, ↓reduceIte, reduceIte, up_r, uL_r, cp_r, Int32.toInt_toInt64, Int64.reduceToInt, Int32.reduceToInt, ↓b1_or, b1_0, b1_1, lc_lt, lc_le, lc_gt, lc_ge, lc_eq, ym_0, ym_1, ym_2, ym_3, ym_4, ym_5, ym_6, ym_7, ym_8, ym_9, ym_10, ym_11, ym_12, ym_13, ym_14, ym_15, ym_16, ym_17, ym_18, ym_19, ym_20, ym_21, ym_22, ym_23, ym_24, ym_25, ym_26, ym_27, ym_28, ym_29, ym_30, rm__0, rm__1, rm__2, rm__3, rm__4, rm__5, rm__6, rm__7, rm__8, rm__9, rm__10, rm__11, rm__12, rm__13, rm__14, rm__15, rm__16, rm__17, rm__18, rm__19, rm__20, rm__21, rm__22, rm__23, rm__24, rm__25, rm__26, rm__27, rm__28, rm__29, rm__30, rm__31, rm__32, rm__33, rm__34, rm__35, rm__36, rm__37, rm__38, rm__39, rm__40, rm__41, rm__42, rm__43, rm__44, rm__45, un_X5_tells, un_X5_isEven, x1, y1, y2, x2, x3, x4, x5, x6, x7, x8, x9]
                try simp only [iteP, Classical.not_not, b1_0, b1_1]
                refine sw_n (fun y => nx B (Nat.le_refl _) hB (fun q => absurd y (la.mpr q))) (fun y => sw_n (fun y2 => nx B (Nat.le_refl _) hB (fun _ _ => y2)) (fun y2 => ⟨sub, r, ⟨rfl, by omega, rfl, r12⟩, ?_⟩))
                rw [hGG]
                exact br_n (fun y3 => nx B (Nat.le_refl _) hB (fun _ q => absurd q y3)) (fun y3 => nx _ (by omega) (bG y3) (fun _ _ => Nat.le_refl _))
          have m0 : gq G (df set (lw set)) (df set (lw set)) ≤ gq G set set := gq_m (df_ss _ _)
          have v6 : ¬ nI set = 0 := by rw [a_eq0 (by omega)]; exact c
          refine ma_walk (mo_X5_least ms_X5_tells ms_X5_isEven) hV [29, 167, 191, 234] (fun F hF => ?_)
          simp only [tb_X5_least, hF, in_no, in_push, in_ild, in_lld, in_ald, in_ist, in_ast, in_lst, in_inc, in_iii, in_idv, in_ldv, in_lll, in_lli, in_lil, in_ii, in_il, in_li, in_ll, in_dup, in_dp2, q_if1, q_if2, in_go, in_sw, ma_sw, in_rv, in_ri, in_rz, in_rl, in_get, in_put, in_puz, in_iar, in_bar, in_lar, in_aar, in_iaw, in_baw, in_law, in_len, in_cpy, in_s1, in_s2, in_s3, in_v1, in_v2, in_v3, in_v4, in_v5, in_v6, ma_bk, ma_gl, ma_sl, ma_nl, ma_wc, ma_wd, ma_nn, ma_en, List.mem_cons, List.not_mem_nil, or_false, or_true, true_or, false_or, true_and, and_true, false_and, and_false, if_true, if_false, forall_const, true_implies, false_implies, not_true_eq_false, not_false_eq_true, Classical.not_not, implies_true, and_self, Nat.add_zero, Nat.zero_add, eq_self, ne_eq, reduceCtorEq, Nat.reduceLT, Nat.reduceLeDiff, Nat.reduceEqDiff, Nat.reduceSub, Nat.reduceAdd, i10, i01, im10, Int32.reduceLT, Int32.reduceLE, ↓reduceIte, reduceIte, up_r, uL_r, cp_r, Int32.toInt_toInt64, Int64.reduceToInt, Int32.reduceToInt, ↓b1_or, b1_0, b1_1, lc_lt, lc_le, lc_gt, lc_ge, lc_eq, ym_0, ym_1, ym_2, ym_3, ym_4, ym_5, ym_6, ym_7, ym_8, ym_9, ym_10, ym_11, ym_12, ym_13, ym_14, ym_15, ym_16, ym_17, ym_18, ym_19, ym_20, ym_21, ym_22, ym_23, ym_24, ym_25, ym_26, ym_27, ym_28, ym_29, ym_30, rm__0, rm__1, rm__2, rm__3, rm__4, rm__5, rm__6, rm__7, rm__8, rm__9, rm__10, rm__11, rm__12, rm__13, rm__14, rm__15, rm__16, rm__17, rm__18, rm__19, rm__20, rm__21, rm__22, rm__23, rm__24, rm__25, rm__26, rm__27, rm__28, rm__29, rm__30, rm__31, rm__32, rm__33, rm__34, rm__35, rm__36, rm__37, rm__38, rm__39, rm__40, rm__41, rm__42, rm__43, rm__44, rm__45, un_X5_tells, un_X5_isEven, e0, v1, ng, v5, v6, v7, v8, v9]
          try simp only [iteP, Classical.not_not, b1_0, b1_1]
          exact lp2 set _ (fun _ q => q) (Nat.le_refl _) m0 (fun U u1 u2 _ _ => by have := ss_le u1; omega)
    intro o6 o7 o8
    exact lp (2 ^ m) 0 M1 o6 o7 o8 rfl (fun _ _ => rfl) (fun S hS => by omega)
  -- the rest of the differences
  have fl : ∀ (al : Int64), sal (sox x) 12 = 0 → ∀ n j (L2 : ZL) (o6 o7 o8 : Option Value), n + j = 12 → m ≤ j → L2 17 = L1 17 → (∀ k, k < 12 → zx x k = true → L2 26 (rk (zx x) k) = sox x k) → V 167 [some (.ref 0), some (.long al), none, some (.int (nI m)), some (.int (nI r)), some (.int (nI j)), o6, o7, o8] [] M1 L2 := by
    intro al hz n
    induction n with
    | zero =>
      intro j L2 o6 o7 o8 hj hmj hL hof
      have v1 : (12 : Int32) ≤ nI j := by rw [show j = 12 by omega]; decide
      refine ma_walk (mo_X5_least ms_X5_tells ms_X5_isEven) hV [29, 167, 191, 234] (fun F hF => ?_)
      simp only [tb_X5_least, hF, in_no, in_push, in_ild, in_lld, in_ald, in_ist, in_ast, in_lst, in_inc, in_iii, in_idv, in_ldv, in_lll, in_lli, in_lil, in_ii, in_il, in_li, in_ll, in_dup, in_dp2, q_if1, q_if2, in_go, in_sw, ma_sw, in_rv, in_ri, in_rz, in_rl, in_get, in_put, in_puz, in_iar, in_bar, in_lar, in_aar, in_iaw, in_baw, in_law, in_len, in_cpy, in_s1, in_s2, in_s3, in_v1, in_v2, in_v3, in_v4, in_v5, in_v6, ma_bk, ma_gl, ma_sl, ma_nl, ma_wc, ma_wd, ma_nn, ma_en, List.mem_cons, List.not_mem_nil, or_false, or_true, true_or, false_or, true_and, and_true, false_and, and_false, if_true, if_false, forall_const, true_implies, false_implies, not_true_eq_false, not_false_eq_true, Classical.not_not, implies_true, and_self, Nat.add_zero, Nat.zero_add, eq_self, ne_eq, reduceCtorEq, Nat.reduceLT, Nat.reduceLeDiff, Nat.reduceEqDiff, Nat.reduceSub, Nat.reduceAdd, i10, i01, im10, Int32.reduceLT, Int32.reduceLE, ↓reduceIte, reduceIte, up_r, uL_r, cp_r, Int32.toInt_toInt64, Int64.reduceToInt, Int32.reduceToInt, ↓b1_or, b1_0, b1_1, lc_lt, lc_le, lc_gt, lc_ge, lc_eq, ym_0, ym_1, ym_2, ym_3, ym_4, ym_5, ym_6, ym_7, ym_8, ym_9, ym_10, ym_11, ym_12, ym_13, ym_14, ym_15, ym_16, ym_17, ym_18, ym_19, ym_20, ym_21, ym_22, ym_23, ym_24, ym_25, ym_26, ym_27, ym_28, ym_29, ym_30, rm__0, rm__1, rm__2, rm__3, rm__4, rm__5, rm__6, rm__7, rm__8, rm__9, rm__10, rm__11, rm__12, rm__13, rm__14, rm__15, rm__16, rm__17, rm__18, rm__19, rm__20, rm__21, rm__22, rm__23, rm__24, rm__25, rm__26, rm__27, rm__28, rm__29, rm__30, rm__31, rm__32, rm__33, rm__34, rm__35, rm__36, rm__37, rm__38, rm__39, rm__40, rm__41, rm__42, rm__43, rm__44, rm__45, un_X5_tells, un_X5_isEven, v1]
      try simp only [iteP, Classical.not_not, b1_0, b1_1]
      exact dp L2 al hL hof hz _ _ _
    | succ n ih =>
      intro j L2 o6 o7 o8 hj hmj hL hof
      have v1 : ¬ (12 : Int32) ≤ nI j := fun y => by rw [show (12 : Int32) = nI 12 from rfl, a_le (by omega) (by omega)] at y; omega
      have v4 : nI j + 1 = nI (j + 1) := by rw [show (1 : Int32) = nI 1 from rfl, nI_add]
      have v2 : vp_in (nI j) 12 := vp_in_nI (by omega) (by decide)
      have v3 := a_cl (show j < 2147483648 by omega)
      refine ma_walk (mo_X5_least ms_X5_tells ms_X5_isEven) hV [29, 167, 191, 234] (fun F hF => ?_)
      simp only [tb_X5_least, hF, in_no, in_push, in_ild, in_lld, in_ald, in_ist, in_ast, in_lst, in_inc, in_iii, in_idv, in_ldv, in_lll, in_lli, in_lil, in_ii, in_il, in_li, in_ll, in_dup, in_dp2, q_if1, q_if2, in_go, in_sw, ma_sw, in_rv, in_ri, in_rz, in_rl, in_get, in_put, in_puz, in_iar, in_bar, in_lar, in_aar, in_iaw, in_baw, in_law, in_len, in_cpy, in_s1, in_s2, in_s3, in_v1, in_v2, in_v3, in_v4, in_v5, in_v6, ma_bk, ma_gl, ma_sl, ma_nl, ma_wc, ma_wd, ma_nn, ma_en, List.mem_cons, List.not_mem_nil, or_false, or_true, true_or, false_or, true_and, and_true, false_and, and_false, if_true, if_false, forall_const, true_implies, false_implies, not_true_eq_false, not_false_eq_true, Classical.not_not, implies_true, and_self, Nat.add_zero, Nat.zero_add, eq_self, ne_eq, reduceCtorEq, Nat.reduceLT, Nat.reduceLeDiff, Nat.reduceEqDiff, Nat.reduceSub, Nat.reduceAdd, i10, i01, im10, Int32.reduceLT, Int32.reduceLE, ↓reduceIte, reduceIte, up_r, uL_r, cp_r, Int32.toInt_toInt64, Int64.reduceToInt, Int32.reduceToInt, ↓b1_or, b1_0, b1_1, lc_lt, lc_le, lc_gt, lc_ge, lc_eq, ym_0, ym_1, ym_2, ym_3, ym_4, ym_5, ym_6, ym_7, ym_8, ym_9, ym_10, ym_11, ym_12, ym_13, ym_14, ym_15, ym_16, ym_17, ym_18, ym_19, ym_20, ym_21, ym_22, ym_23, ym_24, ym_25, ym_26, ym_27, ym_28, ym_29, ym_30, rm__0, rm__1, rm__2, rm__3, rm__4, rm__5, rm__6, rm__7, rm__8, rm__9, rm__10, rm__11, rm__12, rm__13, rm__14, rm__15, rm__16, rm__17, rm__18, rm__19, rm__20, rm__21, rm__22, rm__23, rm__24, rm__25, rm__26, rm__27, rm__28, rm__29, rm__30, rm__31, rm__32, rm__33, rm__34, rm__35, rm__36, rm__37, rm__38, rm__39, rm__40, rm__41, rm__42, rm__43, rm__44, rm__45, un_X5_tells, un_X5_isEven, v1, v4, v2, v3]
      try simp only [iteP, Classical.not_not, b1_0, b1_1]
      refine ih (j + 1) _ _ _ _ (by omega) (by omega) (by rw [uL_c (by decide)]; exact hL) (fun k hk hzk => ?_)
      have := rk_lt hk hzk
      rw [uL_r, if_neg (fun q => by omega)]; exact hof k hk hzk
  have lp : ∀ n j (L2 : ZL) (o6 o7 o8 : Option Value), n + j = 12 → (∀ a, a ≠ 26 → L2 a = L1 a) → (∀ k, k < j → zx x k = true → L2 26 (rk (zx x) k) = sox x k) → V 29 [some (.ref 0), some (.long (sal (sox x) j)), none, some (.int (nI (rk (zx x) j))), some (.int (nI (rk (zx x) (min j 6)))), some (.int (nI j)), o6, o7, o8] [] M1 L2 := by
    intro n
    induction n with
    | zero =>
      intro j L2 o6 o7 o8 hj hL hof
      have e12 : j = 12 := by omega
      subst e12
      have v1 : (12 : Int32) ≤ nI 12 := by decide
      rw [hm, show min 12 6 = 6 from rfl, hrw]
      refine ma_walk (mo_X5_least ms_X5_tells ms_X5_isEven) hV [29, 167, 191, 234] (fun F hF => ?_)
      simp only [tb_X5_least, hF, in_no, in_push, in_ild, in_lld, in_ald, in_ist, in_ast, in_lst, in_inc, in_iii, in_idv, in_ldv, in_lll, in_lli, in_lil, in_ii, in_il, in_li, in_ll, in_dup, in_dp2, q_if1, q_if2, in_go, in_sw, ma_sw, in_rv, in_ri, in_rz, in_rl, in_get, in_put, in_puz, in_iar, in_bar, in_lar, in_aar, in_iaw, in_baw, in_law, in_len, in_cpy, in_s1, in_s2, in_s3, in_v1, in_v2, in_v3, in_v4, in_v5, in_v6, ma_bk, ma_gl, ma_sl, ma_nl, ma_wc, ma_wd, ma_nn, ma_en, List.mem_cons, List.not_mem_nil, or_false, or_true, true_or, false_or, true_and, and_true, false_and, and_false, if_true, if_false, forall_const, true_implies, false_implies, not_true_eq_false, not_false_eq_true, Classical.not_not, implies_true, and_self, Nat.add_zero, Nat.zero_add, eq_self, ne_eq, reduceCtorEq, Nat.reduceLT, Nat.reduceLeDiff, Nat.reduceEqDiff, Nat.reduceSub, Nat.reduceAdd, i10, i01, im10, Int32.reduceLT, Int32.reduceLE, ↓reduceIte, reduceIte, up_r, uL_r, cp_r, Int32.toInt_toInt64, Int64.reduceToInt, Int32.reduceToInt, ↓b1_or, b1_0, b1_1, lc_lt, lc_le, lc_gt, lc_ge, lc_eq, ym_0, ym_1, ym_2, ym_3, ym_4, ym_5, ym_6, ym_7, ym_8, ym_9, ym_10, ym_11, ym_12, ym_13, ym_14, ym_15, ym_16, ym_17, ym_18, ym_19, ym_20, ym_21, ym_22, ym_23, ym_24, ym_25, ym_26, ym_27, ym_28, ym_29, ym_30, rm__0, rm__1, rm__2, rm__3, rm__4, rm__5, rm__6, rm__7, rm__8, rm__9, rm__10, rm__11, rm__12, rm__13, rm__14, rm__15, rm__16, rm__17, rm__18, rm__19, rm__20, rm__21, rm__22, rm__23, rm__24, rm__25, rm__26, rm__27, rm__28, rm__29, rm__30, rm__31, rm__32, rm__33, rm__34, rm__35, rm__36, rm__37, rm__38, rm__39, rm__40, rm__41, rm__42, rm__43, rm__44, rm__45, un_X5_tells, un_X5_isEven, v1]
      try simp only [iteP, Classical.not_not, b1_0, b1_1]
      refine sw_n (fun y => fl _ y (12 - m) m L2 _ _ _ (by omega) (Nat.le_refl _) (hL 17 (by decide)) hof) (fun y => by have g := h M1 L2 (g1.uL (hL 17 (by decide))); rw [if_neg y] at g; exact g)
    | succ n ih =>
      intro j L2 o6 o7 o8 hj hL hof
      have v1 : ¬ (12 : Int32) ≤ nI j := fun y => by rw [show (12 : Int32) = nI 12 from rfl, a_le (by omega) (by omega)] at y; omega
      have v4 : nI j + 1 = nI (j + 1) := by rw [show (1 : Int32) = nI 1 from rfl, nI_add]
      have v2 : vp_in (nI j) 12 := vp_in_nI (by omega) (by decide)
      have v3 := a_cl (show j < 2147483648 by omega)
      have v5 : ((6 : Int32) ≤ nI j) = (6 ≤ j) := a_le (a := 6) (by omega) (by omega)
      have Lt : L2 17 = sP x 17 := by rw [hL 17 (by decide)]; exact L17
      have Lh : L2 25 j = smx x j := by rw [hL 25 (by decide)]; exact g2 j (by omega)
      have rb := rk_b (zx x) j
      have x1 : vp_in (nI (rk (zx x) j)) 12 := vp_in_nI (by omega) (by decide)
      have x2 := a_cl (show rk (zx x) j < 2147483648 by omega)
      have x3 : nI (rk (zx x) j) + 1 = nI (rk (zx x) j + 1) := by rw [show (1 : Int32) = nI 1 from rfl, nI_add]
      have c83 : ∀ o6, V 83 [some (.ref 0), some (.long (sal (sox x) j)), none, some (.int (nI (rk (zx x) j))), some (.int (nI (rk (zx x) (min j 6)))), some (.int (nI j)), o6, some (.long (offx x j)), none] [] M1 L2 := by
        intro o6
        by_cases c0 : offx x j = 0
        · have z0 : (offx x j = 0) = True := eq_true c0
          have ez : ¬ zx x j = true := by unfold zx; rw [decide_eq_true c0]; decide
          have er : rk (zx x) (j + 1) = rk (zx x) j := by rw [rk, if_neg ez, Nat.add_zero]
          have em : rk (zx x) (min (j + 1) 6) = rk (zx x) (min j 6) := by
            by_cases y : j < 6
            · rw [show min (j + 1) 6 = j + 1 by omega, show min j 6 = j by omega, er]
            · rw [show min (j + 1) 6 = 6 by omega, show min j 6 = 6 by omega]
          have q := ih (j + 1) L2 o6 (some (.long (offx x j))) none (by omega) hL (fun k hk hz => by
            by_cases y : k = j
            · exact absurd (y ▸ hz) ez
            · exact hof k (by omega) hz)
          rw [sal, er, em] at q
          by_cases c6 : 6 ≤ j
          · have es : sox x j = -offx x j := by unfold sox; rw [if_neg (by omega)]
            rw [es] at q
            refine ma_walk (mo_X5_least ms_X5_tells ms_X5_isEven) hV [29, 83, 167, 191, 234] (fun F hF => ?_)
            simp only [tb_X5_least, hF, in_no, in_push, in_ild, in_lld, in_ald, in_ist, in_ast, in_lst, in_inc, in_iii, in_idv, in_ldv, in_lll, in_lli, in_lil, in_ii, in_il, in_li, in_ll, in_dup, in_dp2, q_if1, q_if2, in_go, in_sw, ma_sw, in_rv, in_ri, in_rz, in_rl, in_get, in_put, in_puz, in_iar, in_bar, in_lar, in_aar, in_iaw, in_baw, in_law, in_len, in_cpy, in_s1, in_s2, in_s3, in_v1, in_v2, in_v3, in_v4, in_v5, in_v6, ma_bk, ma_gl, ma_sl, ma_nl, ma_wc, ma_wd, ma_nn, ma_en, List.mem_cons, List.not_mem_nil, or_false, or_true, true_or, false_or, true_and, and_true, false_and, and_false, if_true, if_false, forall_const, true_implies, false_implies, not_true_eq_false, not_false_eq_true, Classical.not_not, implies_true, and_self, Nat.add_zero, Nat.zero_add, eq_self, ne_eq, reduceCtorEq, Nat.reduceLT, Nat.reduceLeDiff, Nat.reduceEqDiff, Nat.reduceSub, Nat.reduceAdd, i10, i01, im10, Int32.reduceLT, Int32.reduceLE, ↓reduceIte, reduceIte, up_r, uL_r, cp_r, Int32.toInt_toInt64, Int64.reduceToInt, Int32.reduceToInt, ↓b1_or, b1_0, b1_1, lc_lt, lc_le, lc_gt, lc_ge, lc_eq, ym_0, ym_1, ym_2, ym_3, ym_4, ym_5, ym_6, ym_7, ym_8, ym_9, ym_10, ym_11, ym_12, ym_13, ym_14, ym_15, ym_16, ym_17, ym_18, ym_19, ym_20, ym_21, ym_22, ym_23, ym_24, ym_25, ym_26, ym_27, ym_28, ym_29, ym_30, rm__0, rm__1, rm__2, rm__3, rm__4, rm__5, rm__6, rm__7, rm__8, rm__9, rm__10, rm__11, rm__12, rm__13, rm__14, rm__15, rm__16, rm__17, rm__18, rm__19, rm__20, rm__21, rm__22, rm__23, rm__24, rm__25, rm__26, rm__27, rm__28, rm__29, rm__30, rm__31, rm__32, rm__33, rm__34, rm__35, rm__36, rm__37, rm__38, rm__39, rm__40, rm__41, rm__42, rm__43, rm__44, rm__45, un_X5_tells, un_X5_isEven, v4, v5, c6, z0]
            try simp only [iteP, Classical.not_not, b1_0, b1_1]
            exact q
          · have es : sox x j = offx x j := by unfold sox; rw [if_pos (by omega)]
            rw [es] at q
            refine ma_walk (mo_X5_least ms_X5_tells ms_X5_isEven) hV [29, 83, 167, 191, 234] (fun F hF => ?_)
            simp only [tb_X5_least, hF, in_no, in_push, in_ild, in_lld, in_ald, in_ist, in_ast, in_lst, in_inc, in_iii, in_idv, in_ldv, in_lll, in_lli, in_lil, in_ii, in_il, in_li, in_ll, in_dup, in_dp2, q_if1, q_if2, in_go, in_sw, ma_sw, in_rv, in_ri, in_rz, in_rl, in_get, in_put, in_puz, in_iar, in_bar, in_lar, in_aar, in_iaw, in_baw, in_law, in_len, in_cpy, in_s1, in_s2, in_s3, in_v1, in_v2, in_v3, in_v4, in_v5, in_v6, ma_bk, ma_gl, ma_sl, ma_nl, ma_wc, ma_wd, ma_nn, ma_en, List.mem_cons, List.not_mem_nil, or_false, or_true, true_or, false_or, true_and, and_true, false_and, and_false, if_true, if_false, forall_const, true_implies, false_implies, not_true_eq_false, not_false_eq_true, Classical.not_not, implies_true, and_self, Nat.add_zero, Nat.zero_add, eq_self, ne_eq, reduceCtorEq, Nat.reduceLT, Nat.reduceLeDiff, Nat.reduceEqDiff, Nat.reduceSub, Nat.reduceAdd, i10, i01, im10, Int32.reduceLT, Int32.reduceLE, ↓reduceIte, reduceIte, up_r, uL_r, cp_r, Int32.toInt_toInt64, Int64.reduceToInt, Int32.reduceToInt, ↓b1_or, b1_0, b1_1, lc_lt, lc_le, lc_gt, lc_ge, lc_eq, ym_0, ym_1, ym_2, ym_3, ym_4, ym_5, ym_6, ym_7, ym_8, ym_9, ym_10, ym_11, ym_12, ym_13, ym_14, ym_15, ym_16, ym_17, ym_18, ym_19, ym_20, ym_21, ym_22, ym_23, ym_24, ym_25, ym_26, ym_27, ym_28, ym_29, ym_30, rm__0, rm__1, rm__2, rm__3, rm__4, rm__5, rm__6, rm__7, rm__8, rm__9, rm__10, rm__11, rm__12, rm__13, rm__14, rm__15, rm__16, rm__17, rm__18, rm__19, rm__20, rm__21, rm__22, rm__23, rm__24, rm__25, rm__26, rm__27, rm__28, rm__29, rm__30, rm__31, rm__32, rm__33, rm__34, rm__35, rm__36, rm__37, rm__38, rm__39, rm__40, rm__41, rm__42, rm__43, rm__44, rm__45, un_X5_tells, un_X5_isEven, v4, v5, c6, z0]
            try simp only [iteP, Classical.not_not, b1_0, b1_1]
            exact q
        · have ez : zx x j = true := by unfold zx; rw [decide_eq_false c0]; rfl
          have er : rk (zx x) (j + 1) = rk (zx x) j + 1 := by rw [rk, if_pos ez]
          have q := ih (j + 1) (ma_uL L2 26 (rk (zx x) j) (sox x j)) o6 (some (.long (offx x j))) none (by omega) (fun a ha => by rw [uL_c ha]; exact hL a ha) (fun k hk hz => by
            by_cases y : k = j
            · rw [y, uL_r, if_pos ⟨rfl, rfl⟩]
            · have := rk_lt (show k < j by omega) hz
              rw [uL_r, if_neg (fun w => by omega)]; exact hof k (by omega) hz)
          rw [sal, er] at q
          by_cases c6 : 6 ≤ j
          · have es : sox x j = -offx x j := by unfold sox; rw [if_neg (by omega)]
            rw [es, show min (j + 1) 6 = 6 by omega] at q
            rw [show min j 6 = 6 by omega]
            refine ma_walk (mo_X5_least ms_X5_tells ms_X5_isEven) hV [29, 83, 167, 191, 234] (fun F hF => ?_)
            simp only [tb_X5_least, hF, in_no, in_push, in_ild, in_lld, in_ald, in_ist, in_ast, in_lst, in_inc, in_iii, in_idv, in_ldv, in_lll, in_lli, in_lil, in_ii, in_il, in_li, in_ll, in_dup, in_dp2, q_if1, q_if2, in_go, in_sw, ma_sw, in_rv, in_ri, in_rz, in_rl, in_get, in_put, in_puz, in_iar, in_bar, in_lar, in_aar, in_iaw, in_baw, in_law, in_len, in_cpy, in_s1, in_s2, in_s3, in_v1, in_v2, in_v3, in_v4, in_v5, in_v6, ma_bk, ma_gl, ma_sl, ma_nl, ma_wc, ma_wd, ma_nn, ma_en, List.mem_cons, List.not_mem_nil, or_false, or_true, true_or, false_or, true_and, and_true, false_and, and_false, if_true, if_false, forall_const, true_implies, false_implies, not_true_eq_false, not_false_eq_true, Classical.not_not, implies_true, and_self, Nat.add_zero, Nat.zero_add, eq_self, ne_eq, reduceCtorEq, Nat.reduceLT, Nat.reduceLeDiff, Nat.reduceEqDiff, Nat.reduceSub, Nat.reduceAdd, i10, i01, im10, Int32.reduceLT, Int32.reduceLE, ↓reduceIte, reduceIte, up_r, uL_r, cp_r, Int32.toInt_toInt64, Int64.reduceToInt, Int32.reduceToInt, ↓b1_or, b1_0, b1_1, lc_lt, lc_le, lc_gt, lc_ge, lc_eq, ym_0, ym_1, ym_2, ym_3, ym_4, ym_5, ym_6, ym_7, ym_8, ym_9, ym_10, ym_11, ym_12, ym_13, ym_14, ym_15, ym_16, ym_17, ym_18, ym_19, ym_20, ym_21, ym_22, ym_23, ym_24, ym_25, ym_26, ym_27, ym_28, ym_29, ym_30, rm__0, rm__1, rm__2, rm__3, rm__4, rm__5, rm__6, rm__7, rm__8, rm__9, rm__10, rm__11, rm__12, rm__13, rm__14, rm__15, rm__16, rm__17, rm__18, rm__19, rm__20, rm__21, rm__22, rm__23, rm__24, rm__25, rm__26, rm__27, rm__28, rm__29, rm__30, rm__31, rm__32, rm__33, rm__34, rm__35, rm__36, rm__37, rm__38, rm__39, rm__40, rm__41, rm__42, rm__43, rm__44, rm__45, un_X5_tells, un_X5_isEven, v4, v5, c6, c0, x1, x2, x3]
            try simp only [iteP, Classical.not_not, b1_0, b1_1]
            rw [Int32.add_zero]
            exact q
          · have es : sox x j = offx x j := by unfold sox; rw [if_pos (by omega)]
            rw [es, show min (j + 1) 6 = j + 1 by omega, er] at q
            rw [show min j 6 = j by omega]
            refine ma_walk (mo_X5_least ms_X5_tells ms_X5_isEven) hV [29, 83, 167, 191, 234] (fun F hF => ?_)
            simp only [tb_X5_least, hF, in_no, in_push, in_ild, in_lld, in_ald, in_ist, in_ast, in_lst, in_inc, in_iii, in_idv, in_ldv, in_lll, in_lli, in_lil, in_ii, in_il, in_li, in_ll, in_dup, in_dp2, q_if1, q_if2, in_go, in_sw, ma_sw, in_rv, in_ri, in_rz, in_rl, in_get, in_put, in_puz, in_iar, in_bar, in_lar, in_aar, in_iaw, in_baw, in_law, in_len, in_cpy, in_s1, in_s2, in_s3, in_v1, in_v2, in_v3, in_v4, in_v5, in_v6, ma_bk, ma_gl, ma_sl, ma_nl, ma_wc, ma_wd, ma_nn, ma_en, List.mem_cons, List.not_mem_nil, or_false, or_true, true_or, false_or, true_and, and_true, false_and, and_false, if_true, if_false, forall_const, true_implies, false_implies, not_true_eq_false, not_false_eq_true, Classical.not_not, implies_true, and_self, Nat.add_zero, Nat.zero_add, eq_self, ne_eq, reduceCtorEq, Nat.reduceLT, Nat.reduceLeDiff, Nat.reduceEqDiff, Nat.reduceSub, Nat.reduceAdd, i10, i01, im10, Int32.reduceLT, Int32.reduceLE, ↓reduceIte, reduceIte, up_r, uL_r, cp_r, Int32.toInt_toInt64, Int64.reduceToInt, Int32.reduceToInt, ↓b1_or, b1_0, b1_1, lc_lt, lc_le, lc_gt, lc_ge, lc_eq, ym_0, ym_1, ym_2, ym_3, ym_4, ym_5, ym_6, ym_7, ym_8, ym_9, ym_10, ym_11, ym_12, ym_13, ym_14, ym_15, ym_16, ym_17, ym_18, ym_19, ym_20, ym_21, ym_22, ym_23, ym_24, ym_25, ym_26, ym_27, ym_28, ym_29, ym_30, rm__0, rm__1, rm__2, rm__3, rm__4, rm__5, rm__6, rm__7, rm__8, rm__9, rm__10, rm__11, rm__12, rm__13, rm__14, rm__15, rm__16, rm__17, rm__18, rm__19, rm__20, rm__21, rm__22, rm__23, rm__24, rm__25, rm__26, rm__27, rm__28, rm__29, rm__30, rm__31, rm__32, rm__33, rm__34, rm__35, rm__36, rm__37, rm__38, rm__39, rm__40, rm__41, rm__42, rm__43, rm__44, rm__45, un_X5_tells, un_X5_isEven, v4, v5, c6, c0, x1, x2, x3]
            try simp only [iteP, Classical.not_not, b1_0, b1_1]
            exact q
      unfold offx at c83
      refine ma_walk (mo_X5_least ms_X5_tells ms_X5_isEven) hV [29, 83, 167, 191, 234] (fun F hF => ?_)
      simp only [tb_X5_least, hF, in_no, in_push, in_ild, in_lld, in_ald, in_ist, in_ast, in_lst, in_inc, in_iii, in_idv, in_ldv, in_lll, in_lli, in_lil, in_ii, in_il, in_li, in_ll, in_dup, in_dp2, q_if1, q_if2, in_go, in_sw, ma_sw, in_rv, in_ri, in_rz, in_rl, in_get, in_put, in_puz, in_iar, in_bar, in_lar, in_aar, in_iaw, in_baw, in_law, in_len, in_cpy, in_s1, in_s2, in_s3, in_v1, in_v2, in_v3, in_v4, in_v5, in_v6, ma_bk, ma_gl, ma_sl, ma_nl, ma_wc, ma_wd, ma_nn, ma_en, List.mem_cons, List.not_mem_nil, or_false, or_true, true_or, false_or, true_and, and_true, false_and, and_false, if_true, if_false, forall_const, true_implies, false_implies, not_true_eq_false, not_false_eq_true, Classical.not_not, implies_true, and_self, Nat.add_zero, Nat.zero_add, eq_self, ne_eq, reduceCtorEq, Nat.reduceLT, Nat.reduceLeDiff, Nat.reduceEqDiff, Nat.reduceSub, Nat.reduceAdd, i10, i01, im10, Int32.reduceLT, Int32.reduceLE, ↓reduceIte, reduceIte, up_r, uL_r, cp_r, Int32.toInt_toInt64, Int64.reduceToInt, Int32.reduceToInt, ↓b1_or, b1_0, b1_1, lc_lt, lc_le, lc_gt, lc_ge, lc_eq, ym_0, ym_1, ym_2, ym_3, ym_4, ym_5, ym_6, ym_7, ym_8, ym_9, ym_10, ym_11, ym_12, ym_13, ym_14, ym_15, ym_16, ym_17, ym_18, ym_19, ym_20, ym_21, ym_22, ym_23, ym_24, ym_25, ym_26, ym_27, ym_28, ym_29, ym_30, rm__0, rm__1, rm__2, rm__3, rm__4, rm__5, rm__6, rm__7, rm__8, rm__9, rm__10, rm__11, rm__12, rm__13, rm__14, rm__15, rm__16, rm__17, rm__18, rm__19, rm__20, rm__21, rm__22, rm__23, rm__24, rm__25, rm__26, rm__27, rm__28, rm__29, rm__30, rm__31, rm__32, rm__33, rm__34, rm__35, rm__36, rm__37, rm__38, rm__39, rm__40, rm__41, rm__42, rm__43, rm__44, rm__45, un_X5_tells, un_X5_isEven, v1, v2, v3, Lt, Lh]
      try simp only [iteP, Classical.not_not, b1_0, b1_1]
      exact sw_n (fun y => by rw [if_pos y] at c83; exact c83 _) (fun y => by rw [if_neg y] at c83; exact c83 _)
  exact lp 12 0 L1 _ _ _ rfl (fun _ _ => rfl) (fun i hi => by omega)
theorem pv_X5_least : ∀ as M L K, S_X5_least as M L K → ma_rn (tb_X5_least S_X5_tells S_X5_isEven) 9 as M L K := by
  intro as M L K h
  unfold S_X5_least at h
  split at h
  · obtain ⟨x, h⟩ := h; exact pw_X5_least h.1 h.2
  · exact h.elim
