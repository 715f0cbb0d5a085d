/-! op: sum -/
set_option maxRecDepth 100000
set_option maxHeartbeats 4000000
def sumv (f : Nat → Int32) : Nat → Int64
  | 0 => 0
  | n + 1 => sumv f n + (if f n = 2000000000 then 0 else (f n).toInt64)
abbrev cSum (s l : Int32) : Prop := (0 ≤ s.toInt ∧ s.toInt ≤ 12) ∧ (0 ≤ l.toInt ∧ l.toInt ≤ 3)
def oSum (b s l : Int32) (x : St) : Int64 := if cSum s l then sumv (fun c => hv x (if b = 0 then sAll else sNo) (nat s) c (nat l)) (nat (sN x 0 0) * nat (sN x 0 1)) else -2000000000000
def S_X0_sum : ma_Cs := fun as M L K => match as with
  | [.ref k, .int b, .int s, .int l] => ∃ (x : St), (k = 0 ∧ J x ∧ RX M L x) ∧ (∀ (M' : ZM), RX M' L x → K (some (.long (oSum b s l x))) M' L)
  | _ => False
theorem ms_X0_sum : ma_ms S_X0_sum := by
  intro as M L K K' hk h
  unfold S_X0_sum at h ⊢
  split at h
  · obtain ⟨x, h⟩ := h
    exact ⟨x, h.1, fun x0 x1 => hk _ _ _ (h.2 x0 x1)⟩
  · exact h.elim
theorem un_X0_sum {k : Nat} {b : Int32} {s : Int32} {l : Int32} {M : ZM} {L : ZL} {K : ma_Kt} : S_X0_sum [.ref k, .int b, .int s, .int l] M L K = (∃ (x : St), (k = 0 ∧ J x ∧ RX M L x) ∧ (∀ (M' : ZM), RX M' L x → K (some (.long (oSum b s l x))) M' L)) := rfl
theorem pw_X0_sum {k : Nat} {b : Int32} {s : Int32} {l : Int32} {x : St} {M : ZM} {L : ZL} {K : ma_Kt} (hp : k = 0 ∧ J x ∧ RX M L x) (h : (∀ (M' : ZM), RX M' L x → K (some (.long (oSum b s l x))) M' L)) : ma_rn (tb_X0_sum S_X0_isStep S_X0_isLetter S_X0_refresh S_X0_cells S_X3_at S_X0_countOf) 7 [.ref k, .int b, .int s, .int l] M L K := by
  refine ⟨Nat.le_of_ble_eq_true rfl, fun V hV => ?_⟩
  obtain ⟨rfl, hJ, hR⟩ := hp
  obtain ⟨⟨w, u, e, wk, n, ns, a', b', km, h1, h2, h3, h4, h5, h6, h7, h8, h9, g1, g2, g3, g4, g5, g6, g7, g8, g9, f1, f2⟩, ja, jp, jk⟩ := id hJ
  have hq := wu_ti g1 g2 g3 g4
  have n1 : nat (sN x 0 0) = w := by unfold nat; rw [h1, a_cl (by omega)]
  have n2 : nat (sN x 0 1) = u := by unfold nat; rw [h2, a_cl (by omega)]
  unfold oSum at h
  have lp : cSum s l → ∀ M2 : ZM, RX M2 L x → Xh M2 x → ∀ c, c ≤ w * u → V 28 [some (.ref 0), some (.int b), some (.int s), some (.int l), some (.long (sumv (fun c => hv x (if b = 0 then sAll else sNo) (nat s) c (nat l)) c)), none, some (.int (nI c))] [] M2 L := by
    intro z M2 p1 p2
    rw [if_pos z, n1, n2] at h
    obtain ⟨m, em, hm, bm⟩ := a_of z.1.1
    obtain ⟨m3, em3, hm3, bm3⟩ := a_of z.2.1
    have es : s = nI (nat s) := by unfold nat; rw [em, a_cl bm]
    have el : l = nI (nat l) := by unfold nat; rw [em3, a_cl bm3]
    have ls : nat s ≤ 12 := by unfold nat; rw [em, a_cl bm]; have := z.1; omega
    have ll : nat l < 4 := by unfold nat; rw [em3, a_cl bm3]; have := z.2; omega
    have m5 : M2 0 5 = nI w := p1.1.2.1.trans h1
    have m6 : M2 0 6 = nI u := p1.1.2.2.1.trans h2
    have hwu : nI w * nI u = nI (w * u) := pk_mul w u
    refine lp_up ?_ ?_
    · refine ma_walk (mo_X0_sum ms_X0_isStep ms_X0_isLetter ms_X0_refresh ms_X0_cells ms_X3_at ms_X0_countOf) hV [28] (fun F hF => ?_)
      simp only [tb_X0_sum, hF, in_no, in_push, in_ild, in_lld, in_ald, in_ist, in_ast, in_lst, in_inc, in_iii, in_idv, in_ldv, in_lll, in_lli, in_lil, in_ii, in_il, in_li, in_ll, in_dup, in_dp2, q_if1, q_if2, in_go, in_sw, ma_sw, in_rv, in_ri, in_rz, in_rl, in_get, in_put, in_puz, in_iar, in_bar, in_lar, in_aar, in_iaw, in_baw, in_law, in_len, in_cpy, in_s1, in_s2, in_s3, in_v1, in_v2, in_v3, in_v4, in_v5, in_v6, ma_bk, ma_gl, ma_sl, ma_nl, ma_wc, ma_wd, ma_nn, ma_en, List.mem_cons, List.not_mem_nil, or_false, or_true, true_or, false_or, true_and, and_true, false_and, and_false, if_true, if_false, forall_const, true_implies, false_implies, not_true_eq_false, not_false_eq_true, Classical.not_not, implies_true, and_self, Nat.add_zero, Nat.zero_add, eq_self, ne_eq, reduceCtorEq, Nat.reduceLT, Nat.reduceLeDiff, Nat.reduceEqDiff, Nat.reduceSub, Nat.reduceAdd, i10, i01, im10, Int32.reduceLT, Int32.reduceLE, ↓reduceIte, reduceIte, up_r, uL_r, cp_r, Int32.toInt_toInt64, Int64.reduceToInt, Int32.reduceToInt, ↓b1_or, b1_0, b1_1, lc_lt, lc_le, lc_gt, lc_ge, lc_eq, yx_0, yx_1, yx_2, yx_3, yx_4, yx_5, yx_6, yx_7, yx_8, yx_9, yx_10, yx_11, yx_12, yx_13, yx_14, yx_15, yx_16, yx_17, yx_18, yx_19, yx_20, yx_21, yx_22, yx_23, yx_24, yx_25, yx_26, yx_27, yx_28, yx_29, yx_30, yx_31, yx_32, yx_33, yx_34, yx_35, yx_36, yx_37, yx_38, yx_39, yx_40, yx_41, yx_42, yx_43, yx_44, yx_45, yx_46, yx_47, yx_48, yx_49, yx_50, yx_51, yx_52, yx_53, yx_54, yx_55, yx_56, yx_57, yx_58, yx_59, yx_60, yx_61, yx_62, yx_63, yx_64, yx_65, yx_66, yx_67, yx_68, rx_0, rx_1, rx_2, rx_3, rx_4, rx_5, rx_6, rx_7, rx_8, rx_9, rx_10, rx_11, rx_12, rx_13, rx_14, rx_15, rx_16, rx_17, rx_18, rx_19, rx_20, rx_21, rx_22, rx_23, rx_24, rx_25, rx_26, rx_27, rx_28, rx_29, rx_30, rx_31, rx_32, rx_33, rp_0, rp_1, rp_2, rp_3, rp_4, rp_5, rp_6, rp_7, rp_8, rs_0, rs_1, rs_2, rs_3, rs_4, re_0, re_1, re_2, re_3, re_4, re_5, rr_0, rr_1, rr_2, rr_3, rr_4, rk_0, rk_1, isP3, isP11, isP46, isP58, isS25, isS28, isS31, un_X0_isStep, un_X0_isLetter, un_X0_refresh, un_X0_cells, un_X3_at, un_X0_countOf, m5, m6, hwu]
      try simp only [iteP, Classical.not_not, b1_0, b1_1]
      exact ⟨fun _ => h M2 p1, fun z => absurd (nI_le (Nat.le_refl _) (by omega)) z⟩
    · intro c hc ih
      rw [sumv] at ih
      have q := p2.2.2.2.2 (nat s) c (nat l) ls (by rw [n1, n2]; exact hc) ll
      refine ma_walk (mo_X0_sum ms_X0_isStep ms_X0_isLetter ms_X0_refresh ms_X0_cells ms_X3_at ms_X0_countOf) hV [28] (fun F hF => ?_)
      simp only [tb_X0_sum, hF, in_no, in_push, in_ild, in_lld, in_ald, in_ist, in_ast, in_lst, in_inc, in_iii, in_idv, in_ldv, in_lll, in_lli, in_lil, in_ii, in_il, in_li, in_ll, in_dup, in_dp2, q_if1, q_if2, in_go, in_sw, ma_sw, in_rv, in_ri, in_rz, in_rl, in_get, in_put, in_puz, in_iar, in_bar, in_lar, in_aar, in_iaw, in_baw, in_law, in_len, in_cpy, in_s1, in_s2, in_s3, in_v1, in_v2, in_v3, in_v4, in_v5, in_v6, ma_bk, ma_gl, ma_sl, ma_nl, ma_wc, ma_wd, ma_nn, ma_en, List.mem_cons, List.not_mem_nil, or_false, or_true, true_or, false_or, true_and, and_true, false_and, and_false, if_true, if_false, forall_const, true_implies, false_implies, not_true_eq_false, not_false_eq_true, Classical.not_not, implies_true, and_self, Nat.add_zero, Nat.zero_add, eq_self, ne_eq, reduceCtorEq, Nat.reduceLT, Nat.reduceLeDiff, Nat.reduceEqDiff, Nat.reduceSub, Nat.reduceAdd, i10, i01, im10, Int32.reduceLT, Int32.reduceLE, ↓reduceIte, reduceIte, up_r, uL_r, cp_r, Int32.toInt_toInt64, Int64.reduceToInt, Int32.reduceToInt, ↓b1_or, b1_0, b1_1, lc_lt, lc_le, lc_gt, lc_ge, lc_eq, yx_0, yx_1, yx_2, yx_3, yx_4, yx_5, yx_6, yx_7, yx_8, yx_9, yx_10, yx_11, yx_12, yx_13, yx_14, yx_15, yx_16, yx_17, yx_18, yx_19, yx_20, yx_21, yx_22, yx_23, yx_24, yx_25, yx_26, yx_27, yx_28, yx_29, yx_30, yx_31, yx_32, yx_33, yx_34, yx_35, yx_36, yx_37, yx_38, yx_39, yx_40, yx_41, yx_42, yx_43, yx_44, yx_45, yx_46, yx_47, yx_48, yx_49, yx_50, yx_51, yx_52, yx_53, yx_54, yx_55, yx_56, yx_57, yx_58, yx_59, yx_60, yx_61, yx_62, yx_63, yx_64, yx_65, yx_66, yx_67, yx_68, rx_0, rx_1, rx_2, rx_3, rx_4, rx_5, rx_6, rx_7, rx_8, rx_9, rx_10, rx_11, rx_12, rx_13, rx_14, rx_15, rx_16, rx_17, rx_18, rx_19, rx_20, rx_21, rx_22, rx_23, rx_24, rx_25, rx_26, rx_27, rx_28, rx_29, rx_30, rx_31, rx_32, rx_33, rp_0, rp_1, rp_2, rp_3, rp_4, rp_5, rp_6, rp_7, rp_8, rs_0, rs_1, rs_2, rs_3, rs_4, re_0, re_1, re_2, re_3, re_4, re_5, rr_0, rr_1, rr_2, rr_3, rr_4, rk_0, rk_1, isP3, isP11, isP46, isP58, isS25, isS28, isS31, un_X0_isStep, un_X0_isLetter, un_X0_refresh, un_X0_cells, un_X3_at, un_X0_countOf, m5, m6, hwu, nI_1]
      try simp only [iteP, Classical.not_not, b1_0, b1_1]
      rw [a_le (by omega) (by omega)]
      refine ⟨fun z => absurd z (by omega), fun _ => ⟨fun y => ⟨nat s, c, nat l, ⟨es, rfl, el, by omega, by omega, ll⟩, ?_⟩, fun y => ⟨nat s, c, nat l, ⟨es, rfl, el, by omega, by omega, ll⟩, ?_⟩⟩⟩
      · simp only [if_pos y] at ih ⊢
        rw [q.2.1]; exact ih
      · simp only [if_neg y] at ih ⊢
        rw [q.1]; exact ih
  refine ma_walk (mo_X0_sum ms_X0_isStep ms_X0_isLetter ms_X0_refresh ms_X0_cells ms_X3_at ms_X0_countOf) hV [28] (fun F hF => ?_)
  simp only [tb_X0_sum, hF, in_no, in_push, in_ild, in_lld, in_ald, in_ist, in_ast, in_lst, in_inc, in_iii, in_idv, in_ldv, in_lll, in_lli, in_lil, in_ii, in_il, in_li, in_ll, in_dup, in_dp2, q_if1, q_if2, in_go, in_sw, ma_sw, in_rv, in_ri, in_rz, in_rl, in_get, in_put, in_puz, in_iar, in_bar, in_lar, in_aar, in_iaw, in_baw, in_law, in_len, in_cpy, in_s1, in_s2, in_s3, in_v1, in_v2, in_v3, in_v4, in_v5, in_v6, ma_bk, ma_gl, ma_sl, ma_nl, ma_wc, ma_wd, ma_nn, ma_en, List.mem_cons, List.not_mem_nil, or_false, or_true, true_or, false_or, true_and, and_true, false_and, and_false, if_true, if_false, forall_const, true_implies, false_implies, not_true_eq_false, not_false_eq_true, Classical.not_not, implies_true, and_self, Nat.add_zero, Nat.zero_add, eq_self, ne_eq, reduceCtorEq, Nat.reduceLT, Nat.reduceLeDiff, Nat.reduceEqDiff, Nat.reduceSub, Nat.reduceAdd, i10, i01, im10, Int32.reduceLT, Int32.reduceLE, ↓reduceIte, reduceIte, up_r, uL_r, cp_r, Int32.toInt_toInt64, Int64.reduceToInt, Int32.reduceToInt, ↓b1_or, b1_0, b1_1, lc_lt, lc_le, lc_gt, lc_ge, lc_eq, yx_0, yx_1, yx_2, yx_3, yx_4, yx_5, yx_6, yx_7, yx_8, yx_9, yx_10, yx_11, yx_12, yx_13, yx_14, yx_15, yx_16, yx_17, yx_18, yx_19, yx_20, yx_21, yx_22, yx_23, yx_24, yx_25, yx_26, yx_27, yx_28, yx_29, yx_30, yx_31, yx_32, yx_33, yx_34, yx_35, yx_36, yx_37, yx_38, yx_39, yx_40, yx_41, yx_42, yx_43, yx_44, yx_45, yx_46, yx_47, yx_48, yx_49, yx_50, yx_51, yx_52, yx_53, yx_54, yx_55, yx_56, yx_57, yx_58, yx_59, yx_60, yx_61, yx_62, yx_63, yx_64, yx_65, yx_66, yx_67, yx_68, rx_0, rx_1, rx_2, rx_3, rx_4, rx_5, rx_6, rx_7, rx_8, rx_9, rx_10, rx_11, rx_12, rx_13, rx_14, rx_15, rx_16, rx_17, rx_18, rx_19, rx_20, rx_21, rx_22, rx_23, rx_24, rx_25, rx_26, rx_27, rx_28, rx_29, rx_30, rx_31, rx_32, rx_33, rp_0, rp_1, rp_2, rp_3, rp_4, rp_5, rp_6, rp_7, rp_8, rs_0, rs_1, rs_2, rs_3, rs_4, re_0, re_1, re_2, re_3, re_4, re_5, rr_0, rr_1, rr_2, rr_3, rr_4, rk_0, rk_1, isP3, isP11, isP46, isP58, isS25, isS28, isS31, un_X0_isStep, un_X0_isLetter, un_X0_refresh, un_X0_cells, un_X3_at, un_X0_countOf]
  try simp only [iteP, Classical.not_not, b1_0, b1_1]
  refine ⟨fun z => ?_, fun z => ⟨fun z2 => ?_, fun z2 => ⟨x, ⟨hJ, hR⟩, fun M2 p1 p2 => lp ⟨z, z2⟩ M2 p1 p2 0 (Nat.zero_le _)⟩⟩⟩
  · rw [if_neg (fun y => z y.1)] at h; exact h M hR
  · rw [if_neg (fun y => z2 y.2)] at h; exact h M hR
theorem pv_X0_sum : ∀ as M L K, S_X0_sum as M L K → ma_rn (tb_X0_sum S_X0_isStep S_X0_isLetter S_X0_refresh S_X0_cells S_X3_at S_X0_countOf) 7 as M L K := by
  intro as M L K h
  unfold S_X0_sum at h
  split at h
  · obtain ⟨x, h⟩ := h; exact pw_X0_sum h.1 h.2
  · exact h.elim
def S_X5_sum : ma_Cs := fun as M L K => match as with
  | [.ref k, .int b, .int s, .int l] => ∃ (x : St), (k = 0 ∧ J x ∧ RY M L x) ∧ (∀ (M' : ZM), RY M' L x → K (some (.long (oSum b s l x))) M' L)
  | _ => False
theorem ms_X5_sum : ma_ms S_X5_sum := by
  intro as M L K K' hk h
  unfold S_X5_sum at h ⊢
  split at h
  · obtain ⟨x, h⟩ := h
    exact ⟨x, h.1, fun x0 x1 => hk _ _ _ (h.2 x0 x1)⟩
  · exact h.elim
theorem un_X5_sum {k : Nat} {b : Int32} {s : Int32} {l : Int32} {M : ZM} {L : ZL} {K : ma_Kt} : S_X5_sum [.ref k, .int b, .int s, .int l] M L K = (∃ (x : St), (k = 0 ∧ J x ∧ RY M L x) ∧ (∀ (M' : ZM), RY M' L x → K (some (.long (oSum b s l x))) M' L)) := rfl
theorem pw_X5_sum {k : Nat} {b : Int32} {s : Int32} {l : Int32} {x : St} {M : ZM} {L : ZL} {K : ma_Kt} (hp : k = 0 ∧ J x ∧ RY M L x) (h : (∀ (M' : ZM), RY M' L x → K (some (.long (oSum b s l x))) M' L)) : ma_rn (tb_X5_sum S_X5_isPlace S_X5_all S_X5_hall S_X5_cells S_X5_place) 8 [.ref k, .int b, .int s, .int l] M L K := by
  refine ⟨Nat.le_of_ble_eq_true rfl, fun V hV => ?_⟩
  obtain ⟨rfl, hJ, hR⟩ := hp
  have c0 := hR.1.1
  have c1 := hR.1.2.1
  have c19 := hR.1.2.2.2.2.2.1
  obtain ⟨⟨w, u, e, wk, n, ns, a', b', km, h1, h2, h3, h4, h5, h6, h7, h8, h9, g1, g2, g3, g4, g5, g6, g7, g8, g9, f1, f2⟩, ja, jp, jk⟩ := id hJ
  have hq := wu_ti g1 g2 g3 g4
  have hs : Sh w u e 0 0 := ⟨by omega, by omega, by omega, by omega, g5, by omega, by omega⟩
  have n1 : nat (sN x 0 0) = w := by unfold nat; rw [h1, a_cl (by omega)]
  have n2 : nat (sN x 0 1) = u := by unfold nat; rw [h2, a_cl (by omega)]
  unfold oSum at h
  have lp : cSum s l → ∀ S, (if b = 0 then sAll else sNo) = S → ∀ M2 : ZM, (∀ a, a ≠ 0 → a ≠ 22 → a ≠ 24 → M2 a = M a) → (∀ j, j ≠ 35 → j ≠ 36 → M2 0 j = M 0 j) → (∀ s c l, s ≤ 12 → c < w * u → l < 4 → M2 22 (144 * s + 4 * c + l) = val (M 1) w u e (sp x).1 (sp x).2 (zY M S ns) (f0v (M 1) (M 12) w u e) s c l ∧ M2 24 (144 * s + 4 * c + l) = vak w u e (sp x).1 (sp x).2 (f0k (M 12)) s c l) → B24 M2 → ∀ c, c ≤ w * u → ∀ o7, V 40 [some (.ref 0), some (.int b), some (.int s), some (.int l), some (.long (sumv (fun c => hv x S (nat s) c (nat l)) c)), none, some (.int (nI c)), o7] [] M2 L := by
    intro z S hS M2 p1 p2 p3 p4
    have hR2 := hR.behind (Or.inl rfl) p1 p2 p4
    rw [if_pos z, n1, n2, hS] at h
    obtain ⟨m, em, hm, bm⟩ := a_of z.1.1
    obtain ⟨m3, em3, hm3, bm3⟩ := a_of z.2.1
    have es : s = nI (nat s) := by unfold nat; rw [em, a_cl bm]
    have el : l = nI (nat l) := by unfold nat; rw [em3, a_cl bm3]
    have ls : nat s ≤ 12 := by unfold nat; rw [em, a_cl bm]; have := z.1; omega
    have ll : nat l < 4 := by unfold nat; rw [em3, a_cl bm3]; have := z.2; omega
    have m5 : M2 0 0 = nI w := hR2.1.1.trans h1
    have m6 : M2 0 1 = nI u := hR2.1.2.1.trans h2
    have hwu : nI w * nI u = nI (w * u) := pk_mul w u
    refine lp_up ?_ ?_
    · intro o7
      refine ma_walk (mo_X5_sum ms_X5_isPlace ms_X5_all ms_X5_hall ms_X5_cells ms_X5_place) hV [40] (fun F hF => ?_)
      simp only [tb_X5_sum, hF, in_no, in_push, in_ild, in_lld, in_ald, in_ist, in_ast, in_lst, in_inc, in_iii, in_idv, in_ldv, in_lll, in_lli, in_lil, in_ii, in_il, in_li, in_ll, in_dup, in_dp2, q_if1, q_if2, in_go, in_sw, ma_sw, in_rv, in_ri, in_rz, in_rl, in_get, in_put, in_puz, in_iar, in_bar, in_lar, in_aar, in_iaw, in_baw, in_law, in_len, in_cpy, in_s1, in_s2, in_s3, in_v1, in_v2, in_v3, in_v4, in_v5, in_v6, ma_bk, ma_gl, ma_sl, ma_nl, ma_wc, ma_wd, ma_nn, ma_en, List.mem_cons, List.not_mem_nil, or_false, or_true, true_or, false_or, true_and, and_true, false_and, and_false, if_true, if_false, forall_const, true_implies, false_implies, not_true_eq_false, not_false_eq_true, Classical.not_not, implies_true, and_self, Nat.add_zero, Nat.zero_add, eq_self, ne_eq, reduceCtorEq, Nat.reduceLT, Nat.reduceLeDiff, Nat.reduceEqDiff, Nat.reduceSub, Nat.reduceAdd, i10, i01, im10, Int32.reduceLT, Int32.reduceLE, ↓reduceIte, reduceIte, up_r, uL_r, cp_r, Int32.toInt_toInt64, Int64.reduceToInt, Int32.reduceToInt, ↓b1_or, b1_0, b1_1, lc_lt, lc_le, lc_gt, lc_ge, lc_eq, ym_0, ym_1, ym_2, ym_3, ym_4, ym_5, ym_6, ym_7, ym_8, ym_9, ym_10, ym_11, ym_12, ym_13, ym_14, ym_15, ym_16, ym_17, ym_18, ym_19, ym_20, ym_21, ym_22, ym_23, ym_24, ym_25, ym_26, ym_27, ym_28, ym_29, ym_30, rm__0, rm__1, rm__2, rm__3, rm__4, rm__5, rm__6, rm__7, rm__8, rm__9, rm__10, rm__11, rm__12, rm__13, rm__14, rm__15, rm__16, rm__17, rm__18, rm__19, rm__20, rm__21, rm__22, rm__23, rm__24, rm__25, rm__26, rm__27, rm__28, rm__29, rm__30, rm__31, rm__32, rm__33, rm__34, rm__35, rm__36, rm__37, rm__38, rm__39, rm__40, rm__41, rm__42, rm__43, rm__44, rm__45, un_X5_isPlace, un_X5_all, un_X5_hall, un_X5_cells, un_X5_place, m5, m6, hwu]
      try simp only [iteP, Classical.not_not, b1_0, b1_1]
      exact ⟨fun _ => h M2 hR2, fun z => absurd (nI_le (Nat.le_refl _) (by omega)) z⟩
    · intro c hc ih o7
      have q := hR.val h1 h2 h3 h6 (by omega) (by omega) (by omega) (by omega) p3 (nat s) c (nat l) ls hc ll
      have e0 : 144 * s + 4 * nI c + l = nI (144 * nat s + 4 * c + nat l) := by
        have := pl_e (nat s) c (nat l)
        rw [← es, ← el] at this; exact this
      have v1 : vp_in (nI (144 * nat s + 4 * c + nat l)) 1872 := vp_in_nI (by omega) (by decide)
      have v2 := a_cl (show 144 * nat s + 4 * c + nat l < 2147483648 by omega)
      rw [sumv] at ih
      refine ma_walk (mo_X5_sum ms_X5_isPlace ms_X5_all ms_X5_hall ms_X5_cells ms_X5_place) hV [40] (fun F hF => ?_)
      simp only [tb_X5_sum, hF, in_no, in_push, in_ild, in_lld, in_ald, in_ist, in_ast, in_lst, in_inc, in_iii, in_idv, in_ldv, in_lll, in_lli, in_lil, in_ii, in_il, in_li, in_ll, in_dup, in_dp2, q_if1, q_if2, in_go, in_sw, ma_sw, in_rv, in_ri, in_rz, in_rl, in_get, in_put, in_puz, in_iar, in_bar, in_lar, in_aar, in_iaw, in_baw, in_law, in_len, in_cpy, in_s1, in_s2, in_s3, in_v1, in_v2, in_v3, in_v4, in_v5, in_v6, ma_bk, ma_gl, ma_sl, ma_nl, ma_wc, ma_wd, ma_nn, ma_en, List.mem_cons, List.not_mem_nil, or_false, or_true, true_or, false_or, true_and, and_true, false_and, and_false, if_true, if_false, forall_const, true_implies, false_implies, not_true_eq_false, not_false_eq_true, Classical.not_not, implies_true, and_self, Nat.add_zero, Nat.zero_add, eq_self, ne_eq, reduceCtorEq, Nat.reduceLT, Nat.reduceLeDiff, Nat.reduceEqDiff, Nat.reduceSub, Nat.reduceAdd, i10, i01, im10, Int32.reduceLT, Int32.reduceLE, ↓reduceIte, reduceIte, up_r, uL_r, cp_r, Int32.toInt_toInt64, Int64.reduceToInt, Int32.reduceToInt, ↓b1_or, b1_0, b1_1, lc_lt, lc_le, lc_gt, lc_ge, lc_eq, ym_0, ym_1, ym_2, ym_3, ym_4, ym_5, ym_6, ym_7, ym_8, ym_9, ym_10, ym_11, ym_12, ym_13, ym_14, ym_15, ym_16, ym_17, ym_18, ym_19, ym_20, ym_21, ym_22, ym_23, ym_24, ym_25, ym_26, ym_27, ym_28, ym_29, ym_30, rm__0, rm__1, rm__2, rm__3, rm__4, rm__5, rm__6, rm__7, rm__8, rm__9, rm__10, rm__11, rm__12, rm__13, rm__14, rm__15, rm__16, rm__17, rm__18, rm__19, rm__20, rm__21, rm__22, rm__23, rm__24, rm__25, rm__26, rm__27, rm__28, rm__29, rm__30, rm__31, rm__32, rm__33, rm__34, rm__35, rm__36, rm__37, rm__38, rm__39, rm__40, rm__41, rm__42, rm__43, rm__44, rm__45, un_X5_isPlace, un_X5_all, un_X5_hall, un_X5_cells, un_X5_place, m5, m6, hwu, nI_1, e0, v1, v2, q.1]
      try simp only [iteP, Classical.not_not, b1_0, b1_1]
      rw [a_le (by omega) (by omega)]
      refine ⟨fun z => absurd z (by omega), fun _ => ⟨fun y => ?_, fun y => ?_⟩⟩
      · rw [if_pos y] at ih; exact ih _
      · rw [if_neg y] at ih; exact ih _
  have h00 : (0 ≤ (0 : Int) ∧ (0 : Int) ≤ (sN x 0 0 * sN x 0 1 - 1).toInt) = True := eq_true (by rw [h1, h2, hq.1]; omega)
  refine ma_walk (mo_X5_sum ms_X5_isPlace ms_X5_all ms_X5_hall ms_X5_cells ms_X5_place) hV [40] (fun F hF => ?_)
  simp only [tb_X5_sum, hF, in_no, in_push, in_ild, in_lld, in_ald, in_ist, in_ast, in_lst, in_inc, in_iii, in_idv, in_ldv, in_lll, in_lli, in_lil, in_ii, in_il, in_li, in_ll, in_dup, in_dp2, q_if1, q_if2, in_go, in_sw, ma_sw, in_rv, in_ri, in_rz, in_rl, in_get, in_put, in_puz, in_iar, in_bar, in_lar, in_aar, in_iaw, in_baw, in_law, in_len, in_cpy, in_s1, in_s2, in_s3, in_v1, in_v2, in_v3, in_v4, in_v5, in_v6, ma_bk, ma_gl, ma_sl, ma_nl, ma_wc, ma_wd, ma_nn, ma_en, List.mem_cons, List.not_mem_nil, or_false, or_true, true_or, false_or, true_and, and_true, false_and, and_false, if_true, if_false, forall_const, true_implies, false_implies, not_true_eq_false, not_false_eq_true, Classical.not_not, implies_true, and_self, Nat.add_zero, Nat.zero_add, eq_self, ne_eq, reduceCtorEq, Nat.reduceLT, Nat.reduceLeDiff, Nat.reduceEqDiff, Nat.reduceSub, Nat.reduceAdd, i10, i01, im10, Int32.reduceLT, Int32.reduceLE, ↓reduceIte, reduceIte, up_r, uL_r, cp_r, Int32.toInt_toInt64, Int64.reduceToInt, Int32.reduceToInt, ↓b1_or, b1_0, b1_1, lc_lt, lc_le, lc_gt, lc_ge, lc_eq, ym_0, ym_1, ym_2, ym_3, ym_4, ym_5, ym_6, ym_7, ym_8, ym_9, ym_10, ym_11, ym_12, ym_13, ym_14, ym_15, ym_16, ym_17, ym_18, ym_19, ym_20, ym_21, ym_22, ym_23, ym_24, ym_25, ym_26, ym_27, ym_28, ym_29, ym_30, rm__0, rm__1, rm__2, rm__3, rm__4, rm__5, rm__6, rm__7, rm__8, rm__9, rm__10, rm__11, rm__12, rm__13, rm__14, rm__15, rm__16, rm__17, rm__18, rm__19, rm__20, rm__21, rm__22, rm__23, rm__24, rm__25, rm__26, rm__27, rm__28, rm__29, rm__30, rm__31, rm__32, rm__33, rm__34, rm__35, rm__36, rm__37, rm__38, rm__39, rm__40, rm__41, rm__42, rm__43, rm__44, rm__45, un_X5_isPlace, un_X5_all, un_X5_hall, un_X5_cells, un_X5_place, c0, c1, c19, h00]
  try simp only [iteP, Classical.not_not, b1_0, b1_1]
  refine ⟨fun z => ?_, fun z => ⟨fun y => ?_, fun y => ?_⟩⟩
  · rw [if_neg z] at h; exact h M hR
  · refine ⟨w, u, e, ns, sAll, (sp x).1, (sp x).2, ⟨Or.inl rfl, ?_⟩, fun M2 p1 p2 p3 p4 p5 => lp z sAll (if_pos y) M2 p1 p2 p3 p4 0 (Nat.zero_le _) _⟩
    have q := hR.pre hJ h1 h2 h3 h6 hs g8 (set := (1 : Int32) <<< (sN x 0 19 &&& 31) - 1) (S := sAll) (fun i hi => ⟨fun _ => by rw [h6]; exact all_b ⟨ns, by omega⟩ ⟨i, by omega⟩ hi, fun _ => rfl⟩)
    rw [c0, c1, c19] at q
    exact q
  · refine ⟨w, u, e, ns, sNo, (sp x).1, (sp x).2, ⟨Or.inl rfl, ?_⟩, fun M2 p1 p2 p3 p4 p5 => lp z sNo (if_neg y) M2 p1 p2 p3 p4 0 (Nat.zero_le _) _⟩
    have q := hR.pre hJ h1 h2 h3 h6 hs g8 (set := 0) (S := sNo) (fun i hi => ⟨fun z => (by cases z), fun z => absurd z (no_b ⟨i, by omega⟩)⟩)
    rw [c0, c1, c19] at q
    exact q
theorem pv_X5_sum : ∀ as M L K, S_X5_sum as M L K → ma_rn (tb_X5_sum S_X5_isPlace S_X5_all S_X5_hall S_X5_cells S_X5_place) 8 as M L K := by
  intro as M L K h
  unfold S_X5_sum at h
  split at h
  · obtain ⟨x, h⟩ := h; exact pw_X5_sum h.1 h.2
  · exact h.elim
