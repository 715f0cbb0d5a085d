/-! marks of a line (the component) -/
set_option maxRecDepth 100000
set_option maxHeartbeats 4000000
def mk1 (nkf : Nat → Prop) (tm : Tm) : Prop := nkf tm.2.1 ∨ ∃ q, tm.2.2 = some q ∧ nkf q
def mkl (nkf : Nat → Prop) (ts : List Tm) (a n : Nat) : Prop := ∃ t, a ≤ t ∧ t < a + n ∧ mk1 nkf (ts.getD t (0, 0, none))
theorem mkl_0 {nkf : Nat → Prop} {ts : List Tm} {a : Nat} : ¬ mkl nkf ts a 0 := fun ⟨t, h1, h2, _⟩ => by omega
theorem mkl_s {nkf : Nat → Prop} {ts : List Tm} {a n : Nat} : mkl nkf ts a (n + 1) ↔ (mkl nkf ts a n ∨ mk1 nkf (ts.getD (a + n) (0, 0, none))) := by
  constructor
  · intro ⟨t, h1, h2, h3⟩
    by_cases c : t = a + n
    · rw [c] at h3; exact Or.inr h3
    · exact Or.inl ⟨t, h1, by omega, h3⟩
  · intro h
    rcases h with ⟨t, h1, h2, h3⟩ | h
    · exact ⟨t, h1, by omega, h3⟩
    · exact ⟨a + n, by omega, by omega, h⟩
def S_X3_marksOf : ma_Cs := fun as M L K => match as with
  | [.ref k, .int ii, .int ss, .int cc] => ∃ (w : Nat) (u : Nat) (e : Nat) (c : Nat) (s : Nat) (i : Nat) (ts : List Tm) (ls : List Ln), (Sk M k w u e c s ∧ 0 < s ∧ ss = nI s ∧ cc = nI c ∧ ii = nI i ∧ i < ls.length ∧ PX M 11 ts ls ∧ Vp ts ls) ∧ (K (some (.int (b1 (mkl (nk w u e (rwv (M (k + 2)) (s - 1)) (rwv (M (k + 2)) s c) c) ts (ls.getD i (0, 0, 0, 0, 0)).2.1 (ls.getD i (0, 0, 0, 0, 0)).2.2.1)))) M L)
  | _ => False
theorem ms_X3_marksOf : ma_ms S_X3_marksOf := by
  intro as M L K K' hk h
  unfold S_X3_marksOf at h ⊢
  split at h
  · obtain ⟨w, u, e, c, s, i, ts, ls, h⟩ := h
    exact ⟨w, u, e, c, s, i, ts, ls, h.1, hk _ _ _ h.2⟩
  · exact h.elim
theorem un_X3_marksOf {k : Nat} {ii : Int32} {ss : Int32} {cc : Int32} {M : ZM} {L : ZL} {K : ma_Kt} : S_X3_marksOf [.ref k, .int ii, .int ss, .int cc] M L K = (∃ (w : Nat) (u : Nat) (e : Nat) (c : Nat) (s : Nat) (i : Nat) (ts : List Tm) (ls : List Ln), (Sk M k w u e c s ∧ 0 < s ∧ ss = nI s ∧ cc = nI c ∧ ii = nI i ∧ i < ls.length ∧ PX M 11 ts ls ∧ Vp ts ls) ∧ (K (some (.int (b1 (mkl (nk w u e (rwv (M (k + 2)) (s - 1)) (rwv (M (k + 2)) s c) c) ts (ls.getD i (0, 0, 0, 0, 0)).2.1 (ls.getD i (0, 0, 0, 0, 0)).2.2.1)))) M L)) := rfl
theorem pw_X3_marksOf {k : Nat} {ii : Int32} {ss : Int32} {cc : Int32} {w : Nat} {u : Nat} {e : Nat} {c : Nat} {s : Nat} {i : Nat} {ts : List Tm} {ls : List Ln} {M : ZM} {L : ZL} {K : ma_Kt} (hp : Sk M k w u e c s ∧ 0 < s ∧ ss = nI s ∧ cc = nI c ∧ ii = nI i ∧ i < ls.length ∧ PX M 11 ts ls ∧ Vp ts ls) (h : (K (some (.int (b1 (mkl (nk w u e (rwv (M (k + 2)) (s - 1)) (rwv (M (k + 2)) s c) c) ts (ls.getD i (0, 0, 0, 0, 0)).2.1 (ls.getD i (0, 0, 0, 0, 0)).2.2.1)))) M L)) : ma_rn (tb_X3_marksOf S_X3_marks) 6 [.ref k, .int ii, .int ss, .int cc] M L K := by
  refine ⟨Nat.le_of_ble_eq_true rfl, fun V hV => ?_⟩
  obtain ⟨hk, h0, rfl, rfl, rfl, hi, hP, hV0⟩ := hp
  obtain ⟨hS, m0, m1, m2, hs, hs2⟩ := id hk
  obtain ⟨y0, y1, y2⟩ := id hS
  obtain ⟨v1, v2, v3, v4⟩ := id hV0
  obtain ⟨p1, p2, p3, p4⟩ := id hP
  have hL := p3 i hi
  have hV4 := v4 i hi
  generalize ls.getD i (0, 0, 0, 0, 0) = r at *
  generalize hf : nk w u e (rwv (M (k + 2)) (s - 1)) (rwv (M (k + 2)) s c) c = nkf at *
  obtain ⟨l1, l2, l3, l4, l5⟩ := hL
  have i4 : vp_in (nI i) 4 := vp_in_nI (by omega) (by decide)
  have i5 : vp_in (nI i) 5 := vp_in_nI (by omega) (by decide)
  have j5 : vp_in (nI (i + 1)) 5 := vp_in_nI (by omega) (by decide)
  have ci := a_cl (show i < 2147483648 by omega)
  have cj := a_cl (show i + 1 < 2147483648 by omega)
  have l2 : M 13 i = nI r.2.1 := l2
  have l3 : M 13 (i + 1) = nI (r.2.1 + r.2.2.1) := l3
  have lp : ∀ j, j ≤ r.2.2.1 → V 17 [some (.ref k), some (.int (nI i)), some (.int (nI s)), some (.int (nI c)), some (.int (b1 (mkl nkf ts r.2.1 j))), some (.int (nI (r.2.1 + j)))] [] M L := by
    refine lp_up ?_ ?_
    · refine ma_walk (mo_X3_marksOf ms_X3_marks) hV [17, 105] (fun F hF => ?_)
      simp only [tb_X3_marksOf, hF, in_no, in_push, in_ild, in_lld, in_ald, in_ist, in_ast, in_lst, in_inc, in_iii, in_idv, in_ldv, in_lll, in_lli, in_lil, in_ii, in_il, in_li, in_ll, in_dup, in_dp2, q_if1, q_if2, in_go, in_sw, ma_sw, in_rv, in_ri, in_rz, in_rl, in_get, in_put, in_puz, in_iar, in_bar, in_lar, in_aar, in_iaw, in_baw, in_law, in_len, in_cpy, in_s1, in_s2, in_s3, in_v1, in_v2, in_v3, in_v4, in_v5, in_v6, ma_bk, ma_gl, ma_sl, ma_nl, ma_wc, ma_wd, ma_nn, ma_en, List.mem_cons, List.not_mem_nil, or_false, or_true, true_or, false_or, true_and, and_true, false_and, and_false, if_true, if_false, forall_const, true_implies, false_implies, not_true_eq_false, not_false_eq_true, Classical.not_not, implies_true, and_self, Nat.add_zero, Nat.zero_add, eq_self, ne_eq, reduceCtorEq, Nat.reduceLT, Nat.reduceLeDiff, Nat.reduceEqDiff, Nat.reduceSub, Nat.reduceAdd, i10, i01, im10, Int32.reduceLT, Int32.reduceLE, ↓reduceIte, reduceIte, up_r, uL_r, cp_r, Int32.toInt_toInt64, Int64.reduceToInt, Int32.reduceToInt, ↓b1_or, b1_0, b1_1, lc_lt, lc_le, lc_gt, lc_ge, lc_eq, yx_0, yx_1, yx_2, yx_3, yx_4, yx_5, yx_6, yx_7, yx_8, yx_9, yx_10, yx_11, yx_12, yx_13, yx_14, yx_15, yx_16, yx_17, yx_18, yx_19, yx_20, yx_21, yx_22, yx_23, yx_24, yx_25, yx_26, yx_27, yx_28, yx_29, yx_30, yx_31, yx_32, yx_33, yx_34, yx_35, yx_36, yx_37, yx_38, yx_39, yx_40, yx_41, yx_42, yx_43, yx_44, yx_45, yx_46, yx_47, yx_48, yx_49, yx_50, yx_51, yx_52, yx_53, yx_54, yx_55, yx_56, yx_57, yx_58, yx_59, yx_60, yx_61, yx_62, yx_63, yx_64, yx_65, yx_66, yx_67, yx_68, rx_0, rx_1, rx_2, rx_3, rx_4, rx_5, rx_6, rx_7, rx_8, rx_9, rx_10, rx_11, rx_12, rx_13, rx_14, rx_15, rx_16, rx_17, rx_18, rx_19, rx_20, rx_21, rx_22, rx_23, rx_24, rx_25, rx_26, rx_27, rx_28, rx_29, rx_30, rx_31, rx_32, rx_33, rp_0, rp_1, rp_2, rp_3, rp_4, rp_5, rp_6, rp_7, rp_8, rs_0, rs_1, rs_2, rs_3, rs_4, re_0, re_1, re_2, re_3, re_4, re_5, rr_0, rr_1, rr_2, rr_3, rr_4, rk_0, rk_1, isP3, isP11, isP46, isP58, isS25, isS28, isS31, un_X3_marks, y0, i5, i4, nI_1, j5, ci, cj, l2, l3]
      try simp only [iteP, Classical.not_not, b1_0, b1_1]
      rw [a_le (by omega) (by omega)]
      exact ⟨fun _ => h, fun z => absurd (by omega) z⟩
    · intro j hj ih
      have ht : r.2.1 + j < ts.length := by omega
      have hT := p4 _ ht
      have hq := v3 _ ht
      rw [b1_c mkl_s] at ih
      generalize ts.getD (r.2.1 + j) (0, 0, none) = tm at *
      obtain ⟨t1, t2, t3⟩ := hT
      have t2 : M 17 (r.2.1 + j) = nI (ex tm.2.1) := t2
      have t3 : M 18 (r.2.1 + j) = s2 tm.2.2 := t3
      have v80 : vp_in (nI (r.2.1 + j)) 80 := vp_in_nI (by omega) (by decide)
      have ct := a_cl (show r.2.1 + j < 2147483648 by omega)
      have h105 : ∀ b, b = b1 (mk1 nkf tm) → V 105 [some (.ref k), some (.int (nI i)), some (.int (nI s)), some (.int (nI c)), some (.int (b1 (mkl nkf ts r.2.1 j))), some (.int (nI (r.2.1 + j)))] [.int b, .int (b1 (mkl nkf ts r.2.1 j))] M L := by
        intro b hb
        rw [hb]
        refine ma_walk (mo_X3_marksOf ms_X3_marks) hV [17] (fun F hF => ?_)
        simp only [tb_X3_marksOf, hF, in_no, in_push, in_ild, in_lld, in_ald, in_ist, in_ast, in_lst, in_inc, in_iii, in_idv, in_ldv, in_lll, in_lli, in_lil, in_ii, in_il, in_li, in_ll, in_dup, in_dp2, q_if1, q_if2, in_go, in_sw, ma_sw, in_rv, in_ri, in_rz, in_rl, in_get, in_put, in_puz, in_iar, in_bar, in_lar, in_aar, in_iaw, in_baw, in_law, in_len, in_cpy, in_s1, in_s2, in_s3, in_v1, in_v2, in_v3, in_v4, in_v5, in_v6, ma_bk, ma_gl, ma_sl, ma_nl, ma_wc, ma_wd, ma_nn, ma_en, List.mem_cons, List.not_mem_nil, or_false, or_true, true_or, false_or, true_and, and_true, false_and, and_false, if_true, if_false, forall_const, true_implies, false_implies, not_true_eq_false, not_false_eq_true, Classical.not_not, implies_true, and_self, Nat.add_zero, Nat.zero_add, eq_self, ne_eq, reduceCtorEq, Nat.reduceLT, Nat.reduceLeDiff, Nat.reduceEqDiff, Nat.reduceSub, Nat.reduceAdd, i10, i01, im10, Int32.reduceLT, Int32.reduceLE, ↓reduceIte, reduceIte, up_r, uL_r, cp_r, Int32.toInt_toInt64, Int64.reduceToInt, Int32.reduceToInt, ↓b1_or, b1_0, b1_1, lc_lt, lc_le, lc_gt, lc_ge, lc_eq, yx_0, yx_1, yx_2, yx_3, yx_4, yx_5, yx_6, yx_7, yx_8, yx_9, yx_10, yx_11, yx_12, yx_13, yx_14, yx_15, yx_16, yx_17, yx_18, yx_19, yx_20, yx_21, yx_22, yx_23, yx_24, yx_25, yx_26, yx_27, yx_28, yx_29, yx_30, yx_31, yx_32, yx_33, yx_34, yx_35, yx_36, yx_37, yx_38, yx_39, yx_40, yx_41, yx_42, yx_43, yx_44, yx_45, yx_46, yx_47, yx_48, yx_49, yx_50, yx_51, yx_52, yx_53, yx_54, yx_55, yx_56, yx_57, yx_58, yx_59, yx_60, yx_61, yx_62, yx_63, yx_64, yx_65, yx_66, yx_67, yx_68, rx_0, rx_1, rx_2, rx_3, rx_4, rx_5, rx_6, rx_7, rx_8, rx_9, rx_10, rx_11, rx_12, rx_13, rx_14, rx_15, rx_16, rx_17, rx_18, rx_19, rx_20, rx_21, rx_22, rx_23, rx_24, rx_25, rx_26, rx_27, rx_28, rx_29, rx_30, rx_31, rx_32, rx_33, rp_0, rp_1, rp_2, rp_3, rp_4, rp_5, rp_6, rp_7, rp_8, rs_0, rs_1, rs_2, rs_3, rs_4, re_0, re_1, re_2, re_3, re_4, re_5, rr_0, rr_1, rr_2, rr_3, rr_4, rk_0, rk_1, isP3, isP11, isP46, isP58, isS25, isS28, isS31, un_X3_marks, nI_1, b1_bor]
        try simp only [iteP, Classical.not_not, b1_0, b1_1]
        exact ih
      unfold mk1 at h105
      refine ma_walk (mo_X3_marksOf ms_X3_marks) hV [17, 105] (fun F hF => ?_)
      simp only [tb_X3_marksOf, hF, in_no, in_push, in_ild, in_lld, in_ald, in_ist, in_ast, in_lst, in_inc, in_iii, in_idv, in_ldv, in_lll, in_lli, in_lil, in_ii, in_il, in_li, in_ll, in_dup, in_dp2, q_if1, q_if2, in_go, in_sw, ma_sw, in_rv, in_ri, in_rz, in_rl, in_get, in_put, in_puz, in_iar, in_bar, in_lar, in_aar, in_iaw, in_baw, in_law, in_len, in_cpy, in_s1, in_s2, in_s3, in_v1, in_v2, in_v3, in_v4, in_v5, in_v6, ma_bk, ma_gl, ma_sl, ma_nl, ma_wc, ma_wd, ma_nn, ma_en, List.mem_cons, List.not_mem_nil, or_false, or_true, true_or, false_or, true_and, and_true, false_and, and_false, if_true, if_false, forall_const, true_implies, false_implies, not_true_eq_false, not_false_eq_true, Classical.not_not, implies_true, and_self, Nat.add_zero, Nat.zero_add, eq_self, ne_eq, reduceCtorEq, Nat.reduceLT, Nat.reduceLeDiff, Nat.reduceEqDiff, Nat.reduceSub, Nat.reduceAdd, i10, i01, im10, Int32.reduceLT, Int32.reduceLE, ↓reduceIte, reduceIte, up_r, uL_r, cp_r, Int32.toInt_toInt64, Int64.reduceToInt, Int32.reduceToInt, ↓b1_or, b1_0, b1_1, lc_lt, lc_le, lc_gt, lc_ge, lc_eq, yx_0, yx_1, yx_2, yx_3, yx_4, yx_5, yx_6, yx_7, yx_8, yx_9, yx_10, yx_11, yx_12, yx_13, yx_14, yx_15, yx_16, yx_17, yx_18, yx_19, yx_20, yx_21, yx_22, yx_23, yx_24, yx_25, yx_26, yx_27, yx_28, yx_29, yx_30, yx_31, yx_32, yx_33, yx_34, yx_35, yx_36, yx_37, yx_38, yx_39, yx_40, yx_41, yx_42, yx_43, yx_44, yx_45, yx_46, yx_47, yx_48, yx_49, yx_50, yx_51, yx_52, yx_53, yx_54, yx_55, yx_56, yx_57, yx_58, yx_59, yx_60, yx_61, yx_62, yx_63, yx_64, yx_65, yx_66, yx_67, yx_68, rx_0, rx_1, rx_2, rx_3, rx_4, rx_5, rx_6, rx_7, rx_8, rx_9, rx_10, rx_11, rx_12, rx_13, rx_14, rx_15, rx_16, rx_17, rx_18, rx_19, rx_20, rx_21, rx_22, rx_23, rx_24, rx_25, rx_26, rx_27, rx_28, rx_29, rx_30, rx_31, rx_32, rx_33, rp_0, rp_1, rp_2, rp_3, rp_4, rp_5, rp_6, rp_7, rp_8, rs_0, rs_1, rs_2, rs_3, rs_4, re_0, re_1, re_2, re_3, re_4, re_5, rr_0, rr_1, rr_2, rr_3, rr_4, rk_0, rk_1, isP3, isP11, isP46, isP58, isS25, isS28, isS31, un_X3_marks, y0, i5, i4, nI_1, j5, ci, cj, l2, l3, v80, ct, t2, t3]
      try simp only [iteP, Classical.not_not, b1_0, b1_1]
      rw [a_le (by omega) (by omega)]
      refine ⟨fun z => absurd z (by omega), fun _ => ⟨w, u, e, c, s, tm.2.1, ⟨hk, h0, rfl, rfl, rfl, hq.1⟩, ?_⟩⟩
      rw [hf]
      refine ⟨fun z => ?_, fun z => h105 _ (b1_t (Or.inl z)).symm⟩
      cases ho : tm.2.2 with
      | none =>
        rw [ho] at h105
        exact ⟨fun _ => h105 _ (b1_f (fun q => by rcases q with q | ⟨q, q2, _⟩; exact z q; cases q2)).symm, fun z => absurd rfl z⟩
      | some q2 =>
        rw [ho] at h105
        refine ⟨fun z => absurd z (s2_n (hq.2 q2 ho)), fun _ => ⟨w, u, e, c, s, q2, ⟨hk, h0, rfl, rfl, rfl, hq.2 q2 ho⟩, ?_⟩⟩
        rw [hf]
        refine ⟨fun z2 => h105 _ (b1_f (fun q => by rcases q with q | ⟨q, q3, q4⟩; exact z q; cases q3; exact z2 q4)).symm, fun z2 => h105 _ (b1_t (Or.inr ⟨q2, rfl, z2⟩)).symm⟩
  refine ma_walk (mo_X3_marksOf ms_X3_marks) hV [17] (fun F hF => ?_)
  simp only [tb_X3_marksOf, hF, in_no, in_push, in_ild, in_lld, in_ald, in_ist, in_ast, in_lst, in_inc, in_iii, in_idv, in_ldv, in_lll, in_lli, in_lil, in_ii, in_il, in_li, in_ll, in_dup, in_dp2, q_if1, q_if2, in_go, in_sw, ma_sw, in_rv, in_ri, in_rz, in_rl, in_get, in_put, in_puz, in_iar, in_bar, in_lar, in_aar, in_iaw, in_baw, in_law, in_len, in_cpy, in_s1, in_s2, in_s3, in_v1, in_v2, in_v3, in_v4, in_v5, in_v6, ma_bk, ma_gl, ma_sl, ma_nl, ma_wc, ma_wd, ma_nn, ma_en, List.mem_cons, List.not_mem_nil, or_false, or_true, true_or, false_or, true_and, and_true, false_and, and_false, if_true, if_false, forall_const, true_implies, false_implies, not_true_eq_false, not_false_eq_true, Classical.not_not, implies_true, and_self, Nat.add_zero, Nat.zero_add, eq_self, ne_eq, reduceCtorEq, Nat.reduceLT, Nat.reduceLeDiff, Nat.reduceEqDiff, Nat.reduceSub, Nat.reduceAdd, i10, i01, im10, Int32.reduceLT, Int32.reduceLE, ↓reduceIte, reduceIte, up_r, uL_r, cp_r, Int32.toInt_toInt64, Int64.reduceToInt, Int32.reduceToInt, ↓b1_or, b1_0, b1_1, lc_lt, lc_le, lc_gt, lc_ge, lc_eq, yx_0, yx_1, yx_2, yx_3, yx_4, yx_5, yx_6, yx_7, yx_8, yx_9, yx_10, yx_11, yx_12, yx_13, yx_14, yx_15, yx_16, yx_17, yx_18, yx_19, yx_20, yx_21, yx_22, yx_23, yx_24, yx_25, yx_26, yx_27, yx_28, yx_29, yx_30, yx_31, yx_32, yx_33, yx_34, yx_35, yx_36, yx_37, yx_38, yx_39, yx_40, yx_41, yx_42, yx_43, yx_44, yx_45, yx_46, yx_47, yx_48, yx_49, yx_50, yx_51, yx_52, yx_53, yx_54, yx_55, yx_56, yx_57, yx_58, yx_59, yx_60, yx_61, yx_62, yx_63, yx_64, yx_65, yx_66, yx_67, yx_68, rx_0, rx_1, rx_2, rx_3, rx_4, rx_5, rx_6, rx_7, rx_8, rx_9, rx_10, rx_11, rx_12, rx_13, rx_14, rx_15, rx_16, rx_17, rx_18, rx_19, rx_20, rx_21, rx_22, rx_23, rx_24, rx_25, rx_26, rx_27, rx_28, rx_29, rx_30, rx_31, rx_32, rx_33, rp_0, rp_1, rp_2, rp_3, rp_4, rp_5, rp_6, rp_7, rp_8, rs_0, rs_1, rs_2, rs_3, rs_4, re_0, re_1, re_2, re_3, re_4, re_5, rr_0, rr_1, rr_2, rr_3, rr_4, rk_0, rk_1, isP3, isP11, isP46, isP58, isS25, isS28, isS31, un_X3_marks, y0, i5, ci, l2]
  try simp only [iteP, Classical.not_not, b1_0, b1_1]
  have q := lp 0 (Nat.zero_le _)
  rw [b1_f mkl_0] at q; exact q
theorem pv_X3_marksOf : ∀ as M L K, S_X3_marksOf as M L K → ma_rn (tb_X3_marksOf S_X3_marks) 6 as M L K := by
  intro as M L K h
  unfold S_X3_marksOf at h
  split at h
  · obtain ⟨w, u, e, c, s, i, ts, ls, h⟩ := h; exact pw_X3_marksOf h.1 h.2
  · exact h.elim
