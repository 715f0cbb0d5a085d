/-! plans of the component: products, factors, own, copies -/
set_option maxRecDepth 100000
set_option maxHeartbeats 4000000
def own (ts : List Tm) (l a n : Nat) : Prop := ∀ t, a ≤ t → t < a + n → (ts.getD t (0, 0, none)).2.1 % 4 = l ∧ ¬ (ts.getD t (0, 0, none)).2.1 / 4 = 5
theorem own_0 {ts : List Tm} {l a : Nat} : own ts l a 0 := fun t h1 h2 => by omega
theorem own_s {ts : List Tm} {l a n : Nat} : own ts l a (n + 1) ↔ (own ts l a n ∧ ((ts.getD (a + n) (0, 0, none)).2.1 % 4 = l ∧ ¬ (ts.getD (a + n) (0, 0, none)).2.1 / 4 = 5)) := by
  constructor
  · intro h
    exact ⟨fun t h1 h2 => h t h1 (by omega), h _ (by omega) (by omega)⟩
  · intro h t h1 h2
    by_cases c : t = a + n
    · rw [c]; exact h.2
    · exact h.1 t h1 (by omega)
def fa1 (z : Int32) (f : Int32) : Int32 := if z = 0 then f else if 0 ≤ f then f else -f
def fsm (ts : List Tm) (z : Int32) (a : Nat) : Nat → Int32
  | 0 => 0
  | n + 1 => fsm ts z a n + fa1 z (ts.getD (a + n) (0, 0, none)).1
/-- a line at its plan -/
theorem PX.at {M : ZM} {p : Nat} {ts : List Tm} {ls : List Ln} (h : PX M p ts ls) {i : Nat} (hi : i < ls.length) : M (p + 1) i = nI (lnA ls i).1 ∧ M (p + 2) i = nI (lnA ls i).2.1 ∧ M (p + 2) (i + 1) = nI ((lnA ls i).2.1 + (lnA ls i).2.2.1) ∧ M (p + 3) i = nI (lnA ls i).2.2.2.1 ∧ M (p + 4) i = nI (lnA ls i).2.2.2.2 := h.2.2.1 i hi
def S_X2_hasProduct : ma_Cs := fun as M L K => match as with
  | [.ref p, .int ii] => ∃ (i : Nat) (ts : List Tm) (ls : List Ln), (isP p ∧ i < ls.length ∧ ii = nI i ∧ PX M p ts ls ∧ Vp ts ls) ∧ (K (some (.int (b1 (hpr ts (lnA ls i).2.1 (lnA ls i).2.2.1)))) M L)
  | _ => False
theorem ms_X2_hasProduct : ma_ms S_X2_hasProduct := by
  intro as M L K K' hk h
  unfold S_X2_hasProduct at h ⊢
  split at h
  · obtain ⟨i, ts, ls, h⟩ := h
    exact ⟨i, ts, ls, h.1, hk _ _ _ h.2⟩
  · exact h.elim
theorem un_X2_hasProduct {p : Nat} {ii : Int32} {M : ZM} {L : ZL} {K : ma_Kt} : S_X2_hasProduct [.ref p, .int ii] M L K = (∃ (i : Nat) (ts : List Tm) (ls : List Ln), (isP p ∧ i < ls.length ∧ ii = nI i ∧ PX M p ts ls ∧ Vp ts ls) ∧ (K (some (.int (b1 (hpr ts (lnA ls i).2.1 (lnA ls i).2.2.1)))) M L)) := rfl
theorem pw_X2_hasProduct {p : Nat} {ii : Int32} {i : Nat} {ts : List Tm} {ls : List Ln} {M : ZM} {L : ZL} {K : ma_Kt} (hp : isP p ∧ i < ls.length ∧ ii = nI i ∧ PX M p ts ls ∧ Vp ts ls) (h : (K (some (.int (b1 (hpr ts (lnA ls i).2.1 (lnA ls i).2.2.1)))) M L)) : ma_rn tb_X2_hasProduct 4 [.ref p, .int ii] M L K := by
  refine ⟨Nat.le_of_ble_eq_true rfl, fun V hV => ?_⟩
  obtain ⟨⟨y0, y1, y2, y3, y4, y5, y6, y7⟩, hi, rfl, hP, hV0⟩ := hp
  obtain ⟨v1, v2, v3, v4⟩ := id hV0
  obtain ⟨l1, l2, l3, l4, l5⟩ := hP.at hi
  have hT0 := hP.2.2.2
  have hV4 : (lnA ls i).2.1 + (lnA ls i).2.2.1 ≤ ts.length ∧ 0 < (lnA ls i).2.2.2.1 ∧ (lnA ls i).2.2.2.1 ≤ 1000 ∧ (lnA ls i).2.2.2.2 ≤ 1 ∧ (lnA ls i).1 < 4 := v4 i hi
  generalize lnA ls i = rr at *
  have i5 : vp_in (nI i) 5 := vp_in_nI (by omega) (by decide)
  have j5 : vp_in (nI (i + 1)) 5 := vp_in_nI (by omega) (by decide)
  have ci := a_cl (show i < 2147483648 by omega)
  have cj := a_cl (show i + 1 < 2147483648 by omega)
  have lp : ∀ j, j ≤ rr.2.2.1 → V 9 [some (.ref p), some (.int (nI i)), some (.int (b1 (hpr ts rr.2.1 j))), some (.int (nI (rr.2.1 + j)))] [] M L := by
    refine lp_up ?_ ?_
    · refine ma_walk mo_X2_hasProduct hV [9] (fun F hF => ?_)
      simp only [tb_X2_hasProduct, hF, in_no, in_push, in_ild, in_lld, in_ald, in_ist, in_ast, in_lst, in_inc, in_iii, in_idv, in_ldv, in_lll, in_lli, in_lil, in_ii, in_il, in_li, in_ll, in_dup, in_dp2, q_if1, q_if2, in_go, in_sw, ma_sw, in_rv, in_ri, in_rz, in_rl, in_get, in_put, in_puz, in_iar, in_bar, in_lar, in_aar, in_iaw, in_baw, in_law, in_len, in_cpy, in_s1, in_s2, in_s3, in_v1, in_v2, in_v3, in_v4, in_v5, in_v6, ma_bk, ma_gl, ma_sl, ma_nl, ma_wc, ma_wd, ma_nn, ma_en, List.mem_cons, List.not_mem_nil, or_false, or_true, true_or, false_or, true_and, and_true, false_and, and_false, if_true, if_false, forall_const, true_implies, false_implies, not_true_eq_false, not_false_eq_true, Classical.not_not, implies_true, and_self, Nat.add_zero, Nat.zero_add, eq_self, ne_eq, reduceCtorEq, Nat.reduceLT, Nat.reduceLeDiff, Nat.reduceEqDiff, Nat.reduceSub, Nat.reduceAdd, i10, i01, im10, Int32.reduceLT, Int32.reduceLE, ↓reduceIte, reduceIte, up_r, uL_r, cp_r, Int32.toInt_toInt64, Int64.reduceToInt, Int32.reduceToInt, ↓b1_or, b1_0, b1_1, lc_lt, lc_le, lc_gt, lc_ge, lc_eq, yx_0, yx_1, yx_2, yx_3, yx_4, yx_5, yx_6, yx_7, yx_8, yx_9, yx_10, yx_11, yx_12, yx_13, yx_14, yx_15, yx_16, yx_17, yx_18, yx_19, yx_20, yx_21, yx_22, yx_23, yx_24, yx_25, yx_26, yx_27, yx_28, yx_29, yx_30, yx_31, yx_32, yx_33, yx_34, yx_35, yx_36, yx_37, yx_38, yx_39, yx_40, yx_41, yx_42, yx_43, yx_44, yx_45, yx_46, yx_47, yx_48, yx_49, yx_50, yx_51, yx_52, yx_53, yx_54, yx_55, yx_56, yx_57, yx_58, yx_59, yx_60, yx_61, yx_62, yx_63, yx_64, yx_65, yx_66, yx_67, yx_68, rx_0, rx_1, rx_2, rx_3, rx_4, rx_5, rx_6, rx_7, rx_8, rx_9, rx_10, rx_11, rx_12, rx_13, rx_14, rx_15, rx_16, rx_17, rx_18, rx_19, rx_20, rx_21, rx_22, rx_23, rx_24, rx_25, rx_26, rx_27, rx_28, rx_29, rx_30, rx_31, rx_32, rx_33, rp_0, rp_1, rp_2, rp_3, rp_4, rp_5, rp_6, rp_7, rp_8, rs_0, rs_1, rs_2, rs_3, rs_4, re_0, re_1, re_2, re_3, re_4, re_5, rr_0, rr_1, rr_2, rr_3, rr_4, rk_0, rk_1, isP3, isP11, isP46, isP58, isS25, isS28, isS31, y0, y2, y7, i5, j5, ci, cj, l2, l3, nI_1]
      try simp only [iteP, Classical.not_not, b1_0, b1_1]
      rw [a_le (by omega) (by omega)]
      exact ⟨fun _ => h, fun z => absurd (by omega) z⟩
    · intro j hj ih
      have ht : rr.2.1 + j < ts.length := by omega
      have hT := (hT0 _ ht).2.2
      have hq := v3 _ ht
      rw [b1_c hpr_s] at ih
      generalize ts.getD (rr.2.1 + j) (0, 0, none) = tm at *
      have v80 : vp_in (nI (rr.2.1 + j)) 80 := vp_in_nI (by omega) (by decide)
      have ct := a_cl (show rr.2.1 + j < 2147483648 by omega)
      refine ma_walk mo_X2_hasProduct hV [9] (fun F hF => ?_)
      simp only [tb_X2_hasProduct, hF, in_no, in_push, in_ild, in_lld, in_ald, in_ist, in_ast, in_lst, in_inc, in_iii, in_idv, in_ldv, in_lll, in_lli, in_lil, in_ii, in_il, in_li, in_ll, in_dup, in_dp2, q_if1, q_if2, in_go, in_sw, ma_sw, in_rv, in_ri, in_rz, in_rl, in_get, in_put, in_puz, in_iar, in_bar, in_lar, in_aar, in_iaw, in_baw, in_law, in_len, in_cpy, in_s1, in_s2, in_s3, in_v1, in_v2, in_v3, in_v4, in_v5, in_v6, ma_bk, ma_gl, ma_sl, ma_nl, ma_wc, ma_wd, ma_nn, ma_en, List.mem_cons, List.not_mem_nil, or_false, or_true, true_or, false_or, true_and, and_true, false_and, and_false, if_true, if_false, forall_const, true_implies, false_implies, not_true_eq_false, not_false_eq_true, Classical.not_not, implies_true, and_self, Nat.add_zero, Nat.zero_add, eq_self, ne_eq, reduceCtorEq, Nat.reduceLT, Nat.reduceLeDiff, Nat.reduceEqDiff, Nat.reduceSub, Nat.reduceAdd, i10, i01, im10, Int32.reduceLT, Int32.reduceLE, ↓reduceIte, reduceIte, up_r, uL_r, cp_r, Int32.toInt_toInt64, Int64.reduceToInt, Int32.reduceToInt, ↓b1_or, b1_0, b1_1, lc_lt, lc_le, lc_gt, lc_ge, lc_eq, yx_0, yx_1, yx_2, yx_3, yx_4, yx_5, yx_6, yx_7, yx_8, yx_9, yx_10, yx_11, yx_12, yx_13, yx_14, yx_15, yx_16, yx_17, yx_18, yx_19, yx_20, yx_21, yx_22, yx_23, yx_24, yx_25, yx_26, yx_27, yx_28, yx_29, yx_30, yx_31, yx_32, yx_33, yx_34, yx_35, yx_36, yx_37, yx_38, yx_39, yx_40, yx_41, yx_42, yx_43, yx_44, yx_45, yx_46, yx_47, yx_48, yx_49, yx_50, yx_51, yx_52, yx_53, yx_54, yx_55, yx_56, yx_57, yx_58, yx_59, yx_60, yx_61, yx_62, yx_63, yx_64, yx_65, yx_66, yx_67, yx_68, rx_0, rx_1, rx_2, rx_3, rx_4, rx_5, rx_6, rx_7, rx_8, rx_9, rx_10, rx_11, rx_12, rx_13, rx_14, rx_15, rx_16, rx_17, rx_18, rx_19, rx_20, rx_21, rx_22, rx_23, rx_24, rx_25, rx_26, rx_27, rx_28, rx_29, rx_30, rx_31, rx_32, rx_33, rp_0, rp_1, rp_2, rp_3, rp_4, rp_5, rp_6, rp_7, rp_8, rs_0, rs_1, rs_2, rs_3, rs_4, re_0, re_1, re_2, re_3, re_4, re_5, rr_0, rr_1, rr_2, rr_3, rr_4, rk_0, rk_1, isP3, isP11, isP46, isP58, isS25, isS28, isS31, y0, y2, y7, i5, j5, ci, cj, l2, l3, nI_1, v80, ct, hT]
      try simp only [iteP, Classical.not_not, b1_0, b1_1]
      rw [a_le (by omega) (by omega)]
      refine ⟨fun z => absurd z (by omega), fun _ => ?_⟩
      cases ho : tm.2.2 with
      | none =>
        rw [ho, ← b1_bor, b1_f (c := ¬ (none : Option Nat) = none) (fun y => y rfl)] at ih
        exact ⟨fun _ => ih, fun z => absurd rfl z⟩
      | some q2 =>
        rw [ho, ← b1_bor, b1_t (c := ¬ some q2 = none) (fun z => by cases z)] at ih
        exact ⟨fun z => absurd z (s2_n (hq.2 q2 ho)), fun _ => ih⟩
  refine ma_walk mo_X2_hasProduct hV [9] (fun F hF => ?_)
  simp only [tb_X2_hasProduct, hF, in_no, in_push, in_ild, in_lld, in_ald, in_ist, in_ast, in_lst, in_inc, in_iii, in_idv, in_ldv, in_lll, in_lli, in_lil, in_ii, in_il, in_li, in_ll, in_dup, in_dp2, q_if1, q_if2, in_go, in_sw, ma_sw, in_rv, in_ri, in_rz, in_rl, in_get, in_put, in_puz, in_iar, in_bar, in_lar, in_aar, in_iaw, in_baw, in_law, in_len, in_cpy, in_s1, in_s2, in_s3, in_v1, in_v2, in_v3, in_v4, in_v5, in_v6, ma_bk, ma_gl, ma_sl, ma_nl, ma_wc, ma_wd, ma_nn, ma_en, List.mem_cons, List.not_mem_nil, or_false, or_true, true_or, false_or, true_and, and_true, false_and, and_false, if_true, if_false, forall_const, true_implies, false_implies, not_true_eq_false, not_false_eq_true, Classical.not_not, implies_true, and_self, Nat.add_zero, Nat.zero_add, eq_self, ne_eq, reduceCtorEq, Nat.reduceLT, Nat.reduceLeDiff, Nat.reduceEqDiff, Nat.reduceSub, Nat.reduceAdd, i10, i01, im10, Int32.reduceLT, Int32.reduceLE, ↓reduceIte, reduceIte, up_r, uL_r, cp_r, Int32.toInt_toInt64, Int64.reduceToInt, Int32.reduceToInt, ↓b1_or, b1_0, b1_1, lc_lt, lc_le, lc_gt, lc_ge, lc_eq, yx_0, yx_1, yx_2, yx_3, yx_4, yx_5, yx_6, yx_7, yx_8, yx_9, yx_10, yx_11, yx_12, yx_13, yx_14, yx_15, yx_16, yx_17, yx_18, yx_19, yx_20, yx_21, yx_22, yx_23, yx_24, yx_25, yx_26, yx_27, yx_28, yx_29, yx_30, yx_31, yx_32, yx_33, yx_34, yx_35, yx_36, yx_37, yx_38, yx_39, yx_40, yx_41, yx_42, yx_43, yx_44, yx_45, yx_46, yx_47, yx_48, yx_49, yx_50, yx_51, yx_52, yx_53, yx_54, yx_55, yx_56, yx_57, yx_58, yx_59, yx_60, yx_61, yx_62, yx_63, yx_64, yx_65, yx_66, yx_67, yx_68, rx_0, rx_1, rx_2, rx_3, rx_4, rx_5, rx_6, rx_7, rx_8, rx_9, rx_10, rx_11, rx_12, rx_13, rx_14, rx_15, rx_16, rx_17, rx_18, rx_19, rx_20, rx_21, rx_22, rx_23, rx_24, rx_25, rx_26, rx_27, rx_28, rx_29, rx_30, rx_31, rx_32, rx_33, rp_0, rp_1, rp_2, rp_3, rp_4, rp_5, rp_6, rp_7, rp_8, rs_0, rs_1, rs_2, rs_3, rs_4, re_0, re_1, re_2, re_3, re_4, re_5, rr_0, rr_1, rr_2, rr_3, rr_4, rk_0, rk_1, isP3, isP11, isP46, isP58, isS25, isS28, isS31, y0, y2, i5, ci, l2]
  try simp only [iteP, Classical.not_not, b1_0, b1_1]
  have q := lp 0 (Nat.zero_le _)
  rw [b1_f hpr_0] at q; exact q
theorem pv_X2_hasProduct : ∀ as M L K, S_X2_hasProduct as M L K → ma_rn tb_X2_hasProduct 4 as M L K := by
  intro as M L K h
  unfold S_X2_hasProduct at h
  split at h
  · obtain ⟨i, ts, ls, h⟩ := h; exact pw_X2_hasProduct h.1 h.2
  · exact h.elim
def S_X2_isOwn : ma_Cs := fun as M L K => match as with
  | [.ref p, .int ii] => ∃ (i : Nat) (ts : List Tm) (ls : List Ln), (isP p ∧ i < ls.length ∧ ii = nI i ∧ PX M p ts ls ∧ Vp ts ls) ∧ (K (some (.int (b1 (own ts (lnA ls i).1 (lnA ls i).2.1 (lnA ls i).2.2.1)))) M L)
  | _ => False
theorem ms_X2_isOwn : ma_ms S_X2_isOwn := by
  intro as M L K K' hk h
  unfold S_X2_isOwn at h ⊢
  split at h
  · obtain ⟨i, ts, ls, h⟩ := h
    exact ⟨i, ts, ls, h.1, hk _ _ _ h.2⟩
  · exact h.elim
theorem un_X2_isOwn {p : Nat} {ii : Int32} {M : ZM} {L : ZL} {K : ma_Kt} : S_X2_isOwn [.ref p, .int ii] M L K = (∃ (i : Nat) (ts : List Tm) (ls : List Ln), (isP p ∧ i < ls.length ∧ ii = nI i ∧ PX M p ts ls ∧ Vp ts ls) ∧ (K (some (.int (b1 (own ts (lnA ls i).1 (lnA ls i).2.1 (lnA ls i).2.2.1)))) M L)) := rfl
theorem pw_X2_isOwn {p : Nat} {ii : Int32} {i : Nat} {ts : List Tm} {ls : List Ln} {M : ZM} {L : ZL} {K : ma_Kt} (hp : isP p ∧ i < ls.length ∧ ii = nI i ∧ PX M p ts ls ∧ Vp ts ls) (h : (K (some (.int (b1 (own ts (lnA ls i).1 (lnA ls i).2.1 (lnA ls i).2.2.1)))) M L)) : ma_rn tb_X2_isOwn 4 [.ref p, .int ii] M L K := by
  refine ⟨Nat.le_of_ble_eq_true rfl, fun V hV => ?_⟩
  obtain ⟨⟨y0, y1, y2, y3, y4, y5, y6, y7⟩, hi, rfl, hP, hV0⟩ := hp
  obtain ⟨v1, v2, v3, v4⟩ := id hV0
  obtain ⟨l1, l2, l3, l4, l5⟩ := hP.at hi
  have hT0 := hP.2.2.2
  have hV4 : (lnA ls i).2.1 + (lnA ls i).2.2.1 ≤ ts.length ∧ 0 < (lnA ls i).2.2.2.1 ∧ (lnA ls i).2.2.2.1 ≤ 1000 ∧ (lnA ls i).2.2.2.2 ≤ 1 ∧ (lnA ls i).1 < 4 := v4 i hi
  generalize lnA ls i = rr at *
  have i4 : vp_in (nI i) 4 := vp_in_nI (by omega) (by decide)
  have i5 : vp_in (nI i) 5 := vp_in_nI (by omega) (by decide)
  have j5 : vp_in (nI (i + 1)) 5 := vp_in_nI (by omega) (by decide)
  have ci := a_cl (show i < 2147483648 by omega)
  have cj := a_cl (show i + 1 < 2147483648 by omega)
  have lp : ∀ j, j ≤ rr.2.2.1 → V 9 [some (.ref p), some (.int (nI i)), some (.int (b1 (own ts rr.1 rr.2.1 j))), some (.int (nI (rr.2.1 + j)))] [] M L := by
    refine lp_up ?_ ?_
    · refine ma_walk mo_X2_isOwn hV [9] (fun F hF => ?_)
      simp only [tb_X2_isOwn, hF, in_no, in_push, in_ild, in_lld, in_ald, in_ist, in_ast, in_lst, in_inc, in_iii, in_idv, in_ldv, in_lll, in_lli, in_lil, in_ii, in_il, in_li, in_ll, in_dup, in_dp2, q_if1, q_if2, in_go, in_sw, ma_sw, in_rv, in_ri, in_rz, in_rl, in_get, in_put, in_puz, in_iar, in_bar, in_lar, in_aar, in_iaw, in_baw, in_law, in_len, in_cpy, in_s1, in_s2, in_s3, in_v1, in_v2, in_v3, in_v4, in_v5, in_v6, ma_bk, ma_gl, ma_sl, ma_nl, ma_wc, ma_wd, ma_nn, ma_en, List.mem_cons, List.not_mem_nil, or_false, or_true, true_or, false_or, true_and, and_true, false_and, and_false, if_true, if_false, forall_const, true_implies, false_implies, not_true_eq_false, not_false_eq_true, Classical.not_not, implies_true, and_self, Nat.add_zero, Nat.zero_add, eq_self, ne_eq, reduceCtorEq, Nat.reduceLT, Nat.reduceLeDiff, Nat.reduceEqDiff, Nat.reduceSub, Nat.reduceAdd, i10, i01, im10, Int32.reduceLT, Int32.reduceLE, ↓reduceIte, reduceIte, up_r, uL_r, cp_r, Int32.toInt_toInt64, Int64.reduceToInt, Int32.reduceToInt, ↓b1_or, b1_0, b1_1, lc_lt, lc_le, lc_gt, lc_ge, lc_eq, yx_0, yx_1, yx_2, yx_3, yx_4, yx_5, yx_6, yx_7, yx_8, yx_9, yx_10, yx_11, yx_12, yx_13, yx_14, yx_15, yx_16, yx_17, yx_18, yx_19, yx_20, yx_21, yx_22, yx_23, yx_24, yx_25, yx_26, yx_27, yx_28, yx_29, yx_30, yx_31, yx_32, yx_33, yx_34, yx_35, yx_36, yx_37, yx_38, yx_39, yx_40, yx_41, yx_42, yx_43, yx_44, yx_45, yx_46, yx_47, yx_48, yx_49, yx_50, yx_51, yx_52, yx_53, yx_54, yx_55, yx_56, yx_57, yx_58, yx_59, yx_60, yx_61, yx_62, yx_63, yx_64, yx_65, yx_66, yx_67, yx_68, rx_0, rx_1, rx_2, rx_3, rx_4, rx_5, rx_6, rx_7, rx_8, rx_9, rx_10, rx_11, rx_12, rx_13, rx_14, rx_15, rx_16, rx_17, rx_18, rx_19, rx_20, rx_21, rx_22, rx_23, rx_24, rx_25, rx_26, rx_27, rx_28, rx_29, rx_30, rx_31, rx_32, rx_33, rp_0, rp_1, rp_2, rp_3, rp_4, rp_5, rp_6, rp_7, rp_8, rs_0, rs_1, rs_2, rs_3, rs_4, re_0, re_1, re_2, re_3, re_4, re_5, rr_0, rr_1, rr_2, rr_3, rr_4, rk_0, rk_1, isP3, isP11, isP46, isP58, isS25, isS28, isS31, y0, y1, y2, y6, i5, i4, j5, ci, cj, l1, l2, l3, nI_1, z16, z2]
      try simp only [iteP, Classical.not_not, b1_0, b1_1]
      rw [a_le (by omega) (by omega)]
      exact ⟨fun _ => h, fun z => absurd (by omega) z⟩
    · intro j hj ih
      have ht : rr.2.1 + j < ts.length := by omega
      have hT := (hT0 _ ht).2.1
      have hq := (v3 _ ht).1
      rw [b1_c own_s] at ih
      generalize ts.getD (rr.2.1 + j) (0, 0, none) = tm at *
      have v80 : vp_in (nI (rr.2.1 + j)) 80 := vp_in_nI (by omega) (by decide)
      have ct := a_cl (show rr.2.1 + j < 2147483648 by omega)
      have i3 := (ex_i tm.2.1 hq).2.2
      have hex : ex tm.2.1 < 100 := by unfold ex; split <;> omega
      have e0 : nI (ex tm.2.1) - nI (ex tm.2.1) / 2 * 2 = nI (ex tm.2.1 % 2) := pk_rem (d := 2) (by omega) (by omega) (by omega)
      have e1 : (nI (ex tm.2.1 % 2) = 0) = ¬ tm.2.1 / 4 = 5 := by
        rw [a_eq0 (by omega)]
        refine propext ?_
        unfold ex; split <;> omega
      refine ma_walk mo_X2_isOwn hV [9] (fun F hF => ?_)
      simp only [tb_X2_isOwn, hF, in_no, in_push, in_ild, in_lld, in_ald, in_ist, in_ast, in_lst, in_inc, in_iii, in_idv, in_ldv, in_lll, in_lli, in_lil, in_ii, in_il, in_li, in_ll, in_dup, in_dp2, q_if1, q_if2, in_go, in_sw, ma_sw, in_rv, in_ri, in_rz, in_rl, in_get, in_put, in_puz, in_iar, in_bar, in_lar, in_aar, in_iaw, in_baw, in_law, in_len, in_cpy, in_s1, in_s2, in_s3, in_v1, in_v2, in_v3, in_v4, in_v5, in_v6, ma_bk, ma_gl, ma_sl, ma_nl, ma_wc, ma_wd, ma_nn, ma_en, List.mem_cons, List.not_mem_nil, or_false, or_true, true_or, false_or, true_and, and_true, false_and, and_false, if_true, if_false, forall_const, true_implies, false_implies, not_true_eq_false, not_false_eq_true, Classical.not_not, implies_true, and_self, Nat.add_zero, Nat.zero_add, eq_self, ne_eq, reduceCtorEq, Nat.reduceLT, Nat.reduceLeDiff, Nat.reduceEqDiff, Nat.reduceSub, Nat.reduceAdd, i10, i01, im10, Int32.reduceLT, Int32.reduceLE, ↓reduceIte, reduceIte, up_r, uL_r, cp_r, Int32.toInt_toInt64, Int64.reduceToInt, Int32.reduceToInt, ↓b1_or, b1_0, b1_1, lc_lt, lc_le, lc_gt, lc_ge, lc_eq, yx_0, yx_1, yx_2, yx_3, yx_4, yx_5, yx_6, yx_7, yx_8, yx_9, yx_10, yx_11, yx_12, yx_13, yx_14, yx_15, yx_16, yx_17, yx_18, yx_19, yx_20, yx_21, yx_22, yx_23, yx_24, yx_25, yx_26, yx_27, yx_28, yx_29, yx_30, yx_31, yx_32, yx_33, yx_34, yx_35, yx_36, yx_37, yx_38, yx_39, yx_40, yx_41, yx_42, yx_43, yx_44, yx_45, yx_46, yx_47, yx_48, yx_49, yx_50, yx_51, yx_52, yx_53, yx_54, yx_55, yx_56, yx_57, yx_58, yx_59, yx_60, yx_61, yx_62, yx_63, yx_64, yx_65, yx_66, yx_67, yx_68, rx_0, rx_1, rx_2, rx_3, rx_4, rx_5, rx_6, rx_7, rx_8, rx_9, rx_10, rx_11, rx_12, rx_13, rx_14, rx_15, rx_16, rx_17, rx_18, rx_19, rx_20, rx_21, rx_22, rx_23, rx_24, rx_25, rx_26, rx_27, rx_28, rx_29, rx_30, rx_31, rx_32, rx_33, rp_0, rp_1, rp_2, rp_3, rp_4, rp_5, rp_6, rp_7, rp_8, rs_0, rs_1, rs_2, rs_3, rs_4, re_0, re_1, re_2, re_3, re_4, re_5, rr_0, rr_1, rr_2, rr_3, rr_4, rk_0, rk_1, isP3, isP11, isP46, isP58, isS25, isS28, isS31, y0, y1, y2, y6, i5, i4, j5, ci, cj, l1, l2, l3, nI_1, z16, z2, v80, ct, hT, i3, e0, e1]
      try simp only [iteP, Classical.not_not, b1_0, b1_1]
      rw [a_le (by omega) (by omega), a_eq (by omega) (by omega)]
      rw [← b1_band] at ih
      refine ⟨fun z => absurd z (by omega), fun _ => ⟨fun z => ⟨fun z2 => ?_, fun z2 => ?_⟩, fun z => ?_⟩⟩
      · rw [b1_t (c := tm.2.1 % 4 = rr.1 ∧ ¬ tm.2.1 / 4 = 5) ⟨z, z2⟩] at ih; exact ih
      · rw [b1_f (c := tm.2.1 % 4 = rr.1 ∧ ¬ tm.2.1 / 4 = 5) (fun y => y.2 z2)] at ih; exact ih
      · rw [b1_f (c := tm.2.1 % 4 = rr.1 ∧ ¬ tm.2.1 / 4 = 5) (fun y => z y.1)] at ih; exact ih
  refine ma_walk mo_X2_isOwn hV [9] (fun F hF => ?_)
  simp only [tb_X2_isOwn, hF, in_no, in_push, in_ild, in_lld, in_ald, in_ist, in_ast, in_lst, in_inc, in_iii, in_idv, in_ldv, in_lll, in_lli, in_lil, in_ii, in_il, in_li, in_ll, in_dup, in_dp2, q_if1, q_if2, in_go, in_sw, ma_sw, in_rv, in_ri, in_rz, in_rl, in_get, in_put, in_puz, in_iar, in_bar, in_lar, in_aar, in_iaw, in_baw, in_law, in_len, in_cpy, in_s1, in_s2, in_s3, in_v1, in_v2, in_v3, in_v4, in_v5, in_v6, ma_bk, ma_gl, ma_sl, ma_nl, ma_wc, ma_wd, ma_nn, ma_en, List.mem_cons, List.not_mem_nil, or_false, or_true, true_or, false_or, true_and, and_true, false_and, and_false, if_true, if_false, forall_const, true_implies, false_implies, not_true_eq_false, not_false_eq_true, Classical.not_not, implies_true, and_self, Nat.add_zero, Nat.zero_add, eq_self, ne_eq, reduceCtorEq, Nat.reduceLT, Nat.reduceLeDiff, Nat.reduceEqDiff, Nat.reduceSub, Nat.reduceAdd, i10, i01, im10, Int32.reduceLT, Int32.reduceLE, ↓reduceIte, reduceIte, up_r, uL_r, cp_r, Int32.toInt_toInt64, Int64.reduceToInt, Int32.reduceToInt, ↓b1_or, b1_0, b1_1, lc_lt, lc_le, lc_gt, lc_ge, lc_eq, yx_0, yx_1, yx_2, yx_3, yx_4, yx_5, yx_6, yx_7, yx_8, yx_9, yx_10, yx_11, yx_12, yx_13, yx_14, yx_15, yx_16, yx_17, yx_18, yx_19, yx_20, yx_21, yx_22, yx_23, yx_24, yx_25, yx_26, yx_27, yx_28, yx_29, yx_30, yx_31, yx_32, yx_33, yx_34, yx_35, yx_36, yx_37, yx_38, yx_39, yx_40, yx_41, yx_42, yx_43, yx_44, yx_45, yx_46, yx_47, yx_48, yx_49, yx_50, yx_51, yx_52, yx_53, yx_54, yx_55, yx_56, yx_57, yx_58, yx_59, yx_60, yx_61, yx_62, yx_63, yx_64, yx_65, yx_66, yx_67, yx_68, rx_0, rx_1, rx_2, rx_3, rx_4, rx_5, rx_6, rx_7, rx_8, rx_9, rx_10, rx_11, rx_12, rx_13, rx_14, rx_15, rx_16, rx_17, rx_18, rx_19, rx_20, rx_21, rx_22, rx_23, rx_24, rx_25, rx_26, rx_27, rx_28, rx_29, rx_30, rx_31, rx_32, rx_33, rp_0, rp_1, rp_2, rp_3, rp_4, rp_5, rp_6, rp_7, rp_8, rs_0, rs_1, rs_2, rs_3, rs_4, re_0, re_1, re_2, re_3, re_4, re_5, rr_0, rr_1, rr_2, rr_3, rr_4, rk_0, rk_1, isP3, isP11, isP46, isP58, isS25, isS28, isS31, y0, y2, i5, ci, l2]
  try simp only [iteP, Classical.not_not, b1_0, b1_1]
  have q := lp 0 (Nat.zero_le _)
  rw [b1_t own_0] at q; exact q
theorem pv_X2_isOwn : ∀ as M L K, S_X2_isOwn as M L K → ma_rn tb_X2_isOwn 4 as M L K := by
  intro as M L K h
  unfold S_X2_isOwn at h
  split at h
  · obtain ⟨i, ts, ls, h⟩ := h; exact pw_X2_isOwn h.1 h.2
  · exact h.elim
def S_X2_factors : ma_Cs := fun as M L K => match as with
  | [.ref p, .int ii, .int z] => ∃ (i : Nat) (ts : List Tm) (ls : List Ln), (isP p ∧ i < ls.length ∧ ii = nI i ∧ PX M p ts ls ∧ Vp ts ls) ∧ (K (some (.int (fsm ts z (lnA ls i).2.1 (lnA ls i).2.2.1))) M L)
  | _ => False
theorem ms_X2_factors : ma_ms S_X2_factors := by
  intro as M L K K' hk h
  unfold S_X2_factors at h ⊢
  split at h
  · obtain ⟨i, ts, ls, h⟩ := h
    exact ⟨i, ts, ls, h.1, hk _ _ _ h.2⟩
  · exact h.elim
theorem un_X2_factors {p : Nat} {ii : Int32} {z : Int32} {M : ZM} {L : ZL} {K : ma_Kt} : S_X2_factors [.ref p, .int ii, .int z] M L K = (∃ (i : Nat) (ts : List Tm) (ls : List Ln), (isP p ∧ i < ls.length ∧ ii = nI i ∧ PX M p ts ls ∧ Vp ts ls) ∧ (K (some (.int (fsm ts z (lnA ls i).2.1 (lnA ls i).2.2.1))) M L)) := rfl
theorem pw_X2_factors {p : Nat} {ii : Int32} {z : Int32} {i : Nat} {ts : List Tm} {ls : List Ln} {M : ZM} {L : ZL} {K : ma_Kt} (hp : isP p ∧ i < ls.length ∧ ii = nI i ∧ PX M p ts ls ∧ Vp ts ls) (h : (K (some (.int (fsm ts z (lnA ls i).2.1 (lnA ls i).2.2.1))) M L)) : ma_rn (tb_X2_factors S_J0_abs_2) 5 [.ref p, .int ii, .int z] M L K := by
  refine ⟨Nat.le_of_ble_eq_true rfl, fun V hV => ?_⟩
  obtain ⟨⟨y0, y1, y2, y3, y4, y5, y6, y7⟩, hi, rfl, hP, hV0⟩ := hp
  obtain ⟨v1, v2, v3, v4⟩ := id hV0
  obtain ⟨l1, l2, l3, l4, l5⟩ := hP.at hi
  have hT0 := hP.2.2.2
  have hV4 : (lnA ls i).2.1 + (lnA ls i).2.2.1 ≤ ts.length ∧ 0 < (lnA ls i).2.2.2.1 ∧ (lnA ls i).2.2.2.1 ≤ 1000 ∧ (lnA ls i).2.2.2.2 ≤ 1 ∧ (lnA ls i).1 < 4 := v4 i hi
  generalize lnA ls i = rr at *
  have i5 : vp_in (nI i) 5 := vp_in_nI (by omega) (by decide)
  have j5 : vp_in (nI (i + 1)) 5 := vp_in_nI (by omega) (by decide)
  have ci := a_cl (show i < 2147483648 by omega)
  have cj := a_cl (show i + 1 < 2147483648 by omega)
  have lp : ∀ j, j ≤ rr.2.2.1 → V 10 [some (.ref p), some (.int (nI i)), some (.int z), some (.int (fsm ts z rr.2.1 j)), some (.int (nI (rr.2.1 + j)))] [] M L := by
    refine lp_up ?_ ?_
    · refine ma_walk (mo_X2_factors ms_J0_abs_2) hV [10] (fun F hF => ?_)
      simp only [tb_X2_factors, hF, in_no, in_push, in_ild, in_lld, in_ald, in_ist, in_ast, in_lst, in_inc, in_iii, in_idv, in_ldv, in_lll, in_lli, in_lil, in_ii, in_il, in_li, in_ll, in_dup, in_dp2, q_if1, q_if2, in_go, in_sw, ma_sw, in_rv, in_ri, in_rz, in_rl, in_get, in_put, in_puz, in_iar, in_bar, in_lar, in_aar, in_iaw, in_baw, in_law, in_len, in_cpy, in_s1, in_s2, in_s3, in_v1, in_v2, in_v3, in_v4, in_v5, in_v6, ma_bk, ma_gl, ma_sl, ma_nl, ma_wc, ma_wd, ma_nn, ma_en, List.mem_cons, List.not_mem_nil, or_false, or_true, true_or, false_or, true_and, and_true, false_and, and_false, if_true, if_false, forall_const, true_implies, false_implies, not_true_eq_false, not_false_eq_true, Classical.not_not, implies_true, and_self, Nat.add_zero, Nat.zero_add, eq_self, ne_eq, reduceCtorEq, Nat.reduceLT, Nat.reduceLeDiff, Nat.reduceEqDiff, Nat.reduceSub, Nat.reduceAdd, i10, i01, im10, Int32.reduceLT, Int32.reduceLE, ↓reduceIte, reduceIte, up_r, uL_r, cp_r, Int32.toInt_toInt64, Int64.reduceToInt, Int32.reduceToInt, ↓b1_or, b1_0, b1_1, lc_lt, lc_le, lc_gt, lc_ge, lc_eq, yx_0, yx_1, yx_2, yx_3, yx_4, yx_5, yx_6, yx_7, yx_8, yx_9, yx_10, yx_11, yx_12, yx_13, yx_14, yx_15, yx_16, yx_17, yx_18, yx_19, yx_20, yx_21, yx_22, yx_23, yx_24, yx_25, yx_26, yx_27, yx_28, yx_29, yx_30, yx_31, yx_32, yx_33, yx_34, yx_35, yx_36, yx_37, yx_38, yx_39, yx_40, yx_41, yx_42, yx_43, yx_44, yx_45, yx_46, yx_47, yx_48, yx_49, yx_50, yx_51, yx_52, yx_53, yx_54, yx_55, yx_56, yx_57, yx_58, yx_59, yx_60, yx_61, yx_62, yx_63, yx_64, yx_65, yx_66, yx_67, yx_68, rx_0, rx_1, rx_2, rx_3, rx_4, rx_5, rx_6, rx_7, rx_8, rx_9, rx_10, rx_11, rx_12, rx_13, rx_14, rx_15, rx_16, rx_17, rx_18, rx_19, rx_20, rx_21, rx_22, rx_23, rx_24, rx_25, rx_26, rx_27, rx_28, rx_29, rx_30, rx_31, rx_32, rx_33, rp_0, rp_1, rp_2, rp_3, rp_4, rp_5, rp_6, rp_7, rp_8, rs_0, rs_1, rs_2, rs_3, rs_4, re_0, re_1, re_2, re_3, re_4, re_5, rr_0, rr_1, rr_2, rr_3, rr_4, rk_0, rk_1, isP3, isP11, isP46, isP58, isS25, isS28, isS31, un_J0_abs_2, y0, y2, y5, i5, j5, ci, cj, l2, l3, nI_1]
      try simp only [iteP, Classical.not_not, b1_0, b1_1]
      rw [a_le (by omega) (by omega)]
      exact ⟨fun _ => h, fun z => absurd (by omega) z⟩
    · intro j hj ih
      have ht : rr.2.1 + j < ts.length := by omega
      have hT := (hT0 _ ht).1
      rw [fsm, fa1] at ih
      generalize ts.getD (rr.2.1 + j) (0, 0, none) = tm at *
      have v80 : vp_in (nI (rr.2.1 + j)) 80 := vp_in_nI (by omega) (by decide)
      have ct := a_cl (show rr.2.1 + j < 2147483648 by omega)
      refine ma_walk (mo_X2_factors ms_J0_abs_2) hV [10] (fun F hF => ?_)
      simp only [tb_X2_factors, hF, in_no, in_push, in_ild, in_lld, in_ald, in_ist, in_ast, in_lst, in_inc, in_iii, in_idv, in_ldv, in_lll, in_lli, in_lil, in_ii, in_il, in_li, in_ll, in_dup, in_dp2, q_if1, q_if2, in_go, in_sw, ma_sw, in_rv, in_ri, in_rz, in_rl, in_get, in_put, in_puz, in_iar, in_bar, in_lar, in_aar, in_iaw, in_baw, in_law, in_len, in_cpy, in_s1, in_s2, in_s3, in_v1, in_v2, in_v3, in_v4, in_v5, in_v6, ma_bk, ma_gl, ma_sl, ma_nl, ma_wc, ma_wd, ma_nn, ma_en, List.mem_cons, List.not_mem_nil, or_false, or_true, true_or, false_or, true_and, and_true, false_and, and_false, if_true, if_false, forall_const, true_implies, false_implies, not_true_eq_false, not_false_eq_true, Classical.not_not, implies_true, and_self, Nat.add_zero, Nat.zero_add, eq_self, ne_eq, reduceCtorEq, Nat.reduceLT, Nat.reduceLeDiff, Nat.reduceEqDiff, Nat.reduceSub, Nat.reduceAdd, i10, i01, im10, Int32.reduceLT, Int32.reduceLE, ↓reduceIte, reduceIte, up_r, uL_r, cp_r, Int32.toInt_toInt64, Int64.reduceToInt, Int32.reduceToInt, ↓b1_or, b1_0, b1_1, lc_lt, lc_le, lc_gt, lc_ge, lc_eq, yx_0, yx_1, yx_2, yx_3, yx_4, yx_5, yx_6, yx_7, yx_8, yx_9, yx_10, yx_11, yx_12, yx_13, yx_14, yx_15, yx_16, yx_17, yx_18, yx_19, yx_20, yx_21, yx_22, yx_23, yx_24, yx_25, yx_26, yx_27, yx_28, yx_29, yx_30, yx_31, yx_32, yx_33, yx_34, yx_35, yx_36, yx_37, yx_38, yx_39, yx_40, yx_41, yx_42, yx_43, yx_44, yx_45, yx_46, yx_47, yx_48, yx_49, yx_50, yx_51, yx_52, yx_53, yx_54, yx_55, yx_56, yx_57, yx_58, yx_59, yx_60, yx_61, yx_62, yx_63, yx_64, yx_65, yx_66, yx_67, yx_68, rx_0, rx_1, rx_2, rx_3, rx_4, rx_5, rx_6, rx_7, rx_8, rx_9, rx_10, rx_11, rx_12, rx_13, rx_14, rx_15, rx_16, rx_17, rx_18, rx_19, rx_20, rx_21, rx_22, rx_23, rx_24, rx_25, rx_26, rx_27, rx_28, rx_29, rx_30, rx_31, rx_32, rx_33, rp_0, rp_1, rp_2, rp_3, rp_4, rp_5, rp_6, rp_7, rp_8, rs_0, rs_1, rs_2, rs_3, rs_4, re_0, re_1, re_2, re_3, re_4, re_5, rr_0, rr_1, rr_2, rr_3, rr_4, rk_0, rk_1, isP3, isP11, isP46, isP58, isS25, isS28, isS31, un_J0_abs_2, y0, y2, y5, i5, j5, ci, cj, l2, l3, nI_1, v80, ct, hT]
      try simp only [iteP, Classical.not_not, b1_0, b1_1]
      rw [a_le (by omega) (by omega)]
      refine ⟨fun z => absurd z (by omega), fun _ => ⟨fun z => ?_, fun z => ?_⟩⟩
      · rw [if_pos z] at ih; exact ih
      · rw [if_neg z] at ih; exact ih
  refine ma_walk (mo_X2_factors ms_J0_abs_2) hV [10] (fun F hF => ?_)
  simp only [tb_X2_factors, hF, in_no, in_push, in_ild, in_lld, in_ald, in_ist, in_ast, in_lst, in_inc, in_iii, in_idv, in_ldv, in_lll, in_lli, in_lil, in_ii, in_il, in_li, in_ll, in_dup, in_dp2, q_if1, q_if2, in_go, in_sw, ma_sw, in_rv, in_ri, in_rz, in_rl, in_get, in_put, in_puz, in_iar, in_bar, in_lar, in_aar, in_iaw, in_baw, in_law, in_len, in_cpy, in_s1, in_s2, in_s3, in_v1, in_v2, in_v3, in_v4, in_v5, in_v6, ma_bk, ma_gl, ma_sl, ma_nl, ma_wc, ma_wd, ma_nn, ma_en, List.mem_cons, List.not_mem_nil, or_false, or_true, true_or, false_or, true_and, and_true, false_and, and_false, if_true, if_false, forall_const, true_implies, false_implies, not_true_eq_false, not_false_eq_true, Classical.not_not, implies_true, and_self, Nat.add_zero, Nat.zero_add, eq_self, ne_eq, reduceCtorEq, Nat.reduceLT, Nat.reduceLeDiff, Nat.reduceEqDiff, Nat.reduceSub, Nat.reduceAdd, i10, i01, im10, Int32.reduceLT, Int32.reduceLE, ↓reduceIte, reduceIte, up_r, uL_r, cp_r, Int32.toInt_toInt64, Int64.reduceToInt, Int32.reduceToInt, ↓b1_or, b1_0, b1_1, lc_lt, lc_le, lc_gt, lc_ge, lc_eq, yx_0, yx_1, yx_2, yx_3, yx_4, yx_5, yx_6, yx_7, yx_8, yx_9, yx_10, yx_11, yx_12, yx_13, yx_14, yx_15, yx_16, yx_17, yx_18, yx_19, yx_20, yx_21, yx_22, yx_23, yx_24, yx_25, yx_26, yx_27, yx_28, yx_29, yx_30, yx_31, yx_32, yx_33, yx_34, yx_35, yx_36, yx_37, yx_38, yx_39, yx_40, yx_41, yx_42, yx_43, yx_44, yx_45, yx_46, yx_47, yx_48, yx_49, yx_50, yx_51, yx_52, yx_53, yx_54, yx_55, yx_56, yx_57, yx_58, yx_59, yx_60, yx_61, yx_62, yx_63, yx_64, yx_65, yx_66, yx_67, yx_68, rx_0, rx_1, rx_2, rx_3, rx_4, rx_5, rx_6, rx_7, rx_8, rx_9, rx_10, rx_11, rx_12, rx_13, rx_14, rx_15, rx_16, rx_17, rx_18, rx_19, rx_20, rx_21, rx_22, rx_23, rx_24, rx_25, rx_26, rx_27, rx_28, rx_29, rx_30, rx_31, rx_32, rx_33, rp_0, rp_1, rp_2, rp_3, rp_4, rp_5, rp_6, rp_7, rp_8, rs_0, rs_1, rs_2, rs_3, rs_4, re_0, re_1, re_2, re_3, re_4, re_5, rr_0, rr_1, rr_2, rr_3, rr_4, rk_0, rk_1, isP3, isP11, isP46, isP58, isS25, isS28, isS31, un_J0_abs_2, y0, y2, i5, ci, l2]
  try simp only [iteP, Classical.not_not, b1_0, b1_1]
  exact lp 0 (Nat.zero_le _)
theorem pv_X2_factors : ∀ as M L K, S_X2_factors as M L K → ma_rn (tb_X2_factors S_J0_abs_2) 5 as M L K := by
  intro as M L K h
  unfold S_X2_factors at h
  split at h
  · obtain ⟨i, ts, ls, h⟩ := h; exact pw_X2_factors h.1 h.2
  · exact h.elim
theorem cp_in {M : ZM} {x y n i : Nat} (h : i < n) : ma_cp M x y 0 0 n y i = M x i := by
  rw [cp_r, if_pos ⟨rfl, by omega, by omega⟩, Nat.zero_add, Nat.sub_zero]
/-- a plan goes from one place to another -/
def isPP (d s : Nat) : Prop := (d = 11 ∧ s = 3) ∨ (d = 46 ∧ s = 11) ∨ (d = 58 ∧ s = 11) ∨ (d = 11 ∧ s = 46) ∨ (d = 11 ∧ s = 58)
def S_X2_copy : ma_Cs := fun as M L K => match as with
  | [.ref d, .ref s] => ∃ (ts : List Tm) (ls : List Ln), (isPP d s ∧ PX M s ts ls ∧ ts.length ≤ 80 ∧ ls.length ≤ 4 ∧ BF (M (s + 4))) ∧ (∀ (M' : ZM), (∀ a, a < d ∨ d + 7 < a → M' a = M a) → PX M' d ts ls → BF (M' (d + 4)) → K none M' L)
  | _ => False
theorem ms_X2_copy : ma_ms S_X2_copy := by
  intro as M L K K' hk h
  unfold S_X2_copy at h ⊢
  split at h
  · obtain ⟨ts, ls, h⟩ := h
    exact ⟨ts, ls, h.1, fun x0 x1 x2 x3 => hk _ _ _ (h.2 x0 x1 x2 x3)⟩
  · exact h.elim
theorem un_X2_copy {d : Nat} {s : Nat} {M : ZM} {L : ZL} {K : ma_Kt} : S_X2_copy [.ref d, .ref s] M L K = (∃ (ts : List Tm) (ls : List Ln), (isPP d s ∧ PX M s ts ls ∧ ts.length ≤ 80 ∧ ls.length ≤ 4 ∧ BF (M (s + 4))) ∧ (∀ (M' : ZM), (∀ a, a < d ∨ d + 7 < a → M' a = M a) → PX M' d ts ls → BF (M' (d + 4)) → K none M' L)) := rfl
theorem pw_X2_copy {d : Nat} {s : Nat} {ts : List Tm} {ls : List Ln} {M : ZM} {L : ZL} {K : ma_Kt} (hp : isPP d s ∧ PX M s ts ls ∧ ts.length ≤ 80 ∧ ls.length ≤ 4 ∧ BF (M (s + 4))) (h : (∀ (M' : ZM), (∀ a, a < d ∨ d + 7 < a → M' a = M a) → PX M' d ts ls → BF (M' (d + 4)) → K none M' L)) : ma_rn tb_X2_copy 2 [.ref d, .ref s] M L K := by
  refine ⟨Nat.le_of_ble_eq_true rfl, fun V hV => ?_⟩
  obtain ⟨hds, hP, ht, hl, hB⟩ := hp
  obtain ⟨p1, p2, p3, p4⟩ := id hP
  rcases hds with ⟨rfl, rfl⟩ | ⟨rfl, rfl⟩ | ⟨rfl, rfl⟩ | ⟨rfl, rfl⟩ | ⟨rfl, rfl⟩
  all_goals
    refine ma_walk mo_X2_copy hV [] (fun F hF => ?_)
    simp only [tb_X2_copy, hF, in_no, in_push, in_ild, in_lld, in_ald, in_ist, in_ast, in_lst, in_inc, in_iii, in_idv, in_ldv, in_lll, in_lli, in_lil, in_ii, in_il, in_li, in_ll, in_dup, in_dp2, q_if1, q_if2, in_go, in_sw, ma_sw, in_rv, in_ri, in_rz, in_rl, in_get, in_put, in_puz, in_iar, in_bar, in_lar, in_aar, in_iaw, in_baw, in_law, in_len, in_cpy, in_s1, in_s2, in_s3, in_v1, in_v2, in_v3, in_v4, in_v5, in_v6, ma_bk, ma_gl, ma_sl, ma_nl, ma_wc, ma_wd, ma_nn, ma_en, List.mem_cons, List.not_mem_nil, or_false, or_true, true_or, false_or, true_and, and_true, false_and, and_false, if_true, if_false, forall_const, true_implies, false_implies, not_true_eq_false, not_false_eq_true, Classical.not_not, implies_true, and_self, Nat.add_zero, Nat.zero_add, eq_self, ne_eq, reduceCtorEq, Nat.reduceLT, Nat.reduceLeDiff, Nat.reduceEqDiff, Nat.reduceSub, Nat.reduceAdd, i10, i01, im10, Int32.reduceLT, Int32.reduceLE, ↓reduceIte, reduceIte, up_r, uL_r, cp_r, Int32.toInt_toInt64, Int64.reduceToInt, Int32.reduceToInt, ↓b1_or, b1_0, b1_1, lc_lt, lc_le, lc_gt, lc_ge, lc_eq, yx_0, yx_1, yx_2, yx_3, yx_4, yx_5, yx_6, yx_7, yx_8, yx_9, yx_10, yx_11, yx_12, yx_13, yx_14, yx_15, yx_16, yx_17, yx_18, yx_19, yx_20, yx_21, yx_22, yx_23, yx_24, yx_25, yx_26, yx_27, yx_28, yx_29, yx_30, yx_31, yx_32, yx_33, yx_34, yx_35, yx_36, yx_37, yx_38, yx_39, yx_40, yx_41, yx_42, yx_43, yx_44, yx_45, yx_46, yx_47, yx_48, yx_49, yx_50, yx_51, yx_52, yx_53, yx_54, yx_55, yx_56, yx_57, yx_58, yx_59, yx_60, yx_61, yx_62, yx_63, yx_64, yx_65, yx_66, yx_67, yx_68, rx_0, rx_1, rx_2, rx_3, rx_4, rx_5, rx_6, rx_7, rx_8, rx_9, rx_10, rx_11, rx_12, rx_13, rx_14, rx_15, rx_16, rx_17, rx_18, rx_19, rx_20, rx_21, rx_22, rx_23, rx_24, rx_25, rx_26, rx_27, rx_28, rx_29, rx_30, rx_31, rx_32, rx_33, rp_0, rp_1, rp_2, rp_3, rp_4, rp_5, rp_6, rp_7, rp_8, rs_0, rs_1, rs_2, rs_3, rs_4, re_0, re_1, re_2, re_3, re_4, re_5, rr_0, rr_1, rr_2, rr_3, rr_4, rk_0, rk_1, isP3, isP11, isP46, isP58, isS25, isS28, isS31, Int32.reduceToNatClampNeg, Nat.sub_zero]
    try simp only [iteP, Classical.not_not, b1_0, b1_1]
    refine ⟨hB, h _ (fun a ha => ?_) ⟨p1, p2, fun i hi => ?_, fun t ht2 => ?_⟩ (fun i hi => ?_)⟩
    · rw [cp_c (by omega), cp_c (by omega), cp_c (by omega), cp_c (by omega), cp_c (by omega), cp_c (by omega), cp_c (by omega), up_c (by omega), up_c (by omega)]
    · have q := p3 i hi
      have hi4 : i < 4 := by omega
      have hi5 : i < 5 := by omega
      have hi6 : i + 1 < 5 := by omega
      simp only [Nat.reduceAdd, cp_c, cp_in, up_c, ne_eq, Nat.reduceEqDiff, not_false_eq_true, hi4, hi5, hi6] at q ⊢
      exact q
    · have q := p4 t ht2
      have ht8 : t < 80 := by omega
      simp only [Nat.reduceAdd, cp_c, cp_in, up_c, ne_eq, Nat.reduceEqDiff, not_false_eq_true, ht8] at q ⊢
      exact q
    · have q := hB i hi
      simp only [Nat.reduceAdd, cp_c, cp_in, up_c, ne_eq, Nat.reduceEqDiff, not_false_eq_true, hi] at q ⊢
      exact q
theorem pv_X2_copy : ∀ as M L K, S_X2_copy as M L K → ma_rn tb_X2_copy 2 as M L K := by
  intro as M L K h
  unfold S_X2_copy at h
  split at h
  · obtain ⟨ts, ls, h⟩ := h; exact pw_X2_copy h.1 h.2
  · exact h.elim
