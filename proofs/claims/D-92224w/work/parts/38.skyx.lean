/-! a sky's numbers: names, lines, slips (the component) -/
set_option maxRecDepth 100000
set_option maxHeartbeats 4000000
/-- a row of numbers at a step: cells and letters -/
def rwv (N : Nat → Int32) (s : Nat) : Nat → Nat → Int32 := fun c l => N (144 * s + 4 * c + l)
/-- the number of a name (letter and 4 times where), out of the row ahead and what stands already in this one -/
def nv (r : Nat → Int32) (w u e : Nat) (pr : Nat → Nat → Int32) (nw : Nat → Int32) (c q : Nat) : Int32 := if q / 4 = 5 then nw (q % 4) else if nn w u e c (q / 4) = 99 then r (q % 4) else pr (nn w u e c (q / 4)) (q % 4)
def nk (w u e : Nat) (pr : Nat → Nat → Int32) (nw : Nat → Int32) (c q : Nat) : Prop := if q / 4 = 5 then ¬ nw (q % 4) = 0 else ¬ nn w u e c (q / 4) = 99 ∧ ¬ pr (nn w u e c (q / 4)) (q % 4) = 0
/-- a sky at cell k, w by u, edge e, at cell c and step s -/
def Sk (M : ZM) (k w u e c s : Nat) : Prop := isS k ∧ M k 0 = nI w ∧ M k 1 = nI u ∧ M 0 7 = nI e ∧ Sh w u e c 0 ∧ s < 13
def S_X3_at : ma_Cs := fun as M L K => match as with
  | [.ref k, .int ss, .int cc, .int ll] => ∃ (s : Nat) (c : Nat) (l : Nat), (isS k ∧ ss = nI s ∧ cc = nI c ∧ ll = nI l ∧ s < 13 ∧ c < 36 ∧ l < 4) ∧ (K (some (.int (M (k + 1) (144 * s + 4 * c + l)))) M L)
  | _ => False
theorem ms_X3_at : ma_ms S_X3_at := by
  intro as M L K K' hk h
  unfold S_X3_at at h ⊢
  split at h
  · obtain ⟨s, c, l, h⟩ := h
    exact ⟨s, c, l, h.1, hk _ _ _ h.2⟩
  · exact h.elim
theorem un_X3_at {k : Nat} {ss : Int32} {cc : Int32} {ll : Int32} {M : ZM} {L : ZL} {K : ma_Kt} : S_X3_at [.ref k, .int ss, .int cc, .int ll] M L K = (∃ (s : Nat) (c : Nat) (l : Nat), (isS k ∧ ss = nI s ∧ cc = nI c ∧ ll = nI l ∧ s < 13 ∧ c < 36 ∧ l < 4) ∧ (K (some (.int (M (k + 1) (144 * s + 4 * c + l)))) M L)) := rfl
theorem pw_X3_at {k : Nat} {ss : Int32} {cc : Int32} {ll : Int32} {s : Nat} {c : Nat} {l : Nat} {M : ZM} {L : ZL} {K : ma_Kt} (hp : isS k ∧ ss = nI s ∧ cc = nI c ∧ ll = nI l ∧ s < 13 ∧ c < 36 ∧ l < 4) (h : (K (some (.int (M (k + 1) (144 * s + 4 * c + l)))) M L)) : ma_rn (tb_X3_at S_X3_place) 4 [.ref k, .int ss, .int cc, .int ll] M L K := by
  refine ⟨Nat.le_of_ble_eq_true rfl, fun V hV => ?_⟩
  obtain ⟨hS, rfl, rfl, rfl, h1, h2, h3⟩ := hp
  obtain ⟨y0, y1, y2⟩ := id hS
  have e0 : (nI s * 36 + nI c) * 4 + nI l = nI (144 * s + 4 * c + l) := by
    rw [show (36 : Int32) = nI 36 from rfl, show (4 : Int32) = nI 4 from rfl, pk_mul, nI_add, pk_mul, nI_add]; congr 1; omega
  refine ma_walk (mo_X3_at ms_X3_place) hV [] (fun F hF => ?_)
  simp only [tb_X3_at, hF, in_no, in_push, in_ild, in_lld, in_ald, in_ist, in_ast, in_lst, in_inc, in_iii, in_idv, in_ldv, in_lll, in_lli, in_lil, in_ii, in_il, in_li, in_ll, in_dup, in_dp2, q_if1, q_if2, in_go, in_sw, ma_sw, in_rv, in_ri, in_rz, in_rl, in_get, in_put, in_puz, in_iar, in_bar, in_lar, in_aar, in_iaw, in_baw, in_law, in_len, in_cpy, in_s1, in_s2, in_s3, in_v1, in_v2, in_v3, in_v4, in_v5, in_v6, ma_bk, ma_gl, ma_sl, ma_nl, ma_wc, ma_wd, ma_nn, ma_en, List.mem_cons, List.not_mem_nil, or_false, or_true, true_or, false_or, true_and, and_true, false_and, and_false, if_true, if_false, forall_const, true_implies, false_implies, not_true_eq_false, not_false_eq_true, Classical.not_not, implies_true, and_self, Nat.add_zero, Nat.zero_add, eq_self, ne_eq, reduceCtorEq, Nat.reduceLT, Nat.reduceLeDiff, Nat.reduceEqDiff, Nat.reduceSub, Nat.reduceAdd, i10, i01, im10, Int32.reduceLT, Int32.reduceLE, ↓reduceIte, reduceIte, up_r, uL_r, cp_r, Int32.toInt_toInt64, Int64.reduceToInt, Int32.reduceToInt, ↓b1_or, b1_0, b1_1, lc_lt, lc_le, lc_gt, lc_ge, lc_eq, yx_0, yx_1, yx_2, yx_3, yx_4, yx_5, yx_6, yx_7, yx_8, yx_9, yx_10, yx_11, yx_12, yx_13, yx_14, yx_15, yx_16, yx_17, yx_18, yx_19, yx_20, yx_21, yx_22, yx_23, yx_24, yx_25, yx_26, yx_27, yx_28, yx_29, yx_30, yx_31, yx_32, yx_33, yx_34, yx_35, yx_36, yx_37, yx_38, yx_39, yx_40, yx_41, yx_42, yx_43, yx_44, yx_45, yx_46, yx_47, yx_48, yx_49, yx_50, yx_51, yx_52, yx_53, yx_54, yx_55, yx_56, yx_57, yx_58, yx_59, yx_60, yx_61, yx_62, yx_63, yx_64, yx_65, yx_66, yx_67, yx_68, rx_0, rx_1, rx_2, rx_3, rx_4, rx_5, rx_6, rx_7, rx_8, rx_9, rx_10, rx_11, rx_12, rx_13, rx_14, rx_15, rx_16, rx_17, rx_18, rx_19, rx_20, rx_21, rx_22, rx_23, rx_24, rx_25, rx_26, rx_27, rx_28, rx_29, rx_30, rx_31, rx_32, rx_33, rp_0, rp_1, rp_2, rp_3, rp_4, rp_5, rp_6, rp_7, rp_8, rs_0, rs_1, rs_2, rs_3, rs_4, re_0, re_1, re_2, re_3, re_4, re_5, rr_0, rr_1, rr_2, rr_3, rr_4, rk_0, rk_1, isP3, isP11, isP46, isP58, isS25, isS28, isS31, un_X3_place, y0, y1, hS, e0]
  try simp only [iteP, Classical.not_not]
  rw [a_cl (by omega), a_vi (by omega)]
  exact ⟨by omega, h⟩
theorem pv_X3_at : ∀ as M L K, S_X3_at as M L K → ma_rn (tb_X3_at S_X3_place) 4 as M L K := by
  intro as M L K h
  unfold S_X3_at at h
  split at h
  · obtain ⟨s, c, l, h⟩ := h; exact pw_X3_at h.1 h.2
  · exact h.elim
def S_X3_stepOf : ma_Cs := fun as M L K => match as with
  | [.ref k, .int ss, .int nn'] => ∃ (s : Nat) (q : Nat), (isS k ∧ ss = nI s ∧ 0 < s ∧ s < 13 ∧ nn' = nI (ex q) ∧ q < 24) ∧ (K (some (.int (nI (if q / 4 = 5 then s else s - 1)))) M L)
  | _ => False
theorem ms_X3_stepOf : ma_ms S_X3_stepOf := by
  intro as M L K K' hk h
  unfold S_X3_stepOf at h ⊢
  split at h
  · obtain ⟨s, q, h⟩ := h
    exact ⟨s, q, h.1, hk _ _ _ h.2⟩
  · exact h.elim
theorem un_X3_stepOf {k : Nat} {ss : Int32} {nn' : Int32} {M : ZM} {L : ZL} {K : ma_Kt} : S_X3_stepOf [.ref k, .int ss, .int nn'] M L K = (∃ (s : Nat) (q : Nat), (isS k ∧ ss = nI s ∧ 0 < s ∧ s < 13 ∧ nn' = nI (ex q) ∧ q < 24) ∧ (K (some (.int (nI (if q / 4 = 5 then s else s - 1)))) M L)) := rfl
theorem pw_X3_stepOf {k : Nat} {ss : Int32} {nn' : Int32} {s : Nat} {q : Nat} {M : ZM} {L : ZL} {K : ma_Kt} (hp : isS k ∧ ss = nI s ∧ 0 < s ∧ s < 13 ∧ nn' = nI (ex q) ∧ q < 24) (h : (K (some (.int (nI (if q / 4 = 5 then s else s - 1)))) M L)) : ma_rn tb_X3_stepOf 3 [.ref k, .int ss, .int nn'] M L K := by
  refine ⟨Nat.le_of_ble_eq_true rfl, fun V hV => ?_⟩
  obtain ⟨hS, rfl, h1, h2, rfl, h3⟩ := hp
  obtain ⟨y0, y1, y2⟩ := id hS
  have hq : ex q < 100 := by unfold ex; split <;> omega
  have e0 : nI (ex q) - nI (ex q) / 2 * 2 = nI (ex q % 2) := pk_rem (d := 2) (by omega) (by omega) (by omega)
  have e1 : ex q % 2 = if q / 4 = 5 then 1 else 0 := by unfold ex; split <;> omega
  have e2 : nI s - 1 = nI (s - 1) := pk_sub (b := 1) h1
  refine ma_walk mo_X3_stepOf hV [] (fun F hF => ?_)
  simp only [tb_X3_stepOf, hF, in_no, in_push, in_ild, in_lld, in_ald, in_ist, in_ast, in_lst, in_inc, in_iii, in_idv, in_ldv, in_lll, in_lli, in_lil, in_ii, in_il, in_li, in_ll, in_dup, in_dp2, q_if1, q_if2, in_go, in_sw, ma_sw, in_rv, in_ri, in_rz, in_rl, in_get, in_put, in_puz, in_iar, in_bar, in_lar, in_aar, in_iaw, in_baw, in_law, in_len, in_cpy, in_s1, in_s2, in_s3, in_v1, in_v2, in_v3, in_v4, in_v5, in_v6, ma_bk, ma_gl, ma_sl, ma_nl, ma_wc, ma_wd, ma_nn, ma_en, List.mem_cons, List.not_mem_nil, or_false, or_true, true_or, false_or, true_and, and_true, false_and, and_false, if_true, if_false, forall_const, true_implies, false_implies, not_true_eq_false, not_false_eq_true, Classical.not_not, implies_true, and_self, Nat.add_zero, Nat.zero_add, eq_self, ne_eq, reduceCtorEq, Nat.reduceLT, Nat.reduceLeDiff, Nat.reduceEqDiff, Nat.reduceSub, Nat.reduceAdd, i10, i01, im10, Int32.reduceLT, Int32.reduceLE, ↓reduceIte, reduceIte, up_r, uL_r, cp_r, Int32.toInt_toInt64, Int64.reduceToInt, Int32.reduceToInt, ↓b1_or, b1_0, b1_1, lc_lt, lc_le, lc_gt, lc_ge, lc_eq, yx_0, yx_1, yx_2, yx_3, yx_4, yx_5, yx_6, yx_7, yx_8, yx_9, yx_10, yx_11, yx_12, yx_13, yx_14, yx_15, yx_16, yx_17, yx_18, yx_19, yx_20, yx_21, yx_22, yx_23, yx_24, yx_25, yx_26, yx_27, yx_28, yx_29, yx_30, yx_31, yx_32, yx_33, yx_34, yx_35, yx_36, yx_37, yx_38, yx_39, yx_40, yx_41, yx_42, yx_43, yx_44, yx_45, yx_46, yx_47, yx_48, yx_49, yx_50, yx_51, yx_52, yx_53, yx_54, yx_55, yx_56, yx_57, yx_58, yx_59, yx_60, yx_61, yx_62, yx_63, yx_64, yx_65, yx_66, yx_67, yx_68, rx_0, rx_1, rx_2, rx_3, rx_4, rx_5, rx_6, rx_7, rx_8, rx_9, rx_10, rx_11, rx_12, rx_13, rx_14, rx_15, rx_16, rx_17, rx_18, rx_19, rx_20, rx_21, rx_22, rx_23, rx_24, rx_25, rx_26, rx_27, rx_28, rx_29, rx_30, rx_31, rx_32, rx_33, rp_0, rp_1, rp_2, rp_3, rp_4, rp_5, rp_6, rp_7, rp_8, rs_0, rs_1, rs_2, rs_3, rs_4, re_0, re_1, re_2, re_3, re_4, re_5, rr_0, rr_1, rr_2, rr_3, rr_4, rk_0, rk_1, isP3, isP11, isP46, isP58, isS25, isS28, isS31, e0, e1, e2]
  try simp only [iteP, Classical.not_not]
  by_cases c : q / 4 = 5
  · rw [if_pos c] at h ⊢
    exact ⟨by decide, fun _ => h, fun z => absurd rfl z⟩
  · rw [if_neg c] at h ⊢
    exact ⟨by decide, fun z => absurd z (by decide), fun _ => h⟩
theorem pv_X3_stepOf : ∀ as M L K, S_X3_stepOf as M L K → ma_rn tb_X3_stepOf 3 as M L K := by
  intro as M L K h
  unfold S_X3_stepOf at h
  split at h
  · obtain ⟨s, q, h⟩ := h; exact pw_X3_stepOf h.1 h.2
  · exact h.elim
theorem z16 : ((16 : Int32) = 0) = False := eq_false (by decide)
theorem z2 : ((2 : Int32) = 0) = False := eq_false (by decide)
theorem z4 : ((4 : Int32) = 0) = False := eq_false (by decide)
theorem ex_i (q : Nat) (h : q < 24) : nI (ex q) - nI (q % 4) * 16 = nI (ex q % 16) ∧ nI (ex q % 16) / 2 = nI (if q / 4 = 5 then 0 else q / 4) ∧ nI (ex q) / 16 = nI (q % 4) := by
  have hq : ex q < 100 := by unfold ex; split <;> omega
  refine ⟨?_, ?_, ?_⟩
  · rw [show (16 : Int32) = nI 16 from rfl, pk_mul, pk_sub (by unfold ex; omega)]
    congr 1; unfold ex; split <;> omega
  · rw [show (2 : Int32) = nI 2 from rfl, pk_div (by omega) (by omega) (by omega)]
    congr 1; unfold ex; split <;> omega
  · rw [show (16 : Int32) = nI 16 from rfl, pk_div (by omega) (by omega) (by omega)]
    congr 1; unfold ex; split <;> omega
def S_X3_valueOf : ma_Cs := fun as M L K => match as with
  | [.ref k, .int ss, .int cc, .int qq] => ∃ (w : Nat) (u : Nat) (e : Nat) (c : Nat) (s : Nat) (q : Nat), (Sk M k w u e c s ∧ 0 < s ∧ ss = nI s ∧ cc = nI c ∧ qq = nI (ex q) ∧ q < 24) ∧ (K (some (.int (nv (M 19) w u e (rwv (M (k + 1)) (s - 1)) (rwv (M (k + 1)) s c) c q))) M L)
  | _ => False
theorem ms_X3_valueOf : ma_ms S_X3_valueOf := by
  intro as M L K K' hk h
  unfold S_X3_valueOf at h ⊢
  split at h
  · obtain ⟨w, u, e, c, s, q, h⟩ := h
    exact ⟨w, u, e, c, s, q, h.1, hk _ _ _ h.2⟩
  · exact h.elim
theorem un_X3_valueOf {k : Nat} {ss : Int32} {cc : Int32} {qq : Int32} {M : ZM} {L : ZL} {K : ma_Kt} : S_X3_valueOf [.ref k, .int ss, .int cc, .int qq] M L K = (∃ (w : Nat) (u : Nat) (e : Nat) (c : Nat) (s : Nat) (q : Nat), (Sk M k w u e c s ∧ 0 < s ∧ ss = nI s ∧ cc = nI c ∧ qq = nI (ex q) ∧ q < 24) ∧ (K (some (.int (nv (M 19) w u e (rwv (M (k + 1)) (s - 1)) (rwv (M (k + 1)) s c) c q))) M L)) := rfl
theorem pw_X3_valueOf {k : Nat} {ss : Int32} {cc : Int32} {qq : Int32} {w : Nat} {u : Nat} {e : Nat} {c : Nat} {s : Nat} {q : Nat} {M : ZM} {L : ZL} {K : ma_Kt} (hp : Sk M k w u e c s ∧ 0 < s ∧ ss = nI s ∧ cc = nI c ∧ qq = nI (ex q) ∧ q < 24) (h : (K (some (.int (nv (M 19) w u e (rwv (M (k + 1)) (s - 1)) (rwv (M (k + 1)) s c) c q))) M L)) : ma_rn (tb_X3_valueOf S_X3_neighbour S_X3_stepOf S_X3_at) 5 [.ref k, .int ss, .int cc, .int qq] M L K := by
  refine ⟨Nat.le_of_ble_eq_true rfl, fun V hV => ?_⟩
  obtain ⟨⟨hS, m0, m1, m2, hs, hs2⟩, h0, rfl, rfl, rfl, hq⟩ := hp
  obtain ⟨y0, y1, y2⟩ := id hS
  obtain ⟨s1, s2, s3, s4, s5, s6, s7⟩ := id hs
  have h36 := Nat.mul_le_mul (Nat.le_of_lt_succ s2) (Nat.le_of_lt_succ s4)
  obtain ⟨i1, i2, i3⟩ := ex_i q hq
  have hn := nn_lt (e := e) (d := if q / 4 = 5 then 0 else q / 4) s2 s4 s6
  have hl : q % 4 < 4 := Nat.mod_lt q (by decide)
  refine ma_walk (mo_X3_valueOf ms_X3_neighbour ms_X3_stepOf ms_X3_at) hV [] (fun F hF => ?_)
  simp only [tb_X3_valueOf, hF, in_no, in_push, in_ild, in_lld, in_ald, in_ist, in_ast, in_lst, in_inc, in_iii, in_idv, in_ldv, in_lll, in_lli, in_lil, in_ii, in_il, in_li, in_ll, in_dup, in_dp2, q_if1, q_if2, in_go, in_sw, ma_sw, in_rv, in_ri, in_rz, in_rl, in_get, in_put, in_puz, in_iar, in_bar, in_lar, in_aar, in_iaw, in_baw, in_law, in_len, in_cpy, in_s1, in_s2, in_s3, in_v1, in_v2, in_v3, in_v4, in_v5, in_v6, ma_bk, ma_gl, ma_sl, ma_nl, ma_wc, ma_wd, ma_nn, ma_en, List.mem_cons, List.not_mem_nil, or_false, or_true, true_or, false_or, true_and, and_true, false_and, and_false, if_true, if_false, forall_const, true_implies, false_implies, not_true_eq_false, not_false_eq_true, Classical.not_not, implies_true, and_self, Nat.add_zero, Nat.zero_add, eq_self, ne_eq, reduceCtorEq, Nat.reduceLT, Nat.reduceLeDiff, Nat.reduceEqDiff, Nat.reduceSub, Nat.reduceAdd, i10, i01, im10, Int32.reduceLT, Int32.reduceLE, ↓reduceIte, reduceIte, up_r, uL_r, cp_r, Int32.toInt_toInt64, Int64.reduceToInt, Int32.reduceToInt, ↓b1_or, b1_0, b1_1, lc_lt, lc_le, lc_gt, lc_ge, lc_eq, yx_0, yx_1, yx_2, yx_3, yx_4, yx_5, yx_6, yx_7, yx_8, yx_9, yx_10, yx_11, yx_12, yx_13, yx_14, yx_15, yx_16, yx_17, yx_18, yx_19, yx_20, yx_21, yx_22, yx_23, yx_24, yx_25, yx_26, yx_27, yx_28, yx_29, yx_30, yx_31, yx_32, yx_33, yx_34, yx_35, yx_36, yx_37, yx_38, yx_39, yx_40, yx_41, yx_42, yx_43, yx_44, yx_45, yx_46, yx_47, yx_48, yx_49, yx_50, yx_51, yx_52, yx_53, yx_54, yx_55, yx_56, yx_57, yx_58, yx_59, yx_60, yx_61, yx_62, yx_63, yx_64, yx_65, yx_66, yx_67, yx_68, rx_0, rx_1, rx_2, rx_3, rx_4, rx_5, rx_6, rx_7, rx_8, rx_9, rx_10, rx_11, rx_12, rx_13, rx_14, rx_15, rx_16, rx_17, rx_18, rx_19, rx_20, rx_21, rx_22, rx_23, rx_24, rx_25, rx_26, rx_27, rx_28, rx_29, rx_30, rx_31, rx_32, rx_33, rp_0, rp_1, rp_2, rp_3, rp_4, rp_5, rp_6, rp_7, rp_8, rs_0, rs_1, rs_2, rs_3, rs_4, re_0, re_1, re_2, re_3, re_4, re_5, rr_0, rr_1, rr_2, rr_3, rr_4, rk_0, rk_1, isP3, isP11, isP46, isP58, isS25, isS28, isS31, un_X3_neighbour, un_X3_stepOf, un_X3_at, y0, m0, m1, m2, i3, i1, i2, z16, z2]
  try simp only [iteP, Classical.not_not]
  refine ⟨w, u, e, c, if q / 4 = 5 then 0 else q / 4, ⟨hS, rfl, rfl, rfl, ⟨s1, s2, s3, s4, s5, s6, by split <;> omega⟩, rfl, rfl⟩, ?_⟩
  rw [nbr4 (by omega), a_cl (by omega), a_vi (by omega)]
  unfold nv at h
  refine ⟨fun z => ⟨hl, ?_⟩, fun z => ⟨s, q, ⟨hS, rfl, h0, hs2, rfl, hq⟩, if q / 4 = 5 then s else s - 1, _, q % 4, ⟨hS, rfl, nbr_n z, rfl, by split <;> omega, by omega, hl⟩, ?_⟩⟩
  · by_cases c5 : q / 4 = 5
    · rw [if_pos c5, nn_0 s6] at z; omega
    · rw [if_neg c5] at z h
      rw [if_pos z] at h; exact h
  · by_cases c5 : q / 4 = 5
    · rw [if_pos c5] at h ⊢
      rw [if_pos c5, nn_0 s6]; exact h
    · rw [if_neg c5] at z h ⊢
      rw [if_neg z] at h
      rw [if_neg c5]; exact h
theorem pv_X3_valueOf : ∀ as M L K, S_X3_valueOf as M L K → ma_rn (tb_X3_valueOf S_X3_neighbour S_X3_stepOf S_X3_at) 5 as M L K := by
  intro as M L K h
  unfold S_X3_valueOf at h
  split at h
  · obtain ⟨w, u, e, c, s, q, h⟩ := h; exact pw_X3_valueOf h.1 h.2
  · exact h.elim
def S_X3_marks : ma_Cs := fun as M L K => match as with
  | [.ref k, .int ss, .int cc, .int qq] => ∃ (w : Nat) (u : Nat) (e : Nat) (c : Nat) (s : Nat) (q : Nat), (Sk M k w u e c s ∧ 0 < s ∧ ss = nI s ∧ cc = nI c ∧ qq = nI (ex q) ∧ q < 24) ∧ (K (some (.int (b1 (nk w u e (rwv (M (k + 2)) (s - 1)) (rwv (M (k + 2)) s c) c q)))) M L)
  | _ => False
theorem ms_X3_marks : ma_ms S_X3_marks := by
  intro as M L K K' hk h
  unfold S_X3_marks at h ⊢
  split at h
  · obtain ⟨w, u, e, c, s, q, h⟩ := h
    exact ⟨w, u, e, c, s, q, h.1, hk _ _ _ h.2⟩
  · exact h.elim
theorem un_X3_marks {k : Nat} {ss : Int32} {cc : Int32} {qq : Int32} {M : ZM} {L : ZL} {K : ma_Kt} : S_X3_marks [.ref k, .int ss, .int cc, .int qq] M L K = (∃ (w : Nat) (u : Nat) (e : Nat) (c : Nat) (s : Nat) (q : Nat), (Sk M k w u e c s ∧ 0 < s ∧ ss = nI s ∧ cc = nI c ∧ qq = nI (ex q) ∧ q < 24) ∧ (K (some (.int (b1 (nk w u e (rwv (M (k + 2)) (s - 1)) (rwv (M (k + 2)) s c) c q)))) M L)) := rfl
theorem pw_X3_marks {k : Nat} {ss : Int32} {cc : Int32} {qq : Int32} {w : Nat} {u : Nat} {e : Nat} {c : Nat} {s : Nat} {q : Nat} {M : ZM} {L : ZL} {K : ma_Kt} (hp : Sk M k w u e c s ∧ 0 < s ∧ ss = nI s ∧ cc = nI c ∧ qq = nI (ex q) ∧ q < 24) (h : (K (some (.int (b1 (nk w u e (rwv (M (k + 2)) (s - 1)) (rwv (M (k + 2)) s c) c q)))) M L)) : ma_rn (tb_X3_marks S_X3_neighbour S_X3_stepOf S_X3_place) 5 [.ref k, .int ss, .int cc, .int qq] M L K := by
  refine ⟨Nat.le_of_ble_eq_true rfl, fun V hV => ?_⟩
  obtain ⟨⟨hS, m0, m1, m2, hs, hs2⟩, h0, rfl, rfl, rfl, hq⟩ := hp
  obtain ⟨y0, y1, y2⟩ := id hS
  obtain ⟨s1, s2, s3, s4, s5, s6, s7⟩ := id hs
  have h36 := Nat.mul_le_mul (Nat.le_of_lt_succ s2) (Nat.le_of_lt_succ s4)
  obtain ⟨i1, i2, i3⟩ := ex_i q hq
  have hn := nn_lt (e := e) (d := if q / 4 = 5 then 0 else q / 4) s2 s4 s6
  have hl : q % 4 < 4 := Nat.mod_lt q (by decide)
  refine ma_walk (mo_X3_marks ms_X3_neighbour ms_X3_stepOf ms_X3_place) hV [] (fun F hF => ?_)
  simp only [tb_X3_marks, hF, in_no, in_push, in_ild, in_lld, in_ald, in_ist, in_ast, in_lst, in_inc, in_iii, in_idv, in_ldv, in_lll, in_lli, in_lil, in_ii, in_il, in_li, in_ll, in_dup, in_dp2, q_if1, q_if2, in_go, in_sw, ma_sw, in_rv, in_ri, in_rz, in_rl, in_get, in_put, in_puz, in_iar, in_bar, in_lar, in_aar, in_iaw, in_baw, in_law, in_len, in_cpy, in_s1, in_s2, in_s3, in_v1, in_v2, in_v3, in_v4, in_v5, in_v6, ma_bk, ma_gl, ma_sl, ma_nl, ma_wc, ma_wd, ma_nn, ma_en, List.mem_cons, List.not_mem_nil, or_false, or_true, true_or, false_or, true_and, and_true, false_and, and_false, if_true, if_false, forall_const, true_implies, false_implies, not_true_eq_false, not_false_eq_true, Classical.not_not, implies_true, and_self, Nat.add_zero, Nat.zero_add, eq_self, ne_eq, reduceCtorEq, Nat.reduceLT, Nat.reduceLeDiff, Nat.reduceEqDiff, Nat.reduceSub, Nat.reduceAdd, i10, i01, im10, Int32.reduceLT, Int32.reduceLE, ↓reduceIte, reduceIte, up_r, uL_r, cp_r, Int32.toInt_toInt64, Int64.reduceToInt, Int32.reduceToInt, ↓b1_or, b1_0, b1_1, lc_lt, lc_le, lc_gt, lc_ge, lc_eq, yx_0, yx_1, yx_2, yx_3, yx_4, yx_5, yx_6, yx_7, yx_8, yx_9, yx_10, yx_11, yx_12, yx_13, yx_14, yx_15, yx_16, yx_17, yx_18, yx_19, yx_20, yx_21, yx_22, yx_23, yx_24, yx_25, yx_26, yx_27, yx_28, yx_29, yx_30, yx_31, yx_32, yx_33, yx_34, yx_35, yx_36, yx_37, yx_38, yx_39, yx_40, yx_41, yx_42, yx_43, yx_44, yx_45, yx_46, yx_47, yx_48, yx_49, yx_50, yx_51, yx_52, yx_53, yx_54, yx_55, yx_56, yx_57, yx_58, yx_59, yx_60, yx_61, yx_62, yx_63, yx_64, yx_65, yx_66, yx_67, yx_68, rx_0, rx_1, rx_2, rx_3, rx_4, rx_5, rx_6, rx_7, rx_8, rx_9, rx_10, rx_11, rx_12, rx_13, rx_14, rx_15, rx_16, rx_17, rx_18, rx_19, rx_20, rx_21, rx_22, rx_23, rx_24, rx_25, rx_26, rx_27, rx_28, rx_29, rx_30, rx_31, rx_32, rx_33, rp_0, rp_1, rp_2, rp_3, rp_4, rp_5, rp_6, rp_7, rp_8, rs_0, rs_1, rs_2, rs_3, rs_4, re_0, re_1, re_2, re_3, re_4, re_5, rr_0, rr_1, rr_2, rr_3, rr_4, rk_0, rk_1, isP3, isP11, isP46, isP58, isS25, isS28, isS31, un_X3_neighbour, un_X3_stepOf, un_X3_place, y0, y2, m0, m1, m2, i3, i1, i2, z16, z2]
  try simp only [iteP, Classical.not_not]
  refine ⟨w, u, e, c, if q / 4 = 5 then 0 else q / 4, ⟨hS, rfl, rfl, rfl, ⟨s1, s2, s3, s4, s5, s6, by split <;> omega⟩, rfl, rfl⟩, ?_⟩
  rw [nbr4 (by omega)]
  unfold nk at h
  refine ⟨fun z => ?_, fun z => ⟨s, q, ⟨hS, rfl, h0, hs2, rfl, hq⟩, hS, ?_⟩⟩
  · by_cases c5 : q / 4 = 5
    · rw [if_pos c5, nn_0 s6] at z; omega
    · rw [if_neg c5] at z h
      rw [b1_f (fun q => q.1 z)] at h; exact h
  · have e0 : (nI (if q / 4 = 5 then s else s - 1) * 36 + nbr (-4) (nn w u e c (if q / 4 = 5 then 0 else q / 4))) * 4 + nI (q % 4) = nI (144 * (if q / 4 = 5 then s else s - 1) + 4 * nn w u e c (if q / 4 = 5 then 0 else q / 4) + q % 4) := by
      rw [nbr_n z, show (36 : Int32) = nI 36 from rfl, show (4 : Int32) = nI 4 from rfl, pk_mul, nI_add, pk_mul, nI_add]; congr 1; omega
    have hs9 : (if q / 4 = 5 then s else s - 1) < 13 := by split <;> omega
    rw [e0, a_cl (by omega), a_vi (by omega)]
    refine ⟨by omega, fun z2 => ?_, fun z2 => ?_⟩
    · by_cases c5 : q / 4 = 5
      · rw [if_pos c5] at h z2
        rw [if_pos c5, nn_0 s6] at z2
        rw [b1_f (fun q => q z2)] at h; exact h
      · rw [if_neg c5] at z h z2
        rw [if_neg c5] at z2
        rw [b1_f (fun q => q.2 z2)] at h; exact h
    · by_cases c5 : q / 4 = 5
      · rw [if_pos c5] at h z2
        rw [if_pos c5, nn_0 s6] at z2
        rw [b1_t (show ¬ rwv (M (k + 2)) s c (q % 4) = 0 from z2)] at h; exact h
      · rw [if_neg c5] at z h z2
        rw [if_neg c5] at z2
        rw [b1_t ⟨z, z2⟩] at h; exact h
theorem pv_X3_marks : ∀ as M L K, S_X3_marks as M L K → ma_rn (tb_X3_marks S_X3_neighbour S_X3_stepOf S_X3_place) 5 as M L K := by
  intro as M L K h
  unfold S_X3_marks at h
  split at h
  · obtain ⟨w, u, e, c, s, q, h⟩ := h; exact pw_X3_marks h.1 h.2
  · exact h.elim
def S_X3_put : ma_Cs := fun as M L K => match as with
  | [.ref k, .int ss, .int cc, .int ll, .int v, .int b] => ∃ (s : Nat) (c : Nat) (l : Nat), (isS k ∧ ss = nI s ∧ cc = nI c ∧ ll = nI l ∧ s < 13 ∧ c < 36 ∧ l < 4 ∧ (b = 0 ∨ b = 1)) ∧ (K none (ma_up (ma_up M (k + 1) (144 * s + 4 * c + l) v) (k + 2) (144 * s + 4 * c + l) b) L)
  | _ => False
theorem ms_X3_put : ma_ms S_X3_put := by
  intro as M L K K' hk h
  unfold S_X3_put at h ⊢
  split at h
  · obtain ⟨s, c, l, h⟩ := h
    exact ⟨s, c, l, h.1, hk _ _ _ h.2⟩
  · exact h.elim
theorem un_X3_put {k : Nat} {ss : Int32} {cc : Int32} {ll : Int32} {v : Int32} {b : Int32} {M : ZM} {L : ZL} {K : ma_Kt} : S_X3_put [.ref k, .int ss, .int cc, .int ll, .int v, .int b] M L K = (∃ (s : Nat) (c : Nat) (l : Nat), (isS k ∧ ss = nI s ∧ cc = nI c ∧ ll = nI l ∧ s < 13 ∧ c < 36 ∧ l < 4 ∧ (b = 0 ∨ b = 1)) ∧ (K none (ma_up (ma_up M (k + 1) (144 * s + 4 * c + l) v) (k + 2) (144 * s + 4 * c + l) b) L)) := rfl
theorem pw_X3_put {k : Nat} {ss : Int32} {cc : Int32} {ll : Int32} {v : Int32} {b : Int32} {s : Nat} {c : Nat} {l : Nat} {M : ZM} {L : ZL} {K : ma_Kt} (hp : isS k ∧ ss = nI s ∧ cc = nI c ∧ ll = nI l ∧ s < 13 ∧ c < 36 ∧ l < 4 ∧ (b = 0 ∨ b = 1)) (h : (K none (ma_up (ma_up M (k + 1) (144 * s + 4 * c + l) v) (k + 2) (144 * s + 4 * c + l) b) L)) : ma_rn (tb_X3_put S_X3_place) 6 [.ref k, .int ss, .int cc, .int ll, .int v, .int b] M L K := by
  refine ⟨Nat.le_of_ble_eq_true rfl, fun V hV => ?_⟩
  obtain ⟨hS, rfl, rfl, rfl, h1, h2, h3, h4⟩ := hp
  obtain ⟨y0, y1, y2⟩ := id hS
  have e0 : (nI s * 36 + nI c) * 4 + nI l = nI (144 * s + 4 * c + l) := by
    rw [show (36 : Int32) = nI 36 from rfl, show (4 : Int32) = nI 4 from rfl, pk_mul, nI_add, pk_mul, nI_add]; congr 1; omega
  refine ma_walk (mo_X3_put ms_X3_place) hV [] (fun F hF => ?_)
  simp only [tb_X3_put, hF, in_no, in_push, in_ild, in_lld, in_ald, in_ist, in_ast, in_lst, in_inc, in_iii, in_idv, in_ldv, in_lll, in_lli, in_lil, in_ii, in_il, in_li, in_ll, in_dup, in_dp2, q_if1, q_if2, in_go, in_sw, ma_sw, in_rv, in_ri, in_rz, in_rl, in_get, in_put, in_puz, in_iar, in_bar, in_lar, in_aar, in_iaw, in_baw, in_law, in_len, in_cpy, in_s1, in_s2, in_s3, in_v1, in_v2, in_v3, in_v4, in_v5, in_v6, ma_bk, ma_gl, ma_sl, ma_nl, ma_wc, ma_wd, ma_nn, ma_en, List.mem_cons, List.not_mem_nil, or_false, or_true, true_or, false_or, true_and, and_true, false_and, and_false, if_true, if_false, forall_const, true_implies, false_implies, not_true_eq_false, not_false_eq_true, Classical.not_not, implies_true, and_self, Nat.add_zero, Nat.zero_add, eq_self, ne_eq, reduceCtorEq, Nat.reduceLT, Nat.reduceLeDiff, Nat.reduceEqDiff, Nat.reduceSub, Nat.reduceAdd, i10, i01, im10, Int32.reduceLT, Int32.reduceLE, ↓reduceIte, reduceIte, up_r, uL_r, cp_r, Int32.toInt_toInt64, Int64.reduceToInt, Int32.reduceToInt, ↓b1_or, b1_0, b1_1, lc_lt, lc_le, lc_gt, lc_ge, lc_eq, yx_0, yx_1, yx_2, yx_3, yx_4, yx_5, yx_6, yx_7, yx_8, yx_9, yx_10, yx_11, yx_12, yx_13, yx_14, yx_15, yx_16, yx_17, yx_18, yx_19, yx_20, yx_21, yx_22, yx_23, yx_24, yx_25, yx_26, yx_27, yx_28, yx_29, yx_30, yx_31, yx_32, yx_33, yx_34, yx_35, yx_36, yx_37, yx_38, yx_39, yx_40, yx_41, yx_42, yx_43, yx_44, yx_45, yx_46, yx_47, yx_48, yx_49, yx_50, yx_51, yx_52, yx_53, yx_54, yx_55, yx_56, yx_57, yx_58, yx_59, yx_60, yx_61, yx_62, yx_63, yx_64, yx_65, yx_66, yx_67, yx_68, rx_0, rx_1, rx_2, rx_3, rx_4, rx_5, rx_6, rx_7, rx_8, rx_9, rx_10, rx_11, rx_12, rx_13, rx_14, rx_15, rx_16, rx_17, rx_18, rx_19, rx_20, rx_21, rx_22, rx_23, rx_24, rx_25, rx_26, rx_27, rx_28, rx_29, rx_30, rx_31, rx_32, rx_33, rp_0, rp_1, rp_2, rp_3, rp_4, rp_5, rp_6, rp_7, rp_8, rs_0, rs_1, rs_2, rs_3, rs_4, re_0, re_1, re_2, re_3, re_4, re_5, rr_0, rr_1, rr_2, rr_3, rr_4, rk_0, rk_1, isP3, isP11, isP46, isP58, isS25, isS28, isS31, un_X3_place, y0, y1, y2, hS, e0, h4]
  try simp only [iteP, Classical.not_not]
  rw [a_cl (by omega), a_vi (by omega)]
  exact ⟨by omega, by omega, h⟩
theorem pv_X3_put : ∀ as M L K, S_X3_put as M L K → ma_rn (tb_X3_put S_X3_place) 6 as M L K := by
  intro as M L K h
  unfold S_X3_put at h
  split at h
  · obtain ⟨s, c, l, h⟩ := h; exact pw_X3_put h.1 h.2
  · exact h.elim
