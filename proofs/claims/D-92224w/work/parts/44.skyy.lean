/-! a sky's numbers: names, slips (the model) -/
set_option maxRecDepth 100000
set_option maxHeartbeats 4000000
def isR (r : Nat) : Prop := r = 22 ∨ r = 23
theorem isR.y {r : Nat} (h : isR r) : YM r = (1, 1872, 0, fun _ => none) := by
  rcases h with rfl | rfl <;> rfl
def Sy (M : ZM) (w u e c s : Nat) : Prop := M 0 35 = nI w ∧ M 0 36 = nI u ∧ M 0 2 = nI e ∧ Sh w u e c 0 ∧ s < 13
def B24 (M : ZM) : Prop := ∀ i, M 24 i = 0 ∨ M 24 i = 1
theorem pl_e (s c l : Nat) : (144 : Int32) * nI s + 4 * nI c + nI l = nI (144 * s + 4 * c + l) := by
  rw [show (144 : Int32) = nI 144 from rfl, show (4 : Int32) = nI 4 from rfl, pk_mul, pk_mul, nI_add, nI_add]
def S_X5_named : ma_Cs := fun as M L K => match as with
  | [.ref k, .ref r, .int qq, .int ss, .int cc] => ∃ (w : Nat) (u : Nat) (e : Nat) (c : Nat) (s : Nat) (q : Nat), (k = 0 ∧ isR r ∧ Sy M w u e c s ∧ 0 < s ∧ ss = nI s ∧ cc = nI c ∧ qq = nI q ∧ q < 24) ∧ (K (some (.int (nv (M 1) w u e (rwv (M r) (s - 1)) (rwv (M r) s c) c q))) M L)
  | _ => False
theorem ms_X5_named : ma_ms S_X5_named := by
  intro as M L K K' hk h
  unfold S_X5_named at h ⊢
  split at h
  · obtain ⟨w, u, e, c, s, q, h⟩ := h
    exact ⟨w, u, e, c, s, q, h.1, hk _ _ _ h.2⟩
  · exact h.elim
theorem un_X5_named {k : Nat} {r : Nat} {qq : Int32} {ss : Int32} {cc : Int32} {M : ZM} {L : ZL} {K : ma_Kt} : S_X5_named [.ref k, .ref r, .int qq, .int ss, .int cc] M L K = (∃ (w : Nat) (u : Nat) (e : Nat) (c : Nat) (s : Nat) (q : Nat), (k = 0 ∧ isR r ∧ Sy M w u e c s ∧ 0 < s ∧ ss = nI s ∧ cc = nI c ∧ qq = nI q ∧ q < 24) ∧ (K (some (.int (nv (M 1) w u e (rwv (M r) (s - 1)) (rwv (M r) s c) c q))) M L)) := rfl
theorem pw_X5_named {k : Nat} {r : Nat} {qq : Int32} {ss : Int32} {cc : Int32} {w : Nat} {u : Nat} {e : Nat} {c : Nat} {s : Nat} {q : Nat} {M : ZM} {L : ZL} {K : ma_Kt} (hp : k = 0 ∧ isR r ∧ Sy M w u e c s ∧ 0 < s ∧ ss = nI s ∧ cc = nI c ∧ qq = nI q ∧ q < 24) (h : (K (some (.int (nv (M 1) w u e (rwv (M r) (s - 1)) (rwv (M r) s c) c q))) M L)) : ma_rn (tb_X5_named S_X5_place S_X5_next) 8 [.ref k, .ref r, .int qq, .int ss, .int cc] M L K := by
  refine ⟨Nat.le_of_ble_eq_true rfl, fun V hV => ?_⟩
  obtain ⟨rfl, hR, ⟨m0, m1, m2, hs, hs2⟩, h0, rfl, rfl, rfl, hq⟩ := hp
  have yr := hR.y
  obtain ⟨s1, s2, s3, s4, s5, s6, s7⟩ := id hs
  have h36 := Nat.mul_le_mul (Nat.le_of_lt_succ s2) (Nat.le_of_lt_succ s4)
  have i1 : nI q / 4 = nI (q / 4) := pk_div (d := 4) (by omega) (by omega) (by omega)
  have i2 : nI q - nI (q / 4) * 4 = nI (q % 4) := by rw [← i1]; exact pk_rem (d := 4) (by omega) (by omega) (by omega)
  have hn := nn_lt (e := e) (d := q / 4) s2 s4 s6
  have hl : q % 4 < 4 := Nat.mod_lt q (by decide)
  have l4 : vp_in (nI (q % 4)) 4 := vp_in_nI hl (by decide)
  have cl := a_cl (show q % 4 < 2147483648 by omega)
  have s11 : nI s - 1 = nI (s - 1) := pk_sub (b := 1) h0
  unfold nv at h
  have h45 : ¬ q / 4 = 5 → V 45 [some (.ref 0), some (.ref r), some (.int (nI q)), some (.int (nI s)), some (.int (nI c)), some (.int (nI (q % 4))), some (.int (nI (q / 4))), none] [.int (nbr (-1) (nn w u e c (q / 4)))] M L := by
    intro c5
    rw [if_neg c5] at h
    refine ma_walk (mo_X5_named ms_X5_place ms_X5_next) hV [] (fun F hF => ?_)
    simp only [tb_X5_named, hF, in_no, in_push, in_ild, in_lld, in_ald, in_ist, in_ast, in_lst, in_inc, in_iii, in_idv, in_ldv, in_lll, in_lli, in_lil, in_ii, in_il, in_li, in_ll, in_dup, in_dp2, q_if1, q_if2, in_go, in_sw, ma_sw, in_rv, in_ri, in_rz, in_rl, in_get, in_put, in_puz, in_iar, in_bar, in_lar, in_aar, in_iaw, in_baw, in_law, in_len, in_cpy, in_s1, in_s2, in_s3, in_v1, in_v2, in_v3, in_v4, in_v5, in_v6, ma_bk, ma_gl, ma_sl, ma_nl, ma_wc, ma_wd, ma_nn, ma_en, List.mem_cons, List.not_mem_nil, or_false, or_true, true_or, false_or, true_and, and_true, false_and, and_false, if_true, if_false, forall_const, true_implies, false_implies, not_true_eq_false, not_false_eq_true, Classical.not_not, implies_true, and_self, Nat.add_zero, Nat.zero_add, eq_self, ne_eq, reduceCtorEq, Nat.reduceLT, Nat.reduceLeDiff, Nat.reduceEqDiff, Nat.reduceSub, Nat.reduceAdd, i10, i01, im10, Int32.reduceLT, Int32.reduceLE, ↓reduceIte, reduceIte, up_r, uL_r, cp_r, Int32.toInt_toInt64, Int64.reduceToInt, Int32.reduceToInt, ↓b1_or, b1_0, b1_1, lc_lt, lc_le, lc_gt, lc_ge, lc_eq, ym_0, ym_1, ym_2, ym_3, ym_4, ym_5, ym_6, ym_7, ym_8, ym_9, ym_10, ym_11, ym_12, ym_13, ym_14, ym_15, ym_16, ym_17, ym_18, ym_19, ym_20, ym_21, ym_22, ym_23, ym_24, ym_25, ym_26, ym_27, ym_28, ym_29, ym_30, rm__0, rm__1, rm__2, rm__3, rm__4, rm__5, rm__6, rm__7, rm__8, rm__9, rm__10, rm__11, rm__12, rm__13, rm__14, rm__15, rm__16, rm__17, rm__18, rm__19, rm__20, rm__21, rm__22, rm__23, rm__24, rm__25, rm__26, rm__27, rm__28, rm__29, rm__30, rm__31, rm__32, rm__33, rm__34, rm__35, rm__36, rm__37, rm__38, rm__39, rm__40, rm__41, rm__42, rm__43, rm__44, rm__45, un_X5_place, un_X5_next, yr, l4, cl, s11]
    try simp only [iteP, Classical.not_not, b1_0, b1_1]
    rw [nbr1 (by omega)]
    refine ⟨fun z => ?_, fun z => ?_⟩
    · rw [if_neg z] at h
      rw [nbr_n z, pl_e, a_cl (by omega), a_vi (by omega)]
      exact ⟨by omega, h⟩
    · rw [if_pos (Classical.not_not.1 z)] at h; exact h
  refine ma_walk (mo_X5_named ms_X5_place ms_X5_next) hV [45] (fun F hF => ?_)
  simp only [tb_X5_named, hF, in_no, in_push, in_ild, in_lld, in_ald, in_ist, in_ast, in_lst, in_inc, in_iii, in_idv, in_ldv, in_lll, in_lli, in_lil, in_ii, in_il, in_li, in_ll, in_dup, in_dp2, q_if1, q_if2, in_go, in_sw, ma_sw, in_rv, in_ri, in_rz, in_rl, in_get, in_put, in_puz, in_iar, in_bar, in_lar, in_aar, in_iaw, in_baw, in_law, in_len, in_cpy, in_s1, in_s2, in_s3, in_v1, in_v2, in_v3, in_v4, in_v5, in_v6, ma_bk, ma_gl, ma_sl, ma_nl, ma_wc, ma_wd, ma_nn, ma_en, List.mem_cons, List.not_mem_nil, or_false, or_true, true_or, false_or, true_and, and_true, false_and, and_false, if_true, if_false, forall_const, true_implies, false_implies, not_true_eq_false, not_false_eq_true, Classical.not_not, implies_true, and_self, Nat.add_zero, Nat.zero_add, eq_self, ne_eq, reduceCtorEq, Nat.reduceLT, Nat.reduceLeDiff, Nat.reduceEqDiff, Nat.reduceSub, Nat.reduceAdd, i10, i01, im10, Int32.reduceLT, Int32.reduceLE, ↓reduceIte, reduceIte, up_r, uL_r, cp_r, Int32.toInt_toInt64, Int64.reduceToInt, Int32.reduceToInt, ↓b1_or, b1_0, b1_1, lc_lt, lc_le, lc_gt, lc_ge, lc_eq, ym_0, ym_1, ym_2, ym_3, ym_4, ym_5, ym_6, ym_7, ym_8, ym_9, ym_10, ym_11, ym_12, ym_13, ym_14, ym_15, ym_16, ym_17, ym_18, ym_19, ym_20, ym_21, ym_22, ym_23, ym_24, ym_25, ym_26, ym_27, ym_28, ym_29, ym_30, rm__0, rm__1, rm__2, rm__3, rm__4, rm__5, rm__6, rm__7, rm__8, rm__9, rm__10, rm__11, rm__12, rm__13, rm__14, rm__15, rm__16, rm__17, rm__18, rm__19, rm__20, rm__21, rm__22, rm__23, rm__24, rm__25, rm__26, rm__27, rm__28, rm__29, rm__30, rm__31, rm__32, rm__33, rm__34, rm__35, rm__36, rm__37, rm__38, rm__39, rm__40, rm__41, rm__42, rm__43, rm__44, rm__45, un_X5_place, un_X5_next, yr, i1, i2, z4, m0, m1, m2]
  try simp only [iteP, Classical.not_not, b1_0, b1_1]
  rw [show (nI (q / 4) = (5 : Int32)) = (q / 4 = 5) from a_eq (b := 5) (by omega) (by omega), a_eq0 (by omega)]
  refine ⟨fun z => ?_, fun z => ⟨fun z2 => ?_, fun z2 => ⟨w, u, e, c, q / 4, ⟨rfl, rfl, rfl, ⟨s1, s2, s3, s4, s5, s6, by omega⟩, rfl, rfl⟩, h45 z⟩⟩⟩
  · rw [if_pos z] at h
    rw [pl_e, a_cl (by omega), a_vi (by omega)]
    exact ⟨by omega, h⟩
  · have h45 := h45 z
    rw [z2, nn_0 s6, nbr_n (by omega)] at h45
    rw [z2]; exact h45
theorem pv_X5_named : ∀ as M L K, S_X5_named as M L K → ma_rn (tb_X5_named S_X5_place S_X5_next) 8 as M L K := by
  intro as M L K h
  unfold S_X5_named at h
  split at h
  · obtain ⟨w, u, e, c, s, q, h⟩ := h; exact pw_X5_named h.1 h.2
  · exact h.elim
def S_X5_namedMarked : ma_Cs := fun as M L K => match as with
  | [.ref k, .int qq, .int ss, .int cc] => ∃ (w : Nat) (u : Nat) (e : Nat) (c : Nat) (s : Nat) (q : Nat), (k = 0 ∧ Sy M w u e c s ∧ 0 < s ∧ ss = nI s ∧ cc = nI c ∧ qq = nI q ∧ q < 24 ∧ B24 M) ∧ (K (some (.int (b1 (nk w u e (rwv (M 24) (s - 1)) (rwv (M 24) s c) c q)))) M L)
  | _ => False
theorem ms_X5_namedMarked : ma_ms S_X5_namedMarked := by
  intro as M L K K' hk h
  unfold S_X5_namedMarked at h ⊢
  split at h
  · obtain ⟨w, u, e, c, s, q, h⟩ := h
    exact ⟨w, u, e, c, s, q, h.1, hk _ _ _ h.2⟩
  · exact h.elim
theorem un_X5_namedMarked {k : Nat} {qq : Int32} {ss : Int32} {cc : Int32} {M : ZM} {L : ZL} {K : ma_Kt} : S_X5_namedMarked [.ref k, .int qq, .int ss, .int cc] M L K = (∃ (w : Nat) (u : Nat) (e : Nat) (c : Nat) (s : Nat) (q : Nat), (k = 0 ∧ Sy M w u e c s ∧ 0 < s ∧ ss = nI s ∧ cc = nI c ∧ qq = nI q ∧ q < 24 ∧ B24 M) ∧ (K (some (.int (b1 (nk w u e (rwv (M 24) (s - 1)) (rwv (M 24) s c) c q)))) M L)) := rfl
theorem pw_X5_namedMarked {k : Nat} {qq : Int32} {ss : Int32} {cc : Int32} {w : Nat} {u : Nat} {e : Nat} {c : Nat} {s : Nat} {q : Nat} {M : ZM} {L : ZL} {K : ma_Kt} (hp : k = 0 ∧ Sy M w u e c s ∧ 0 < s ∧ ss = nI s ∧ cc = nI c ∧ qq = nI q ∧ q < 24 ∧ B24 M) (h : (K (some (.int (b1 (nk w u e (rwv (M 24) (s - 1)) (rwv (M 24) s c) c q)))) M L)) : ma_rn (tb_X5_namedMarked S_X5_place S_X5_next) 7 [.ref k, .int qq, .int ss, .int cc] M L K := by
  refine ⟨Nat.le_of_ble_eq_true rfl, fun V hV => ?_⟩
  obtain ⟨rfl, ⟨m0, m1, m2, hs, hs2⟩, h0, rfl, rfl, rfl, hq, hB⟩ := hp
  obtain ⟨s1, s2, s3, s4, s5, s6, s7⟩ := id hs
  have h36 := Nat.mul_le_mul (Nat.le_of_lt_succ s2) (Nat.le_of_lt_succ s4)
  have i1 : nI q / 4 = nI (q / 4) := pk_div (d := 4) (by omega) (by omega) (by omega)
  have i2 : nI q - nI (q / 4) * 4 = nI (q % 4) := by rw [← i1]; exact pk_rem (d := 4) (by omega) (by omega) (by omega)
  have hn := nn_lt (e := e) (d := q / 4) s2 s4 s6
  have hl : q % 4 < 4 := Nat.mod_lt q (by decide)
  have s11 : nI s - 1 = nI (s - 1) := pk_sub (b := 1) h0
  unfold nk at h
  have h45 : ¬ q / 4 = 5 → V 45 [some (.ref 0), some (.int (nI q)), some (.int (nI s)), some (.int (nI c)), some (.int (nI (q % 4))), some (.int (nI (q / 4))), none] [.int (nbr (-1) (nn w u e c (q / 4)))] M L := by
    intro c5
    rw [if_neg c5] at h
    refine ma_walk (mo_X5_namedMarked ms_X5_place ms_X5_next) hV [] (fun F hF => ?_)
    simp only [tb_X5_namedMarked, hF, in_no, in_push, in_ild, in_lld, in_ald, in_ist, in_ast, in_lst, in_inc, in_iii, in_idv, in_ldv, in_lll, in_lli, in_lil, in_ii, in_il, in_li, in_ll, in_dup, in_dp2, q_if1, q_if2, in_go, in_sw, ma_sw, in_rv, in_ri, in_rz, in_rl, in_get, in_put, in_puz, in_iar, in_bar, in_lar, in_aar, in_iaw, in_baw, in_law, in_len, in_cpy, in_s1, in_s2, in_s3, in_v1, in_v2, in_v3, in_v4, in_v5, in_v6, ma_bk, ma_gl, ma_sl, ma_nl, ma_wc, ma_wd, ma_nn, ma_en, List.mem_cons, List.not_mem_nil, or_false, or_true, true_or, false_or, true_and, and_true, false_and, and_false, if_true, if_false, forall_const, true_implies, false_implies, not_true_eq_false, not_false_eq_true, Classical.not_not, implies_true, and_self, Nat.add_zero, Nat.zero_add, eq_self, ne_eq, reduceCtorEq, Nat.reduceLT, Nat.reduceLeDiff, Nat.reduceEqDiff, Nat.reduceSub, Nat.reduceAdd, i10, i01, im10, Int32.reduceLT, Int32.reduceLE, ↓reduceIte, reduceIte, up_r, uL_r, cp_r, Int32.toInt_toInt64, Int64.reduceToInt, Int32.reduceToInt, ↓b1_or, b1_0, b1_1, lc_lt, lc_le, lc_gt, lc_ge, lc_eq, ym_0, ym_1, ym_2, ym_3, ym_4, ym_5, ym_6, ym_7, ym_8, ym_9, ym_10, ym_11, ym_12, ym_13, ym_14, ym_15, ym_16, ym_17, ym_18, ym_19, ym_20, ym_21, ym_22, ym_23, ym_24, ym_25, ym_26, ym_27, ym_28, ym_29, ym_30, rm__0, rm__1, rm__2, rm__3, rm__4, rm__5, rm__6, rm__7, rm__8, rm__9, rm__10, rm__11, rm__12, rm__13, rm__14, rm__15, rm__16, rm__17, rm__18, rm__19, rm__20, rm__21, rm__22, rm__23, rm__24, rm__25, rm__26, rm__27, rm__28, rm__29, rm__30, rm__31, rm__32, rm__33, rm__34, rm__35, rm__36, rm__37, rm__38, rm__39, rm__40, rm__41, rm__42, rm__43, rm__44, rm__45, un_X5_place, un_X5_next, s11]
    try simp only [iteP, Classical.not_not, b1_0, b1_1]
    refine ⟨fun z => ?_, fun z => ?_⟩
    · have z : nn w u e c (q / 4) = 99 := Classical.byContradiction fun z3 => by
        rw [nbr_n z3] at z; exact absurd z (nI_pos (by omega))
      rw [b1_f (fun y => y.1 z)] at h; exact h
    · have z : ¬ nn w u e c (q / 4) = 99 := fun z3 => by
        rw [z3] at z; exact z (by decide)
      rw [nbr_n z, pl_e, a_cl (by omega), a_vi (by omega)]
      refine ⟨by omega, fun z2 => ?_, fun z2 => ?_⟩
      · rw [b1_f (fun y => y.2 z2)] at h; exact h
      · rw [b1_t ⟨z, z2⟩] at h; exact h
  refine ma_walk (mo_X5_namedMarked ms_X5_place ms_X5_next) hV [45] (fun F hF => ?_)
  simp only [tb_X5_namedMarked, hF, in_no, in_push, in_ild, in_lld, in_ald, in_ist, in_ast, in_lst, in_inc, in_iii, in_idv, in_ldv, in_lll, in_lli, in_lil, in_ii, in_il, in_li, in_ll, in_dup, in_dp2, q_if1, q_if2, in_go, in_sw, ma_sw, in_rv, in_ri, in_rz, in_rl, in_get, in_put, in_puz, in_iar, in_bar, in_lar, in_aar, in_iaw, in_baw, in_law, in_len, in_cpy, in_s1, in_s2, in_s3, in_v1, in_v2, in_v3, in_v4, in_v5, in_v6, ma_bk, ma_gl, ma_sl, ma_nl, ma_wc, ma_wd, ma_nn, ma_en, List.mem_cons, List.not_mem_nil, or_false, or_true, true_or, false_or, true_and, and_true, false_and, and_false, if_true, if_false, forall_const, true_implies, false_implies, not_true_eq_false, not_false_eq_true, Classical.not_not, implies_true, and_self, Nat.add_zero, Nat.zero_add, eq_self, ne_eq, reduceCtorEq, Nat.reduceLT, Nat.reduceLeDiff, Nat.reduceEqDiff, Nat.reduceSub, Nat.reduceAdd, i10, i01, im10, Int32.reduceLT, Int32.reduceLE, ↓reduceIte, reduceIte, up_r, uL_r, cp_r, Int32.toInt_toInt64, Int64.reduceToInt, Int32.reduceToInt, ↓b1_or, b1_0, b1_1, lc_lt, lc_le, lc_gt, lc_ge, lc_eq, ym_0, ym_1, ym_2, ym_3, ym_4, ym_5, ym_6, ym_7, ym_8, ym_9, ym_10, ym_11, ym_12, ym_13, ym_14, ym_15, ym_16, ym_17, ym_18, ym_19, ym_20, ym_21, ym_22, ym_23, ym_24, ym_25, ym_26, ym_27, ym_28, ym_29, ym_30, rm__0, rm__1, rm__2, rm__3, rm__4, rm__5, rm__6, rm__7, rm__8, rm__9, rm__10, rm__11, rm__12, rm__13, rm__14, rm__15, rm__16, rm__17, rm__18, rm__19, rm__20, rm__21, rm__22, rm__23, rm__24, rm__25, rm__26, rm__27, rm__28, rm__29, rm__30, rm__31, rm__32, rm__33, rm__34, rm__35, rm__36, rm__37, rm__38, rm__39, rm__40, rm__41, rm__42, rm__43, rm__44, rm__45, un_X5_place, un_X5_next, i1, i2, z4, m0, m1, m2]
  try simp only [iteP, Classical.not_not, b1_0, b1_1]
  rw [show (nI (q / 4) = (5 : Int32)) = (q / 4 = 5) from a_eq (b := 5) (by omega) (by omega), a_eq0 (by omega)]
  refine ⟨fun z => ?_, fun z => ⟨fun z2 => ?_, fun z2 => ⟨w, u, e, c, q / 4, ⟨rfl, rfl, rfl, ⟨s1, s2, s3, s4, s5, s6, by omega⟩, rfl, rfl⟩, h45 z⟩⟩⟩
  · rw [if_pos z] at h
    rw [pl_e, a_cl (by omega), a_vi (by omega)]
    refine ⟨by omega, hB _, ?_⟩
    rcases hB (144 * s + 4 * c + q % 4) with y | y
    · rw [b1_f (fun z3 => z3 y)] at h; rw [y]; exact h
    · rw [b1_t (show ¬ rwv (M 24) s c (q % 4) = 0 from fun z3 => by rw [show rwv (M 24) s c (q % 4) = 1 from y] at z3; exact absurd z3 (by decide))] at h; rw [y]; exact h
  · have h45 := h45 z
    rw [z2, nn_0 s6, nbr_n (by omega)] at h45
    rw [z2]; exact h45
theorem pv_X5_namedMarked : ∀ as M L K, S_X5_namedMarked as M L K → ma_rn (tb_X5_namedMarked S_X5_place S_X5_next) 7 as M L K := by
  intro as M L K h
  unfold S_X5_namedMarked at h
  split at h
  · obtain ⟨w, u, e, c, s, q, h⟩ := h; exact pw_X5_namedMarked h.1 h.2
  · exact h.elim
theorem sv_Y {v a : Int32} (hv : -1000000000 ≤ v.toInt ∧ v.toInt ≤ 1000000000) (ha : -1000000 ≤ a.toInt ∧ a.toInt ≤ 1000000) : (if 1000000000 < abL (v + a).toInt64 then (2000000000 : Int32) else v + a) = sv v a := by
  have e1 : (v + a).toInt = v.toInt + a.toInt := i_add (by omega) (by omega)
  have e2 : (1000000000 < abL (v + a).toInt64) = (1000000000 < (v.toInt + a.toInt).natAbs) := by
    rw [Int64.lt_iff_toInt_lt, abL, l_abs (by rw [Int32.toInt_toInt64]; omega), Int32.toInt_toInt64, e1, show (1000000000 : Int64).toInt = 1000000000 from rfl]; exact propext (by omega)
  unfold sv
  by_cases c : 1000000000 < (v.toInt + a.toInt).natAbs
  · rw [if_pos c, if_pos (by rw [e2]; exact c)]
  · rw [if_neg c, if_neg (by rw [e2]; exact c)]
    apply i_ext
    rw [e1, ofI (by omega) (by omega)]
theorem sv_b {v a : Int32} : sv v a = 2000000000 ∨ (-1000000000 ≤ (sv v a).toInt ∧ (sv v a).toInt ≤ 1000000000) := by
  unfold sv
  split
  · exact Or.inl rfl
  · right; rw [ofI (by omega) (by omega)]; omega
theorem sl_b {f1 f2 f3 f4 : Nat → Int32} {S : Nat → Bool} {s c l : Nat} : ∀ n k v, (v = 2000000000 ∨ (-1000000000 ≤ v.toInt ∧ v.toInt ≤ 1000000000)) → sl f1 f2 f3 f4 S s c l n k v = 2000000000 ∨ (-1000000000 ≤ (sl f1 f2 f3 f4 S s c l n k v).toInt ∧ (sl f1 f2 f3 f4 S s c l n k v).toInt ≤ 1000000000)
  | 0, _, v, h => h
  | n + 1, k, v, h => by
    rw [sl]
    refine sl_b n (k + 1) _ ?_
    split
    · exact sv_b
    · exact h
def S_X5_slipped : ma_Cs := fun as M L K => match as with
  | [.ref k, .int v, .int ss, .int cc, .int ll, .int set] => ∃ (s : Nat) (c : Nat) (l : Nat) (n : Nat) (S : Nat → Bool), (k = 0 ∧ ss = nI s ∧ cc = nI c ∧ ll = nI l ∧ M 0 19 = nI n ∧ n ≤ 12 ∧ (∀ i, i < n → (S i = true ↔ (set >>> (nI i &&& 31)) &&& 1 = 1)) ∧ (∀ i, i < n → -1000000 ≤ (M 16 i).toInt ∧ (M 16 i).toInt ≤ 1000000) ∧ (v = 2000000000 ∨ (-1000000000 ≤ v.toInt ∧ v.toInt ≤ 1000000000))) ∧ (K (some (.int (sl (M 13) (M 14) (M 15) (M 16) S s c l n 0 v))) M L)
  | _ => False
theorem ms_X5_slipped : ma_ms S_X5_slipped := by
  intro as M L K K' hk h
  unfold S_X5_slipped at h ⊢
  split at h
  · obtain ⟨s, c, l, n, S, h⟩ := h
    exact ⟨s, c, l, n, S, h.1, hk _ _ _ h.2⟩
  · exact h.elim
theorem un_X5_slipped {k : Nat} {v : Int32} {ss : Int32} {cc : Int32} {ll : Int32} {set : Int32} {M : ZM} {L : ZL} {K : ma_Kt} : S_X5_slipped [.ref k, .int v, .int ss, .int cc, .int ll, .int set] M L K = (∃ (s : Nat) (c : Nat) (l : Nat) (n : Nat) (S : Nat → Bool), (k = 0 ∧ ss = nI s ∧ cc = nI c ∧ ll = nI l ∧ M 0 19 = nI n ∧ n ≤ 12 ∧ (∀ i, i < n → (S i = true ↔ (set >>> (nI i &&& 31)) &&& 1 = 1)) ∧ (∀ i, i < n → -1000000 ≤ (M 16 i).toInt ∧ (M 16 i).toInt ≤ 1000000) ∧ (v = 2000000000 ∨ (-1000000000 ≤ v.toInt ∧ v.toInt ≤ 1000000000))) ∧ (K (some (.int (sl (M 13) (M 14) (M 15) (M 16) S s c l n 0 v))) M L)) := rfl
theorem pw_X5_slipped {k : Nat} {v : Int32} {ss : Int32} {cc : Int32} {ll : Int32} {set : Int32} {s : Nat} {c : Nat} {l : Nat} {n : Nat} {S : Nat → Bool} {M : ZM} {L : ZL} {K : ma_Kt} (hp : k = 0 ∧ ss = nI s ∧ cc = nI c ∧ ll = nI l ∧ M 0 19 = nI n ∧ n ≤ 12 ∧ (∀ i, i < n → (S i = true ↔ (set >>> (nI i &&& 31)) &&& 1 = 1)) ∧ (∀ i, i < n → -1000000 ≤ (M 16 i).toInt ∧ (M 16 i).toInt ≤ 1000000) ∧ (v = 2000000000 ∨ (-1000000000 ≤ v.toInt ∧ v.toInt ≤ 1000000000))) (h : (K (some (.int (sl (M 13) (M 14) (M 15) (M 16) S s c l n 0 v))) M L)) : ma_rn (tb_X5_slipped S_X5_size) 8 [.ref k, .int v, .int ss, .int cc, .int ll, .int set] M L K := by
  refine ⟨Nat.le_of_ble_eq_true rfl, fun V hV => ?_⟩
  obtain ⟨rfl, rfl, rfl, rfl, m0, hn, hw, ha, hv⟩ := hp
  have lp : ∀ m j x, j + m = n → (x = 2000000000 ∨ (-1000000000 ≤ x.toInt ∧ x.toInt ≤ 1000000000)) → K (some (.int (sl (M 13) (M 14) (M 15) (M 16) S s c l m j x))) M L → V 6 [some (.ref 0), some (.int v), some (.int (nI s)), some (.int (nI c)), some (.int (nI l)), some (.int set), some (.int x), some (.int (nI j))] [] M L := by
    intro m
    induction m with
    | zero =>
      intro j x e1 hx h
      refine ma_walk (mo_X5_slipped ms_X5_size) hV [6] (fun F hF => ?_)
      simp only [tb_X5_slipped, hF, in_no, in_push, in_ild, in_lld, in_ald, in_ist, in_ast, in_lst, in_inc, in_iii, in_idv, in_ldv, in_lll, in_lli, in_lil, in_ii, in_il, in_li, in_ll, in_dup, in_dp2, q_if1, q_if2, in_go, in_sw, ma_sw, in_rv, in_ri, in_rz, in_rl, in_get, in_put, in_puz, in_iar, in_bar, in_lar, in_aar, in_iaw, in_baw, in_law, in_len, in_cpy, in_s1, in_s2, in_s3, in_v1, in_v2, in_v3, in_v4, in_v5, in_v6, ma_bk, ma_gl, ma_sl, ma_nl, ma_wc, ma_wd, ma_nn, ma_en, List.mem_cons, List.not_mem_nil, or_false, or_true, true_or, false_or, true_and, and_true, false_and, and_false, if_true, if_false, forall_const, true_implies, false_implies, not_true_eq_false, not_false_eq_true, Classical.not_not, implies_true, and_self, Nat.add_zero, Nat.zero_add, eq_self, ne_eq, reduceCtorEq, Nat.reduceLT, Nat.reduceLeDiff, Nat.reduceEqDiff, Nat.reduceSub, Nat.reduceAdd, i10, i01, im10, Int32.reduceLT, Int32.reduceLE, ↓reduceIte, reduceIte, up_r, uL_r, cp_r, Int32.toInt_toInt64, Int64.reduceToInt, Int32.reduceToInt, ↓b1_or, b1_0, b1_1, lc_lt, lc_le, lc_gt, lc_ge, lc_eq, ym_0, ym_1, ym_2, ym_3, ym_4, ym_5, ym_6, ym_7, ym_8, ym_9, ym_10, ym_11, ym_12, ym_13, ym_14, ym_15, ym_16, ym_17, ym_18, ym_19, ym_20, ym_21, ym_22, ym_23, ym_24, ym_25, ym_26, ym_27, ym_28, ym_29, ym_30, rm__0, rm__1, rm__2, rm__3, rm__4, rm__5, rm__6, rm__7, rm__8, rm__9, rm__10, rm__11, rm__12, rm__13, rm__14, rm__15, rm__16, rm__17, rm__18, rm__19, rm__20, rm__21, rm__22, rm__23, rm__24, rm__25, rm__26, rm__27, rm__28, rm__29, rm__30, rm__31, rm__32, rm__33, rm__34, rm__35, rm__36, rm__37, rm__38, rm__39, rm__40, rm__41, rm__42, rm__43, rm__44, rm__45, un_X5_size, m0]
      try simp only [iteP, Classical.not_not, b1_0, b1_1]
      rw [a_le (by omega) (by omega)]
      exact ⟨fun _ => h, fun z => absurd (by omega) z⟩
    | succ m ih =>
      intro j x e1 hx h
      rw [sl] at h
      have hj : vp_in (nI j) 12 := vp_in_nI (by omega) (by decide)
      have cj := a_cl (show j < 2147483648 by omega)
      refine ma_walk (mo_X5_slipped ms_X5_size) hV [6] (fun F hF => ?_)
      simp only [tb_X5_slipped, hF, in_no, in_push, in_ild, in_lld, in_ald, in_ist, in_ast, in_lst, in_inc, in_iii, in_idv, in_ldv, in_lll, in_lli, in_lil, in_ii, in_il, in_li, in_ll, in_dup, in_dp2, q_if1, q_if2, in_go, in_sw, ma_sw, in_rv, in_ri, in_rz, in_rl, in_get, in_put, in_puz, in_iar, in_bar, in_lar, in_aar, in_iaw, in_baw, in_law, in_len, in_cpy, in_s1, in_s2, in_s3, in_v1, in_v2, in_v3, in_v4, in_v5, in_v6, ma_bk, ma_gl, ma_sl, ma_nl, ma_wc, ma_wd, ma_nn, ma_en, List.mem_cons, List.not_mem_nil, or_false, or_true, true_or, false_or, true_and, and_true, false_and, and_false, if_true, if_false, forall_const, true_implies, false_implies, not_true_eq_false, not_false_eq_true, Classical.not_not, implies_true, and_self, Nat.add_zero, Nat.zero_add, eq_self, ne_eq, reduceCtorEq, Nat.reduceLT, Nat.reduceLeDiff, Nat.reduceEqDiff, Nat.reduceSub, Nat.reduceAdd, i10, i01, im10, Int32.reduceLT, Int32.reduceLE, ↓reduceIte, reduceIte, up_r, uL_r, cp_r, Int32.toInt_toInt64, Int64.reduceToInt, Int32.reduceToInt, ↓b1_or, b1_0, b1_1, lc_lt, lc_le, lc_gt, lc_ge, lc_eq, ym_0, ym_1, ym_2, ym_3, ym_4, ym_5, ym_6, ym_7, ym_8, ym_9, ym_10, ym_11, ym_12, ym_13, ym_14, ym_15, ym_16, ym_17, ym_18, ym_19, ym_20, ym_21, ym_22, ym_23, ym_24, ym_25, ym_26, ym_27, ym_28, ym_29, ym_30, rm__0, rm__1, rm__2, rm__3, rm__4, rm__5, rm__6, rm__7, rm__8, rm__9, rm__10, rm__11, rm__12, rm__13, rm__14, rm__15, rm__16, rm__17, rm__18, rm__19, rm__20, rm__21, rm__22, rm__23, rm__24, rm__25, rm__26, rm__27, rm__28, rm__29, rm__30, rm__31, rm__32, rm__33, rm__34, rm__35, rm__36, rm__37, rm__38, rm__39, rm__40, rm__41, rm__42, rm__43, rm__44, rm__45, un_X5_size, m0, hj, cj, abL_d]
      try simp only [iteP, Classical.not_not, b1_0, b1_1]
      rw [a_le (by omega) (by omega)]
      refine ⟨fun z => absurd z (by omega), fun _ => ?_⟩
      have hSj := hw j (by omega)
      simp only [n64, nI_1, Classical.not_not]
      have no : ¬ (S j = true ∧ M 13 j = nI s ∧ M 14 j = nI c ∧ M 15 j = nI l ∧ ¬ x = 2000000000) → V 6 [some (.ref 0), some (.int v), some (.int (nI s)), some (.int (nI c)), some (.int (nI l)), some (.int set), some (.int x), some (.int (nI (j + 1)))] [] M L := by
        intro z
        rw [if_neg z] at h
        exact ih (j + 1) x (by omega) hx h
      refine ⟨fun z => ⟨fun z2 => ⟨fun z3 => ⟨fun z4 => ⟨fun z5 => no (fun q => q.2.2.2.2 z5), fun z5 => ?_⟩, fun z4 => no (fun q => z4 q.2.2.2.1)⟩, fun z3 => no (fun q => z3 q.2.2.1)⟩, fun z2 => no (fun q => z2 q.2.1)⟩, fun z => no (fun q => z (hSj.1 q.1))⟩
      rcases hx with hx | hx
      · exact absurd hx z5
      rw [if_pos ⟨hSj.2 z, z2, z3, z4, z5⟩] at h
      have hs := sv_Y hx (ha j (by omega))
      refine ⟨fun y => ?_, fun y => ?_⟩
      · rw [if_neg y] at hs
        rw [hs]; exact ih (j + 1) _ (by omega) sv_b h
      · rw [if_pos y] at hs
        rw [hs]; exact ih (j + 1) _ (by omega) sv_b h
  refine ma_walk (mo_X5_slipped ms_X5_size) hV [6] (fun F hF => ?_)
  simp only [tb_X5_slipped, hF, in_no, in_push, in_ild, in_lld, in_ald, in_ist, in_ast, in_lst, in_inc, in_iii, in_idv, in_ldv, in_lll, in_lli, in_lil, in_ii, in_il, in_li, in_ll, in_dup, in_dp2, q_if1, q_if2, in_go, in_sw, ma_sw, in_rv, in_ri, in_rz, in_rl, in_get, in_put, in_puz, in_iar, in_bar, in_lar, in_aar, in_iaw, in_baw, in_law, in_len, in_cpy, in_s1, in_s2, in_s3, in_v1, in_v2, in_v3, in_v4, in_v5, in_v6, ma_bk, ma_gl, ma_sl, ma_nl, ma_wc, ma_wd, ma_nn, ma_en, List.mem_cons, List.not_mem_nil, or_false, or_true, true_or, false_or, true_and, and_true, false_and, and_false, if_true, if_false, forall_const, true_implies, false_implies, not_true_eq_false, not_false_eq_true, Classical.not_not, implies_true, and_self, Nat.add_zero, Nat.zero_add, eq_self, ne_eq, reduceCtorEq, Nat.reduceLT, Nat.reduceLeDiff, Nat.reduceEqDiff, Nat.reduceSub, Nat.reduceAdd, i10, i01, im10, Int32.reduceLT, Int32.reduceLE, ↓reduceIte, reduceIte, up_r, uL_r, cp_r, Int32.toInt_toInt64, Int64.reduceToInt, Int32.reduceToInt, ↓b1_or, b1_0, b1_1, lc_lt, lc_le, lc_gt, lc_ge, lc_eq, ym_0, ym_1, ym_2, ym_3, ym_4, ym_5, ym_6, ym_7, ym_8, ym_9, ym_10, ym_11, ym_12, ym_13, ym_14, ym_15, ym_16, ym_17, ym_18, ym_19, ym_20, ym_21, ym_22, ym_23, ym_24, ym_25, ym_26, ym_27, ym_28, ym_29, ym_30, rm__0, rm__1, rm__2, rm__3, rm__4, rm__5, rm__6, rm__7, rm__8, rm__9, rm__10, rm__11, rm__12, rm__13, rm__14, rm__15, rm__16, rm__17, rm__18, rm__19, rm__20, rm__21, rm__22, rm__23, rm__24, rm__25, rm__26, rm__27, rm__28, rm__29, rm__30, rm__31, rm__32, rm__33, rm__34, rm__35, rm__36, rm__37, rm__38, rm__39, rm__40, rm__41, rm__42, rm__43, rm__44, rm__45, un_X5_size]
  try simp only [iteP, Classical.not_not, b1_0, b1_1]
  exact lp n 0 v (by omega) hv h
theorem pv_X5_slipped : ∀ as M L K, S_X5_slipped as M L K → ma_rn (tb_X5_slipped S_X5_size) 8 as M L K := by
  intro as M L K h
  unfold S_X5_slipped at h
  split at h
  · obtain ⟨s, c, l, n, S, h⟩ := h; exact pw_X5_slipped h.1 h.2
  · exact h.elim
