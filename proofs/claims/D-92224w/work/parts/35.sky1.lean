/-! neighbours; what fills a gap -/
set_option maxRecDepth 100000
set_option maxHeartbeats 4000000
def sg (s : Nat) : Int32 := if s = 1 then 1 else if s = 2 then -1 else 0
def ot (w a s : Nat) : Bool := (s == 1 && a + 1 == w) || (s == 2 && a == 0)
def stp (w a s : Nat) : Nat := if s = 1 then (a + 1) % w else if s = 2 then (a + w - 1) % w else a
theorem ax_ : ∀ w : Fin 7, ∀ a : Fin 7, ∀ s : Fin 3, a.val < w.val → (((nI a.val + sg s.val < 0 ∨ nI w.val ≤ nI a.val + sg s.val) ↔ ot w.val a.val s.val = true) ∧ (ot w.val a.val s.val = false → nI a.val + sg s.val = nI (stp w.val a.val s.val)) ∧ nI a.val + sg s.val + nI w.val - (nI a.val + sg s.val + nI w.val) / nI w.val * nI w.val = nI (stp w.val a.val s.val) ∧ stp w.val a.val s.val < w.val) := by decide +kernel
theorem ax {w a s : Nat} (hw : w < 7) (ha : a < w) (hs : s < 3) : ((nI a + sg s < 0 ∨ nI w ≤ nI a + sg s) ↔ ot w a s = true) ∧ (ot w a s = false → nI a + sg s = nI (stp w a s)) ∧ nI a + sg s + nI w - (nI a + sg s + nI w) / nI w * nI w = nI (stp w a s) ∧ stp w a s < w := ax_ ⟨w, hw⟩ ⟨a, by omega⟩ ⟨s, hs⟩ ha
def sx (d : Nat) : Nat := if d = 2 then 1 else if d = 4 then 2 else 0
def sy (d : Nat) : Nat := if d = 3 then 1 else if d = 1 then 2 else 0
/-- a neighbour; 99: the rim -/
def nn (w h e c d : Nat) : Nat := if ot w (c % w) (sx d) || ot h (c / w) (sy d) then (if e = 0 then w * stp h (c / w) (sy d) + stp w (c % w) (sx d) else if e = 1 then c else 99) else w * stp h (c / w) (sy d) + stp w (c % w) (sx d)
def nbr (r : Int32) (x : Nat) : Int32 := if x = 99 then r else nI x
theorem sx_lt (d : Nat) : sx d < 3 := by unfold sx; grind
theorem sy_lt (d : Nat) : sy d < 3 := by unfold sy; grind
theorem sx_g (d : Nat) (hd : d < 5) : sg (sx d) = if nI d = 2 then 1 else if nI d = 4 then -1 else 0 := by
  have q : ∀ d : Fin 5, sg (sx d.val) = if nI d.val = 2 then 1 else if nI d.val = 4 then -1 else 0 := by decide +kernel
  exact q ⟨d, hd⟩
theorem sy_g (d : Nat) (hd : d < 5) : sg (sy d) = if nI d = 3 then 1 else if nI d = 1 then -1 else 0 := by
  have q : ∀ d : Fin 5, sg (sy d.val) = if nI d.val = 3 then 1 else if nI d.val = 1 then -1 else 0 := by decide +kernel
  exact q ⟨d, hd⟩
theorem nn_lt {w h e c d : Nat} (hw : w < 7) (hh : h < 7) (hc : c < w * h) : nn w h e c d < w * h ∨ nn w h e c d = 99 := by
  have w0 : 0 < w := Nat.pos_of_ne_zero fun z => by rw [z, Nat.zero_mul] at hc; omega
  have hx := (ax (s := sx d) hw (Nat.mod_lt c w0) (sx_lt d)).2.2.2
  have hy := (ax (s := sy d) hh ((Nat.div_lt_iff_lt_mul w0).2 (by rw [Nat.mul_comm]; exact hc)) (sy_lt d)).2.2.2
  have hz : w * stp h (c / w) (sy d) + stp w (c % w) (sx d) < w * h := by
    have := Nat.mul_le_mul_left w (Nat.succ_le_of_lt hy)
    rw [Nat.mul_succ] at this; omega
  unfold nn
  split
  · split
    · exact Or.inl hz
    · split
      · exact Or.inl hc
      · exact Or.inr rfl
  · exact Or.inl hz
theorem nn_0 {w h e c : Nat} (hc : c < w * h) : nn w h e c 0 = c := by
  have w0 : 0 < w := Nat.pos_of_ne_zero fun z => by rw [z, Nat.zero_mul] at hc; omega
  show w * (c / w) + c % w = c
  exact Nat.div_add_mod c w
/-- a sky's shape -/
def Sh (w h e c d : Nat) : Prop := 0 < w ∧ w < 7 ∧ 0 < h ∧ h < 7 ∧ e < 3 ∧ c < w * h ∧ d < 5
def S_X3_neighbour : ma_Cs := fun as M L K => match as with
  | [.ref k, .int cc, .int dd] => ∃ (w : Nat) (u : Nat) (e : Nat) (c : Nat) (d : Nat), (isS k ∧ M k 0 = nI w ∧ M k 1 = nI u ∧ M 0 7 = nI e ∧ Sh w u e c d ∧ cc = nI c ∧ dd = nI d) ∧ (K (some (.int (nbr (-4) (nn w u e c d)))) M L)
  | _ => False
theorem ms_X3_neighbour : ma_ms S_X3_neighbour := by
  intro as M L K K' hk h
  unfold S_X3_neighbour at h ⊢
  split at h
  · obtain ⟨w, u, e, c, d, h⟩ := h
    exact ⟨w, u, e, c, d, h.1, hk _ _ _ h.2⟩
  · exact h.elim
theorem un_X3_neighbour {k : Nat} {cc : Int32} {dd : Int32} {M : ZM} {L : ZL} {K : ma_Kt} : S_X3_neighbour [.ref k, .int cc, .int dd] M L K = (∃ (w : Nat) (u : Nat) (e : Nat) (c : Nat) (d : Nat), (isS k ∧ M k 0 = nI w ∧ M k 1 = nI u ∧ M 0 7 = nI e ∧ Sh w u e c d ∧ cc = nI c ∧ dd = nI d) ∧ (K (some (.int (nbr (-4) (nn w u e c d)))) M L)) := rfl
theorem pw_X3_neighbour {k : Nat} {cc : Int32} {dd : Int32} {w : Nat} {u : Nat} {e : Nat} {c : Nat} {d : Nat} {M : ZM} {L : ZL} {K : ma_Kt} (hp : isS k ∧ M k 0 = nI w ∧ M k 1 = nI u ∧ M 0 7 = nI e ∧ Sh w u e c d ∧ cc = nI c ∧ dd = nI d) (h : (K (some (.int (nbr (-4) (nn w u e c d)))) M L)) : ma_rn tb_X3_neighbour 5 [.ref k, .int cc, .int dd] M L K := by
  refine ⟨Nat.le_of_ble_eq_true rfl, fun V hV => ?_⟩
  obtain ⟨⟨y0, y1, y2⟩, m0, m1, m2, ⟨s1, s2, s3, s4, s5, s6, s7⟩, rfl, rfl⟩ := hp
  have hc2 : c / w < u := (Nat.div_lt_iff_lt_mul s1).2 (by rw [Nat.mul_comm]; exact s6)
  have hc9 : c < 36 := Nat.lt_of_lt_of_le s6 (Nat.mul_le_mul (Nat.le_of_lt_succ s2) (Nat.le_of_lt_succ s4))
  have hx := ax (s := sx d) s2 (Nat.mod_lt c s1) (sx_lt d)
  have hy := ax (s := sy d) s4 hc2 (sy_lt d)
  have w0 : (nI w = 0) = False := eq_false (nI_ne0 s1 (by omega))
  have u0 : (nI u = 0) = False := eq_false (nI_ne0 s3 (by omega))
  have r1 : nI c - nI c / nI w * nI w = nI (c % w) := pk_rem (by omega) s1 (by omega)
  have r2 : nI c / nI w = nI (c / w) := pk_div (by omega) s1 (by omega)
  have sx' := sx_g d s7
  have sy' := sy_g d s7
  have n9 : w * stp u (c / w) (sy d) + stp w (c % w) (sx d) ≠ 99 := by
    have h1 := hx.2.2.2
    have h2 := hy.2.2.2
    have h3 := Nat.mul_le_mul (Nat.le_of_lt_succ s2) (Nat.le_of_lt_succ (Nat.lt_trans h2 s4))
    omega
  generalize hX : nI (c % w) + sg (sx d) = X at *
  generalize hY : nI (c / w) + sg (sy d) = Y at *
  unfold nn at h
  have h91 : (ot w (c % w) (sx d) || ot u (c / w) (sy d)) = true → V 91 [some (.ref k), some (.int (nI c)), some (.int (nI d)), some (.int X), some (.int Y)] [] M L := by
    intro q
    rw [if_pos q] at h
    refine ma_walk mo_X3_neighbour hV [] (fun F hF => ?_)
    simp only [tb_X3_neighbour, hF, in_no, in_push, in_ild, in_lld, in_ald, in_ist, in_ast, in_lst, in_inc, in_iii, in_idv, in_ldv, in_lll, in_lli, in_lil, in_ii, in_il, in_li, in_ll, in_dup, in_dp2, q_if1, q_if2, in_go, in_sw, ma_sw, in_rv, in_ri, in_rz, in_rl, in_get, in_put, in_puz, in_iar, in_bar, in_lar, in_aar, in_iaw, in_baw, in_law, in_len, in_cpy, in_s1, in_s2, in_s3, in_v1, in_v2, in_v3, in_v4, in_v5, in_v6, ma_bk, ma_gl, ma_sl, ma_nl, ma_wc, ma_wd, ma_nn, ma_en, List.mem_cons, List.not_mem_nil, or_false, or_true, true_or, false_or, true_and, and_true, false_and, and_false, if_true, if_false, forall_const, true_implies, false_implies, not_true_eq_false, not_false_eq_true, Classical.not_not, implies_true, and_self, Nat.add_zero, Nat.zero_add, eq_self, ne_eq, reduceCtorEq, Nat.reduceLT, Nat.reduceLeDiff, Nat.reduceEqDiff, Nat.reduceSub, Nat.reduceAdd, i10, i01, im10, Int32.reduceLT, Int32.reduceLE, ↓reduceIte, reduceIte, up_r, uL_r, cp_r, Int32.toInt_toInt64, Int64.reduceToInt, Int32.reduceToInt, ↓b1_or, b1_0, b1_1, lc_lt, lc_le, lc_gt, lc_ge, lc_eq, yx_0, yx_1, yx_2, yx_3, yx_4, yx_5, yx_6, yx_7, yx_8, yx_9, yx_10, yx_11, yx_12, yx_13, yx_14, yx_15, yx_16, yx_17, yx_18, yx_19, yx_20, yx_21, yx_22, yx_23, yx_24, yx_25, yx_26, yx_27, yx_28, yx_29, yx_30, yx_31, yx_32, yx_33, yx_34, yx_35, yx_36, yx_37, yx_38, yx_39, yx_40, yx_41, yx_42, yx_43, yx_44, yx_45, yx_46, yx_47, yx_48, yx_49, yx_50, yx_51, yx_52, yx_53, yx_54, yx_55, yx_56, yx_57, yx_58, yx_59, yx_60, yx_61, yx_62, yx_63, yx_64, yx_65, yx_66, yx_67, yx_68, rx_0, rx_1, rx_2, rx_3, rx_4, rx_5, rx_6, rx_7, rx_8, rx_9, rx_10, rx_11, rx_12, rx_13, rx_14, rx_15, rx_16, rx_17, rx_18, rx_19, rx_20, rx_21, rx_22, rx_23, rx_24, rx_25, rx_26, rx_27, rx_28, rx_29, rx_30, rx_31, rx_32, rx_33, rp_0, rp_1, rp_2, rp_3, rp_4, rp_5, rp_6, rp_7, rp_8, rs_0, rs_1, rs_2, rs_3, rs_4, re_0, re_1, re_2, re_3, re_4, re_5, rr_0, rr_1, rr_2, rr_3, rr_4, rk_0, rk_1, isP3, isP11, isP46, isP58, isS25, isS28, isS31, y0, m0, m1, m2, w0, u0]
    try simp only [iteP, Classical.not_not]
    rw [hx.2.2.1, hy.2.2.1]
    refine ⟨fun z => ?_, fun z => ⟨fun z2 => ?_, fun z2 => ?_⟩⟩
    · rw [a_eq0 (by omega)] at z
      rw [if_pos z, nbr, if_neg n9] at h
      rw [pk_mul, nI_add]; exact h
    · rw [a_eq0 (by omega)] at z
      rw [show (1 : Int32) = nI 1 from rfl, a_eq (by omega) (by omega)] at z2
      rw [if_neg z, if_pos z2, nbr, if_neg (by omega)] at h; exact h
    · rw [a_eq0 (by omega)] at z
      rw [show (1 : Int32) = nI 1 from rfl, a_eq (by omega) (by omega)] at z2
      rw [if_neg z, if_neg z2, nbr, if_pos rfl] at h; exact h
  have h52 : V 52 [some (.ref k), some (.int (nI c)), some (.int (nI d)), some (.int X), none] [.int (sg (sy d)), .int (nI (c / w))] M L := by
    refine ma_walk mo_X3_neighbour hV [91] (fun F hF => ?_)
    simp only [tb_X3_neighbour, hF, in_no, in_push, in_ild, in_lld, in_ald, in_ist, in_ast, in_lst, in_inc, in_iii, in_idv, in_ldv, in_lll, in_lli, in_lil, in_ii, in_il, in_li, in_ll, in_dup, in_dp2, q_if1, q_if2, in_go, in_sw, ma_sw, in_rv, in_ri, in_rz, in_rl, in_get, in_put, in_puz, in_iar, in_bar, in_lar, in_aar, in_iaw, in_baw, in_law, in_len, in_cpy, in_s1, in_s2, in_s3, in_v1, in_v2, in_v3, in_v4, in_v5, in_v6, ma_bk, ma_gl, ma_sl, ma_nl, ma_wc, ma_wd, ma_nn, ma_en, List.mem_cons, List.not_mem_nil, or_false, or_true, true_or, false_or, true_and, and_true, false_and, and_false, if_true, if_false, forall_const, true_implies, false_implies, not_true_eq_false, not_false_eq_true, Classical.not_not, implies_true, and_self, Nat.add_zero, Nat.zero_add, eq_self, ne_eq, reduceCtorEq, Nat.reduceLT, Nat.reduceLeDiff, Nat.reduceEqDiff, Nat.reduceSub, Nat.reduceAdd, i10, i01, im10, Int32.reduceLT, Int32.reduceLE, ↓reduceIte, reduceIte, up_r, uL_r, cp_r, Int32.toInt_toInt64, Int64.reduceToInt, Int32.reduceToInt, ↓b1_or, b1_0, b1_1, lc_lt, lc_le, lc_gt, lc_ge, lc_eq, yx_0, yx_1, yx_2, yx_3, yx_4, yx_5, yx_6, yx_7, yx_8, yx_9, yx_10, yx_11, yx_12, yx_13, yx_14, yx_15, yx_16, yx_17, yx_18, yx_19, yx_20, yx_21, yx_22, yx_23, yx_24, yx_25, yx_26, yx_27, yx_28, yx_29, yx_30, yx_31, yx_32, yx_33, yx_34, yx_35, yx_36, yx_37, yx_38, yx_39, yx_40, yx_41, yx_42, yx_43, yx_44, yx_45, yx_46, yx_47, yx_48, yx_49, yx_50, yx_51, yx_52, yx_53, yx_54, yx_55, yx_56, yx_57, yx_58, yx_59, yx_60, yx_61, yx_62, yx_63, yx_64, yx_65, yx_66, yx_67, yx_68, rx_0, rx_1, rx_2, rx_3, rx_4, rx_5, rx_6, rx_7, rx_8, rx_9, rx_10, rx_11, rx_12, rx_13, rx_14, rx_15, rx_16, rx_17, rx_18, rx_19, rx_20, rx_21, rx_22, rx_23, rx_24, rx_25, rx_26, rx_27, rx_28, rx_29, rx_30, rx_31, rx_32, rx_33, rp_0, rp_1, rp_2, rp_3, rp_4, rp_5, rp_6, rp_7, rp_8, rs_0, rs_1, rs_2, rs_3, rs_4, re_0, re_1, re_2, re_3, re_4, re_5, rr_0, rr_1, rr_2, rr_3, rr_4, rk_0, rk_1, isP3, isP11, isP46, isP58, isS25, isS28, isS31, y0, m0, m1, hY]
    try simp only [iteP, Classical.not_not]
    have o1 : ot w (c % w) (sx d) = true → (ot w (c % w) (sx d) || ot u (c / w) (sy d)) = true := fun z => by rw [z]; rfl
    have o2 : ot u (c / w) (sy d) = true → (ot w (c % w) (sx d) || ot u (c / w) (sy d)) = true := fun z => by rw [z, Bool.or_true]
    refine ⟨fun z => h91 (o1 (hx.1.1 (Or.inl z))), fun z => ⟨fun z2 => h91 (o1 (hx.1.1 (Or.inr z2))), fun z2 => ⟨fun z3 => h91 (o2 (hy.1.1 (Or.inl z3))), fun z3 => ⟨fun z4 => h91 (o2 (hy.1.1 (Or.inr z4))), fun z4 => ?_⟩⟩⟩⟩
    have f1 : ot w (c % w) (sx d) = false := by
      cases q : ot w (c % w) (sx d) with
      | false => rfl
      | true => rcases hx.1.2 q with q | q
                · exact absurd q z
                · exact absurd q z2
    have f2 : ot u (c / w) (sy d) = false := by
      cases q : ot u (c / w) (sy d) with
      | false => rfl
      | true => rcases hy.1.2 q with q | q
                · exact absurd q z3
                · exact absurd q z4
    rw [if_neg (by rw [f1, f2]; decide), nbr, if_neg n9] at h
    rw [hx.2.1 f1, hy.2.1 f2, pk_mul, nI_add]; exact h
  have h25 : V 25 [some (.ref k), some (.int (nI c)), some (.int (nI d)), none, none] [.int (sg (sx d)), .int (nI (c % w))] M L := by
    refine ma_walk mo_X3_neighbour hV [52] (fun F hF => ?_)
    simp only [tb_X3_neighbour, hF, in_no, in_push, in_ild, in_lld, in_ald, in_ist, in_ast, in_lst, in_inc, in_iii, in_idv, in_ldv, in_lll, in_lli, in_lil, in_ii, in_il, in_li, in_ll, in_dup, in_dp2, q_if1, q_if2, in_go, in_sw, ma_sw, in_rv, in_ri, in_rz, in_rl, in_get, in_put, in_puz, in_iar, in_bar, in_lar, in_aar, in_iaw, in_baw, in_law, in_len, in_cpy, in_s1, in_s2, in_s3, in_v1, in_v2, in_v3, in_v4, in_v5, in_v6, ma_bk, ma_gl, ma_sl, ma_nl, ma_wc, ma_wd, ma_nn, ma_en, List.mem_cons, List.not_mem_nil, or_false, or_true, true_or, false_or, true_and, and_true, false_and, and_false, if_true, if_false, forall_const, true_implies, false_implies, not_true_eq_false, not_false_eq_true, Classical.not_not, implies_true, and_self, Nat.add_zero, Nat.zero_add, eq_self, ne_eq, reduceCtorEq, Nat.reduceLT, Nat.reduceLeDiff, Nat.reduceEqDiff, Nat.reduceSub, Nat.reduceAdd, i10, i01, im10, Int32.reduceLT, Int32.reduceLE, ↓reduceIte, reduceIte, up_r, uL_r, cp_r, Int32.toInt_toInt64, Int64.reduceToInt, Int32.reduceToInt, ↓b1_or, b1_0, b1_1, lc_lt, lc_le, lc_gt, lc_ge, lc_eq, yx_0, yx_1, yx_2, yx_3, yx_4, yx_5, yx_6, yx_7, yx_8, yx_9, yx_10, yx_11, yx_12, yx_13, yx_14, yx_15, yx_16, yx_17, yx_18, yx_19, yx_20, yx_21, yx_22, yx_23, yx_24, yx_25, yx_26, yx_27, yx_28, yx_29, yx_30, yx_31, yx_32, yx_33, yx_34, yx_35, yx_36, yx_37, yx_38, yx_39, yx_40, yx_41, yx_42, yx_43, yx_44, yx_45, yx_46, yx_47, yx_48, yx_49, yx_50, yx_51, yx_52, yx_53, yx_54, yx_55, yx_56, yx_57, yx_58, yx_59, yx_60, yx_61, yx_62, yx_63, yx_64, yx_65, yx_66, yx_67, yx_68, rx_0, rx_1, rx_2, rx_3, rx_4, rx_5, rx_6, rx_7, rx_8, rx_9, rx_10, rx_11, rx_12, rx_13, rx_14, rx_15, rx_16, rx_17, rx_18, rx_19, rx_20, rx_21, rx_22, rx_23, rx_24, rx_25, rx_26, rx_27, rx_28, rx_29, rx_30, rx_31, rx_32, rx_33, rp_0, rp_1, rp_2, rp_3, rp_4, rp_5, rp_6, rp_7, rp_8, rs_0, rs_1, rs_2, rs_3, rs_4, re_0, re_1, re_2, re_3, re_4, re_5, rr_0, rr_1, rr_2, rr_3, rr_4, rk_0, rk_1, isP3, isP11, isP46, isP58, isS25, isS28, isS31, y0, m0, w0, r2, hX]
    try simp only [iteP, Classical.not_not]
    rw [sy'] at h52
    refine ⟨fun z => ?_, fun z => ⟨fun z2 => ?_, fun z2 => ?_⟩⟩
    · rw [if_pos z] at h52; exact h52
    · rw [if_neg z, if_pos z2] at h52; exact h52
    · rw [if_neg z, if_neg z2] at h52; exact h52
  refine ma_walk mo_X3_neighbour hV [25] (fun F hF => ?_)
  simp only [tb_X3_neighbour, hF, in_no, in_push, in_ild, in_lld, in_ald, in_ist, in_ast, in_lst, in_inc, in_iii, in_idv, in_ldv, in_lll, in_lli, in_lil, in_ii, in_il, in_li, in_ll, in_dup, in_dp2, q_if1, q_if2, in_go, in_sw, ma_sw, in_rv, in_ri, in_rz, in_rl, in_get, in_put, in_puz, in_iar, in_bar, in_lar, in_aar, in_iaw, in_baw, in_law, in_len, in_cpy, in_s1, in_s2, in_s3, in_v1, in_v2, in_v3, in_v4, in_v5, in_v6, ma_bk, ma_gl, ma_sl, ma_nl, ma_wc, ma_wd, ma_nn, ma_en, List.mem_cons, List.not_mem_nil, or_false, or_true, true_or, false_or, true_and, and_true, false_and, and_false, if_true, if_false, forall_const, true_implies, false_implies, not_true_eq_false, not_false_eq_true, Classical.not_not, implies_true, and_self, Nat.add_zero, Nat.zero_add, eq_self, ne_eq, reduceCtorEq, Nat.reduceLT, Nat.reduceLeDiff, Nat.reduceEqDiff, Nat.reduceSub, Nat.reduceAdd, i10, i01, im10, Int32.reduceLT, Int32.reduceLE, ↓reduceIte, reduceIte, up_r, uL_r, cp_r, Int32.toInt_toInt64, Int64.reduceToInt, Int32.reduceToInt, ↓b1_or, b1_0, b1_1, lc_lt, lc_le, lc_gt, lc_ge, lc_eq, yx_0, yx_1, yx_2, yx_3, yx_4, yx_5, yx_6, yx_7, yx_8, yx_9, yx_10, yx_11, yx_12, yx_13, yx_14, yx_15, yx_16, yx_17, yx_18, yx_19, yx_20, yx_21, yx_22, yx_23, yx_24, yx_25, yx_26, yx_27, yx_28, yx_29, yx_30, yx_31, yx_32, yx_33, yx_34, yx_35, yx_36, yx_37, yx_38, yx_39, yx_40, yx_41, yx_42, yx_43, yx_44, yx_45, yx_46, yx_47, yx_48, yx_49, yx_50, yx_51, yx_52, yx_53, yx_54, yx_55, yx_56, yx_57, yx_58, yx_59, yx_60, yx_61, yx_62, yx_63, yx_64, yx_65, yx_66, yx_67, yx_68, rx_0, rx_1, rx_2, rx_3, rx_4, rx_5, rx_6, rx_7, rx_8, rx_9, rx_10, rx_11, rx_12, rx_13, rx_14, rx_15, rx_16, rx_17, rx_18, rx_19, rx_20, rx_21, rx_22, rx_23, rx_24, rx_25, rx_26, rx_27, rx_28, rx_29, rx_30, rx_31, rx_32, rx_33, rp_0, rp_1, rp_2, rp_3, rp_4, rp_5, rp_6, rp_7, rp_8, rs_0, rs_1, rs_2, rs_3, rs_4, re_0, re_1, re_2, re_3, re_4, re_5, rr_0, rr_1, rr_2, rr_3, rr_4, rk_0, rk_1, isP3, isP11, isP46, isP58, isS25, isS28, isS31, y0, m0, w0, r1]
  try simp only [iteP, Classical.not_not]
  rw [sx'] at h25
  refine ⟨fun z => ?_, fun z => ⟨fun z2 => ?_, fun z2 => ?_⟩⟩
  · rw [if_pos z] at h25; exact h25
  · rw [if_neg z, if_pos z2] at h25; exact h25
  · rw [if_neg z, if_neg z2] at h25; exact h25
theorem pv_X3_neighbour : ∀ as M L K, S_X3_neighbour as M L K → ma_rn tb_X3_neighbour 5 as M L K := by
  intro as M L K h
  unfold S_X3_neighbour at h
  split at h
  · obtain ⟨w, u, e, c, d, h⟩ := h; exact pw_X3_neighbour h.1 h.2
  · exact h.elim
def S_X5_next : ma_Cs := fun as M L K => match as with
  | [.ref k, .int cc, .int dd] => ∃ (w : Nat) (u : Nat) (e : Nat) (c : Nat) (d : Nat), (k = 0 ∧ M 0 35 = nI w ∧ M 0 36 = nI u ∧ M 0 2 = nI e ∧ Sh w u e c d ∧ cc = nI c ∧ dd = nI d) ∧ (K (some (.int (nbr (-1) (nn w u e c d)))) M L)
  | _ => False
theorem ms_X5_next : ma_ms S_X5_next := by
  intro as M L K K' hk h
  unfold S_X5_next at h ⊢
  split at h
  · obtain ⟨w, u, e, c, d, h⟩ := h
    exact ⟨w, u, e, c, d, h.1, hk _ _ _ h.2⟩
  · exact h.elim
theorem un_X5_next {k : Nat} {cc : Int32} {dd : Int32} {M : ZM} {L : ZL} {K : ma_Kt} : S_X5_next [.ref k, .int cc, .int dd] M L K = (∃ (w : Nat) (u : Nat) (e : Nat) (c : Nat) (d : Nat), (k = 0 ∧ M 0 35 = nI w ∧ M 0 36 = nI u ∧ M 0 2 = nI e ∧ Sh w u e c d ∧ cc = nI c ∧ dd = nI d) ∧ (K (some (.int (nbr (-1) (nn w u e c d)))) M L)) := rfl
theorem pw_X5_next {k : Nat} {cc : Int32} {dd : Int32} {w : Nat} {u : Nat} {e : Nat} {c : Nat} {d : Nat} {M : ZM} {L : ZL} {K : ma_Kt} (hp : k = 0 ∧ M 0 35 = nI w ∧ M 0 36 = nI u ∧ M 0 2 = nI e ∧ Sh w u e c d ∧ cc = nI c ∧ dd = nI d) (h : (K (some (.int (nbr (-1) (nn w u e c d)))) M L)) : ma_rn (tb_X5_next S_X5_in) 5 [.ref k, .int cc, .int dd] M L K := by
  refine ⟨Nat.le_of_ble_eq_true rfl, fun V hV => ?_⟩
  obtain ⟨rfl, m0, m1, m2, ⟨s1, s2, s3, s4, s5, s6, s7⟩, rfl, rfl⟩ := hp
  have hc2 : c / w < u := (Nat.div_lt_iff_lt_mul s1).2 (by rw [Nat.mul_comm]; exact s6)
  have hc9 : c < 36 := Nat.lt_of_lt_of_le s6 (Nat.mul_le_mul (Nat.le_of_lt_succ s2) (Nat.le_of_lt_succ s4))
  have hx := ax (s := sx d) s2 (Nat.mod_lt c s1) (sx_lt d)
  have hy := ax (s := sy d) s4 hc2 (sy_lt d)
  have w0 : (nI w = 0) = False := eq_false (nI_ne0 s1 (by omega))
  have u0 : (nI u = 0) = False := eq_false (nI_ne0 s3 (by omega))
  have r1 : nI c - nI c / nI w * nI w = nI (c % w) := pk_rem (by omega) s1 (by omega)
  have r2 : nI c / nI w = nI (c / w) := pk_div (by omega) s1 (by omega)
  have sx' := sx_g d s7
  have sy' := sy_g d s7
  have n9 : w * stp u (c / w) (sy d) + stp w (c % w) (sx d) ≠ 99 := by
    have h1 := hx.2.2.2
    have h2 := hy.2.2.2
    have h3 := Nat.mul_le_mul (Nat.le_of_lt_succ s2) (Nat.le_of_lt_succ (Nat.lt_trans h2 s4))
    omega
  have t1 : (nI w - 1).toInt = (w : Int) - 1 := by rw [show (1 : Int32) = nI 1 from rfl, pk_sub s1, a_ti (by omega)]; omega
  have t2 : (nI u - 1).toInt = (u : Int) - 1 := by rw [show (1 : Int32) = nI 1 from rfl, pk_sub s3, a_ti (by omega)]; omega
  have t3 := a_ti (show w < 2147483648 by omega)
  have t4 := a_ti (show u < 2147483648 by omega)
  generalize hX : nI (c % w) + sg (sx d) = X at *
  generalize hY : nI (c / w) + sg (sy d) = Y at *
  unfold nn at h
  have h98 : (ot w (c % w) (sx d) || ot u (c / w) (sy d)) = true → V 98 [some (.ref 0), some (.int (nI c)), some (.int (nI d)), some (.int X), some (.int Y)] [] M L := by
    intro q
    rw [if_pos q] at h
    refine ma_walk (mo_X5_next ms_X5_in) hV [] (fun F hF => ?_)
    simp only [tb_X5_next, hF, in_no, in_push, in_ild, in_lld, in_ald, in_ist, in_ast, in_lst, in_inc, in_iii, in_idv, in_ldv, in_lll, in_lli, in_lil, in_ii, in_il, in_li, in_ll, in_dup, in_dp2, q_if1, q_if2, in_go, in_sw, ma_sw, in_rv, in_ri, in_rz, in_rl, in_get, in_put, in_puz, in_iar, in_bar, in_lar, in_aar, in_iaw, in_baw, in_law, in_len, in_cpy, in_s1, in_s2, in_s3, in_v1, in_v2, in_v3, in_v4, in_v5, in_v6, ma_bk, ma_gl, ma_sl, ma_nl, ma_wc, ma_wd, ma_nn, ma_en, List.mem_cons, List.not_mem_nil, or_false, or_true, true_or, false_or, true_and, and_true, false_and, and_false, if_true, if_false, forall_const, true_implies, false_implies, not_true_eq_false, not_false_eq_true, Classical.not_not, implies_true, and_self, Nat.add_zero, Nat.zero_add, eq_self, ne_eq, reduceCtorEq, Nat.reduceLT, Nat.reduceLeDiff, Nat.reduceEqDiff, Nat.reduceSub, Nat.reduceAdd, i10, i01, im10, Int32.reduceLT, Int32.reduceLE, ↓reduceIte, reduceIte, up_r, uL_r, cp_r, Int32.toInt_toInt64, Int64.reduceToInt, Int32.reduceToInt, ↓b1_or, b1_0, b1_1, lc_lt, lc_le, lc_gt, lc_ge, lc_eq, ym_0, ym_1, ym_2, ym_3, ym_4, ym_5, ym_6, ym_7, ym_8, ym_9, ym_10, ym_11, ym_12, ym_13, ym_14, ym_15, ym_16, ym_17, ym_18, ym_19, ym_20, ym_21, ym_22, ym_23, ym_24, ym_25, ym_26, ym_27, ym_28, ym_29, ym_30, rm__0, rm__1, rm__2, rm__3, rm__4, rm__5, rm__6, rm__7, rm__8, rm__9, rm__10, rm__11, rm__12, rm__13, rm__14, rm__15, rm__16, rm__17, rm__18, rm__19, rm__20, rm__21, rm__22, rm__23, rm__24, rm__25, rm__26, rm__27, rm__28, rm__29, rm__30, rm__31, rm__32, rm__33, rm__34, rm__35, rm__36, rm__37, rm__38, rm__39, rm__40, rm__41, rm__42, rm__43, rm__44, rm__45, un_X5_in, m0, m1, m2, w0, u0]
    try simp only [iteP, Classical.not_not]
    rw [hx.2.2.1, hy.2.2.1]
    refine ⟨fun z => ?_, fun z => ⟨fun z2 => ?_, fun z2 => ?_⟩⟩
    · rw [a_eq0 (by omega)] at z
      rw [if_pos z, nbr, if_neg n9] at h
      rw [pk_mul, nI_add]; exact h
    · rw [a_eq0 (by omega)] at z
      rw [show (1 : Int32) = nI 1 from rfl, a_eq (by omega) (by omega)] at z2
      rw [if_neg z, if_pos z2, nbr, if_neg (by omega)] at h; exact h
    · rw [a_eq0 (by omega)] at z
      rw [show (1 : Int32) = nI 1 from rfl, a_eq (by omega) (by omega)] at z2
      rw [if_neg z, if_neg z2, nbr, if_pos rfl] at h; exact h
  have h52 : V 52 [some (.ref 0), some (.int (nI c)), some (.int (nI d)), some (.int X), none] [.int (sg (sy d)), .int (nI (c / w))] M L := by
    refine ma_walk (mo_X5_next ms_X5_in) hV [98] (fun F hF => ?_)
    simp only [tb_X5_next, hF, in_no, in_push, in_ild, in_lld, in_ald, in_ist, in_ast, in_lst, in_inc, in_iii, in_idv, in_ldv, in_lll, in_lli, in_lil, in_ii, in_il, in_li, in_ll, in_dup, in_dp2, q_if1, q_if2, in_go, in_sw, ma_sw, in_rv, in_ri, in_rz, in_rl, in_get, in_put, in_puz, in_iar, in_bar, in_lar, in_aar, in_iaw, in_baw, in_law, in_len, in_cpy, in_s1, in_s2, in_s3, in_v1, in_v2, in_v3, in_v4, in_v5, in_v6, ma_bk, ma_gl, ma_sl, ma_nl, ma_wc, ma_wd, ma_nn, ma_en, List.mem_cons, List.not_mem_nil, or_false, or_true, true_or, false_or, true_and, and_true, false_and, and_false, if_true, if_false, forall_const, true_implies, false_implies, not_true_eq_false, not_false_eq_true, Classical.not_not, implies_true, and_self, Nat.add_zero, Nat.zero_add, eq_self, ne_eq, reduceCtorEq, Nat.reduceLT, Nat.reduceLeDiff, Nat.reduceEqDiff, Nat.reduceSub, Nat.reduceAdd, i10, i01, im10, Int32.reduceLT, Int32.reduceLE, ↓reduceIte, reduceIte, up_r, uL_r, cp_r, Int32.toInt_toInt64, Int64.reduceToInt, Int32.reduceToInt, ↓b1_or, b1_0, b1_1, lc_lt, lc_le, lc_gt, lc_ge, lc_eq, ym_0, ym_1, ym_2, ym_3, ym_4, ym_5, ym_6, ym_7, ym_8, ym_9, ym_10, ym_11, ym_12, ym_13, ym_14, ym_15, ym_16, ym_17, ym_18, ym_19, ym_20, ym_21, ym_22, ym_23, ym_24, ym_25, ym_26, ym_27, ym_28, ym_29, ym_30, rm__0, rm__1, rm__2, rm__3, rm__4, rm__5, rm__6, rm__7, rm__8, rm__9, rm__10, rm__11, rm__12, rm__13, rm__14, rm__15, rm__16, rm__17, rm__18, rm__19, rm__20, rm__21, rm__22, rm__23, rm__24, rm__25, rm__26, rm__27, rm__28, rm__29, rm__30, rm__31, rm__32, rm__33, rm__34, rm__35, rm__36, rm__37, rm__38, rm__39, rm__40, rm__41, rm__42, rm__43, rm__44, rm__45, un_X5_in, m0, m1, hY]
    try simp only [iteP, Classical.not_not]
    rw [t1, t2]
    have e1 : (0 ≤ X.toInt ∧ X.toInt ≤ (w : Int) - 1) ↔ ¬ ot w (c % w) (sx d) = true := by
      rw [← hx.1, Int32.lt_iff_toInt_lt, Int32.le_iff_toInt_le, t3, show (0 : Int32).toInt = 0 from rfl]; omega
    have e2 : (0 ≤ Y.toInt ∧ Y.toInt ≤ (u : Int) - 1) ↔ ¬ ot u (c / w) (sy d) = true := by
      rw [← hy.1, Int32.lt_iff_toInt_lt, Int32.le_iff_toInt_le, t4, show (0 : Int32).toInt = 0 from rfl]; omega
    rw [e1, e2]
    have o1 : ot w (c % w) (sx d) = true → (ot w (c % w) (sx d) || ot u (c / w) (sy d)) = true := fun z => by rw [z]; rfl
    have o2 : ot u (c / w) (sy d) = true → (ot w (c % w) (sx d) || ot u (c / w) (sy d)) = true := fun z => by rw [z, Bool.or_true]
    refine ⟨fun z => h98 (o1 (Classical.not_not.1 z)), fun z => ⟨fun z2 => h98 (o2 (Classical.not_not.1 z2)), fun z2 => ?_⟩⟩
    have f1 : ot w (c % w) (sx d) = false := Bool.eq_false_iff.2 z
    have f2 : ot u (c / w) (sy d) = false := Bool.eq_false_iff.2 z2
    rw [if_neg (by rw [f1, f2]; decide), nbr, if_neg n9] at h
    rw [hx.2.1 f1, hy.2.1 f2, pk_mul, nI_add]; exact h
  have h25 : V 25 [some (.ref 0), some (.int (nI c)), some (.int (nI d)), none, none] [.int (sg (sx d)), .int (nI (c % w))] M L := by
    refine ma_walk (mo_X5_next ms_X5_in) hV [52] (fun F hF => ?_)
    simp only [tb_X5_next, hF, in_no, in_push, in_ild, in_lld, in_ald, in_ist, in_ast, in_lst, in_inc, in_iii, in_idv, in_ldv, in_lll, in_lli, in_lil, in_ii, in_il, in_li, in_ll, in_dup, in_dp2, q_if1, q_if2, in_go, in_sw, ma_sw, in_rv, in_ri, in_rz, in_rl, in_get, in_put, in_puz, in_iar, in_bar, in_lar, in_aar, in_iaw, in_baw, in_law, in_len, in_cpy, in_s1, in_s2, in_s3, in_v1, in_v2, in_v3, in_v4, in_v5, in_v6, ma_bk, ma_gl, ma_sl, ma_nl, ma_wc, ma_wd, ma_nn, ma_en, List.mem_cons, List.not_mem_nil, or_false, or_true, true_or, false_or, true_and, and_true, false_and, and_false, if_true, if_false, forall_const, true_implies, false_implies, not_true_eq_false, not_false_eq_true, Classical.not_not, implies_true, and_self, Nat.add_zero, Nat.zero_add, eq_self, ne_eq, reduceCtorEq, Nat.reduceLT, Nat.reduceLeDiff, Nat.reduceEqDiff, Nat.reduceSub, Nat.reduceAdd, i10, i01, im10, Int32.reduceLT, Int32.reduceLE, ↓reduceIte, reduceIte, up_r, uL_r, cp_r, Int32.toInt_toInt64, Int64.reduceToInt, Int32.reduceToInt, ↓b1_or, b1_0, b1_1, lc_lt, lc_le, lc_gt, lc_ge, lc_eq, ym_0, ym_1, ym_2, ym_3, ym_4, ym_5, ym_6, ym_7, ym_8, ym_9, ym_10, ym_11, ym_12, ym_13, ym_14, ym_15, ym_16, ym_17, ym_18, ym_19, ym_20, ym_21, ym_22, ym_23, ym_24, ym_25, ym_26, ym_27, ym_28, ym_29, ym_30, rm__0, rm__1, rm__2, rm__3, rm__4, rm__5, rm__6, rm__7, rm__8, rm__9, rm__10, rm__11, rm__12, rm__13, rm__14, rm__15, rm__16, rm__17, rm__18, rm__19, rm__20, rm__21, rm__22, rm__23, rm__24, rm__25, rm__26, rm__27, rm__28, rm__29, rm__30, rm__31, rm__32, rm__33, rm__34, rm__35, rm__36, rm__37, rm__38, rm__39, rm__40, rm__41, rm__42, rm__43, rm__44, rm__45, un_X5_in, m0, w0, r2, hX]
    try simp only [iteP, Classical.not_not]
    rw [sy'] at h52
    refine ⟨fun z => ?_, fun z => ⟨fun z2 => ?_, fun z2 => ?_⟩⟩
    · rw [if_pos z] at h52; exact h52
    · rw [if_neg z, if_pos z2] at h52; exact h52
    · rw [if_neg z, if_neg z2] at h52; exact h52
  refine ma_walk (mo_X5_next ms_X5_in) hV [25] (fun F hF => ?_)
  simp only [tb_X5_next, hF, in_no, in_push, in_ild, in_lld, in_ald, in_ist, in_ast, in_lst, in_inc, in_iii, in_idv, in_ldv, in_lll, in_lli, in_lil, in_ii, in_il, in_li, in_ll, in_dup, in_dp2, q_if1, q_if2, in_go, in_sw, ma_sw, in_rv, in_ri, in_rz, in_rl, in_get, in_put, in_puz, in_iar, in_bar, in_lar, in_aar, in_iaw, in_baw, in_law, in_len, in_cpy, in_s1, in_s2, in_s3, in_v1, in_v2, in_v3, in_v4, in_v5, in_v6, ma_bk, ma_gl, ma_sl, ma_nl, ma_wc, ma_wd, ma_nn, ma_en, List.mem_cons, List.not_mem_nil, or_false, or_true, true_or, false_or, true_and, and_true, false_and, and_false, if_true, if_false, forall_const, true_implies, false_implies, not_true_eq_false, not_false_eq_true, Classical.not_not, implies_true, and_self, Nat.add_zero, Nat.zero_add, eq_self, ne_eq, reduceCtorEq, Nat.reduceLT, Nat.reduceLeDiff, Nat.reduceEqDiff, Nat.reduceSub, Nat.reduceAdd, i10, i01, im10, Int32.reduceLT, Int32.reduceLE, ↓reduceIte, reduceIte, up_r, uL_r, cp_r, Int32.toInt_toInt64, Int64.reduceToInt, Int32.reduceToInt, ↓b1_or, b1_0, b1_1, lc_lt, lc_le, lc_gt, lc_ge, lc_eq, ym_0, ym_1, ym_2, ym_3, ym_4, ym_5, ym_6, ym_7, ym_8, ym_9, ym_10, ym_11, ym_12, ym_13, ym_14, ym_15, ym_16, ym_17, ym_18, ym_19, ym_20, ym_21, ym_22, ym_23, ym_24, ym_25, ym_26, ym_27, ym_28, ym_29, ym_30, rm__0, rm__1, rm__2, rm__3, rm__4, rm__5, rm__6, rm__7, rm__8, rm__9, rm__10, rm__11, rm__12, rm__13, rm__14, rm__15, rm__16, rm__17, rm__18, rm__19, rm__20, rm__21, rm__22, rm__23, rm__24, rm__25, rm__26, rm__27, rm__28, rm__29, rm__30, rm__31, rm__32, rm__33, rm__34, rm__35, rm__36, rm__37, rm__38, rm__39, rm__40, rm__41, rm__42, rm__43, rm__44, rm__45, un_X5_in, m0, w0, r1]
  try simp only [iteP, Classical.not_not]
  rw [sx'] at h25
  refine ⟨fun z => ?_, fun z => ⟨fun z2 => ?_, fun z2 => ?_⟩⟩
  · rw [if_pos z] at h25; exact h25
  · rw [if_neg z, if_pos z2] at h25; exact h25
  · rw [if_neg z, if_neg z2] at h25; exact h25
theorem pv_X5_next : ∀ as M L K, S_X5_next as M L K → ma_rn (tb_X5_next S_X5_in) 5 as M L K := by
  intro as M L K h
  unfold S_X5_next at h
  split at h
  · obtain ⟨w, u, e, c, d, h⟩ := h; exact pw_X5_next h.1 h.2
  · exact h.elim
