/-! what fills a gap -/
set_option maxRecDepth 100000
set_option maxHeartbeats 4000000
theorem ofI {z : Int} (h1 : -2147483648 ≤ z) (h2 : z < 2147483648) : (Int32.ofInt z).toInt = z := by
  rw [Int32.toInt_ofInt, show Int32.size = 4294967296 from rfl]; exact Int.bmod_eq_of_le_mul_two (by omega) (by omega)
theorem dv_b {a m b : Int} (hm : 0 < m) (h1 : -(b * m) ≤ a) (h2 : a ≤ b * m) : -b ≤ a / m ∧ a / m ≤ b := by
  have q1 := (Int.le_ediv_iff_mul_le (a := -b) (b := a) hm).2 (by rw [Int.neg_mul]; exact h1)
  have q2 := (Int.ediv_lt_iff_lt_mul (a := a) (b := b + 1) hm).2 (by rw [Int.add_mul]; omega)
  omega
theorem nbr4 {x : Nat} (h : x < 100) : (nbr (-4) x = -4) = (x = 99) := by
  unfold nbr
  split
  · next z => exact eq_true rfl |>.trans (eq_true z).symm
  · next z =>
    refine (eq_false fun q => ?_).trans (eq_false z).symm
    have q2 : (nI x).toInt = (-4 : Int32).toInt := by rw [q]
    rw [a_ti (by omega), show (-4 : Int32).toInt = -4 from rfl] at q2; omega
theorem nbr1 {x : Nat} (h : x < 100) : (0 ≤ nbr (-1) x) = ¬ x = 99 := by
  unfold nbr
  split
  · next z => exact propext ⟨fun q => absurd q (by decide), fun q => absurd z q⟩
  · next z => exact propext ⟨fun _ => z, fun _ => nI_pos' (by omega)⟩
theorem nbr_n {r : Int32} {x : Nat} (h : ¬ x = 99) : nbr r x = nI x := if_neg h
/-- the number of a cell's neighbour, of the first numbers f and the rim r -/
def fu (r f : Nat → Int32) (w u e c l d : Nat) : Int32 := if nn w u e c d = 99 then r l else f (4 * nn w u e c d + l)
def fS (r f : Nat → Int32) (w u e c l : Nat) : Nat → Int
  | 0 => 0
  | d + 1 => fS r f w u e c l d + (if fu r f w u e c l (d + 1) = 2000000 then 0 else (fu r f w u e c l (d + 1)).toInt)
def fM (r f : Nat → Int32) (w u e c l : Nat) : Nat → Nat
  | 0 => 0
  | d + 1 => fM r f w u e c l d + (if fu r f w u e c l (d + 1) = 2000000 then 0 else 1)
def fil (r f : Nat → Int32) (w u e c l : Nat) : Int32 := if fM r f w u e c l 4 = 0 then 0 else Int32.ofInt (fS r f w u e c l 4 / (fM r f w u e c l 4 : Int))
/-- first numbers and rims within their bounds -/
def Fb (r f : Nat → Int32) : Prop := (∀ l, l < 4 → -1000000 ≤ (r l).toInt ∧ (r l).toInt ≤ 1000000) ∧ ∀ i, i < 144 → f i = 2000000 ∨ (-1000000 ≤ (f i).toInt ∧ (f i).toInt ≤ 1000000)
theorem fu_b {r f : Nat → Int32} {w u e c l d : Nat} (h : Fb r f) (hw : w < 7) (hu : u < 7) (hc : c < w * u) (hl : l < 4) : fu r f w u e c l d = 2000000 ∨ (-1000000 ≤ (fu r f w u e c l d).toInt ∧ (fu r f w u e c l d).toInt ≤ 1000000) := by
  unfold fu
  split
  · exact Or.inr (h.1 l hl)
  · next z =>
    have h1 := nn_lt (e := e) (d := d) hw hu hc
    have h2 := Nat.mul_le_mul (Nat.le_of_lt_succ hw) (Nat.le_of_lt_succ hu)
    exact h.2 _ (by omega)
theorem fS_b {r f : Nat → Int32} {w u e c l : Nat} (h : Fb r f) (hw : w < 7) (hu : u < 7) (hc : c < w * u) (hl : l < 4) : ∀ d, -(1000000 * (fM r f w u e c l d : Int)) ≤ fS r f w u e c l d ∧ fS r f w u e c l d ≤ 1000000 * (fM r f w u e c l d : Int) ∧ fM r f w u e c l d ≤ d
  | 0 => by simp [fS, fM]
  | d + 1 => by
    have q := fS_b (e := e) h hw hu hc hl d
    have q2 := fu_b (e := e) (d := d + 1) h hw hu hc hl
    rw [fS, fM]
    split
    · omega
    · next z =>
      rcases q2 with q2 | q2
      · exact absurd q2 z
      · omega
def S_X3_filled : ma_Cs := fun as M L K => match as with
  | [.ref k, .int cc, .int ll] => ∃ (w : Nat) (u : Nat) (e : Nat) (c : Nat) (l : Nat), (isS k ∧ M k 0 = nI w ∧ M k 1 = nI u ∧ M 0 7 = nI e ∧ Sh w u e c 0 ∧ cc = nI c ∧ ll = nI l ∧ l < 4 ∧ Fb (M 19) (M 20)) ∧ (K (some (.int (fil (M 19) (M 20) w u e c l))) M L)
  | _ => False
theorem ms_X3_filled : ma_ms S_X3_filled := by
  intro as M L K K' hk h
  unfold S_X3_filled at h ⊢
  split at h
  · obtain ⟨w, u, e, c, l, h⟩ := h
    exact ⟨w, u, e, c, l, h.1, hk _ _ _ h.2⟩
  · exact h.elim
theorem un_X3_filled {k : Nat} {cc : Int32} {ll : Int32} {M : ZM} {L : ZL} {K : ma_Kt} : S_X3_filled [.ref k, .int cc, .int ll] M L K = (∃ (w : Nat) (u : Nat) (e : Nat) (c : Nat) (l : Nat), (isS k ∧ M k 0 = nI w ∧ M k 1 = nI u ∧ M 0 7 = nI e ∧ Sh w u e c 0 ∧ cc = nI c ∧ ll = nI l ∧ l < 4 ∧ Fb (M 19) (M 20)) ∧ (K (some (.int (fil (M 19) (M 20) w u e c l))) M L)) := rfl
theorem pw_X3_filled {k : Nat} {cc : Int32} {ll : Int32} {w : Nat} {u : Nat} {e : Nat} {c : Nat} {l : Nat} {M : ZM} {L : ZL} {K : ma_Kt} (hp : isS k ∧ M k 0 = nI w ∧ M k 1 = nI u ∧ M 0 7 = nI e ∧ Sh w u e c 0 ∧ cc = nI c ∧ ll = nI l ∧ l < 4 ∧ Fb (M 19) (M 20)) (h : (K (some (.int (fil (M 19) (M 20) w u e c l))) M L)) : ma_rn (tb_X3_filled S_X3_neighbour S_J0_floorDiv) 8 [.ref k, .int cc, .int ll] M L K := by
  refine ⟨Nat.le_of_ble_eq_true rfl, fun V hV => ?_⟩
  obtain ⟨hS, m0, m1, m2, hs, rfl, rfl, hl, hb⟩ := hp
  obtain ⟨y0, y1, y2⟩ := id hS
  obtain ⟨s1, s2, s3, s4, s5, s6, s7⟩ := id hs
  have h36 := Nat.mul_le_mul (Nat.le_of_lt_succ s2) (Nat.le_of_lt_succ s4)
  have hB := fS_b (e := e) hb s2 s4 s6 hl
  have hU : ∀ d, fu (M 19) (M 20) w u e c l d = 2000000 ∨ _ := fun d => fu_b (e := e) (d := d) hb s2 s4 s6 hl
  have lp : ∀ j, j ≤ 4 → ∀ (s : Int32) (o6 o7 : Option Value), s.toInt = fS (M 19) (M 20) w u e c l j → ma_nl o6 → V 8 [some (.ref k), some (.int (nI c)), some (.int (nI l)), some (.int s), some (.int (nI (fM (M 19) (M 20) w u e c l j))), some (.int (nI (j + 1))), o6, o7] [] M L := by
    refine lp_up ?_ ?_
    · intro s o6 o7 e1 e2
      have q := hB 4
      refine ma_walk (mo_X3_filled ms_X3_neighbour ms_J0_floorDiv) hV [8] (fun F hF => ?_)
      simp only [tb_X3_filled, hF, in_no, in_push, in_ild, in_lld, in_ald, in_ist, in_ast, in_lst, in_inc, in_iii, in_idv, in_ldv, in_lll, in_lli, in_lil, in_ii, in_il, in_li, in_ll, in_dup, in_dp2, q_if1, q_if2, in_go, in_sw, ma_sw, in_rv, in_ri, in_rz, in_rl, in_get, in_put, in_puz, in_iar, in_bar, in_lar, in_aar, in_iaw, in_baw, in_law, in_len, in_cpy, in_s1, in_s2, in_s3, in_v1, in_v2, in_v3, in_v4, in_v5, in_v6, ma_bk, ma_gl, ma_sl, ma_nl, ma_wc, ma_wd, ma_nn, ma_en, List.mem_cons, List.not_mem_nil, or_false, or_true, true_or, false_or, true_and, and_true, false_and, and_false, if_true, if_false, forall_const, true_implies, false_implies, not_true_eq_false, not_false_eq_true, Classical.not_not, implies_true, and_self, Nat.add_zero, Nat.zero_add, eq_self, ne_eq, reduceCtorEq, Nat.reduceLT, Nat.reduceLeDiff, Nat.reduceEqDiff, Nat.reduceSub, Nat.reduceAdd, i10, i01, im10, Int32.reduceLT, Int32.reduceLE, ↓reduceIte, reduceIte, up_r, uL_r, cp_r, Int32.toInt_toInt64, Int64.reduceToInt, Int32.reduceToInt, ↓b1_or, b1_0, b1_1, lc_lt, lc_le, lc_gt, lc_ge, lc_eq, yx_0, yx_1, yx_2, yx_3, yx_4, yx_5, yx_6, yx_7, yx_8, yx_9, yx_10, yx_11, yx_12, yx_13, yx_14, yx_15, yx_16, yx_17, yx_18, yx_19, yx_20, yx_21, yx_22, yx_23, yx_24, yx_25, yx_26, yx_27, yx_28, yx_29, yx_30, yx_31, yx_32, yx_33, yx_34, yx_35, yx_36, yx_37, yx_38, yx_39, yx_40, yx_41, yx_42, yx_43, yx_44, yx_45, yx_46, yx_47, yx_48, yx_49, yx_50, yx_51, yx_52, yx_53, yx_54, yx_55, yx_56, yx_57, yx_58, yx_59, yx_60, yx_61, yx_62, yx_63, yx_64, yx_65, yx_66, yx_67, yx_68, rx_0, rx_1, rx_2, rx_3, rx_4, rx_5, rx_6, rx_7, rx_8, rx_9, rx_10, rx_11, rx_12, rx_13, rx_14, rx_15, rx_16, rx_17, rx_18, rx_19, rx_20, rx_21, rx_22, rx_23, rx_24, rx_25, rx_26, rx_27, rx_28, rx_29, rx_30, rx_31, rx_32, rx_33, rp_0, rp_1, rp_2, rp_3, rp_4, rp_5, rp_6, rp_7, rp_8, rs_0, rs_1, rs_2, rs_3, rs_4, re_0, re_1, re_2, re_3, re_4, re_5, rr_0, rr_1, rr_2, rr_3, rr_4, rk_0, rk_1, isP3, isP11, isP46, isP58, isS25, isS28, isS31, un_X3_neighbour, un_J0_floorDiv]
      try simp only [iteP, Classical.not_not]
      rw [show (4 : Int32) = nI 4 from rfl, a_lt (by omega) (by omega)]
      refine ⟨fun _ => ?_, fun z => absurd (by omega) z⟩
      unfold fil at h
      rw [a_eq0 (by omega)]
      refine ⟨fun z => ?_, fun z => ⟨z, ?_⟩⟩
      · rw [if_pos z] at h; exact h
      · rw [if_neg z] at h
        refine ki h ?_ rfl rfl
        apply i_ext
        have t1 := a_ti (show fM (M 19) (M 20) w u e c l 4 < 2147483648 by omega)
        rw [fdI_ti (by rw [t1]; omega) (by omega), e1, t1]
        have q3 := dv_b (a := fS (M 19) (M 20) w u e c l 4) (m := (fM (M 19) (M 20) w u e c l 4 : Int)) (b := 1000000) (by omega) q.1 q.2.1
        rw [ofI (by omega) (by omega)]
    · intro j hj ih s o6 o7 e1 e2
      have q := hB j
      have q2 := hB (j + 1)
      have hn := nn_lt (e := e) (d := j + 1) s2 s4 s6
      have hv : vp_in (nI l) 4 := vp_in_nI hl (by decide)
      have c1 := a_cl (show l < 2147483648 by omega)
      have h56 : ∀ (o6 : Int32) (o7 : Option Value), V 56 [some (.ref k), some (.int (nI c)), some (.int (nI l)), some (.int s), some (.int (nI (fM (M 19) (M 20) w u e c l j))), some (.int (nI (j + 1))), some (.int o6), o7] [.int (fu (M 19) (M 20) w u e c l (j + 1))] M L := by
        intro o6 o7
        rw [fS] at q2
        rw [fM] at q2
        refine ma_walk (mo_X3_filled ms_X3_neighbour ms_J0_floorDiv) hV [8] (fun F hF => ?_)
        simp only [tb_X3_filled, hF, in_no, in_push, in_ild, in_lld, in_ald, in_ist, in_ast, in_lst, in_inc, in_iii, in_idv, in_ldv, in_lll, in_lli, in_lil, in_ii, in_il, in_li, in_ll, in_dup, in_dp2, q_if1, q_if2, in_go, in_sw, ma_sw, in_rv, in_ri, in_rz, in_rl, in_get, in_put, in_puz, in_iar, in_bar, in_lar, in_aar, in_iaw, in_baw, in_law, in_len, in_cpy, in_s1, in_s2, in_s3, in_v1, in_v2, in_v3, in_v4, in_v5, in_v6, ma_bk, ma_gl, ma_sl, ma_nl, ma_wc, ma_wd, ma_nn, ma_en, List.mem_cons, List.not_mem_nil, or_false, or_true, true_or, false_or, true_and, and_true, false_and, and_false, if_true, if_false, forall_const, true_implies, false_implies, not_true_eq_false, not_false_eq_true, Classical.not_not, implies_true, and_self, Nat.add_zero, Nat.zero_add, eq_self, ne_eq, reduceCtorEq, Nat.reduceLT, Nat.reduceLeDiff, Nat.reduceEqDiff, Nat.reduceSub, Nat.reduceAdd, i10, i01, im10, Int32.reduceLT, Int32.reduceLE, ↓reduceIte, reduceIte, up_r, uL_r, cp_r, Int32.toInt_toInt64, Int64.reduceToInt, Int32.reduceToInt, ↓b1_or, b1_0, b1_1, lc_lt, lc_le, lc_gt, lc_ge, lc_eq, yx_0, yx_1, yx_2, yx_3, yx_4, yx_5, yx_6, yx_7, yx_8, yx_9, yx_10, yx_11, yx_12, yx_13, yx_14, yx_15, yx_16, yx_17, yx_18, yx_19, yx_20, yx_21, yx_22, yx_23, yx_24, yx_25, yx_26, yx_27, yx_28, yx_29, yx_30, yx_31, yx_32, yx_33, yx_34, yx_35, yx_36, yx_37, yx_38, yx_39, yx_40, yx_41, yx_42, yx_43, yx_44, yx_45, yx_46, yx_47, yx_48, yx_49, yx_50, yx_51, yx_52, yx_53, yx_54, yx_55, yx_56, yx_57, yx_58, yx_59, yx_60, yx_61, yx_62, yx_63, yx_64, yx_65, yx_66, yx_67, yx_68, rx_0, rx_1, rx_2, rx_3, rx_4, rx_5, rx_6, rx_7, rx_8, rx_9, rx_10, rx_11, rx_12, rx_13, rx_14, rx_15, rx_16, rx_17, rx_18, rx_19, rx_20, rx_21, rx_22, rx_23, rx_24, rx_25, rx_26, rx_27, rx_28, rx_29, rx_30, rx_31, rx_32, rx_33, rp_0, rp_1, rp_2, rp_3, rp_4, rp_5, rp_6, rp_7, rp_8, rs_0, rs_1, rs_2, rs_3, rs_4, re_0, re_1, re_2, re_3, re_4, re_5, rr_0, rr_1, rr_2, rr_3, rr_4, rk_0, rk_1, isP3, isP11, isP46, isP58, isS25, isS28, isS31, un_X3_neighbour, un_J0_floorDiv]
        try simp only [iteP, Classical.not_not]
        simp only [nI_1]
        refine ⟨fun z => ?_, fun z => ?_⟩
        · have ih := ih s (some (.int o6)) (some (.int (fu (M 19) (M 20) w u e c l (j + 1))))
          rw [fS, fM, if_pos z, if_pos z] at ih
          rw [if_pos z] at q2
          exact ih (by omega) trivial
        · have hu := hU (j + 1)
          rcases hu with hu | hu
          · exact absurd hu z
          have ih := ih (s + fu (M 19) (M 20) w u e c l (j + 1)) (some (.int o6)) (some (.int (fu (M 19) (M 20) w u e c l (j + 1))))
          rw [fS, fM, if_neg z, if_neg z] at ih
          exact ih (by rw [i_add (by omega) (by omega), e1]) trivial
      refine ma_walk (mo_X3_filled ms_X3_neighbour ms_J0_floorDiv) hV [8, 56] (fun F hF => ?_)
      simp only [tb_X3_filled, hF, in_no, in_push, in_ild, in_lld, in_ald, in_ist, in_ast, in_lst, in_inc, in_iii, in_idv, in_ldv, in_lll, in_lli, in_lil, in_ii, in_il, in_li, in_ll, in_dup, in_dp2, q_if1, q_if2, in_go, in_sw, ma_sw, in_rv, in_ri, in_rz, in_rl, in_get, in_put, in_puz, in_iar, in_bar, in_lar, in_aar, in_iaw, in_baw, in_law, in_len, in_cpy, in_s1, in_s2, in_s3, in_v1, in_v2, in_v3, in_v4, in_v5, in_v6, ma_bk, ma_gl, ma_sl, ma_nl, ma_wc, ma_wd, ma_nn, ma_en, List.mem_cons, List.not_mem_nil, or_false, or_true, true_or, false_or, true_and, and_true, false_and, and_false, if_true, if_false, forall_const, true_implies, false_implies, not_true_eq_false, not_false_eq_true, Classical.not_not, implies_true, and_self, Nat.add_zero, Nat.zero_add, eq_self, ne_eq, reduceCtorEq, Nat.reduceLT, Nat.reduceLeDiff, Nat.reduceEqDiff, Nat.reduceSub, Nat.reduceAdd, i10, i01, im10, Int32.reduceLT, Int32.reduceLE, ↓reduceIte, reduceIte, up_r, uL_r, cp_r, Int32.toInt_toInt64, Int64.reduceToInt, Int32.reduceToInt, ↓b1_or, b1_0, b1_1, lc_lt, lc_le, lc_gt, lc_ge, lc_eq, yx_0, yx_1, yx_2, yx_3, yx_4, yx_5, yx_6, yx_7, yx_8, yx_9, yx_10, yx_11, yx_12, yx_13, yx_14, yx_15, yx_16, yx_17, yx_18, yx_19, yx_20, yx_21, yx_22, yx_23, yx_24, yx_25, yx_26, yx_27, yx_28, yx_29, yx_30, yx_31, yx_32, yx_33, yx_34, yx_35, yx_36, yx_37, yx_38, yx_39, yx_40, yx_41, yx_42, yx_43, yx_44, yx_45, yx_46, yx_47, yx_48, yx_49, yx_50, yx_51, yx_52, yx_53, yx_54, yx_55, yx_56, yx_57, yx_58, yx_59, yx_60, yx_61, yx_62, yx_63, yx_64, yx_65, yx_66, yx_67, yx_68, rx_0, rx_1, rx_2, rx_3, rx_4, rx_5, rx_6, rx_7, rx_8, rx_9, rx_10, rx_11, rx_12, rx_13, rx_14, rx_15, rx_16, rx_17, rx_18, rx_19, rx_20, rx_21, rx_22, rx_23, rx_24, rx_25, rx_26, rx_27, rx_28, rx_29, rx_30, rx_31, rx_32, rx_33, rp_0, rp_1, rp_2, rp_3, rp_4, rp_5, rp_6, rp_7, rp_8, rs_0, rs_1, rs_2, rs_3, rs_4, re_0, re_1, re_2, re_3, re_4, re_5, rr_0, rr_1, rr_2, rr_3, rr_4, rk_0, rk_1, isP3, isP11, isP46, isP58, isS25, isS28, isS31, un_X3_neighbour, un_J0_floorDiv, y0, m0, m1, m2]
      try simp only [iteP, Classical.not_not]
      rw [show ((4 : Int32) < nI (j + 1)) = (4 < j + 1) from a_lt (a := 4) (by omega) (by omega)]
      refine ⟨fun z => absurd z (by omega), fun _ => ⟨w, u, e, c, j + 1, ⟨hS, rfl, rfl, rfl, ⟨s1, s2, s3, s4, s5, s6, by omega⟩, rfl, rfl⟩, ?_⟩⟩
      rw [nbr4 (by omega), c1]
      unfold fu at h56
      refine ⟨fun z => ⟨hv, ?_⟩, fun z => ?_⟩
      · rw [if_pos z] at h56; exact h56 _ _
      · rw [if_neg z] at h56
        rw [nbr_n z, show (4 : Int32) * nI (nn w u e c (j + 1)) = nI (4 * nn w u e c (j + 1)) from pk_mul 4 _, nI_add, a_cl (by omega), a_vi (by omega)]
        exact ⟨by omega, h56 _ _⟩
  refine ma_walk (mo_X3_filled ms_X3_neighbour ms_J0_floorDiv) hV [8] (fun F hF => ?_)
  simp only [tb_X3_filled, hF, in_no, in_push, in_ild, in_lld, in_ald, in_ist, in_ast, in_lst, in_inc, in_iii, in_idv, in_ldv, in_lll, in_lli, in_lil, in_ii, in_il, in_li, in_ll, in_dup, in_dp2, q_if1, q_if2, in_go, in_sw, ma_sw, in_rv, in_ri, in_rz, in_rl, in_get, in_put, in_puz, in_iar, in_bar, in_lar, in_aar, in_iaw, in_baw, in_law, in_len, in_cpy, in_s1, in_s2, in_s3, in_v1, in_v2, in_v3, in_v4, in_v5, in_v6, ma_bk, ma_gl, ma_sl, ma_nl, ma_wc, ma_wd, ma_nn, ma_en, List.mem_cons, List.not_mem_nil, or_false, or_true, true_or, false_or, true_and, and_true, false_and, and_false, if_true, if_false, forall_const, true_implies, false_implies, not_true_eq_false, not_false_eq_true, Classical.not_not, implies_true, and_self, Nat.add_zero, Nat.zero_add, eq_self, ne_eq, reduceCtorEq, Nat.reduceLT, Nat.reduceLeDiff, Nat.reduceEqDiff, Nat.reduceSub, Nat.reduceAdd, i10, i01, im10, Int32.reduceLT, Int32.reduceLE, ↓reduceIte, reduceIte, up_r, uL_r, cp_r, Int32.toInt_toInt64, Int64.reduceToInt, Int32.reduceToInt, ↓b1_or, b1_0, b1_1, lc_lt, lc_le, lc_gt, lc_ge, lc_eq, yx_0, yx_1, yx_2, yx_3, yx_4, yx_5, yx_6, yx_7, yx_8, yx_9, yx_10, yx_11, yx_12, yx_13, yx_14, yx_15, yx_16, yx_17, yx_18, yx_19, yx_20, yx_21, yx_22, yx_23, yx_24, yx_25, yx_26, yx_27, yx_28, yx_29, yx_30, yx_31, yx_32, yx_33, yx_34, yx_35, yx_36, yx_37, yx_38, yx_39, yx_40, yx_41, yx_42, yx_43, yx_44, yx_45, yx_46, yx_47, yx_48, yx_49, yx_50, yx_51, yx_52, yx_53, yx_54, yx_55, yx_56, yx_57, yx_58, yx_59, yx_60, yx_61, yx_62, yx_63, yx_64, yx_65, yx_66, yx_67, yx_68, rx_0, rx_1, rx_2, rx_3, rx_4, rx_5, rx_6, rx_7, rx_8, rx_9, rx_10, rx_11, rx_12, rx_13, rx_14, rx_15, rx_16, rx_17, rx_18, rx_19, rx_20, rx_21, rx_22, rx_23, rx_24, rx_25, rx_26, rx_27, rx_28, rx_29, rx_30, rx_31, rx_32, rx_33, rp_0, rp_1, rp_2, rp_3, rp_4, rp_5, rp_6, rp_7, rp_8, rs_0, rs_1, rs_2, rs_3, rs_4, re_0, re_1, re_2, re_3, re_4, re_5, rr_0, rr_1, rr_2, rr_3, rr_4, rk_0, rk_1, isP3, isP11, isP46, isP58, isS25, isS28, isS31, un_X3_neighbour, un_J0_floorDiv]
  try simp only [iteP, Classical.not_not]
  exact lp 0 (by omega) 0 none none rfl trivial
theorem pv_X3_filled : ∀ as M L K, S_X3_filled as M L K → ma_rn (tb_X3_filled S_X3_neighbour S_J0_floorDiv) 8 as M L K := by
  intro as M L K h
  unfold S_X3_filled at h
  split at h
  · obtain ⟨w, u, e, c, l, h⟩ := h; exact pw_X3_filled h.1 h.2
  · exact h.elim
def S_X5_filled : ma_Cs := fun as M L K => match as with
  | [.ref k, .int cc, .int ll] => ∃ (w : Nat) (u : Nat) (e : Nat) (c : Nat) (l : Nat), (k = 0 ∧ M 0 35 = nI w ∧ M 0 36 = nI u ∧ M 0 2 = nI e ∧ Sh w u e c 0 ∧ cc = nI c ∧ ll = nI l ∧ l < 4 ∧ Fb (M 1) (M 12)) ∧ (K (some (.int (if M 12 (4 * c + l) = 2000000 then fil (M 1) (M 12) w u e c l else M 12 (4 * c + l)))) M L)
  | _ => False
theorem ms_X5_filled : ma_ms S_X5_filled := by
  intro as M L K K' hk h
  unfold S_X5_filled at h ⊢
  split at h
  · obtain ⟨w, u, e, c, l, h⟩ := h
    exact ⟨w, u, e, c, l, h.1, hk _ _ _ h.2⟩
  · exact h.elim
theorem un_X5_filled {k : Nat} {cc : Int32} {ll : Int32} {M : ZM} {L : ZL} {K : ma_Kt} : S_X5_filled [.ref k, .int cc, .int ll] M L K = (∃ (w : Nat) (u : Nat) (e : Nat) (c : Nat) (l : Nat), (k = 0 ∧ M 0 35 = nI w ∧ M 0 36 = nI u ∧ M 0 2 = nI e ∧ Sh w u e c 0 ∧ cc = nI c ∧ ll = nI l ∧ l < 4 ∧ Fb (M 1) (M 12)) ∧ (K (some (.int (if M 12 (4 * c + l) = 2000000 then fil (M 1) (M 12) w u e c l else M 12 (4 * c + l)))) M L)) := rfl
theorem pw_X5_filled {k : Nat} {cc : Int32} {ll : Int32} {w : Nat} {u : Nat} {e : Nat} {c : Nat} {l : Nat} {M : ZM} {L : ZL} {K : ma_Kt} (hp : k = 0 ∧ M 0 35 = nI w ∧ M 0 36 = nI u ∧ M 0 2 = nI e ∧ Sh w u e c 0 ∧ cc = nI c ∧ ll = nI l ∧ l < 4 ∧ Fb (M 1) (M 12)) (h : (K (some (.int (if M 12 (4 * c + l) = 2000000 then fil (M 1) (M 12) w u e c l else M 12 (4 * c + l)))) M L)) : ma_rn (tb_X5_filled S_X5_next S_X5_down) 10 [.ref k, .int cc, .int ll] M L K := by
  refine ⟨Nat.le_of_ble_eq_true rfl, fun V hV => ?_⟩
  obtain ⟨rfl, m0, m1, m2, hs, rfl, rfl, hl, hb⟩ := hp
  obtain ⟨s1, s2, s3, s4, s5, s6, s7⟩ := id hs
  have h36 := Nat.mul_le_mul (Nat.le_of_lt_succ s2) (Nat.le_of_lt_succ s4)
  have hB := fS_b (e := e) hb s2 s4 s6 hl
  have hU : ∀ d, fu (M 1) (M 12) w u e c l d = 2000000 ∨ _ := fun d => fu_b (e := e) (d := d) hb s2 s4 s6 hl
  have lp : M 12 (4 * c + l) = 2000000 → ∀ j, j ≤ 4 → ∀ (s : Int64) (o8 o9 : Option Value), s.toInt = fS (M 1) (M 12) w u e c l j → V 28 [some (.ref 0), some (.int (nI c)), some (.int (nI l)), some (.int 2000000), some (.long s), none, some (.int (nI (fM (M 1) (M 12) w u e c l j))), some (.int (nI (j + 1))), o8, o9] [] M L := by
    intro hg
    rw [if_pos hg] at h
    refine lp_up ?_ ?_
    · intro s o8 o9 e1
      have q := hB 4
      refine ma_walk (mo_X5_filled ms_X5_next ms_X5_down) hV [28] (fun F hF => ?_)
      simp only [tb_X5_filled, hF, in_no, in_push, in_ild, in_lld, in_ald, in_ist, in_ast, in_lst, in_inc, in_iii, in_idv, in_ldv, in_lll, in_lli, in_lil, in_ii, in_il, in_li, in_ll, in_dup, in_dp2, q_if1, q_if2, in_go, in_sw, ma_sw, in_rv, in_ri, in_rz, in_rl, in_get, in_put, in_puz, in_iar, in_bar, in_lar, in_aar, in_iaw, in_baw, in_law, in_len, in_cpy, in_s1, in_s2, in_s3, in_v1, in_v2, in_v3, in_v4, in_v5, in_v6, ma_bk, ma_gl, ma_sl, ma_nl, ma_wc, ma_wd, ma_nn, ma_en, List.mem_cons, List.not_mem_nil, or_false, or_true, true_or, false_or, true_and, and_true, false_and, and_false, if_true, if_false, forall_const, true_implies, false_implies, not_true_eq_false, not_false_eq_true, Classical.not_not, implies_true, and_self, Nat.add_zero, Nat.zero_add, eq_self, ne_eq, reduceCtorEq, Nat.reduceLT, Nat.reduceLeDiff, Nat.reduceEqDiff, Nat.reduceSub, Nat.reduceAdd, i10, i01, im10, Int32.reduceLT, Int32.reduceLE, ↓reduceIte, reduceIte, up_r, uL_r, cp_r, Int32.toInt_toInt64, Int64.reduceToInt, Int32.reduceToInt, ↓b1_or, b1_0, b1_1, lc_lt, lc_le, lc_gt, lc_ge, lc_eq, ym_0, ym_1, ym_2, ym_3, ym_4, ym_5, ym_6, ym_7, ym_8, ym_9, ym_10, ym_11, ym_12, ym_13, ym_14, ym_15, ym_16, ym_17, ym_18, ym_19, ym_20, ym_21, ym_22, ym_23, ym_24, ym_25, ym_26, ym_27, ym_28, ym_29, ym_30, rm__0, rm__1, rm__2, rm__3, rm__4, rm__5, rm__6, rm__7, rm__8, rm__9, rm__10, rm__11, rm__12, rm__13, rm__14, rm__15, rm__16, rm__17, rm__18, rm__19, rm__20, rm__21, rm__22, rm__23, rm__24, rm__25, rm__26, rm__27, rm__28, rm__29, rm__30, rm__31, rm__32, rm__33, rm__34, rm__35, rm__36, rm__37, rm__38, rm__39, rm__40, rm__41, rm__42, rm__43, rm__44, rm__45, un_X5_next, un_X5_down]
      try simp only [iteP, Classical.not_not]
      rw [show (5 : Int32) = nI 5 from rfl, a_le (by omega) (by omega)]
      refine ⟨fun _ => ?_, fun z => absurd (by omega) z⟩
      unfold fil at h
      rw [a_eq0 (by omega)]
      refine ⟨fun z => ?_, fun z => ?_⟩
      · rw [if_pos z] at h; exact h
      · rw [if_neg z] at h
        have t1 : (nI (fM (M 1) (M 12) w u e c l 4)).toInt64.toInt = (fM (M 1) (M 12) w u e c l 4 : Int) := by rw [Int32.toInt_toInt64, a_ti (by omega)]
        refine ⟨fun z2 => ?_, ?_⟩
        · rw [z2] at t1
          have t2 : (0 : Int64).toInt = 0 := rfl
          omega
        refine ki h ?_ rfl rfl
        apply i_ext
        have q3 := dv_b (a := fS (M 1) (M 12) w u e c l 4) (m := (fM (M 1) (M 12) w u e c l 4 : Int)) (b := 1000000) (by omega) q.1 q.2.1
        have t3 := dnL_ti (a := s) (b := (nI (fM (M 1) (M 12) w u e c l 4)).toInt64) (by omega) (by omega) (by omega)
        rw [e1, t1] at t3
        rw [l_i (by omega) (by omega), t3, ofI (by omega) (by omega)]
    · intro j hj ih s o8 o9 e1
      have q := hB j
      have q2 := hB (j + 1)
      have hn := nn_lt (e := e) (d := j + 1) s2 s4 s6
      have hv : vp_in (nI l) 4 := vp_in_nI hl (by decide)
      have c1 := a_cl (show l < 2147483648 by omega)
      have h68 : ∀ (o8 : Int32) (o9 : Option Value), V 68 [some (.ref 0), some (.int (nI c)), some (.int (nI l)), some (.int 2000000), some (.long s), none, some (.int (nI (fM (M 1) (M 12) w u e c l j))), some (.int (nI (j + 1))), some (.int o8), o9] [.int (fu (M 1) (M 12) w u e c l (j + 1))] M L := by
        intro o8 o9
        rw [fS] at q2
        rw [fM] at q2
        refine ma_walk (mo_X5_filled ms_X5_next ms_X5_down) hV [28] (fun F hF => ?_)
        simp only [tb_X5_filled, hF, in_no, in_push, in_ild, in_lld, in_ald, in_ist, in_ast, in_lst, in_inc, in_iii, in_idv, in_ldv, in_lll, in_lli, in_lil, in_ii, in_il, in_li, in_ll, in_dup, in_dp2, q_if1, q_if2, in_go, in_sw, ma_sw, in_rv, in_ri, in_rz, in_rl, in_get, in_put, in_puz, in_iar, in_bar, in_lar, in_aar, in_iaw, in_baw, in_law, in_len, in_cpy, in_s1, in_s2, in_s3, in_v1, in_v2, in_v3, in_v4, in_v5, in_v6, ma_bk, ma_gl, ma_sl, ma_nl, ma_wc, ma_wd, ma_nn, ma_en, List.mem_cons, List.not_mem_nil, or_false, or_true, true_or, false_or, true_and, and_true, false_and, and_false, if_true, if_false, forall_const, true_implies, false_implies, not_true_eq_false, not_false_eq_true, Classical.not_not, implies_true, and_self, Nat.add_zero, Nat.zero_add, eq_self, ne_eq, reduceCtorEq, Nat.reduceLT, Nat.reduceLeDiff, Nat.reduceEqDiff, Nat.reduceSub, Nat.reduceAdd, i10, i01, im10, Int32.reduceLT, Int32.reduceLE, ↓reduceIte, reduceIte, up_r, uL_r, cp_r, Int32.toInt_toInt64, Int64.reduceToInt, Int32.reduceToInt, ↓b1_or, b1_0, b1_1, lc_lt, lc_le, lc_gt, lc_ge, lc_eq, ym_0, ym_1, ym_2, ym_3, ym_4, ym_5, ym_6, ym_7, ym_8, ym_9, ym_10, ym_11, ym_12, ym_13, ym_14, ym_15, ym_16, ym_17, ym_18, ym_19, ym_20, ym_21, ym_22, ym_23, ym_24, ym_25, ym_26, ym_27, ym_28, ym_29, ym_30, rm__0, rm__1, rm__2, rm__3, rm__4, rm__5, rm__6, rm__7, rm__8, rm__9, rm__10, rm__11, rm__12, rm__13, rm__14, rm__15, rm__16, rm__17, rm__18, rm__19, rm__20, rm__21, rm__22, rm__23, rm__24, rm__25, rm__26, rm__27, rm__28, rm__29, rm__30, rm__31, rm__32, rm__33, rm__34, rm__35, rm__36, rm__37, rm__38, rm__39, rm__40, rm__41, rm__42, rm__43, rm__44, rm__45, un_X5_next, un_X5_down]
        try simp only [iteP, Classical.not_not]
        simp only [nI_1]
        refine ⟨fun z => ⟨fun _ => ?_, fun z2 => absurd z z2⟩, fun z => ⟨fun z2 => absurd z2 z, fun _ => ?_⟩⟩
        · have ih := ih (s + 0) (some (.int o8)) (some (.int (fu (M 1) (M 12) w u e c l (j + 1))))
          rw [fS, fM, if_pos z, if_pos z] at ih
          have ih := ih (by rw [Int64.add_zero]; omega)
          rw [Int32.add_zero]; exact ih
        · have hu := hU (j + 1)
          rcases hu with hu | hu
          · exact absurd hu z
          have t1 := Int32.toInt_toInt64 (fu (M 1) (M 12) w u e c l (j + 1))
          have ih := ih (s + (fu (M 1) (M 12) w u e c l (j + 1)).toInt64) (some (.int o8)) (some (.int (fu (M 1) (M 12) w u e c l (j + 1))))
          rw [fS, fM, if_neg z, if_neg z] at ih
          exact ih (by rw [l_add (by omega) (by omega), e1, t1])
      refine ma_walk (mo_X5_filled ms_X5_next ms_X5_down) hV [28, 68] (fun F hF => ?_)
      simp only [tb_X5_filled, hF, in_no, in_push, in_ild, in_lld, in_ald, in_ist, in_ast, in_lst, in_inc, in_iii, in_idv, in_ldv, in_lll, in_lli, in_lil, in_ii, in_il, in_li, in_ll, in_dup, in_dp2, q_if1, q_if2, in_go, in_sw, ma_sw, in_rv, in_ri, in_rz, in_rl, in_get, in_put, in_puz, in_iar, in_bar, in_lar, in_aar, in_iaw, in_baw, in_law, in_len, in_cpy, in_s1, in_s2, in_s3, in_v1, in_v2, in_v3, in_v4, in_v5, in_v6, ma_bk, ma_gl, ma_sl, ma_nl, ma_wc, ma_wd, ma_nn, ma_en, List.mem_cons, List.not_mem_nil, or_false, or_true, true_or, false_or, true_and, and_true, false_and, and_false, if_true, if_false, forall_const, true_implies, false_implies, not_true_eq_false, not_false_eq_true, Classical.not_not, implies_true, and_self, Nat.add_zero, Nat.zero_add, eq_self, ne_eq, reduceCtorEq, Nat.reduceLT, Nat.reduceLeDiff, Nat.reduceEqDiff, Nat.reduceSub, Nat.reduceAdd, i10, i01, im10, Int32.reduceLT, Int32.reduceLE, ↓reduceIte, reduceIte, up_r, uL_r, cp_r, Int32.toInt_toInt64, Int64.reduceToInt, Int32.reduceToInt, ↓b1_or, b1_0, b1_1, lc_lt, lc_le, lc_gt, lc_ge, lc_eq, ym_0, ym_1, ym_2, ym_3, ym_4, ym_5, ym_6, ym_7, ym_8, ym_9, ym_10, ym_11, ym_12, ym_13, ym_14, ym_15, ym_16, ym_17, ym_18, ym_19, ym_20, ym_21, ym_22, ym_23, ym_24, ym_25, ym_26, ym_27, ym_28, ym_29, ym_30, rm__0, rm__1, rm__2, rm__3, rm__4, rm__5, rm__6, rm__7, rm__8, rm__9, rm__10, rm__11, rm__12, rm__13, rm__14, rm__15, rm__16, rm__17, rm__18, rm__19, rm__20, rm__21, rm__22, rm__23, rm__24, rm__25, rm__26, rm__27, rm__28, rm__29, rm__30, rm__31, rm__32, rm__33, rm__34, rm__35, rm__36, rm__37, rm__38, rm__39, rm__40, rm__41, rm__42, rm__43, rm__44, rm__45, un_X5_next, un_X5_down, m0, m1, m2]
      try simp only [iteP, Classical.not_not]
      rw [show (5 : Int32) = nI 5 from rfl, a_le (by omega) (by omega)]
      refine ⟨fun z => absurd z (by omega), fun _ => ⟨w, u, e, c, j + 1, ⟨rfl, rfl, rfl, ⟨s1, s2, s3, s4, s5, s6, by omega⟩, rfl, rfl⟩, ?_⟩⟩
      rw [nbr1 (by omega), c1]
      unfold fu at h68
      refine ⟨fun z => ?_, fun z => ⟨hv, ?_⟩⟩
      · rw [if_neg z] at h68
        rw [nbr_n z, show (4 : Int32) * nI (nn w u e c (j + 1)) = nI (4 * nn w u e c (j + 1)) from pk_mul 4 _, nI_add, a_cl (by omega), a_vi (by omega)]
        exact ⟨by omega, h68 _ _⟩
      · rw [if_pos (Classical.not_not.1 z)] at h68; exact h68 _ _
  refine ma_walk (mo_X5_filled ms_X5_next ms_X5_down) hV [28] (fun F hF => ?_)
  simp only [tb_X5_filled, hF, in_no, in_push, in_ild, in_lld, in_ald, in_ist, in_ast, in_lst, in_inc, in_iii, in_idv, in_ldv, in_lll, in_lli, in_lil, in_ii, in_il, in_li, in_ll, in_dup, in_dp2, q_if1, q_if2, in_go, in_sw, ma_sw, in_rv, in_ri, in_rz, in_rl, in_get, in_put, in_puz, in_iar, in_bar, in_lar, in_aar, in_iaw, in_baw, in_law, in_len, in_cpy, in_s1, in_s2, in_s3, in_v1, in_v2, in_v3, in_v4, in_v5, in_v6, ma_bk, ma_gl, ma_sl, ma_nl, ma_wc, ma_wd, ma_nn, ma_en, List.mem_cons, List.not_mem_nil, or_false, or_true, true_or, false_or, true_and, and_true, false_and, and_false, if_true, if_false, forall_const, true_implies, false_implies, not_true_eq_false, not_false_eq_true, Classical.not_not, implies_true, and_self, Nat.add_zero, Nat.zero_add, eq_self, ne_eq, reduceCtorEq, Nat.reduceLT, Nat.reduceLeDiff, Nat.reduceEqDiff, Nat.reduceSub, Nat.reduceAdd, i10, i01, im10, Int32.reduceLT, Int32.reduceLE, ↓reduceIte, reduceIte, up_r, uL_r, cp_r, Int32.toInt_toInt64, Int64.reduceToInt, Int32.reduceToInt, ↓b1_or, b1_0, b1_1, lc_lt, lc_le, lc_gt, lc_ge, lc_eq, ym_0, ym_1, ym_2, ym_3, ym_4, ym_5, ym_6, ym_7, ym_8, ym_9, ym_10, ym_11, ym_12, ym_13, ym_14, ym_15, ym_16, ym_17, ym_18, ym_19, ym_20, ym_21, ym_22, ym_23, ym_24, ym_25, ym_26, ym_27, ym_28, ym_29, ym_30, rm__0, rm__1, rm__2, rm__3, rm__4, rm__5, rm__6, rm__7, rm__8, rm__9, rm__10, rm__11, rm__12, rm__13, rm__14, rm__15, rm__16, rm__17, rm__18, rm__19, rm__20, rm__21, rm__22, rm__23, rm__24, rm__25, rm__26, rm__27, rm__28, rm__29, rm__30, rm__31, rm__32, rm__33, rm__34, rm__35, rm__36, rm__37, rm__38, rm__39, rm__40, rm__41, rm__42, rm__43, rm__44, rm__45, un_X5_next, un_X5_down]
  try simp only [iteP, Classical.not_not]
  have e0 : (4 : Int32) * nI c + nI l = nI (4 * c + l) := by rw [show (4 : Int32) = nI 4 from rfl, pk_mul, nI_add]
  rw [e0, a_cl (by omega), a_vi (by omega)]
  refine ⟨by omega, fun z => ?_, fun z => ?_⟩
  · rw [z]; exact lp z 0 (by omega) 0 none none rfl
  · rw [if_neg z] at h; exact h
theorem pv_X5_filled : ∀ as M L K, S_X5_filled as M L K → ma_rn (tb_X5_filled S_X5_next S_X5_down) 10 as M L K := by
  intro as M L K h
  unfold S_X5_filled at h
  split at h
  · obtain ⟨w, u, e, c, l, h⟩ := h; exact pw_X5_filled h.1 h.2
  · exact h.elim
