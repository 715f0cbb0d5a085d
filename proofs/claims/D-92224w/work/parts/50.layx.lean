/-! when steps are ended: the component -/
set_option maxRecDepth 100000
set_option maxHeartbeats 4000000
theorem i36 (s c : Nat) : nI s * 36 + nI c = nI (36 * s + c) := by
  rw [show (36 : Int32) = nI 36 from rfl, pk_mul, nI_add]; congr 1; omega
theorem i36' (s c : Nat) : (36 : Int32) * nI s + nI c = nI (36 * s + c) := by
  rw [show (36 : Int32) = nI 36 from rfl, pk_mul, nI_add]
theorem mx_i {a b : Nat} (ha : a < 2147483648) (hb : b < 2147483648) : (if nI a < nI b then nI b else nI a) = nI (max a b) := by
  by_cases c : a < b
  · rw [if_pos (nI_lt c hb), Nat.max_eq_right (by omega)]
  · rw [if_neg (nI_nlt (by omega) ha), Nat.max_eq_left (by omega)]
def Lf (M M1 : ZM) (w u : Nat) : Prop := (∀ x, x ≠ 25 → x ≠ 41 → x ≠ 42 → M1 x = M x) ∧ M1 25 0 = nI w ∧ M1 25 1 = nI u ∧ ∀ j, 2 ≤ j → M1 25 j = M 25 j
def S_X0_layEnds : ma_Cs := fun as M L K => match as with
  | [.ref k, .ref a, .int st'] => ∃ (w : Nat) (u : Nat) (e : Nat) (wk : Nat) (bb : Nat → Nat) (pc : Nat → Nat) (st : Nat), (k = 0 ∧ (a = 39 ∨ a = 40) ∧ M 0 5 = nI w ∧ M 0 6 = nI u ∧ M 0 7 = nI e ∧ Sh w u e 0 0 ∧ M 0 25 = nI wk ∧ Pe (w * u) wk bb pc ∧ (∀ c, c < w * u → M a c = nI (bb c)) ∧ (∀ p, p < 6 → M 38 p = nI (pc p)) ∧ st' = nI st ∧ st < 13) ∧ (∀ (M' : ZM), Lf M M' w u → (∀ s c, s ≤ st → c < w * u → M' 41 (36 * s + c) = nI ((es w u e wk bb pc s).1 c)) → K none M' L)
  | _ => False
theorem ms_X0_layEnds : ma_ms S_X0_layEnds := by
  intro as M L K K' hk h
  unfold S_X0_layEnds at h ⊢
  split at h
  · obtain ⟨w, u, e, wk, bb, pc, st, h⟩ := h
    exact ⟨w, u, e, wk, bb, pc, st, h.1, fun x0 x1 x2 => hk _ _ _ (h.2 x0 x1 x2)⟩
  · exact h.elim
theorem un_X0_layEnds {k : Nat} {a : Nat} {st' : Int32} {M : ZM} {L : ZL} {K : ma_Kt} : S_X0_layEnds [.ref k, .ref a, .int st'] M L K = (∃ (w : Nat) (u : Nat) (e : Nat) (wk : Nat) (bb : Nat → Nat) (pc : Nat → Nat) (st : Nat), (k = 0 ∧ (a = 39 ∨ a = 40) ∧ M 0 5 = nI w ∧ M 0 6 = nI u ∧ M 0 7 = nI e ∧ Sh w u e 0 0 ∧ M 0 25 = nI wk ∧ Pe (w * u) wk bb pc ∧ (∀ c, c < w * u → M a c = nI (bb c)) ∧ (∀ p, p < 6 → M 38 p = nI (pc p)) ∧ st' = nI st ∧ st < 13) ∧ (∀ (M' : ZM), Lf M M' w u → (∀ s c, s ≤ st → c < w * u → M' 41 (36 * s + c) = nI ((es w u e wk bb pc s).1 c)) → K none M' L)) := rfl
theorem pw_X0_layEnds {k : Nat} {a : Nat} {st' : Int32} {w : Nat} {u : Nat} {e : Nat} {wk : Nat} {bb : Nat → Nat} {pc : Nat → Nat} {st : Nat} {M : ZM} {L : ZL} {K : ma_Kt} (hp : k = 0 ∧ (a = 39 ∨ a = 40) ∧ M 0 5 = nI w ∧ M 0 6 = nI u ∧ M 0 7 = nI e ∧ Sh w u e 0 0 ∧ M 0 25 = nI wk ∧ Pe (w * u) wk bb pc ∧ (∀ c, c < w * u → M a c = nI (bb c)) ∧ (∀ p, p < 6 → M 38 p = nI (pc p)) ∧ st' = nI st ∧ st < 13) (h : (∀ (M' : ZM), Lf M M' w u → (∀ s c, s ≤ st → c < w * u → M' 41 (36 * s + c) = nI ((es w u e wk bb pc s).1 c)) → K none M' L)) : ma_rn (tb_X0_layEnds S_X0_cells S_X3_neighbour S_J0_max) 8 [.ref k, .ref a, .int st'] M L K := by
  refine ⟨Nat.le_of_ble_eq_true rfl, fun V hV => ?_⟩
  obtain ⟨rfl, ha, m0, m1, m2, hs, m3, hPe, hby, hpc, rfl, hst⟩ := hp
  have ya : YX a = (1, 36, 0, fun _ => none) := by rcases ha with rfl | rfl <;> rfl
  have hax : a ≠ 25 ∧ a ≠ 41 ∧ a ≠ 42 := by rcases ha with rfl | rfl <;> decide
  obtain ⟨s1, s2, s3, s4, s5, s6, s7⟩ := id hs
  have h36 := Nat.mul_le_mul (Nat.le_of_lt_succ s2) (Nat.le_of_lt_succ s4)
  have hwu : nI w * nI u = nI (w * u) := pk_mul w u
  have hb := fun s => es_b (e := e) s2 s4 hPe s
  have hdep : ∀ d s c, s < 12 → c < w * u → bgn w u e wk bb (s + 1) (es w u e wk bb pc s).1 (fe w u e wk bb pc (s + 1) (es w u e wk bb pc s).1 (es w u e wk bb pc s).2 c) c d ≤ 16000 := by
    intro d s c h1 h2
    have q := (fe_b (e := e) (s := s + 1) s2 s4 hPe (hb s).1 (hb s).2 c (by omega)).2 h2 d
    omega
  have v97 : ∀ s c, s < st → c < w * u → ∀ (M1 : ZM), Lf M M1 w u → Eg (M1 41) (M1 42) 0 (w * u) (fun s => (es w u e wk bb pc s).1) (fe w u e wk bb pc (s + 1) (es w u e wk bb pc s).1 (es w u e wk bb pc s).2 c) (s + 1) c →
      (∀ (M2 : ZM) (o5 o6 o7 : Option Value), Lf M M2 w u → Eg (M2 41) (M2 42) 0 (w * u) (fun s => (es w u e wk bb pc s).1) (fe w u e wk bb pc (s + 1) (es w u e wk bb pc s).1 (es w u e wk bb pc s).2 (c + 1)) (s + 1) (c + 1) → V 74 [some (.ref 0), some (.ref a), some (.int (nI st)), some (.int (nI (s + 1))), some (.int (nI (c + 1))), o5, o6, o7] [] M2 L) →
      ∀ d, d ≤ 4 → ∀ o7 : Option Value, V 97 [some (.ref 0), some (.ref a), some (.int (nI st)), some (.int (nI (s + 1))), some (.int (nI c)), some (.int (nI (bgn w u e wk bb (s + 1) (es w u e wk bb pc s).1 (fe w u e wk bb pc (s + 1) (es w u e wk bb pc s).1 (es w u e wk bb pc s).2 c) c d))), some (.int (nI (d + 1))), o7] [] M1 L := by
    intro s c h1 h2 M1 e3 e4 H
    obtain ⟨g1, g2, g3, g4⟩ := id e3
    have ga : M1 a c = nI (bb c) := by rw [g1 a hax.1 hax.2.1 hax.2.2]; exact hby c h2
    have g0 : M1 0 = M 0 := g1 0 (by decide) (by decide) (by decide)
    have hc6 := hPe.2.1 c h2
    have gp : M1 38 (bb c) = nI (pc (bb c)) := by rw [g1 38 (by decide) (by decide) (by decide)]; exact hpc _ hc6
    have hpc20 := hPe.2.2 _ hc6
    have vc : vp_in (nI c) 36 := vp_in_nI (by omega) (by decide)
    have cc := a_cl (show c < 2147483648 by omega)
    have vb : vp_in (nI (bb c)) 6 := vp_in_nI hc6 (by decide)
    have cb := a_cl (show bb c < 2147483648 by omega)
    refine lp_up ?_ ?_
    · intro o7
      have vE : vp_in (nI (36 * (s + 1) + c)) 468 := vp_in_nI (by omega) (by decide)
      have cE := a_cl (show 36 * (s + 1) + c < 2147483648 by omega)
      refine ma_walk (mo_X0_layEnds ms_X0_cells ms_X3_neighbour ms_J0_max) hV [66, 74, 97] (fun F hF => ?_)
      simp only [tb_X0_layEnds, hF, in_no, in_push, in_ild, in_lld, in_ald, in_ist, in_ast, in_lst, in_inc, in_iii, in_idv, in_ldv, in_lll, in_lli, in_lil, in_ii, in_il, in_li, in_ll, in_dup, in_dp2, q_if1, q_if2, in_go, in_sw, ma_sw, in_rv, in_ri, in_rz, in_rl, in_get, in_put, in_puz, in_iar, in_bar, in_lar, in_aar, in_iaw, in_baw, in_law, in_len, in_cpy, in_s1, in_s2, in_s3, in_v1, in_v2, in_v3, in_v4, in_v5, in_v6, ma_bk, ma_gl, ma_sl, ma_nl, ma_wc, ma_wd, ma_nn, ma_en, List.mem_cons, List.not_mem_nil, or_false, or_true, true_or, false_or, true_and, and_true, false_and, and_false, if_true, if_false, forall_const, true_implies, false_implies, not_true_eq_false, not_false_eq_true, Classical.not_not, implies_true, and_self, Nat.add_zero, Nat.zero_add, eq_self, ne_eq, reduceCtorEq, Nat.reduceLT, Nat.reduceLeDiff, Nat.reduceEqDiff, Nat.reduceSub, Nat.reduceAdd, i10, i01, im10, Int32.reduceLT, Int32.reduceLE, ↓reduceIte, reduceIte, up_r, uL_r, cp_r, Int32.toInt_toInt64, Int64.reduceToInt, Int32.reduceToInt, ↓b1_or, b1_0, b1_1, lc_lt, lc_le, lc_gt, lc_ge, lc_eq, yx_0, yx_1, yx_2, yx_3, yx_4, yx_5, yx_6, yx_7, yx_8, yx_9, yx_10, yx_11, yx_12, yx_13, yx_14, yx_15, yx_16, yx_17, yx_18, yx_19, yx_20, yx_21, yx_22, yx_23, yx_24, yx_25, yx_26, yx_27, yx_28, yx_29, yx_30, yx_31, yx_32, yx_33, yx_34, yx_35, yx_36, yx_37, yx_38, yx_39, yx_40, yx_41, yx_42, yx_43, yx_44, yx_45, yx_46, yx_47, yx_48, yx_49, yx_50, yx_51, yx_52, yx_53, yx_54, yx_55, yx_56, yx_57, yx_58, yx_59, yx_60, yx_61, yx_62, yx_63, yx_64, yx_65, yx_66, yx_67, yx_68, rx_0, rx_1, rx_2, rx_3, rx_4, rx_5, rx_6, rx_7, rx_8, rx_9, rx_10, rx_11, rx_12, rx_13, rx_14, rx_15, rx_16, rx_17, rx_18, rx_19, rx_20, rx_21, rx_22, rx_23, rx_24, rx_25, rx_26, rx_27, rx_28, rx_29, rx_30, rx_31, rx_32, rx_33, rp_0, rp_1, rp_2, rp_3, rp_4, rp_5, rp_6, rp_7, rp_8, rs_0, rs_1, rs_2, rs_3, rs_4, re_0, re_1, re_2, re_3, re_4, re_5, rr_0, rr_1, rr_2, rr_3, rr_4, rk_0, rk_1, isP3, isP11, isP46, isP58, isS25, isS28, isS31, un_X0_cells, un_X3_neighbour, un_J0_max, hax.1, hax.2.1, hax.2.2, ya, ga, gp, vc, cc, vb, cb, i36, vE, cE, nI_add, nI_1]
      try simp only [iteP, Classical.not_not, b1_0, b1_1]
      refine ⟨fun _ => ?_, fun z => absurd (by decide) z⟩
      refine H _ _ _ _ ⟨fun x z1 z2 z3 => by rw [up_c z3, up_c z2]; exact g1 x z1 z2 z3, g2, g3, g4⟩ ?_
      rw [up_c (show (41 : Nat) ≠ 42 by decide), ma_up_at, ma_up_at, up_c (show (42 : Nat) ≠ 41 by decide)]
      refine e4.put h36 h2 rfl (fun p hp => ?_)
      rw [fe]; rfl
    · intro d hd ih o7
      have hn := nn_lt (e := e) (d := d + 1) s2 s4 h2
      have hB := hdep d s c (by omega) h2
      have s11 : nI (s + 1) - 1 = nI s := nI_pred s
      have z1s : (nI (s + 1) = (1 : Int32)) = (s = 0) := by
        rw [show (1 : Int32) = nI 1 from rfl, a_eq (by omega) (by omega)]; exact propext (by omega)
      have m25 : M1 0 25 = nI wk := by rw [g0]; exact m3
      refine ma_walk (mo_X0_layEnds ms_X0_cells ms_X3_neighbour ms_J0_max) hV [66, 74, 97] (fun F hF => ?_)
      simp only [tb_X0_layEnds, hF, in_no, in_push, in_ild, in_lld, in_ald, in_ist, in_ast, in_lst, in_inc, in_iii, in_idv, in_ldv, in_lll, in_lli, in_lil, in_ii, in_il, in_li, in_ll, in_dup, in_dp2, q_if1, q_if2, in_go, in_sw, ma_sw, in_rv, in_ri, in_rz, in_rl, in_get, in_put, in_puz, in_iar, in_bar, in_lar, in_aar, in_iaw, in_baw, in_law, in_len, in_cpy, in_s1, in_s2, in_s3, in_v1, in_v2, in_v3, in_v4, in_v5, in_v6, ma_bk, ma_gl, ma_sl, ma_nl, ma_wc, ma_wd, ma_nn, ma_en, List.mem_cons, List.not_mem_nil, or_false, or_true, true_or, false_or, true_and, and_true, false_and, and_false, if_true, if_false, forall_const, true_implies, false_implies, not_true_eq_false, not_false_eq_true, Classical.not_not, implies_true, and_self, Nat.add_zero, Nat.zero_add, eq_self, ne_eq, reduceCtorEq, Nat.reduceLT, Nat.reduceLeDiff, Nat.reduceEqDiff, Nat.reduceSub, Nat.reduceAdd, i10, i01, im10, Int32.reduceLT, Int32.reduceLE, ↓reduceIte, reduceIte, up_r, uL_r, cp_r, Int32.toInt_toInt64, Int64.reduceToInt, Int32.reduceToInt, ↓b1_or, b1_0, b1_1, lc_lt, lc_le, lc_gt, lc_ge, lc_eq, yx_0, yx_1, yx_2, yx_3, yx_4, yx_5, yx_6, yx_7, yx_8, yx_9, yx_10, yx_11, yx_12, yx_13, yx_14, yx_15, yx_16, yx_17, yx_18, yx_19, yx_20, yx_21, yx_22, yx_23, yx_24, yx_25, yx_26, yx_27, yx_28, yx_29, yx_30, yx_31, yx_32, yx_33, yx_34, yx_35, yx_36, yx_37, yx_38, yx_39, yx_40, yx_41, yx_42, yx_43, yx_44, yx_45, yx_46, yx_47, yx_48, yx_49, yx_50, yx_51, yx_52, yx_53, yx_54, yx_55, yx_56, yx_57, yx_58, yx_59, yx_60, yx_61, yx_62, yx_63, yx_64, yx_65, yx_66, yx_67, yx_68, rx_0, rx_1, rx_2, rx_3, rx_4, rx_5, rx_6, rx_7, rx_8, rx_9, rx_10, rx_11, rx_12, rx_13, rx_14, rx_15, rx_16, rx_17, rx_18, rx_19, rx_20, rx_21, rx_22, rx_23, rx_24, rx_25, rx_26, rx_27, rx_28, rx_29, rx_30, rx_31, rx_32, rx_33, rp_0, rp_1, rp_2, rp_3, rp_4, rp_5, rp_6, rp_7, rp_8, rs_0, rs_1, rs_2, rs_3, rs_4, re_0, re_1, re_2, re_3, re_4, re_5, rr_0, rr_1, rr_2, rr_3, rr_4, rk_0, rk_1, isP3, isP11, isP46, isP58, isS25, isS28, isS31, un_X0_cells, un_X3_neighbour, un_J0_max, ya, ga, gp, vc, cc, nI_1, s11, g2, g3, m25]
      try simp only [iteP, Classical.not_not, b1_0, b1_1]
      rw [show ((4 : Int32) < nI (d + 1)) = (4 < d + 1) from a_lt (a := 4) (by omega) (by omega)]
      refine ⟨fun z => absurd z (by omega), fun _ => ⟨w, u, e, c, d + 1, ⟨rfl, rfl, by rw [g0]; exact m2, ⟨s1, s2, s3, s4, s5, h2, by omega⟩, rfl, rfl⟩, ?_⟩⟩
      rw [nbr4 (by omega), z1s]
      refine ⟨fun z => ?_, fun z => ⟨fun z2 => ?_, fun z2 => ?_⟩⟩
      · by_cases hs1 : s + 1 = 1
        · rw [bgn_le hs1] at ih ⊢; exact ih _
        · rw [bgn_s hs1, if_pos z] at ih; exact ih _
      · have hs1 : s + 1 = 1 := by omega
        rw [bgn_le hs1] at ih ⊢
        rw [bgn_le hs1] at hB
        rw [show (if nI (fe w u e wk bb pc (s + 1) (es w u e wk bb pc s).1 (es w u e wk bb pc s).2 c (bb c)) < 0 then 0 else nI (fe w u e wk bb pc (s + 1) (es w u e wk bb pc s).1 (es w u e wk bb pc s).2 c (bb c))) = nI (max (fe w u e wk bb pc (s + 1) (es w u e wk bb pc s).1 (es w u e wk bb pc s).2 c (bb c)) 0) from mx_i (b := 0) (by omega) (by omega), Nat.max_eq_left (by omega)]; exact ih _
      · have hs1 : ¬ s + 1 = 1 := by omega
        have hn2 : nn w u e c (d + 1) < w * u := by omega
        have e9 : M1 41 (36 * s + nn w u e c (d + 1)) = nI ((es w u e wk bb pc s).1 (nn w u e c (d + 1))) := e4.1 s (nn w u e c (d + 1)) (Nat.zero_le _) hn2 (Or.inl (by omega))
        have hb9 := (hb s).1 _ hn2
        have gb : M1 a (nn w u e c (d + 1)) = nI (bb (nn w u e c (d + 1))) := by rw [g1 a hax.1 hax.2.1 hax.2.2]; exact hby _ hn2
        have hb6 := hPe.2.1 _ hn2
        have hwk := hPe.1
        rw [nbr_n z, i36, a_cl (show 36 * s + nn w u e c (d + 1) < 2147483648 by omega), a_cl (show nn w u e c (d + 1) < 2147483648 by omega), a_vi (by omega), a_vi (by omega), e9, gb, a_eq (by omega) (by omega)]
        rw [bgn_s hs1, if_neg z] at ih
        refine ⟨by omega, by omega, fun z3 => ?_, fun z3 => ?_⟩
        · rw [if_pos z3] at ih
          rw [Int32.add_zero, mx_i (by omega) (by omega)]
          exact ih _
        · rw [if_neg z3] at ih
          rw [nI_add, mx_i (by omega) (by omega)]
          exact ih _
  have v74 : ∀ s, s < st → (∀ (M2 : ZM) (o4 o5 o6 o7 : Option Value), Lf M M2 w u → Eg (M2 41) (M2 42) 0 (w * u) (fun s => (es w u e wk bb pc s).1) (es w u e wk bb pc (s + 1)).2 (s + 2) 0 → V 66 [some (.ref 0), some (.ref a), some (.int (nI st)), some (.int (nI (s + 2))), o4, o5, o6, o7] [] M2 L) →
      ∀ c, c ≤ w * u → ∀ (M1 : ZM) (o5 o6 o7 : Option Value), Lf M M1 w u → Eg (M1 41) (M1 42) 0 (w * u) (fun s => (es w u e wk bb pc s).1) (fe w u e wk bb pc (s + 1) (es w u e wk bb pc s).1 (es w u e wk bb pc s).2 c) (s + 1) c → V 74 [some (.ref 0), some (.ref a), some (.int (nI st)), some (.int (nI (s + 1))), some (.int (nI c)), o5, o6, o7] [] M1 L := by
    intro s h1 H
    refine lp_up ?_ ?_
    · intro M1 o5 o6 o7 e3 e4
      have g0 : M1 0 = M 0 := e3.1 0 (by decide) (by decide) (by decide)
      refine ma_walk (mo_X0_layEnds ms_X0_cells ms_X3_neighbour ms_J0_max) hV [66, 74, 97] (fun F hF => ?_)
      simp only [tb_X0_layEnds, hF, in_no, in_push, in_ild, in_lld, in_ald, in_ist, in_ast, in_lst, in_inc, in_iii, in_idv, in_ldv, in_lll, in_lli, in_lil, in_ii, in_il, in_li, in_ll, in_dup, in_dp2, q_if1, q_if2, in_go, in_sw, ma_sw, in_rv, in_ri, in_rz, in_rl, in_get, in_put, in_puz, in_iar, in_bar, in_lar, in_aar, in_iaw, in_baw, in_law, in_len, in_cpy, in_s1, in_s2, in_s3, in_v1, in_v2, in_v3, in_v4, in_v5, in_v6, ma_bk, ma_gl, ma_sl, ma_nl, ma_wc, ma_wd, ma_nn, ma_en, List.mem_cons, List.not_mem_nil, or_false, or_true, true_or, false_or, true_and, and_true, false_and, and_false, if_true, if_false, forall_const, true_implies, false_implies, not_true_eq_false, not_false_eq_true, Classical.not_not, implies_true, and_self, Nat.add_zero, Nat.zero_add, eq_self, ne_eq, reduceCtorEq, Nat.reduceLT, Nat.reduceLeDiff, Nat.reduceEqDiff, Nat.reduceSub, Nat.reduceAdd, i10, i01, im10, Int32.reduceLT, Int32.reduceLE, ↓reduceIte, reduceIte, up_r, uL_r, cp_r, Int32.toInt_toInt64, Int64.reduceToInt, Int32.reduceToInt, ↓b1_or, b1_0, b1_1, lc_lt, lc_le, lc_gt, lc_ge, lc_eq, yx_0, yx_1, yx_2, yx_3, yx_4, yx_5, yx_6, yx_7, yx_8, yx_9, yx_10, yx_11, yx_12, yx_13, yx_14, yx_15, yx_16, yx_17, yx_18, yx_19, yx_20, yx_21, yx_22, yx_23, yx_24, yx_25, yx_26, yx_27, yx_28, yx_29, yx_30, yx_31, yx_32, yx_33, yx_34, yx_35, yx_36, yx_37, yx_38, yx_39, yx_40, yx_41, yx_42, yx_43, yx_44, yx_45, yx_46, yx_47, yx_48, yx_49, yx_50, yx_51, yx_52, yx_53, yx_54, yx_55, yx_56, yx_57, yx_58, yx_59, yx_60, yx_61, yx_62, yx_63, yx_64, yx_65, yx_66, yx_67, yx_68, rx_0, rx_1, rx_2, rx_3, rx_4, rx_5, rx_6, rx_7, rx_8, rx_9, rx_10, rx_11, rx_12, rx_13, rx_14, rx_15, rx_16, rx_17, rx_18, rx_19, rx_20, rx_21, rx_22, rx_23, rx_24, rx_25, rx_26, rx_27, rx_28, rx_29, rx_30, rx_31, rx_32, rx_33, rp_0, rp_1, rp_2, rp_3, rp_4, rp_5, rp_6, rp_7, rp_8, rs_0, rs_1, rs_2, rs_3, rs_4, re_0, re_1, re_2, re_3, re_4, re_5, rr_0, rr_1, rr_2, rr_3, rr_4, rk_0, rk_1, isP3, isP11, isP46, isP58, isS25, isS28, isS31, un_X0_cells, un_X3_neighbour, un_J0_max, g0, m0, m1, hwu, nI_1]
      try simp only [iteP, Classical.not_not, b1_0, b1_1]
      exact ⟨fun _ => H _ _ _ _ _ e3 e4.next, fun z => absurd (nI_le (Nat.le_refl _) (by omega)) z⟩
    · intro c hc ih M1 o5 o6 o7 e3 e4
      obtain ⟨g1, g2, g3, g4⟩ := id e3
      have g0 : M1 0 = M 0 := e3.1 0 (by decide) (by decide) (by decide)
      have ga : M1 a c = nI (bb c) := by rw [g1 a hax.1 hax.2.1 hax.2.2]; exact hby c hc
      have hc6 := hPe.2.1 c hc
      have vc : vp_in (nI c) 36 := vp_in_nI (by omega) (by decide)
      have cc := a_cl (show c < 2147483648 by omega)
      have vb : vp_in (nI (bb c)) 6 := vp_in_nI hc6 (by decide)
      have cb := a_cl (show bb c < 2147483648 by omega)
      have gf := e4.2 _ hc6
      refine ma_walk (mo_X0_layEnds ms_X0_cells ms_X3_neighbour ms_J0_max) hV [66, 74, 97] (fun F hF => ?_)
      simp only [tb_X0_layEnds, hF, in_no, in_push, in_ild, in_lld, in_ald, in_ist, in_ast, in_lst, in_inc, in_iii, in_idv, in_ldv, in_lll, in_lli, in_lil, in_ii, in_il, in_li, in_ll, in_dup, in_dp2, q_if1, q_if2, in_go, in_sw, ma_sw, in_rv, in_ri, in_rz, in_rl, in_get, in_put, in_puz, in_iar, in_bar, in_lar, in_aar, in_iaw, in_baw, in_law, in_len, in_cpy, in_s1, in_s2, in_s3, in_v1, in_v2, in_v3, in_v4, in_v5, in_v6, ma_bk, ma_gl, ma_sl, ma_nl, ma_wc, ma_wd, ma_nn, ma_en, List.mem_cons, List.not_mem_nil, or_false, or_true, true_or, false_or, true_and, and_true, false_and, and_false, if_true, if_false, forall_const, true_implies, false_implies, not_true_eq_false, not_false_eq_true, Classical.not_not, implies_true, and_self, Nat.add_zero, Nat.zero_add, eq_self, ne_eq, reduceCtorEq, Nat.reduceLT, Nat.reduceLeDiff, Nat.reduceEqDiff, Nat.reduceSub, Nat.reduceAdd, i10, i01, im10, Int32.reduceLT, Int32.reduceLE, ↓reduceIte, reduceIte, up_r, uL_r, cp_r, Int32.toInt_toInt64, Int64.reduceToInt, Int32.reduceToInt, ↓b1_or, b1_0, b1_1, lc_lt, lc_le, lc_gt, lc_ge, lc_eq, yx_0, yx_1, yx_2, yx_3, yx_4, yx_5, yx_6, yx_7, yx_8, yx_9, yx_10, yx_11, yx_12, yx_13, yx_14, yx_15, yx_16, yx_17, yx_18, yx_19, yx_20, yx_21, yx_22, yx_23, yx_24, yx_25, yx_26, yx_27, yx_28, yx_29, yx_30, yx_31, yx_32, yx_33, yx_34, yx_35, yx_36, yx_37, yx_38, yx_39, yx_40, yx_41, yx_42, yx_43, yx_44, yx_45, yx_46, yx_47, yx_48, yx_49, yx_50, yx_51, yx_52, yx_53, yx_54, yx_55, yx_56, yx_57, yx_58, yx_59, yx_60, yx_61, yx_62, yx_63, yx_64, yx_65, yx_66, yx_67, yx_68, rx_0, rx_1, rx_2, rx_3, rx_4, rx_5, rx_6, rx_7, rx_8, rx_9, rx_10, rx_11, rx_12, rx_13, rx_14, rx_15, rx_16, rx_17, rx_18, rx_19, rx_20, rx_21, rx_22, rx_23, rx_24, rx_25, rx_26, rx_27, rx_28, rx_29, rx_30, rx_31, rx_32, rx_33, rp_0, rp_1, rp_2, rp_3, rp_4, rp_5, rp_6, rp_7, rp_8, rs_0, rs_1, rs_2, rs_3, rs_4, re_0, re_1, re_2, re_3, re_4, re_5, rr_0, rr_1, rr_2, rr_3, rr_4, rk_0, rk_1, isP3, isP11, isP46, isP58, isS25, isS28, isS31, un_X0_cells, un_X3_neighbour, un_J0_max, g0, m0, m1, hwu, ya, ga, vc, cc, vb, cb, gf]
      try simp only [iteP, Classical.not_not, b1_0, b1_1]
      rw [a_le (by omega) (by omega)]
      refine ⟨fun z => absurd z (by omega), fun _ => ?_⟩
      have q := v97 s c h1 hc M1 e3 e4 ih 0 (by omega)
      rw [bgn_0] at q; exact q _
  have v66 : ∀ s, s ≤ st → ∀ (M1 : ZM) (o4 o5 o6 o7 : Option Value), Lf M M1 w u → Eg (M1 41) (M1 42) 0 (w * u) (fun s => (es w u e wk bb pc s).1) (es w u e wk bb pc s).2 (s + 1) 0 → V 66 [some (.ref 0), some (.ref a), some (.int (nI st)), some (.int (nI (s + 1))), o4, o5, o6, o7] [] M1 L := by
    refine lp_up ?_ ?_
    · intro M1 o4 o5 o6 o7 e3 e4
      refine ma_walk (mo_X0_layEnds ms_X0_cells ms_X3_neighbour ms_J0_max) hV [66, 74, 97] (fun F hF => ?_)
      simp only [tb_X0_layEnds, hF, in_no, in_push, in_ild, in_lld, in_ald, in_ist, in_ast, in_lst, in_inc, in_iii, in_idv, in_ldv, in_lll, in_lli, in_lil, in_ii, in_il, in_li, in_ll, in_dup, in_dp2, q_if1, q_if2, in_go, in_sw, ma_sw, in_rv, in_ri, in_rz, in_rl, in_get, in_put, in_puz, in_iar, in_bar, in_lar, in_aar, in_iaw, in_baw, in_law, in_len, in_cpy, in_s1, in_s2, in_s3, in_v1, in_v2, in_v3, in_v4, in_v5, in_v6, ma_bk, ma_gl, ma_sl, ma_nl, ma_wc, ma_wd, ma_nn, ma_en, List.mem_cons, List.not_mem_nil, or_false, or_true, true_or, false_or, true_and, and_true, false_and, and_false, if_true, if_false, forall_const, true_implies, false_implies, not_true_eq_false, not_false_eq_true, Classical.not_not, implies_true, and_self, Nat.add_zero, Nat.zero_add, eq_self, ne_eq, reduceCtorEq, Nat.reduceLT, Nat.reduceLeDiff, Nat.reduceEqDiff, Nat.reduceSub, Nat.reduceAdd, i10, i01, im10, Int32.reduceLT, Int32.reduceLE, ↓reduceIte, reduceIte, up_r, uL_r, cp_r, Int32.toInt_toInt64, Int64.reduceToInt, Int32.reduceToInt, ↓b1_or, b1_0, b1_1, lc_lt, lc_le, lc_gt, lc_ge, lc_eq, yx_0, yx_1, yx_2, yx_3, yx_4, yx_5, yx_6, yx_7, yx_8, yx_9, yx_10, yx_11, yx_12, yx_13, yx_14, yx_15, yx_16, yx_17, yx_18, yx_19, yx_20, yx_21, yx_22, yx_23, yx_24, yx_25, yx_26, yx_27, yx_28, yx_29, yx_30, yx_31, yx_32, yx_33, yx_34, yx_35, yx_36, yx_37, yx_38, yx_39, yx_40, yx_41, yx_42, yx_43, yx_44, yx_45, yx_46, yx_47, yx_48, yx_49, yx_50, yx_51, yx_52, yx_53, yx_54, yx_55, yx_56, yx_57, yx_58, yx_59, yx_60, yx_61, yx_62, yx_63, yx_64, yx_65, yx_66, yx_67, yx_68, rx_0, rx_1, rx_2, rx_3, rx_4, rx_5, rx_6, rx_7, rx_8, rx_9, rx_10, rx_11, rx_12, rx_13, rx_14, rx_15, rx_16, rx_17, rx_18, rx_19, rx_20, rx_21, rx_22, rx_23, rx_24, rx_25, rx_26, rx_27, rx_28, rx_29, rx_30, rx_31, rx_32, rx_33, rp_0, rp_1, rp_2, rp_3, rp_4, rp_5, rp_6, rp_7, rp_8, rs_0, rs_1, rs_2, rs_3, rs_4, re_0, re_1, re_2, re_3, re_4, re_5, rr_0, rr_1, rr_2, rr_3, rr_4, rk_0, rk_1, isP3, isP11, isP46, isP58, isS25, isS28, isS31, un_X0_cells, un_X3_neighbour, un_J0_max]
      try simp only [iteP, Classical.not_not, b1_0, b1_1]
      rw [a_lt (by omega) (by omega)]
      exact ⟨fun _ => h M1 e3 (fun s c h1 h2 => e4.1 s c (Nat.zero_le _) h2 (Or.inl (by omega))), fun z => absurd (by omega) z⟩
    · intro s hs ih M1 o4 o5 o6 o7 e3 e4
      refine ma_walk (mo_X0_layEnds ms_X0_cells ms_X3_neighbour ms_J0_max) hV [66, 74, 97] (fun F hF => ?_)
      simp only [tb_X0_layEnds, hF, in_no, in_push, in_ild, in_lld, in_ald, in_ist, in_ast, in_lst, in_inc, in_iii, in_idv, in_ldv, in_lll, in_lli, in_lil, in_ii, in_il, in_li, in_ll, in_dup, in_dp2, q_if1, q_if2, in_go, in_sw, ma_sw, in_rv, in_ri, in_rz, in_rl, in_get, in_put, in_puz, in_iar, in_bar, in_lar, in_aar, in_iaw, in_baw, in_law, in_len, in_cpy, in_s1, in_s2, in_s3, in_v1, in_v2, in_v3, in_v4, in_v5, in_v6, ma_bk, ma_gl, ma_sl, ma_nl, ma_wc, ma_wd, ma_nn, ma_en, List.mem_cons, List.not_mem_nil, or_false, or_true, true_or, false_or, true_and, and_true, false_and, and_false, if_true, if_false, forall_const, true_implies, false_implies, not_true_eq_false, not_false_eq_true, Classical.not_not, implies_true, and_self, Nat.add_zero, Nat.zero_add, eq_self, ne_eq, reduceCtorEq, Nat.reduceLT, Nat.reduceLeDiff, Nat.reduceEqDiff, Nat.reduceSub, Nat.reduceAdd, i10, i01, im10, Int32.reduceLT, Int32.reduceLE, ↓reduceIte, reduceIte, up_r, uL_r, cp_r, Int32.toInt_toInt64, Int64.reduceToInt, Int32.reduceToInt, ↓b1_or, b1_0, b1_1, lc_lt, lc_le, lc_gt, lc_ge, lc_eq, yx_0, yx_1, yx_2, yx_3, yx_4, yx_5, yx_6, yx_7, yx_8, yx_9, yx_10, yx_11, yx_12, yx_13, yx_14, yx_15, yx_16, yx_17, yx_18, yx_19, yx_20, yx_21, yx_22, yx_23, yx_24, yx_25, yx_26, yx_27, yx_28, yx_29, yx_30, yx_31, yx_32, yx_33, yx_34, yx_35, yx_36, yx_37, yx_38, yx_39, yx_40, yx_41, yx_42, yx_43, yx_44, yx_45, yx_46, yx_47, yx_48, yx_49, yx_50, yx_51, yx_52, yx_53, yx_54, yx_55, yx_56, yx_57, yx_58, yx_59, yx_60, yx_61, yx_62, yx_63, yx_64, yx_65, yx_66, yx_67, yx_68, rx_0, rx_1, rx_2, rx_3, rx_4, rx_5, rx_6, rx_7, rx_8, rx_9, rx_10, rx_11, rx_12, rx_13, rx_14, rx_15, rx_16, rx_17, rx_18, rx_19, rx_20, rx_21, rx_22, rx_23, rx_24, rx_25, rx_26, rx_27, rx_28, rx_29, rx_30, rx_31, rx_32, rx_33, rp_0, rp_1, rp_2, rp_3, rp_4, rp_5, rp_6, rp_7, rp_8, rs_0, rs_1, rs_2, rs_3, rs_4, re_0, re_1, re_2, re_3, re_4, re_5, rr_0, rr_1, rr_2, rr_3, rr_4, rk_0, rk_1, isP3, isP11, isP46, isP58, isS25, isS28, isS31, un_X0_cells, un_X3_neighbour, un_J0_max]
      try simp only [iteP, Classical.not_not, b1_0, b1_1]
      rw [a_lt (by omega) (by omega)]
      refine ⟨fun z => absurd z (by omega), fun _ => ?_⟩
      exact v74 s hs ih 0 (Nat.zero_le _) M1 _ _ _ e3 e4
  have v45 : ∀ j, j ≤ 36 → V 45 [some (.ref 0), some (.ref a), some (.int (nI st)), some (.int (nI j)), none, none, none, none] [] (fi (fi (ma_up (ma_up M 25 0 (nI w)) 25 1 (nI u)) 42 6 0) 41 j 0) L := by
    refine lp_up ?_ ?_
    · refine ma_walk (mo_X0_layEnds ms_X0_cells ms_X3_neighbour ms_J0_max) hV [45, 66] (fun F hF => ?_)
      simp only [tb_X0_layEnds, hF, in_no, in_push, in_ild, in_lld, in_ald, in_ist, in_ast, in_lst, in_inc, in_iii, in_idv, in_ldv, in_lll, in_lli, in_lil, in_ii, in_il, in_li, in_ll, in_dup, in_dp2, q_if1, q_if2, in_go, in_sw, ma_sw, in_rv, in_ri, in_rz, in_rl, in_get, in_put, in_puz, in_iar, in_bar, in_lar, in_aar, in_iaw, in_baw, in_law, in_len, in_cpy, in_s1, in_s2, in_s3, in_v1, in_v2, in_v3, in_v4, in_v5, in_v6, ma_bk, ma_gl, ma_sl, ma_nl, ma_wc, ma_wd, ma_nn, ma_en, List.mem_cons, List.not_mem_nil, or_false, or_true, true_or, false_or, true_and, and_true, false_and, and_false, if_true, if_false, forall_const, true_implies, false_implies, not_true_eq_false, not_false_eq_true, Classical.not_not, implies_true, and_self, Nat.add_zero, Nat.zero_add, eq_self, ne_eq, reduceCtorEq, Nat.reduceLT, Nat.reduceLeDiff, Nat.reduceEqDiff, Nat.reduceSub, Nat.reduceAdd, i10, i01, im10, Int32.reduceLT, Int32.reduceLE, ↓reduceIte, reduceIte, up_r, uL_r, cp_r, Int32.toInt_toInt64, Int64.reduceToInt, Int32.reduceToInt, ↓b1_or, b1_0, b1_1, lc_lt, lc_le, lc_gt, lc_ge, lc_eq, yx_0, yx_1, yx_2, yx_3, yx_4, yx_5, yx_6, yx_7, yx_8, yx_9, yx_10, yx_11, yx_12, yx_13, yx_14, yx_15, yx_16, yx_17, yx_18, yx_19, yx_20, yx_21, yx_22, yx_23, yx_24, yx_25, yx_26, yx_27, yx_28, yx_29, yx_30, yx_31, yx_32, yx_33, yx_34, yx_35, yx_36, yx_37, yx_38, yx_39, yx_40, yx_41, yx_42, yx_43, yx_44, yx_45, yx_46, yx_47, yx_48, yx_49, yx_50, yx_51, yx_52, yx_53, yx_54, yx_55, yx_56, yx_57, yx_58, yx_59, yx_60, yx_61, yx_62, yx_63, yx_64, yx_65, yx_66, yx_67, yx_68, rx_0, rx_1, rx_2, rx_3, rx_4, rx_5, rx_6, rx_7, rx_8, rx_9, rx_10, rx_11, rx_12, rx_13, rx_14, rx_15, rx_16, rx_17, rx_18, rx_19, rx_20, rx_21, rx_22, rx_23, rx_24, rx_25, rx_26, rx_27, rx_28, rx_29, rx_30, rx_31, rx_32, rx_33, rp_0, rp_1, rp_2, rp_3, rp_4, rp_5, rp_6, rp_7, rp_8, rs_0, rs_1, rs_2, rs_3, rs_4, re_0, re_1, re_2, re_3, re_4, re_5, rr_0, rr_1, rr_2, rr_3, rr_4, rk_0, rk_1, isP3, isP11, isP46, isP58, isS25, isS28, isS31, un_X0_cells, un_X3_neighbour, un_J0_max]
      try simp only [iteP, Classical.not_not, b1_0, b1_1]
      refine ⟨fun _ => v66 0 (Nat.zero_le _) _ _ _ _ _ ⟨fun x z1 z2 z3 => ?_, ?_, ?_, fun j hj => ?_⟩ ⟨fun s' c' h1 h2 h3 => ?_, fun p hp => ?_⟩, fun z => absurd (by decide) z⟩
      · funext y
        show fi _ 41 36 0 x y = _
        rw [fi, if_neg (fun z => z2 z.1), fi, if_neg (fun z => z3 z.1), up_c z1, up_c z1]
      · rfl
      · rfl
      · show ma_up (ma_up M 25 0 (nI w)) 25 1 (nI u) 25 j = _
        rw [up_r, if_neg (by omega), up_r, if_neg (by omega)]
      · have : s' = 0 := by omega
        subst this
        show fi _ 41 36 0 41 _ = _
        rw [fi, if_pos ⟨rfl, by omega⟩]; rfl
      · show fi _ 41 36 0 42 p = _
        rw [fi, if_neg (fun z => absurd z.1 (by decide)), fi, if_pos ⟨rfl, hp⟩]; rfl
    · intro j hj ih
      refine ma_walk (mo_X0_layEnds ms_X0_cells ms_X3_neighbour ms_J0_max) hV [45, 66] (fun F hF => ?_)
      simp only [tb_X0_layEnds, hF, in_no, in_push, in_ild, in_lld, in_ald, in_ist, in_ast, in_lst, in_inc, in_iii, in_idv, in_ldv, in_lll, in_lli, in_lil, in_ii, in_il, in_li, in_ll, in_dup, in_dp2, q_if1, q_if2, in_go, in_sw, ma_sw, in_rv, in_ri, in_rz, in_rl, in_get, in_put, in_puz, in_iar, in_bar, in_lar, in_aar, in_iaw, in_baw, in_law, in_len, in_cpy, in_s1, in_s2, in_s3, in_v1, in_v2, in_v3, in_v4, in_v5, in_v6, ma_bk, ma_gl, ma_sl, ma_nl, ma_wc, ma_wd, ma_nn, ma_en, List.mem_cons, List.not_mem_nil, or_false, or_true, true_or, false_or, true_and, and_true, false_and, and_false, if_true, if_false, forall_const, true_implies, false_implies, not_true_eq_false, not_false_eq_true, Classical.not_not, implies_true, and_self, Nat.add_zero, Nat.zero_add, eq_self, ne_eq, reduceCtorEq, Nat.reduceLT, Nat.reduceLeDiff, Nat.reduceEqDiff, Nat.reduceSub, Nat.reduceAdd, i10, i01, im10, Int32.reduceLT, Int32.reduceLE, ↓reduceIte, reduceIte, up_r, uL_r, cp_r, Int32.toInt_toInt64, Int64.reduceToInt, Int32.reduceToInt, ↓b1_or, b1_0, b1_1, lc_lt, lc_le, lc_gt, lc_ge, lc_eq, yx_0, yx_1, yx_2, yx_3, yx_4, yx_5, yx_6, yx_7, yx_8, yx_9, yx_10, yx_11, yx_12, yx_13, yx_14, yx_15, yx_16, yx_17, yx_18, yx_19, yx_20, yx_21, yx_22, yx_23, yx_24, yx_25, yx_26, yx_27, yx_28, yx_29, yx_30, yx_31, yx_32, yx_33, yx_34, yx_35, yx_36, yx_37, yx_38, yx_39, yx_40, yx_41, yx_42, yx_43, yx_44, yx_45, yx_46, yx_47, yx_48, yx_49, yx_50, yx_51, yx_52, yx_53, yx_54, yx_55, yx_56, yx_57, yx_58, yx_59, yx_60, yx_61, yx_62, yx_63, yx_64, yx_65, yx_66, yx_67, yx_68, rx_0, rx_1, rx_2, rx_3, rx_4, rx_5, rx_6, rx_7, rx_8, rx_9, rx_10, rx_11, rx_12, rx_13, rx_14, rx_15, rx_16, rx_17, rx_18, rx_19, rx_20, rx_21, rx_22, rx_23, rx_24, rx_25, rx_26, rx_27, rx_28, rx_29, rx_30, rx_31, rx_32, rx_33, rp_0, rp_1, rp_2, rp_3, rp_4, rp_5, rp_6, rp_7, rp_8, rs_0, rs_1, rs_2, rs_3, rs_4, re_0, re_1, re_2, re_3, re_4, re_5, rr_0, rr_1, rr_2, rr_3, rr_4, rk_0, rk_1, isP3, isP11, isP46, isP58, isS25, isS28, isS31, un_X0_cells, un_X3_neighbour, un_J0_max]
      try simp only [iteP, Classical.not_not, b1_0, b1_1]
      simp (disch := omega) only [a_ti, nI_add, nI_1, pk_mul, a_le, a_lt, a_eq, a_cl, a_vi, a_0le, a_lt0, a_0lt, a_le0, a_eq0, a_lit]
      refine ⟨fun c => absurd c (by omega), fun _ => ⟨by omega, ?_⟩⟩
      exact kv ih rfl rfl fi_s rfl
  have v24 : ∀ j, j ≤ 6 → V 24 [some (.ref 0), some (.ref a), some (.int (nI st)), some (.int (nI j)), none, none, none, none] [] (fi (ma_up (ma_up M 25 0 (nI w)) 25 1 (nI u)) 42 j 0) L := by
    refine lp_up ?_ ?_
    · refine ma_walk (mo_X0_layEnds ms_X0_cells ms_X3_neighbour ms_J0_max) hV [24, 45] (fun F hF => ?_)
      simp only [tb_X0_layEnds, hF, in_no, in_push, in_ild, in_lld, in_ald, in_ist, in_ast, in_lst, in_inc, in_iii, in_idv, in_ldv, in_lll, in_lli, in_lil, in_ii, in_il, in_li, in_ll, in_dup, in_dp2, q_if1, q_if2, in_go, in_sw, ma_sw, in_rv, in_ri, in_rz, in_rl, in_get, in_put, in_puz, in_iar, in_bar, in_lar, in_aar, in_iaw, in_baw, in_law, in_len, in_cpy, in_s1, in_s2, in_s3, in_v1, in_v2, in_v3, in_v4, in_v5, in_v6, ma_bk, ma_gl, ma_sl, ma_nl, ma_wc, ma_wd, ma_nn, ma_en, List.mem_cons, List.not_mem_nil, or_false, or_true, true_or, false_or, true_and, and_true, false_and, and_false, if_true, if_false, forall_const, true_implies, false_implies, not_true_eq_false, not_false_eq_true, Classical.not_not, implies_true, and_self, Nat.add_zero, Nat.zero_add, eq_self, ne_eq, reduceCtorEq, Nat.reduceLT, Nat.reduceLeDiff, Nat.reduceEqDiff, Nat.reduceSub, Nat.reduceAdd, i10, i01, im10, Int32.reduceLT, Int32.reduceLE, ↓reduceIte, reduceIte, up_r, uL_r, cp_r, Int32.toInt_toInt64, Int64.reduceToInt, Int32.reduceToInt, ↓b1_or, b1_0, b1_1, lc_lt, lc_le, lc_gt, lc_ge, lc_eq, yx_0, yx_1, yx_2, yx_3, yx_4, yx_5, yx_6, yx_7, yx_8, yx_9, yx_10, yx_11, yx_12, yx_13, yx_14, yx_15, yx_16, yx_17, yx_18, yx_19, yx_20, yx_21, yx_22, yx_23, yx_24, yx_25, yx_26, yx_27, yx_28, yx_29, yx_30, yx_31, yx_32, yx_33, yx_34, yx_35, yx_36, yx_37, yx_38, yx_39, yx_40, yx_41, yx_42, yx_43, yx_44, yx_45, yx_46, yx_47, yx_48, yx_49, yx_50, yx_51, yx_52, yx_53, yx_54, yx_55, yx_56, yx_57, yx_58, yx_59, yx_60, yx_61, yx_62, yx_63, yx_64, yx_65, yx_66, yx_67, yx_68, rx_0, rx_1, rx_2, rx_3, rx_4, rx_5, rx_6, rx_7, rx_8, rx_9, rx_10, rx_11, rx_12, rx_13, rx_14, rx_15, rx_16, rx_17, rx_18, rx_19, rx_20, rx_21, rx_22, rx_23, rx_24, rx_25, rx_26, rx_27, rx_28, rx_29, rx_30, rx_31, rx_32, rx_33, rp_0, rp_1, rp_2, rp_3, rp_4, rp_5, rp_6, rp_7, rp_8, rs_0, rs_1, rs_2, rs_3, rs_4, re_0, re_1, re_2, re_3, re_4, re_5, rr_0, rr_1, rr_2, rr_3, rr_4, rk_0, rk_1, isP3, isP11, isP46, isP58, isS25, isS28, isS31, un_X0_cells, un_X3_neighbour, un_J0_max]
      try simp only [iteP, Classical.not_not, b1_0, b1_1]
      refine ⟨fun _ => kv (v45 0 (by omega)) rfl rfl fi_0.symm rfl, fun z => absurd (by decide) z⟩
    · intro j hj ih
      refine ma_walk (mo_X0_layEnds ms_X0_cells ms_X3_neighbour ms_J0_max) hV [24, 45] (fun F hF => ?_)
      simp only [tb_X0_layEnds, hF, in_no, in_push, in_ild, in_lld, in_ald, in_ist, in_ast, in_lst, in_inc, in_iii, in_idv, in_ldv, in_lll, in_lli, in_lil, in_ii, in_il, in_li, in_ll, in_dup, in_dp2, q_if1, q_if2, in_go, in_sw, ma_sw, in_rv, in_ri, in_rz, in_rl, in_get, in_put, in_puz, in_iar, in_bar, in_lar, in_aar, in_iaw, in_baw, in_law, in_len, in_cpy, in_s1, in_s2, in_s3, in_v1, in_v2, in_v3, in_v4, in_v5, in_v6, ma_bk, ma_gl, ma_sl, ma_nl, ma_wc, ma_wd, ma_nn, ma_en, List.mem_cons, List.not_mem_nil, or_false, or_true, true_or, false_or, true_and, and_true, false_and, and_false, if_true, if_false, forall_const, true_implies, false_implies, not_true_eq_false, not_false_eq_true, Classical.not_not, implies_true, and_self, Nat.add_zero, Nat.zero_add, eq_self, ne_eq, reduceCtorEq, Nat.reduceLT, Nat.reduceLeDiff, Nat.reduceEqDiff, Nat.reduceSub, Nat.reduceAdd, i10, i01, im10, Int32.reduceLT, Int32.reduceLE, ↓reduceIte, reduceIte, up_r, uL_r, cp_r, Int32.toInt_toInt64, Int64.reduceToInt, Int32.reduceToInt, ↓b1_or, b1_0, b1_1, lc_lt, lc_le, lc_gt, lc_ge, lc_eq, yx_0, yx_1, yx_2, yx_3, yx_4, yx_5, yx_6, yx_7, yx_8, yx_9, yx_10, yx_11, yx_12, yx_13, yx_14, yx_15, yx_16, yx_17, yx_18, yx_19, yx_20, yx_21, yx_22, yx_23, yx_24, yx_25, yx_26, yx_27, yx_28, yx_29, yx_30, yx_31, yx_32, yx_33, yx_34, yx_35, yx_36, yx_37, yx_38, yx_39, yx_40, yx_41, yx_42, yx_43, yx_44, yx_45, yx_46, yx_47, yx_48, yx_49, yx_50, yx_51, yx_52, yx_53, yx_54, yx_55, yx_56, yx_57, yx_58, yx_59, yx_60, yx_61, yx_62, yx_63, yx_64, yx_65, yx_66, yx_67, yx_68, rx_0, rx_1, rx_2, rx_3, rx_4, rx_5, rx_6, rx_7, rx_8, rx_9, rx_10, rx_11, rx_12, rx_13, rx_14, rx_15, rx_16, rx_17, rx_18, rx_19, rx_20, rx_21, rx_22, rx_23, rx_24, rx_25, rx_26, rx_27, rx_28, rx_29, rx_30, rx_31, rx_32, rx_33, rp_0, rp_1, rp_2, rp_3, rp_4, rp_5, rp_6, rp_7, rp_8, rs_0, rs_1, rs_2, rs_3, rs_4, re_0, re_1, re_2, re_3, re_4, re_5, rr_0, rr_1, rr_2, rr_3, rr_4, rk_0, rk_1, isP3, isP11, isP46, isP58, isS25, isS28, isS31, un_X0_cells, un_X3_neighbour, un_J0_max]
      try simp only [iteP, Classical.not_not, b1_0, b1_1]
      simp (disch := omega) only [a_ti, nI_add, nI_1, pk_mul, a_le, a_lt, a_eq, a_cl, a_vi, a_0le, a_lt0, a_0lt, a_le0, a_eq0, a_lit]
      refine ⟨fun c => absurd c (by omega), fun _ => ⟨hj, ?_⟩⟩
      exact kv ih rfl rfl fi_s rfl
  refine ma_walk (mo_X0_layEnds ms_X0_cells ms_X3_neighbour ms_J0_max) hV [24] (fun F hF => ?_)
  simp only [tb_X0_layEnds, hF, in_no, in_push, in_ild, in_lld, in_ald, in_ist, in_ast, in_lst, in_inc, in_iii, in_idv, in_ldv, in_lll, in_lli, in_lil, in_ii, in_il, in_li, in_ll, in_dup, in_dp2, q_if1, q_if2, in_go, in_sw, ma_sw, in_rv, in_ri, in_rz, in_rl, in_get, in_put, in_puz, in_iar, in_bar, in_lar, in_aar, in_iaw, in_baw, in_law, in_len, in_cpy, in_s1, in_s2, in_s3, in_v1, in_v2, in_v3, in_v4, in_v5, in_v6, ma_bk, ma_gl, ma_sl, ma_nl, ma_wc, ma_wd, ma_nn, ma_en, List.mem_cons, List.not_mem_nil, or_false, or_true, true_or, false_or, true_and, and_true, false_and, and_false, if_true, if_false, forall_const, true_implies, false_implies, not_true_eq_false, not_false_eq_true, Classical.not_not, implies_true, and_self, Nat.add_zero, Nat.zero_add, eq_self, ne_eq, reduceCtorEq, Nat.reduceLT, Nat.reduceLeDiff, Nat.reduceEqDiff, Nat.reduceSub, Nat.reduceAdd, i10, i01, im10, Int32.reduceLT, Int32.reduceLE, ↓reduceIte, reduceIte, up_r, uL_r, cp_r, Int32.toInt_toInt64, Int64.reduceToInt, Int32.reduceToInt, ↓b1_or, b1_0, b1_1, lc_lt, lc_le, lc_gt, lc_ge, lc_eq, yx_0, yx_1, yx_2, yx_3, yx_4, yx_5, yx_6, yx_7, yx_8, yx_9, yx_10, yx_11, yx_12, yx_13, yx_14, yx_15, yx_16, yx_17, yx_18, yx_19, yx_20, yx_21, yx_22, yx_23, yx_24, yx_25, yx_26, yx_27, yx_28, yx_29, yx_30, yx_31, yx_32, yx_33, yx_34, yx_35, yx_36, yx_37, yx_38, yx_39, yx_40, yx_41, yx_42, yx_43, yx_44, yx_45, yx_46, yx_47, yx_48, yx_49, yx_50, yx_51, yx_52, yx_53, yx_54, yx_55, yx_56, yx_57, yx_58, yx_59, yx_60, yx_61, yx_62, yx_63, yx_64, yx_65, yx_66, yx_67, yx_68, rx_0, rx_1, rx_2, rx_3, rx_4, rx_5, rx_6, rx_7, rx_8, rx_9, rx_10, rx_11, rx_12, rx_13, rx_14, rx_15, rx_16, rx_17, rx_18, rx_19, rx_20, rx_21, rx_22, rx_23, rx_24, rx_25, rx_26, rx_27, rx_28, rx_29, rx_30, rx_31, rx_32, rx_33, rp_0, rp_1, rp_2, rp_3, rp_4, rp_5, rp_6, rp_7, rp_8, rs_0, rs_1, rs_2, rs_3, rs_4, re_0, re_1, re_2, re_3, re_4, re_5, rr_0, rr_1, rr_2, rr_3, rr_4, rk_0, rk_1, isP3, isP11, isP46, isP58, isS25, isS28, isS31, un_X0_cells, un_X3_neighbour, un_J0_max, m0, m1]
  try simp only [iteP, Classical.not_not, b1_0, b1_1]
  exact kv (v24 0 (by omega)) rfl rfl fi_0.symm rfl
theorem pv_X0_layEnds : ∀ as M L K, S_X0_layEnds as M L K → ma_rn (tb_X0_layEnds S_X0_cells S_X3_neighbour S_J0_max) 8 as M L K := by
  intro as M L K h
  unfold S_X0_layEnds at h
  split at h
  · obtain ⟨w, u, e, wk, bb, pc, st, h⟩ := h; exact pw_X0_layEnds h.1 h.2
  · exact h.elim
/-- the first greatest of some numbers; the greatest -/
def am (f : Nat → Nat) : Nat → Nat
  | 0 => 0
  | n + 1 => if f (am f n) < f n then n else am f n
def mxv (f : Nat → Nat) : Nat → Nat
  | 0 => 0
  | n + 1 => if mxv f n < f n then f n else mxv f n
theorem am_lt (f : Nat → Nat) : ∀ n, am f (n + 1) < n + 1
  | 0 => by rw [am]; split <;> simp [am]
  | n + 1 => by
    have := am_lt f n
    rw [am]; split <;> omega
theorem am_ge (f : Nat → Nat) : ∀ n c, c < n → f c ≤ f (am f n)
  | 0, c, h => by omega
  | n + 1, c, h => by
    rw [am]
    by_cases e : c = n
    · subst e; split <;> omega
    · have := am_ge f n c (by omega)
      split <;> omega
theorem am_st (f : Nat → Nat) : ∀ n c, c < am f n → f c < f (am f n)
  | 0, c, h => by rw [am] at h; omega
  | n + 1, c, h => by
    rw [am] at h ⊢
    split at h
    · next z =>
      rw [if_pos z]
      have := am_ge f n c h; omega
    · next z =>
      rw [if_neg z]
      exact am_st f n c h
theorem mxv_am (f : Nat → Nat) : ∀ n, mxv f (n + 1) = f (am f (n + 1))
  | 0 => by
    rw [mxv, mxv, am, am, if_neg (Nat.lt_irrefl _)]
    split <;> omega
  | n + 1 => by
    rw [mxv, am, mxv_am f n]
    split <;> rfl
def S_X0_lastOf : ma_Cs := fun as M L K => match as with
  | [.ref k, .int ss] => ∃ (s : Nat) (q : Nat) (f : Nat → Nat), (k = 0 ∧ ss = nI s ∧ s < 13 ∧ M 0 5 * M 0 6 = nI q ∧ 0 < q ∧ q ≤ 36 ∧ (∀ c, c < q → M 41 (36 * s + c) = nI (f c) ∧ f c < 100000)) ∧ (K (some (.int (nI (am f q)))) M L)
  | _ => False
theorem ms_X0_lastOf : ma_ms S_X0_lastOf := by
  intro as M L K K' hk h
  unfold S_X0_lastOf at h ⊢
  split at h
  · obtain ⟨s, q, f, h⟩ := h
    exact ⟨s, q, f, h.1, hk _ _ _ h.2⟩
  · exact h.elim
theorem un_X0_lastOf {k : Nat} {ss : Int32} {M : ZM} {L : ZL} {K : ma_Kt} : S_X0_lastOf [.ref k, .int ss] M L K = (∃ (s : Nat) (q : Nat) (f : Nat → Nat), (k = 0 ∧ ss = nI s ∧ s < 13 ∧ M 0 5 * M 0 6 = nI q ∧ 0 < q ∧ q ≤ 36 ∧ (∀ c, c < q → M 41 (36 * s + c) = nI (f c) ∧ f c < 100000)) ∧ (K (some (.int (nI (am f q)))) M L)) := rfl
theorem pw_X0_lastOf {k : Nat} {ss : Int32} {s : Nat} {q : Nat} {f : Nat → Nat} {M : ZM} {L : ZL} {K : ma_Kt} (hp : k = 0 ∧ ss = nI s ∧ s < 13 ∧ M 0 5 * M 0 6 = nI q ∧ 0 < q ∧ q ≤ 36 ∧ (∀ c, c < q → M 41 (36 * s + c) = nI (f c) ∧ f c < 100000)) (h : (K (some (.int (nI (am f q)))) M L)) : ma_rn (tb_X0_lastOf S_X0_cells) 4 [.ref k, .int ss] M L K := by
  refine ⟨Nat.le_of_ble_eq_true rfl, fun V hV => ?_⟩
  obtain ⟨rfl, rfl, hs, m0, h0, hq, hf⟩ := hp
  have lp : ∀ c, c ≤ q → 0 < c → V 4 [some (.ref 0), some (.int (nI s)), some (.int (nI (am f c))), some (.int (nI c))] [] M L := by
    refine lp_up ?_ ?_
    · intro _
      refine ma_walk (mo_X0_lastOf ms_X0_cells) hV [4] (fun F hF => ?_)
      simp only [tb_X0_lastOf, hF, in_no, in_push, in_ild, in_lld, in_ald, in_ist, in_ast, in_lst, in_inc, in_iii, in_idv, in_ldv, in_lll, in_lli, in_lil, in_ii, in_il, in_li, in_ll, in_dup, in_dp2, q_if1, q_if2, in_go, in_sw, ma_sw, in_rv, in_ri, in_rz, in_rl, in_get, in_put, in_puz, in_iar, in_bar, in_lar, in_aar, in_iaw, in_baw, in_law, in_len, in_cpy, in_s1, in_s2, in_s3, in_v1, in_v2, in_v3, in_v4, in_v5, in_v6, ma_bk, ma_gl, ma_sl, ma_nl, ma_wc, ma_wd, ma_nn, ma_en, List.mem_cons, List.not_mem_nil, or_false, or_true, true_or, false_or, true_and, and_true, false_and, and_false, if_true, if_false, forall_const, true_implies, false_implies, not_true_eq_false, not_false_eq_true, Classical.not_not, implies_true, and_self, Nat.add_zero, Nat.zero_add, eq_self, ne_eq, reduceCtorEq, Nat.reduceLT, Nat.reduceLeDiff, Nat.reduceEqDiff, Nat.reduceSub, Nat.reduceAdd, i10, i01, im10, Int32.reduceLT, Int32.reduceLE, ↓reduceIte, reduceIte, up_r, uL_r, cp_r, Int32.toInt_toInt64, Int64.reduceToInt, Int32.reduceToInt, ↓b1_or, b1_0, b1_1, lc_lt, lc_le, lc_gt, lc_ge, lc_eq, yx_0, yx_1, yx_2, yx_3, yx_4, yx_5, yx_6, yx_7, yx_8, yx_9, yx_10, yx_11, yx_12, yx_13, yx_14, yx_15, yx_16, yx_17, yx_18, yx_19, yx_20, yx_21, yx_22, yx_23, yx_24, yx_25, yx_26, yx_27, yx_28, yx_29, yx_30, yx_31, yx_32, yx_33, yx_34, yx_35, yx_36, yx_37, yx_38, yx_39, yx_40, yx_41, yx_42, yx_43, yx_44, yx_45, yx_46, yx_47, yx_48, yx_49, yx_50, yx_51, yx_52, yx_53, yx_54, yx_55, yx_56, yx_57, yx_58, yx_59, yx_60, yx_61, yx_62, yx_63, yx_64, yx_65, yx_66, yx_67, yx_68, rx_0, rx_1, rx_2, rx_3, rx_4, rx_5, rx_6, rx_7, rx_8, rx_9, rx_10, rx_11, rx_12, rx_13, rx_14, rx_15, rx_16, rx_17, rx_18, rx_19, rx_20, rx_21, rx_22, rx_23, rx_24, rx_25, rx_26, rx_27, rx_28, rx_29, rx_30, rx_31, rx_32, rx_33, rp_0, rp_1, rp_2, rp_3, rp_4, rp_5, rp_6, rp_7, rp_8, rs_0, rs_1, rs_2, rs_3, rs_4, re_0, re_1, re_2, re_3, re_4, re_5, rr_0, rr_1, rr_2, rr_3, rr_4, rk_0, rk_1, isP3, isP11, isP46, isP58, isS25, isS28, isS31, un_X0_cells, m0]
      try simp only [iteP, Classical.not_not, b1_0, b1_1]
      exact ⟨fun _ => h, fun z => absurd (nI_le (Nat.le_refl _) (by omega)) z⟩
    · intro c hc ih hc0
      have ih := ih (by omega)
      obtain ⟨c', rfl⟩ : ∃ c', c = c' + 1 := ⟨c - 1, by omega⟩
      have ha := am_lt f c'
      have e1 := hf (c' + 1) hc
      have e2 := hf (am f (c' + 1)) (by omega)
      have v1 : vp_in (nI (36 * s + (c' + 1))) 468 := vp_in_nI (by omega) (by decide)
      have v2 : vp_in (nI (36 * s + am f (c' + 1))) 468 := vp_in_nI (by omega) (by decide)
      have c1 := a_cl (show 36 * s + (c' + 1) < 2147483648 by omega)
      have c2 := a_cl (show 36 * s + am f (c' + 1) < 2147483648 by omega)
      rw [am] at ih
      refine ma_walk (mo_X0_lastOf ms_X0_cells) hV [4] (fun F hF => ?_)
      simp only [tb_X0_lastOf, hF, in_no, in_push, in_ild, in_lld, in_ald, in_ist, in_ast, in_lst, in_inc, in_iii, in_idv, in_ldv, in_lll, in_lli, in_lil, in_ii, in_il, in_li, in_ll, in_dup, in_dp2, q_if1, q_if2, in_go, in_sw, ma_sw, in_rv, in_ri, in_rz, in_rl, in_get, in_put, in_puz, in_iar, in_bar, in_lar, in_aar, in_iaw, in_baw, in_law, in_len, in_cpy, in_s1, in_s2, in_s3, in_v1, in_v2, in_v3, in_v4, in_v5, in_v6, ma_bk, ma_gl, ma_sl, ma_nl, ma_wc, ma_wd, ma_nn, ma_en, List.mem_cons, List.not_mem_nil, or_false, or_true, true_or, false_or, true_and, and_true, false_and, and_false, if_true, if_false, forall_const, true_implies, false_implies, not_true_eq_false, not_false_eq_true, Classical.not_not, implies_true, and_self, Nat.add_zero, Nat.zero_add, eq_self, ne_eq, reduceCtorEq, Nat.reduceLT, Nat.reduceLeDiff, Nat.reduceEqDiff, Nat.reduceSub, Nat.reduceAdd, i10, i01, im10, Int32.reduceLT, Int32.reduceLE, ↓reduceIte, reduceIte, up_r, uL_r, cp_r, Int32.toInt_toInt64, Int64.reduceToInt, Int32.reduceToInt, ↓b1_or, b1_0, b1_1, lc_lt, lc_le, lc_gt, lc_ge, lc_eq, yx_0, yx_1, yx_2, yx_3, yx_4, yx_5, yx_6, yx_7, yx_8, yx_9, yx_10, yx_11, yx_12, yx_13, yx_14, yx_15, yx_16, yx_17, yx_18, yx_19, yx_20, yx_21, yx_22, yx_23, yx_24, yx_25, yx_26, yx_27, yx_28, yx_29, yx_30, yx_31, yx_32, yx_33, yx_34, yx_35, yx_36, yx_37, yx_38, yx_39, yx_40, yx_41, yx_42, yx_43, yx_44, yx_45, yx_46, yx_47, yx_48, yx_49, yx_50, yx_51, yx_52, yx_53, yx_54, yx_55, yx_56, yx_57, yx_58, yx_59, yx_60, yx_61, yx_62, yx_63, yx_64, yx_65, yx_66, yx_67, yx_68, rx_0, rx_1, rx_2, rx_3, rx_4, rx_5, rx_6, rx_7, rx_8, rx_9, rx_10, rx_11, rx_12, rx_13, rx_14, rx_15, rx_16, rx_17, rx_18, rx_19, rx_20, rx_21, rx_22, rx_23, rx_24, rx_25, rx_26, rx_27, rx_28, rx_29, rx_30, rx_31, rx_32, rx_33, rp_0, rp_1, rp_2, rp_3, rp_4, rp_5, rp_6, rp_7, rp_8, rs_0, rs_1, rs_2, rs_3, rs_4, re_0, re_1, re_2, re_3, re_4, re_5, rr_0, rr_1, rr_2, rr_3, rr_4, rk_0, rk_1, isP3, isP11, isP46, isP58, isS25, isS28, isS31, un_X0_cells, m0, i36, v1, v2, c1, c2, e1.1, e2.1, nI_1]
      try simp only [iteP, Classical.not_not, b1_0, b1_1]
      rw [a_le (by omega) (by omega), a_le (by omega) (by omega)]
      refine ⟨fun z => absurd z (by omega), fun _ => ⟨fun z => ?_, fun z => ?_⟩⟩
      · rw [if_neg (by omega)] at ih; exact ih
      · rw [if_pos (by omega)] at ih; exact ih
  refine ma_walk (mo_X0_lastOf ms_X0_cells) hV [4] (fun F hF => ?_)
  simp only [tb_X0_lastOf, hF, in_no, in_push, in_ild, in_lld, in_ald, in_ist, in_ast, in_lst, in_inc, in_iii, in_idv, in_ldv, in_lll, in_lli, in_lil, in_ii, in_il, in_li, in_ll, in_dup, in_dp2, q_if1, q_if2, in_go, in_sw, ma_sw, in_rv, in_ri, in_rz, in_rl, in_get, in_put, in_puz, in_iar, in_bar, in_lar, in_aar, in_iaw, in_baw, in_law, in_len, in_cpy, in_s1, in_s2, in_s3, in_v1, in_v2, in_v3, in_v4, in_v5, in_v6, ma_bk, ma_gl, ma_sl, ma_nl, ma_wc, ma_wd, ma_nn, ma_en, List.mem_cons, List.not_mem_nil, or_false, or_true, true_or, false_or, true_and, and_true, false_and, and_false, if_true, if_false, forall_const, true_implies, false_implies, not_true_eq_false, not_false_eq_true, Classical.not_not, implies_true, and_self, Nat.add_zero, Nat.zero_add, eq_self, ne_eq, reduceCtorEq, Nat.reduceLT, Nat.reduceLeDiff, Nat.reduceEqDiff, Nat.reduceSub, Nat.reduceAdd, i10, i01, im10, Int32.reduceLT, Int32.reduceLE, ↓reduceIte, reduceIte, up_r, uL_r, cp_r, Int32.toInt_toInt64, Int64.reduceToInt, Int32.reduceToInt, ↓b1_or, b1_0, b1_1, lc_lt, lc_le, lc_gt, lc_ge, lc_eq, yx_0, yx_1, yx_2, yx_3, yx_4, yx_5, yx_6, yx_7, yx_8, yx_9, yx_10, yx_11, yx_12, yx_13, yx_14, yx_15, yx_16, yx_17, yx_18, yx_19, yx_20, yx_21, yx_22, yx_23, yx_24, yx_25, yx_26, yx_27, yx_28, yx_29, yx_30, yx_31, yx_32, yx_33, yx_34, yx_35, yx_36, yx_37, yx_38, yx_39, yx_40, yx_41, yx_42, yx_43, yx_44, yx_45, yx_46, yx_47, yx_48, yx_49, yx_50, yx_51, yx_52, yx_53, yx_54, yx_55, yx_56, yx_57, yx_58, yx_59, yx_60, yx_61, yx_62, yx_63, yx_64, yx_65, yx_66, yx_67, yx_68, rx_0, rx_1, rx_2, rx_3, rx_4, rx_5, rx_6, rx_7, rx_8, rx_9, rx_10, rx_11, rx_12, rx_13, rx_14, rx_15, rx_16, rx_17, rx_18, rx_19, rx_20, rx_21, rx_22, rx_23, rx_24, rx_25, rx_26, rx_27, rx_28, rx_29, rx_30, rx_31, rx_32, rx_33, rp_0, rp_1, rp_2, rp_3, rp_4, rp_5, rp_6, rp_7, rp_8, rs_0, rs_1, rs_2, rs_3, rs_4, re_0, re_1, re_2, re_3, re_4, re_5, rr_0, rr_1, rr_2, rr_3, rr_4, rk_0, rk_1, isP3, isP11, isP46, isP58, isS25, isS28, isS31, un_X0_cells]
  try simp only [iteP, Classical.not_not, b1_0, b1_1]
  have q9 := lp 1 (by omega) (by omega)
  rw [show am f 1 = 0 from Nat.lt_one_iff.1 (am_lt f 0)] at q9
  exact q9
theorem pv_X0_lastOf : ∀ as M L K, S_X0_lastOf as M L K → ma_rn (tb_X0_lastOf S_X0_cells) 4 as M L K := by
  intro as M L K h
  unfold S_X0_lastOf at h
  split at h
  · obtain ⟨s, q, f, h⟩ := h; exact pw_X0_lastOf h.1 h.2
  · exact h.elim
