/-! the first step of both sides; the model's hall -/
set_option maxRecDepth 100000
set_option maxHeartbeats 4000000
def f0v (r f : Nat → Int32) (w u e c l : Nat) : Int32 := if f (4 * c + l) = 2000000 then fil r f w u e c l else f (4 * c + l)
noncomputable def f0k (f : Nat → Int32) (c l : Nat) : Int32 := b1 (f (4 * c + l) = 2000000)
theorem fil_b {r f : Nat → Int32} {w u e c l : Nat} (h : Fb r f) (hw : w < 7) (hu : u < 7) (hc : c < w * u) (hl : l < 4) : -1000000 ≤ (fil r f w u e c l).toInt ∧ (fil r f w u e c l).toInt ≤ 1000000 := by
  unfold fil
  split
  · exact ⟨by decide, by decide⟩
  · have q := fS_b (e := e) h hw hu hc hl 4
    have q3 := dv_b (a := fS r f w u e c l 4) (m := (fM r f w u e c l 4 : Int)) (b := 1000000) (by omega) q.1 q.2.1
    rw [ofI (by omega) (by omega)]; exact q3
theorem f0v_b {r f : Nat → Int32} {w u e c l : Nat} (h : Fb r f) (hw : w < 7) (hu : u < 7) (hc : c < w * u) (hl : l < 4) : -1000000 ≤ (f0v r f w u e c l).toInt ∧ (f0v r f w u e c l).toInt ≤ 1000000 := by
  unfold f0v
  split
  · exact fil_b h hw hu hc hl
  · next z =>
    have h2 := Nat.mul_le_mul (Nat.le_of_lt_succ hw) (Nat.le_of_lt_succ hu)
    rcases h.2 (4 * c + l) (by omega) with q | q
    · exact absurd q z
    · exact q
def S_X3_begin : ma_Cs := fun as M L K => match as with
  | [.ref k] => ∃ (w : Nat) (u : Nat) (e : Nat), (isK k ∧ M 0 5 = nI w ∧ M 0 6 = nI u ∧ M 0 7 = nI e ∧ Sh w u e 0 0 ∧ Fb (M 19) (M 20)) ∧ (∀ (M' : ZM), (∀ a, a ≠ k → a ≠ k + 1 → a ≠ k + 2 → M' a = M a) → M' k 0 = nI w → M' k 1 = nI u → (∀ c l, c < w * u → l < 4 → M' (k + 1) (4 * c + l) = f0v (M 19) (M 20) w u e c l ∧ M' (k + 2) (4 * c + l) = f0k (M 20) c l) → K none M' L)
  | _ => False
theorem ms_X3_begin : ma_ms S_X3_begin := by
  intro as M L K K' hk h
  unfold S_X3_begin at h ⊢
  split at h
  · obtain ⟨w, u, e, h⟩ := h
    exact ⟨w, u, e, h.1, fun x0 x1 x2 x3 x4 => hk _ _ _ (h.2 x0 x1 x2 x3 x4)⟩
  · exact h.elim
theorem un_X3_begin {k : Nat} {M : ZM} {L : ZL} {K : ma_Kt} : S_X3_begin [.ref k] M L K = (∃ (w : Nat) (u : Nat) (e : Nat), (isK k ∧ M 0 5 = nI w ∧ M 0 6 = nI u ∧ M 0 7 = nI e ∧ Sh w u e 0 0 ∧ Fb (M 19) (M 20)) ∧ (∀ (M' : ZM), (∀ a, a ≠ k → a ≠ k + 1 → a ≠ k + 2 → M' a = M a) → M' k 0 = nI w → M' k 1 = nI u → (∀ c l, c < w * u → l < 4 → M' (k + 1) (4 * c + l) = f0v (M 19) (M 20) w u e c l ∧ M' (k + 2) (4 * c + l) = f0k (M 20) c l) → K none M' L)) := rfl
theorem pw_X3_begin {k : Nat} {w : Nat} {u : Nat} {e : Nat} {M : ZM} {L : ZL} {K : ma_Kt} (hp : isK k ∧ M 0 5 = nI w ∧ M 0 6 = nI u ∧ M 0 7 = nI e ∧ Sh w u e 0 0 ∧ Fb (M 19) (M 20)) (h : (∀ (M' : ZM), (∀ a, a ≠ k → a ≠ k + 1 → a ≠ k + 2 → M' a = M a) → M' k 0 = nI w → M' k 1 = nI u → (∀ c l, c < w * u → l < 4 → M' (k + 1) (4 * c + l) = f0v (M 19) (M 20) w u e c l ∧ M' (k + 2) (4 * c + l) = f0k (M 20) c l) → K none M' L)) : ma_rn (tb_X3_begin S_X0_cells S_X3_filled S_X3_put) 4 [.ref k] M L K := by
  refine ⟨Nat.le_of_ble_eq_true rfl, fun V hV => ?_⟩
  obtain ⟨hk, m0, m1, m2, hs, hb⟩ := hp
  have hS := hk.S
  obtain ⟨y0, y1, y2⟩ := id hS
  obtain ⟨s1, s2, s3, s4, s5, s6, s7⟩ := id hs
  have h36 := Nat.mul_le_mul (Nat.le_of_lt_succ s2) (Nat.le_of_lt_succ s4)
  have hk1 : ∀ a, a < 25 → a ≠ k + 1 ∧ a ≠ k + 2 ∧ a ≠ k := fun a ha => by rcases hk with rfl | rfl | rfl <;> omega
  have hwu : nI w * nI u = nI (w * u) := pk_mul w u
  have v2 : ∀ c, c < w * u → (∀ (M1 : ZM) (o2 o3 : Option Value), (∀ a, a ≠ k → a ≠ k + 1 → a ≠ k + 2 → M1 a = M a) → M1 k 0 = nI w → M1 k 1 = nI u → Gd (fun _ => f0v (M 19) (M 20) w u e) (fun _ => f0k (M 20)) (M1 (k + 1)) (M1 (k + 2)) (w * u) 0 (c + 1) (fun _ => False) → V 24 [some (.ref k), some (.int (nI (c + 1))), o2, o3] [] M1 L) →
      ∀ l, l ≤ 4 → ∀ (M1 : ZM) (o3 : Option Value), (∀ a, a ≠ k → a ≠ k + 1 → a ≠ k + 2 → M1 a = M a) → M1 k 0 = nI w → M1 k 1 = nI u → Gd (fun _ => f0v (M 19) (M 20) w u e) (fun _ => f0k (M 20)) (M1 (k + 1)) (M1 (k + 2)) (w * u) 0 c (fun l' => l' < l) → V 37 [some (.ref k), some (.int (nI c)), some (.int (nI l)), o3] [] M1 L := by
    intro c e2 H
    refine lp_up ?_ ?_
    · intro M1 o3 e3 e4 e5 e6
      refine ma_walk (mo_X3_begin ms_X0_cells ms_X3_filled ms_X3_put) hV [24, 37] (fun F hF => ?_)
      simp only [tb_X3_begin, hF, in_no, in_push, in_ild, in_lld, in_ald, in_ist, in_ast, in_lst, in_inc, in_iii, in_idv, in_ldv, in_lll, in_lli, in_lil, in_ii, in_il, in_li, in_ll, in_dup, in_dp2, q_if1, q_if2, in_go, in_sw, ma_sw, in_rv, in_ri, in_rz, in_rl, in_get, in_put, in_puz, in_iar, in_bar, in_lar, in_aar, in_iaw, in_baw, in_law, in_len, in_cpy, in_s1, in_s2, in_s3, in_v1, in_v2, in_v3, in_v4, in_v5, in_v6, ma_bk, ma_gl, ma_sl, ma_nl, ma_wc, ma_wd, ma_nn, ma_en, List.mem_cons, List.not_mem_nil, or_false, or_true, true_or, false_or, true_and, and_true, false_and, and_false, if_true, if_false, forall_const, true_implies, false_implies, not_true_eq_false, not_false_eq_true, Classical.not_not, implies_true, and_self, Nat.add_zero, Nat.zero_add, eq_self, ne_eq, reduceCtorEq, Nat.reduceLT, Nat.reduceLeDiff, Nat.reduceEqDiff, Nat.reduceSub, Nat.reduceAdd, i10, i01, im10, Int32.reduceLT, Int32.reduceLE, ↓reduceIte, reduceIte, up_r, uL_r, cp_r, Int32.toInt_toInt64, Int64.reduceToInt, Int32.reduceToInt, ↓b1_or, b1_0, b1_1, lc_lt, lc_le, lc_gt, lc_ge, lc_eq, yx_0, yx_1, yx_2, yx_3, yx_4, yx_5, yx_6, yx_7, yx_8, yx_9, yx_10, yx_11, yx_12, yx_13, yx_14, yx_15, yx_16, yx_17, yx_18, yx_19, yx_20, yx_21, yx_22, yx_23, yx_24, yx_25, yx_26, yx_27, yx_28, yx_29, yx_30, yx_31, yx_32, yx_33, yx_34, yx_35, yx_36, yx_37, yx_38, yx_39, yx_40, yx_41, yx_42, yx_43, yx_44, yx_45, yx_46, yx_47, yx_48, yx_49, yx_50, yx_51, yx_52, yx_53, yx_54, yx_55, yx_56, yx_57, yx_58, yx_59, yx_60, yx_61, yx_62, yx_63, yx_64, yx_65, yx_66, yx_67, yx_68, rx_0, rx_1, rx_2, rx_3, rx_4, rx_5, rx_6, rx_7, rx_8, rx_9, rx_10, rx_11, rx_12, rx_13, rx_14, rx_15, rx_16, rx_17, rx_18, rx_19, rx_20, rx_21, rx_22, rx_23, rx_24, rx_25, rx_26, rx_27, rx_28, rx_29, rx_30, rx_31, rx_32, rx_33, rp_0, rp_1, rp_2, rp_3, rp_4, rp_5, rp_6, rp_7, rp_8, rs_0, rs_1, rs_2, rs_3, rs_4, re_0, re_1, re_2, re_3, re_4, re_5, rr_0, rr_1, rr_2, rr_3, rr_4, rk_0, rk_1, isP3, isP11, isP46, isP58, isS25, isS28, isS31, un_X0_cells, un_X3_filled, un_X3_put, nI_1]
      try simp only [iteP, Classical.not_not, b1_0, b1_1]
      exact ⟨fun _ => H _ _ _ e3 e4 e5 (e6.nextC (fun l hl => hl) (fun _ z => z)), fun z => absurd (by decide) z⟩
    · intro l hl ih M1 o3 e3 e4 e5 e6
      have f0 : M1 0 = M 0 := e3 0 (hk1 0 (by decide)).2.2 (hk1 0 (by decide)).1 (hk1 0 (by decide)).2.1
      have f19 : M1 19 = M 19 := e3 19 (hk1 19 (by decide)).2.2 (hk1 19 (by decide)).1 (hk1 19 (by decide)).2.1
      have f20 : M1 20 = M 20 := e3 20 (hk1 20 (by decide)).2.2 (hk1 20 (by decide)).1 (hk1 20 (by decide)).2.1
      have i0 : (4 : Int32) * nI c + nI l = nI (4 * c + l) := by rw [show (4 : Int32) = nI 4 from rfl, pk_mul, nI_add]
      have v144 : vp_in (nI (4 * c + l)) 144 := vp_in_nI (by omega) (by decide)
      have ci := a_cl (show 4 * c + l < 2147483648 by omega)
      have fin : ∀ x y, x = f0v (M 19) (M 20) w u e c l → y = f0k (M 20) c l → ∀ o3, V 37 [some (.ref k), some (.int (nI c)), some (.int (nI (l + 1))), o3] [] (ma_up (ma_up M1 (k + 1) (144 * 0 + 4 * c + l) x) (k + 2) (144 * 0 + 4 * c + l) y) L := by
        intro x y hx hy o3
        refine ih _ _ (fun a z0 z1 z2 => by rw [up_c z2, up_c z1]; exact e3 a z0 z1 z2) (by rw [up_c (by omega), up_c (by omega)]; exact e4) (by rw [up_c (by omega), up_c (by omega)]; exact e5) ?_
        rw [up_c (show k + 1 ≠ k + 2 by omega), ma_up_at, ma_up_at, up_c (show k + 2 ≠ k + 1 by omega)]
        refine (e6.put h36 e2 hl hx hy).sub (fun l' hl' q => ?_)
        by_cases q3 : l' = l
        · exact Or.inr q3
        · exact Or.inl (by omega)
      refine ma_walk (mo_X3_begin ms_X0_cells ms_X3_filled ms_X3_put) hV [24, 37] (fun F hF => ?_)
      simp only [tb_X3_begin, hF, in_no, in_push, in_ild, in_lld, in_ald, in_ist, in_ast, in_lst, in_inc, in_iii, in_idv, in_ldv, in_lll, in_lli, in_lil, in_ii, in_il, in_li, in_ll, in_dup, in_dp2, q_if1, q_if2, in_go, in_sw, ma_sw, in_rv, in_ri, in_rz, in_rl, in_get, in_put, in_puz, in_iar, in_bar, in_lar, in_aar, in_iaw, in_baw, in_law, in_len, in_cpy, in_s1, in_s2, in_s3, in_v1, in_v2, in_v3, in_v4, in_v5, in_v6, ma_bk, ma_gl, ma_sl, ma_nl, ma_wc, ma_wd, ma_nn, ma_en, List.mem_cons, List.not_mem_nil, or_false, or_true, true_or, false_or, true_and, and_true, false_and, and_false, if_true, if_false, forall_const, true_implies, false_implies, not_true_eq_false, not_false_eq_true, Classical.not_not, implies_true, and_self, Nat.add_zero, Nat.zero_add, eq_self, ne_eq, reduceCtorEq, Nat.reduceLT, Nat.reduceLeDiff, Nat.reduceEqDiff, Nat.reduceSub, Nat.reduceAdd, i10, i01, im10, Int32.reduceLT, Int32.reduceLE, ↓reduceIte, reduceIte, up_r, uL_r, cp_r, Int32.toInt_toInt64, Int64.reduceToInt, Int32.reduceToInt, ↓b1_or, b1_0, b1_1, lc_lt, lc_le, lc_gt, lc_ge, lc_eq, yx_0, yx_1, yx_2, yx_3, yx_4, yx_5, yx_6, yx_7, yx_8, yx_9, yx_10, yx_11, yx_12, yx_13, yx_14, yx_15, yx_16, yx_17, yx_18, yx_19, yx_20, yx_21, yx_22, yx_23, yx_24, yx_25, yx_26, yx_27, yx_28, yx_29, yx_30, yx_31, yx_32, yx_33, yx_34, yx_35, yx_36, yx_37, yx_38, yx_39, yx_40, yx_41, yx_42, yx_43, yx_44, yx_45, yx_46, yx_47, yx_48, yx_49, yx_50, yx_51, yx_52, yx_53, yx_54, yx_55, yx_56, yx_57, yx_58, yx_59, yx_60, yx_61, yx_62, yx_63, yx_64, yx_65, yx_66, yx_67, yx_68, rx_0, rx_1, rx_2, rx_3, rx_4, rx_5, rx_6, rx_7, rx_8, rx_9, rx_10, rx_11, rx_12, rx_13, rx_14, rx_15, rx_16, rx_17, rx_18, rx_19, rx_20, rx_21, rx_22, rx_23, rx_24, rx_25, rx_26, rx_27, rx_28, rx_29, rx_30, rx_31, rx_32, rx_33, rp_0, rp_1, rp_2, rp_3, rp_4, rp_5, rp_6, rp_7, rp_8, rs_0, rs_1, rs_2, rs_3, rs_4, re_0, re_1, re_2, re_3, re_4, re_5, rr_0, rr_1, rr_2, rr_3, rr_4, rk_0, rk_1, isP3, isP11, isP46, isP58, isS25, isS28, isS31, un_X0_cells, un_X3_filled, un_X3_put, y0, nI_1, i0, v144, ci, f20, hS]
      try simp only [iteP, Classical.not_not, b1_0, b1_1]
      rw [show ((4 : Int32) ≤ nI l) = (4 ≤ l) from a_le (a := 4) (by omega) (by omega)]
      unfold f0v f0k at fin
      refine ⟨fun z => absurd z (by omega), fun _ => ⟨fun z => ⟨w, u, e, c, l, ⟨e4, e5, by rw [f0]; exact m2, ⟨s1, s2, s3, s4, s5, e2, by omega⟩, rfl, rfl, hl, by rw [f19]; exact hb⟩, fun z2 => ⟨0, c, l, ⟨rfl, rfl, rfl, by omega, by omega, hl⟩, ?_⟩, fun z2 => absurd z z2⟩, fun z => ⟨fun z2 => absurd z2 z, fun _ => ⟨0, c, l, ⟨rfl, rfl, rfl, by omega, by omega, hl⟩, ?_⟩⟩⟩⟩
      · rw [f19]
        exact fin _ _ (by rw [if_pos z]) (b1_t z).symm _
      · exact fin _ _ (by rw [if_neg z]) (b1_f z).symm _
  have v1 : ∀ c, c ≤ w * u → ∀ (M1 : ZM) (o2 o3 : Option Value), (∀ a, a ≠ k → a ≠ k + 1 → a ≠ k + 2 → M1 a = M a) → M1 k 0 = nI w → M1 k 1 = nI u → Gd (fun _ => f0v (M 19) (M 20) w u e) (fun _ => f0k (M 20)) (M1 (k + 1)) (M1 (k + 2)) (w * u) 0 c (fun _ => False) → V 24 [some (.ref k), some (.int (nI c)), o2, o3] [] M1 L := by
    refine lp_up ?_ ?_
    · intro M1 o2 o3 e3 e4 e5 e6
      have f0 : M1 0 = M 0 := e3 0 (hk1 0 (by decide)).2.2 (hk1 0 (by decide)).1 (hk1 0 (by decide)).2.1
      refine ma_walk (mo_X3_begin ms_X0_cells ms_X3_filled ms_X3_put) hV [24, 37] (fun F hF => ?_)
      simp only [tb_X3_begin, hF, in_no, in_push, in_ild, in_lld, in_ald, in_ist, in_ast, in_lst, in_inc, in_iii, in_idv, in_ldv, in_lll, in_lli, in_lil, in_ii, in_il, in_li, in_ll, in_dup, in_dp2, q_if1, q_if2, in_go, in_sw, ma_sw, in_rv, in_ri, in_rz, in_rl, in_get, in_put, in_puz, in_iar, in_bar, in_lar, in_aar, in_iaw, in_baw, in_law, in_len, in_cpy, in_s1, in_s2, in_s3, in_v1, in_v2, in_v3, in_v4, in_v5, in_v6, ma_bk, ma_gl, ma_sl, ma_nl, ma_wc, ma_wd, ma_nn, ma_en, List.mem_cons, List.not_mem_nil, or_false, or_true, true_or, false_or, true_and, and_true, false_and, and_false, if_true, if_false, forall_const, true_implies, false_implies, not_true_eq_false, not_false_eq_true, Classical.not_not, implies_true, and_self, Nat.add_zero, Nat.zero_add, eq_self, ne_eq, reduceCtorEq, Nat.reduceLT, Nat.reduceLeDiff, Nat.reduceEqDiff, Nat.reduceSub, Nat.reduceAdd, i10, i01, im10, Int32.reduceLT, Int32.reduceLE, ↓reduceIte, reduceIte, up_r, uL_r, cp_r, Int32.toInt_toInt64, Int64.reduceToInt, Int32.reduceToInt, ↓b1_or, b1_0, b1_1, lc_lt, lc_le, lc_gt, lc_ge, lc_eq, yx_0, yx_1, yx_2, yx_3, yx_4, yx_5, yx_6, yx_7, yx_8, yx_9, yx_10, yx_11, yx_12, yx_13, yx_14, yx_15, yx_16, yx_17, yx_18, yx_19, yx_20, yx_21, yx_22, yx_23, yx_24, yx_25, yx_26, yx_27, yx_28, yx_29, yx_30, yx_31, yx_32, yx_33, yx_34, yx_35, yx_36, yx_37, yx_38, yx_39, yx_40, yx_41, yx_42, yx_43, yx_44, yx_45, yx_46, yx_47, yx_48, yx_49, yx_50, yx_51, yx_52, yx_53, yx_54, yx_55, yx_56, yx_57, yx_58, yx_59, yx_60, yx_61, yx_62, yx_63, yx_64, yx_65, yx_66, yx_67, yx_68, rx_0, rx_1, rx_2, rx_3, rx_4, rx_5, rx_6, rx_7, rx_8, rx_9, rx_10, rx_11, rx_12, rx_13, rx_14, rx_15, rx_16, rx_17, rx_18, rx_19, rx_20, rx_21, rx_22, rx_23, rx_24, rx_25, rx_26, rx_27, rx_28, rx_29, rx_30, rx_31, rx_32, rx_33, rp_0, rp_1, rp_2, rp_3, rp_4, rp_5, rp_6, rp_7, rp_8, rs_0, rs_1, rs_2, rs_3, rs_4, re_0, re_1, re_2, re_3, re_4, re_5, rr_0, rr_1, rr_2, rr_3, rr_4, rk_0, rk_1, isP3, isP11, isP46, isP58, isS25, isS28, isS31, un_X0_cells, un_X3_filled, un_X3_put, y0, f0, m0, m1, hwu]
      try simp only [iteP, Classical.not_not, b1_0, b1_1]
      refine ⟨fun _ => h M1 e3 e4 e5 (fun c l h1 h2 => ?_), fun z => absurd (nI_le (Nat.le_refl _) (by omega)) z⟩
      have q := e6 0 c l h2 h1 (Or.inr (Or.inl ⟨rfl, h1⟩))
      rw [show 144 * 0 + 4 * c + l = 4 * c + l by omega] at q; exact q
    · intro c hc ih M1 o2 o3 e3 e4 e5 e6
      have f0 : M1 0 = M 0 := e3 0 (hk1 0 (by decide)).2.2 (hk1 0 (by decide)).1 (hk1 0 (by decide)).2.1
      refine ma_walk (mo_X3_begin ms_X0_cells ms_X3_filled ms_X3_put) hV [24, 37] (fun F hF => ?_)
      simp only [tb_X3_begin, hF, in_no, in_push, in_ild, in_lld, in_ald, in_ist, in_ast, in_lst, in_inc, in_iii, in_idv, in_ldv, in_lll, in_lli, in_lil, in_ii, in_il, in_li, in_ll, in_dup, in_dp2, q_if1, q_if2, in_go, in_sw, ma_sw, in_rv, in_ri, in_rz, in_rl, in_get, in_put, in_puz, in_iar, in_bar, in_lar, in_aar, in_iaw, in_baw, in_law, in_len, in_cpy, in_s1, in_s2, in_s3, in_v1, in_v2, in_v3, in_v4, in_v5, in_v6, ma_bk, ma_gl, ma_sl, ma_nl, ma_wc, ma_wd, ma_nn, ma_en, List.mem_cons, List.not_mem_nil, or_false, or_true, true_or, false_or, true_and, and_true, false_and, and_false, if_true, if_false, forall_const, true_implies, false_implies, not_true_eq_false, not_false_eq_true, Classical.not_not, implies_true, and_self, Nat.add_zero, Nat.zero_add, eq_self, ne_eq, reduceCtorEq, Nat.reduceLT, Nat.reduceLeDiff, Nat.reduceEqDiff, Nat.reduceSub, Nat.reduceAdd, i10, i01, im10, Int32.reduceLT, Int32.reduceLE, ↓reduceIte, reduceIte, up_r, uL_r, cp_r, Int32.toInt_toInt64, Int64.reduceToInt, Int32.reduceToInt, ↓b1_or, b1_0, b1_1, lc_lt, lc_le, lc_gt, lc_ge, lc_eq, yx_0, yx_1, yx_2, yx_3, yx_4, yx_5, yx_6, yx_7, yx_8, yx_9, yx_10, yx_11, yx_12, yx_13, yx_14, yx_15, yx_16, yx_17, yx_18, yx_19, yx_20, yx_21, yx_22, yx_23, yx_24, yx_25, yx_26, yx_27, yx_28, yx_29, yx_30, yx_31, yx_32, yx_33, yx_34, yx_35, yx_36, yx_37, yx_38, yx_39, yx_40, yx_41, yx_42, yx_43, yx_44, yx_45, yx_46, yx_47, yx_48, yx_49, yx_50, yx_51, yx_52, yx_53, yx_54, yx_55, yx_56, yx_57, yx_58, yx_59, yx_60, yx_61, yx_62, yx_63, yx_64, yx_65, yx_66, yx_67, yx_68, rx_0, rx_1, rx_2, rx_3, rx_4, rx_5, rx_6, rx_7, rx_8, rx_9, rx_10, rx_11, rx_12, rx_13, rx_14, rx_15, rx_16, rx_17, rx_18, rx_19, rx_20, rx_21, rx_22, rx_23, rx_24, rx_25, rx_26, rx_27, rx_28, rx_29, rx_30, rx_31, rx_32, rx_33, rp_0, rp_1, rp_2, rp_3, rp_4, rp_5, rp_6, rp_7, rp_8, rs_0, rs_1, rs_2, rs_3, rs_4, re_0, re_1, re_2, re_3, re_4, re_5, rr_0, rr_1, rr_2, rr_3, rr_4, rk_0, rk_1, isP3, isP11, isP46, isP58, isS25, isS28, isS31, un_X0_cells, un_X3_filled, un_X3_put, y0, f0, m0, m1, hwu]
      try simp only [iteP, Classical.not_not, b1_0, b1_1]
      rw [a_le (by omega) (by omega)]
      refine ⟨fun z => absurd z (by omega), fun _ => ?_⟩
      exact v2 c hc ih 0 (by omega) M1 _ e3 e4 e5 (e6.sub (fun l hl q => absurd q (Nat.not_lt_zero l)))
  refine ma_walk (mo_X3_begin ms_X0_cells ms_X3_filled ms_X3_put) hV [24] (fun F hF => ?_)
  simp only [tb_X3_begin, hF, in_no, in_push, in_ild, in_lld, in_ald, in_ist, in_ast, in_lst, in_inc, in_iii, in_idv, in_ldv, in_lll, in_lli, in_lil, in_ii, in_il, in_li, in_ll, in_dup, in_dp2, q_if1, q_if2, in_go, in_sw, ma_sw, in_rv, in_ri, in_rz, in_rl, in_get, in_put, in_puz, in_iar, in_bar, in_lar, in_aar, in_iaw, in_baw, in_law, in_len, in_cpy, in_s1, in_s2, in_s3, in_v1, in_v2, in_v3, in_v4, in_v5, in_v6, ma_bk, ma_gl, ma_sl, ma_nl, ma_wc, ma_wd, ma_nn, ma_en, List.mem_cons, List.not_mem_nil, or_false, or_true, true_or, false_or, true_and, and_true, false_and, and_false, if_true, if_false, forall_const, true_implies, false_implies, not_true_eq_false, not_false_eq_true, Classical.not_not, implies_true, and_self, Nat.add_zero, Nat.zero_add, eq_self, ne_eq, reduceCtorEq, Nat.reduceLT, Nat.reduceLeDiff, Nat.reduceEqDiff, Nat.reduceSub, Nat.reduceAdd, i10, i01, im10, Int32.reduceLT, Int32.reduceLE, ↓reduceIte, reduceIte, up_r, uL_r, cp_r, Int32.toInt_toInt64, Int64.reduceToInt, Int32.reduceToInt, ↓b1_or, b1_0, b1_1, lc_lt, lc_le, lc_gt, lc_ge, lc_eq, yx_0, yx_1, yx_2, yx_3, yx_4, yx_5, yx_6, yx_7, yx_8, yx_9, yx_10, yx_11, yx_12, yx_13, yx_14, yx_15, yx_16, yx_17, yx_18, yx_19, yx_20, yx_21, yx_22, yx_23, yx_24, yx_25, yx_26, yx_27, yx_28, yx_29, yx_30, yx_31, yx_32, yx_33, yx_34, yx_35, yx_36, yx_37, yx_38, yx_39, yx_40, yx_41, yx_42, yx_43, yx_44, yx_45, yx_46, yx_47, yx_48, yx_49, yx_50, yx_51, yx_52, yx_53, yx_54, yx_55, yx_56, yx_57, yx_58, yx_59, yx_60, yx_61, yx_62, yx_63, yx_64, yx_65, yx_66, yx_67, yx_68, rx_0, rx_1, rx_2, rx_3, rx_4, rx_5, rx_6, rx_7, rx_8, rx_9, rx_10, rx_11, rx_12, rx_13, rx_14, rx_15, rx_16, rx_17, rx_18, rx_19, rx_20, rx_21, rx_22, rx_23, rx_24, rx_25, rx_26, rx_27, rx_28, rx_29, rx_30, rx_31, rx_32, rx_33, rp_0, rp_1, rp_2, rp_3, rp_4, rp_5, rp_6, rp_7, rp_8, rs_0, rs_1, rs_2, rs_3, rs_4, re_0, re_1, re_2, re_3, re_4, re_5, rr_0, rr_1, rr_2, rr_3, rr_4, rk_0, rk_1, isP3, isP11, isP46, isP58, isS25, isS28, isS31, un_X0_cells, un_X3_filled, un_X3_put, y0, m0, m1]
  try simp only [iteP, Classical.not_not, b1_0, b1_1]
  refine v1 0 (Nat.zero_le _) _ _ _ (fun a z0 z1 z2 => by rw [up_c z0, up_c z0]) ?_ ?_ (fun s' c' l h1 h2 h3 => ?_)
  · rw [up_r, if_neg (by omega), up_r, if_pos ⟨rfl, rfl⟩]
  · rw [up_r, if_pos ⟨rfl, rfl⟩]
  · rcases h3 with h3 | h3 | h3
    · omega
    · omega
    · exact absurd h3.2.2 (fun z => z)
theorem pv_X3_begin : ∀ as M L K, S_X3_begin as M L K → ma_rn (tb_X3_begin S_X0_cells S_X3_filled S_X3_put) 4 as M L K := by
  intro as M L K h
  unfold S_X3_begin at h
  split at h
  · obtain ⟨w, u, e, h⟩ := h; exact pw_X3_begin h.1 h.2
  · exact h.elim
def S_X5_hall : ma_Cs := fun as M L K => match as with
  | [.ref k, .ref r, .int set] => ∃ (w : Nat) (u : Nat) (e : Nat) (n : Nat) (S : Nat → Bool) (ts : List Tm) (ls : List Ln), (k = 0 ∧ isR r ∧ M 0 0 = nI w ∧ M 0 1 = nI u ∧ M 0 2 = nI e ∧ Sh w u e 0 0 ∧ M 0 19 = nI n ∧ n ≤ 12 ∧ (∀ i, i < n → (S i = true ↔ (set >>> (nI i &&& 31)) &&& 1 = 1)) ∧ (∀ i, i < n → -1000000 ≤ (M 16 i).toInt ∧ (M 16 i).toInt ≤ 1000000) ∧ Pc M ts ls ∧ Vq ts ls ∧ Vf ts ∧ B24 M ∧ Fb (M 1) (M 12)) ∧ (∀ (M' : ZM), (∀ a, a ≠ 0 → a ≠ r → a ≠ 24 → M' a = M a) → (∀ j, j ≠ 35 → j ≠ 36 → M' 0 j = M 0 j) → (∀ s c l, s ≤ 12 → c < w * u → l < 4 → M' r (144 * s + 4 * c + l) = val (M 1) w u e ts ls (zY M S n) (f0v (M 1) (M 12) w u e) s c l ∧ M' 24 (144 * s + 4 * c + l) = vak w u e ts ls (f0k (M 12)) s c l) → B24 M' → (M' 0 35 = nI w ∧ M' 0 36 = nI u) → K none M' L)
  | _ => False
theorem ms_X5_hall : ma_ms S_X5_hall := by
  intro as M L K K' hk h
  unfold S_X5_hall at h ⊢
  split at h
  · obtain ⟨w, u, e, n, S, ts, ls, h⟩ := h
    exact ⟨w, u, e, n, S, ts, ls, h.1, fun x0 x1 x2 x3 x4 x5 => hk _ _ _ (h.2 x0 x1 x2 x3 x4 x5)⟩
  · exact h.elim
theorem un_X5_hall {k : Nat} {r : Nat} {set : Int32} {M : ZM} {L : ZL} {K : ma_Kt} : S_X5_hall [.ref k, .ref r, .int set] M L K = (∃ (w : Nat) (u : Nat) (e : Nat) (n : Nat) (S : Nat → Bool) (ts : List Tm) (ls : List Ln), (k = 0 ∧ isR r ∧ M 0 0 = nI w ∧ M 0 1 = nI u ∧ M 0 2 = nI e ∧ Sh w u e 0 0 ∧ M 0 19 = nI n ∧ n ≤ 12 ∧ (∀ i, i < n → (S i = true ↔ (set >>> (nI i &&& 31)) &&& 1 = 1)) ∧ (∀ i, i < n → -1000000 ≤ (M 16 i).toInt ∧ (M 16 i).toInt ≤ 1000000) ∧ Pc M ts ls ∧ Vq ts ls ∧ Vf ts ∧ B24 M ∧ Fb (M 1) (M 12)) ∧ (∀ (M' : ZM), (∀ a, a ≠ 0 → a ≠ r → a ≠ 24 → M' a = M a) → (∀ j, j ≠ 35 → j ≠ 36 → M' 0 j = M 0 j) → (∀ s c l, s ≤ 12 → c < w * u → l < 4 → M' r (144 * s + 4 * c + l) = val (M 1) w u e ts ls (zY M S n) (f0v (M 1) (M 12) w u e) s c l ∧ M' 24 (144 * s + 4 * c + l) = vak w u e ts ls (f0k (M 12)) s c l) → B24 M' → (M' 0 35 = nI w ∧ M' 0 36 = nI u) → K none M' L)) := rfl
theorem pw_X5_hall {k : Nat} {r : Nat} {set : Int32} {w : Nat} {u : Nat} {e : Nat} {n : Nat} {S : Nat → Bool} {ts : List Tm} {ls : List Ln} {M : ZM} {L : ZL} {K : ma_Kt} (hp : k = 0 ∧ isR r ∧ M 0 0 = nI w ∧ M 0 1 = nI u ∧ M 0 2 = nI e ∧ Sh w u e 0 0 ∧ M 0 19 = nI n ∧ n ≤ 12 ∧ (∀ i, i < n → (S i = true ↔ (set >>> (nI i &&& 31)) &&& 1 = 1)) ∧ (∀ i, i < n → -1000000 ≤ (M 16 i).toInt ∧ (M 16 i).toInt ≤ 1000000) ∧ Pc M ts ls ∧ Vq ts ls ∧ Vf ts ∧ B24 M ∧ Fb (M 1) (M 12)) (h : (∀ (M' : ZM), (∀ a, a ≠ 0 → a ≠ r → a ≠ 24 → M' a = M a) → (∀ j, j ≠ 35 → j ≠ 36 → M' 0 j = M 0 j) → (∀ s c l, s ≤ 12 → c < w * u → l < 4 → M' r (144 * s + 4 * c + l) = val (M 1) w u e ts ls (zY M S n) (f0v (M 1) (M 12) w u e) s c l ∧ M' 24 (144 * s + 4 * c + l) = vak w u e ts ls (f0k (M 12)) s c l) → B24 M' → (M' 0 35 = nI w ∧ M' 0 36 = nI u) → K none M' L)) : ma_rn (tb_X5_hall S_X5_cells S_X5_place S_X5_filled S_X5_steps) 5 [.ref k, .ref r, .int set] M L K := by
  refine ⟨Nat.le_of_ble_eq_true rfl, fun V hV => ?_⟩
  obtain ⟨rfl, hR, m0, m1, m2, hs, m3, hn, hw, ha, hP, hQ, hVf, hB, hb⟩ := hp
  have yr := hR.y
  obtain ⟨s1, s2, s3, s4, s5, s6, s7⟩ := id hs
  have h36 := Nat.mul_le_mul (Nat.le_of_lt_succ s2) (Nat.le_of_lt_succ s4)
  have hr24 : r ≠ 24 := by rcases hR with rfl | rfl <;> decide
  have hr0 : (0 : Nat) ≠ r := by rcases hR with rfl | rfl <;> decide
  have hk1 : ∀ a, a < 22 → a ≠ r ∧ a ≠ 24 := fun a ha => by rcases hR with rfl | rfl <;> omega
  have hwu : nI w * nI u = nI (w * u) := pk_mul w u
  have fr : ∀ M1 : ZM, (∀ a, a ≠ 0 → a ≠ r → a ≠ 24 → M1 a = M a) → (∀ j, j ≠ 35 → j ≠ 36 → M1 0 j = M 0 j) → Pc M1 ts ls ∧ M1 1 = M 1 ∧ M1 12 = M 12 ∧ M1 13 = M 13 ∧ M1 14 = M 14 ∧ M1 15 = M 15 ∧ M1 16 = M 16 := by
    intro M1 h1 h2
    have g : ∀ a, a ≠ 0 → a < 22 → M1 a = M a := fun a h0 ha => h1 a h0 (hk1 a ha).1 (hk1 a ha).2
    refine ⟨?_, g 1 (by decide) (by decide), g 12 (by decide) (by decide), g 13 (by decide) (by decide), g 14 (by decide) (by decide), g 15 (by decide) (by decide), g 16 (by decide) (by decide)⟩
    unfold Pc YL YT
    rw [h2 7 (by decide) (by decide), g 3 (by decide) (by decide), g 4 (by decide) (by decide), g 5 (by decide) (by decide), g 6 (by decide) (by decide), g 7 (by decide) (by decide), g 8 (by decide) (by decide), g 9 (by decide) (by decide), g 10 (by decide) (by decide), g 11 (by decide) (by decide)]
    exact hP
  have v2 : ∀ c, c < w * u → (∀ (M1 : ZM) (o4 : Option Value), (∀ a, a ≠ 0 → a ≠ r → a ≠ 24 → M1 a = M a) → (∀ j, j ≠ 35 → j ≠ 36 → M1 0 j = M 0 j) → M1 0 35 = nI w → M1 0 36 = nI u → B24 M1 → Gd (fun _ => f0v (M 1) (M 12) w u e) (fun _ => f0k (M 12)) (M1 r) (M1 24) (w * u) 0 (c + 1) (fun _ => False) → V 18 [some (.ref 0), some (.ref r), some (.int set), some (.int (nI (c + 1))), o4] [] M1 L) →
      ∀ l, l ≤ 4 → ∀ (M1 : ZM), (∀ a, a ≠ 0 → a ≠ r → a ≠ 24 → M1 a = M a) → (∀ j, j ≠ 35 → j ≠ 36 → M1 0 j = M 0 j) → M1 0 35 = nI w → M1 0 36 = nI u → B24 M1 → Gd (fun _ => f0v (M 1) (M 12) w u e) (fun _ => f0k (M 12)) (M1 r) (M1 24) (w * u) 0 c (fun l' => l' < l) → V 29 [some (.ref 0), some (.ref r), some (.int set), some (.int (nI c)), some (.int (nI l))] [] M1 L := by
    intro c e2 H
    refine lp_up ?_ ?_
    · intro M1 e3 e3b e4 e5 eB e6
      refine ma_walk (mo_X5_hall ms_X5_cells ms_X5_place ms_X5_filled ms_X5_steps) hV [18, 29] (fun F hF => ?_)
      simp only [tb_X5_hall, hF, in_no, in_push, in_ild, in_lld, in_ald, in_ist, in_ast, in_lst, in_inc, in_iii, in_idv, in_ldv, in_lll, in_lli, in_lil, in_ii, in_il, in_li, in_ll, in_dup, in_dp2, q_if1, q_if2, in_go, in_sw, ma_sw, in_rv, in_ri, in_rz, in_rl, in_get, in_put, in_puz, in_iar, in_bar, in_lar, in_aar, in_iaw, in_baw, in_law, in_len, in_cpy, in_s1, in_s2, in_s3, in_v1, in_v2, in_v3, in_v4, in_v5, in_v6, ma_bk, ma_gl, ma_sl, ma_nl, ma_wc, ma_wd, ma_nn, ma_en, List.mem_cons, List.not_mem_nil, or_false, or_true, true_or, false_or, true_and, and_true, false_and, and_false, if_true, if_false, forall_const, true_implies, false_implies, not_true_eq_false, not_false_eq_true, Classical.not_not, implies_true, and_self, Nat.add_zero, Nat.zero_add, eq_self, ne_eq, reduceCtorEq, Nat.reduceLT, Nat.reduceLeDiff, Nat.reduceEqDiff, Nat.reduceSub, Nat.reduceAdd, i10, i01, im10, Int32.reduceLT, Int32.reduceLE, ↓reduceIte, reduceIte, up_r, uL_r, cp_r, Int32.toInt_toInt64, Int64.reduceToInt, Int32.reduceToInt, ↓b1_or, b1_0, b1_1, lc_lt, lc_le, lc_gt, lc_ge, lc_eq, ym_0, ym_1, ym_2, ym_3, ym_4, ym_5, ym_6, ym_7, ym_8, ym_9, ym_10, ym_11, ym_12, ym_13, ym_14, ym_15, ym_16, ym_17, ym_18, ym_19, ym_20, ym_21, ym_22, ym_23, ym_24, ym_25, ym_26, ym_27, ym_28, ym_29, ym_30, rm__0, rm__1, rm__2, rm__3, rm__4, rm__5, rm__6, rm__7, rm__8, rm__9, rm__10, rm__11, rm__12, rm__13, rm__14, rm__15, rm__16, rm__17, rm__18, rm__19, rm__20, rm__21, rm__22, rm__23, rm__24, rm__25, rm__26, rm__27, rm__28, rm__29, rm__30, rm__31, rm__32, rm__33, rm__34, rm__35, rm__36, rm__37, rm__38, rm__39, rm__40, rm__41, rm__42, rm__43, rm__44, rm__45, un_X5_cells, un_X5_place, un_X5_filled, un_X5_steps, nI_1]
      try simp only [iteP, Classical.not_not, b1_0, b1_1]
      exact ⟨fun _ => H _ _ e3 e3b e4 e5 eB (e6.nextC (fun l hl => hl) (fun _ z => z)), fun z => absurd (by decide) z⟩
    · intro l hl ih M1 e3 e3b e4 e5 eB e6
      obtain ⟨f0, f1, f12, f13, f14, f15, f16⟩ := fr M1 e3 e3b
      have i0 : (4 : Int32) * nI c + nI l = nI (4 * c + l) := by rw [show (4 : Int32) = nI 4 from rfl, pk_mul, nI_add]
      have i1 : (144 : Int32) * 0 + 4 * nI c + nI l = nI (144 * 0 + 4 * c + l) := pl_e 0 c l
      have i2 : (144 : Int32) * 0 + nI (4 * c + l) = nI (144 * 0 + 4 * c + l) := by rw [Int32.mul_zero, Int32.zero_add]; congr 1; omega
      have v144 : vp_in (nI (4 * c + l)) 144 := vp_in_nI (by omega) (by decide)
      have v1872 : vp_in (nI (144 * 0 + 4 * c + l)) 1872 := vp_in_nI (by omega) (by decide)
      have ci := a_cl (show 4 * c + l < 2147483648 by omega)
      have ci2 := a_cl (show 144 * 0 + 4 * c + l < 2147483648 by omega)
      have g12 : ∀ p x, ma_up M1 r p x 12 = M 12 := fun p x => by rw [up_c (hk1 12 (by decide)).1]; exact f12
      have fin : ∀ x y, x = f0v (M 1) (M 12) w u e c l → y = f0k (M 12) c l → V 29 [some (.ref 0), some (.ref r), some (.int set), some (.int (nI c)), some (.int (nI (l + 1)))] [] (ma_up (ma_up M1 r (144 * 0 + 4 * c + l) x) 24 (144 * 0 + 4 * c + l) y) L := by
        intro x y hx hy
        refine ih _ (fun a z0 z1 z2 => by rw [up_c z2, up_c z1]; exact e3 a z0 z1 z2) (fun j z1 z2 => by rw [up_c (by decide), up_c hr0]; exact e3b j z1 z2) (by rw [up_c (by decide), up_c hr0]; exact e4) (by rw [up_c (by decide), up_c hr0]; exact e5) (fun i => ?_) ?_
        · rw [ma_up_at, up_c hr24.symm]
          by_cases z : i = 144 * 0 + 4 * c + l
          · rw [z, pk_us, hy]; exact of_eq_true b1_or
          · rw [pk_un z]; exact eB i
        · rw [up_c hr24, ma_up_at, ma_up_at, up_c hr24.symm]
          refine (e6.put h36 e2 hl hx hy).sub (fun l' hl' q => ?_)
          by_cases q3 : l' = l
          · exact Or.inr q3
          · exact Or.inl (by omega)
      refine ma_walk (mo_X5_hall ms_X5_cells ms_X5_place ms_X5_filled ms_X5_steps) hV [18, 29] (fun F hF => ?_)
      simp only [tb_X5_hall, hF, in_no, in_push, in_ild, in_lld, in_ald, in_ist, in_ast, in_lst, in_inc, in_iii, in_idv, in_ldv, in_lll, in_lli, in_lil, in_ii, in_il, in_li, in_ll, in_dup, in_dp2, q_if1, q_if2, in_go, in_sw, ma_sw, in_rv, in_ri, in_rz, in_rl, in_get, in_put, in_puz, in_iar, in_bar, in_lar, in_aar, in_iaw, in_baw, in_law, in_len, in_cpy, in_s1, in_s2, in_s3, in_v1, in_v2, in_v3, in_v4, in_v5, in_v6, ma_bk, ma_gl, ma_sl, ma_nl, ma_wc, ma_wd, ma_nn, ma_en, List.mem_cons, List.not_mem_nil, or_false, or_true, true_or, false_or, true_and, and_true, false_and, and_false, if_true, if_false, forall_const, true_implies, false_implies, not_true_eq_false, not_false_eq_true, Classical.not_not, implies_true, and_self, Nat.add_zero, Nat.zero_add, eq_self, ne_eq, reduceCtorEq, Nat.reduceLT, Nat.reduceLeDiff, Nat.reduceEqDiff, Nat.reduceSub, Nat.reduceAdd, i10, i01, im10, Int32.reduceLT, Int32.reduceLE, ↓reduceIte, reduceIte, up_r, uL_r, cp_r, Int32.toInt_toInt64, Int64.reduceToInt, Int32.reduceToInt, ↓b1_or, b1_0, b1_1, lc_lt, lc_le, lc_gt, lc_ge, lc_eq, ym_0, ym_1, ym_2, ym_3, ym_4, ym_5, ym_6, ym_7, ym_8, ym_9, ym_10, ym_11, ym_12, ym_13, ym_14, ym_15, ym_16, ym_17, ym_18, ym_19, ym_20, ym_21, ym_22, ym_23, ym_24, ym_25, ym_26, ym_27, ym_28, ym_29, ym_30, rm__0, rm__1, rm__2, rm__3, rm__4, rm__5, rm__6, rm__7, rm__8, rm__9, rm__10, rm__11, rm__12, rm__13, rm__14, rm__15, rm__16, rm__17, rm__18, rm__19, rm__20, rm__21, rm__22, rm__23, rm__24, rm__25, rm__26, rm__27, rm__28, rm__29, rm__30, rm__31, rm__32, rm__33, rm__34, rm__35, rm__36, rm__37, rm__38, rm__39, rm__40, rm__41, rm__42, rm__43, rm__44, rm__45, un_X5_cells, un_X5_place, un_X5_filled, un_X5_steps, yr, nI_1, i1, i0, i2, v144, v1872, ci, ci2, g12]
      try simp only [iteP, Classical.not_not, b1_0, b1_1]
      rw [show ((4 : Int32) ≤ nI l) = (4 ≤ l) from a_le (a := 4) (by omega) (by omega)]
      refine ⟨fun z => absurd z (by omega), fun _ => ⟨w, u, e, c, l, ⟨e4, e5, (e3b 2 (by decide) (by decide)).trans m2, ⟨s1, s2, s3, s4, s5, e2, by omega⟩, rfl, rfl, hl, by rw [f1, f12]; exact hb⟩, ?_⟩⟩
      rw [if_neg (fun z => (hk1 12 (by decide)).1 z.1), f1, f12]
      exact ⟨fun z => fin _ _ rfl (b1_t z).symm, fun z => fin _ _ rfl (b1_f z).symm⟩
  have v1 : ∀ c, c ≤ w * u → ∀ (M1 : ZM) (o4 : Option Value), (∀ a, a ≠ 0 → a ≠ r → a ≠ 24 → M1 a = M a) → (∀ j, j ≠ 35 → j ≠ 36 → M1 0 j = M 0 j) → M1 0 35 = nI w → M1 0 36 = nI u → B24 M1 → Gd (fun _ => f0v (M 1) (M 12) w u e) (fun _ => f0k (M 12)) (M1 r) (M1 24) (w * u) 0 c (fun _ => False) → V 18 [some (.ref 0), some (.ref r), some (.int set), some (.int (nI c)), o4] [] M1 L := by
    refine lp_up ?_ ?_
    · intro M1 o4 e3 e3b e4 e5 eB e6
      obtain ⟨f0, f1, f12, f13, f14, f15, f16⟩ := fr M1 e3 e3b
      have z0 := (e3b 0 (by decide) (by decide)).trans m0
      have z1 := (e3b 1 (by decide) (by decide)).trans m1
      refine ma_walk (mo_X5_hall ms_X5_cells ms_X5_place ms_X5_filled ms_X5_steps) hV [18, 29] (fun F hF => ?_)
      simp only [tb_X5_hall, hF, in_no, in_push, in_ild, in_lld, in_ald, in_ist, in_ast, in_lst, in_inc, in_iii, in_idv, in_ldv, in_lll, in_lli, in_lil, in_ii, in_il, in_li, in_ll, in_dup, in_dp2, q_if1, q_if2, in_go, in_sw, ma_sw, in_rv, in_ri, in_rz, in_rl, in_get, in_put, in_puz, in_iar, in_bar, in_lar, in_aar, in_iaw, in_baw, in_law, in_len, in_cpy, in_s1, in_s2, in_s3, in_v1, in_v2, in_v3, in_v4, in_v5, in_v6, ma_bk, ma_gl, ma_sl, ma_nl, ma_wc, ma_wd, ma_nn, ma_en, List.mem_cons, List.not_mem_nil, or_false, or_true, true_or, false_or, true_and, and_true, false_and, and_false, if_true, if_false, forall_const, true_implies, false_implies, not_true_eq_false, not_false_eq_true, Classical.not_not, implies_true, and_self, Nat.add_zero, Nat.zero_add, eq_self, ne_eq, reduceCtorEq, Nat.reduceLT, Nat.reduceLeDiff, Nat.reduceEqDiff, Nat.reduceSub, Nat.reduceAdd, i10, i01, im10, Int32.reduceLT, Int32.reduceLE, ↓reduceIte, reduceIte, up_r, uL_r, cp_r, Int32.toInt_toInt64, Int64.reduceToInt, Int32.reduceToInt, ↓b1_or, b1_0, b1_1, lc_lt, lc_le, lc_gt, lc_ge, lc_eq, ym_0, ym_1, ym_2, ym_3, ym_4, ym_5, ym_6, ym_7, ym_8, ym_9, ym_10, ym_11, ym_12, ym_13, ym_14, ym_15, ym_16, ym_17, ym_18, ym_19, ym_20, ym_21, ym_22, ym_23, ym_24, ym_25, ym_26, ym_27, ym_28, ym_29, ym_30, rm__0, rm__1, rm__2, rm__3, rm__4, rm__5, rm__6, rm__7, rm__8, rm__9, rm__10, rm__11, rm__12, rm__13, rm__14, rm__15, rm__16, rm__17, rm__18, rm__19, rm__20, rm__21, rm__22, rm__23, rm__24, rm__25, rm__26, rm__27, rm__28, rm__29, rm__30, rm__31, rm__32, rm__33, rm__34, rm__35, rm__36, rm__37, rm__38, rm__39, rm__40, rm__41, rm__42, rm__43, rm__44, rm__45, un_X5_cells, un_X5_place, un_X5_filled, un_X5_steps, yr, z0, z1, hwu]
      try simp only [iteP, Classical.not_not, b1_0, b1_1]
      refine ⟨fun _ => ⟨w, u, e, n, S, ts, ls, f0v (M 1) (M 12) w u e, f0k (M 12), ⟨hR, e4, e5, (e3b 2 (by decide) (by decide)).trans m2, hs, (e3b 19 (by decide) (by decide)).trans m3, hn, hw, by rw [f16]; exact ha, f0, hQ, hVf, eB, fun c l h1 h2 => ?_⟩, fun M2 g1 g2 g3 => ?_⟩, fun z => absurd (nI_le (Nat.le_refl _) (by omega)) z⟩
      · have q := e6 0 c l h2 h1 (Or.inr (Or.inl ⟨rfl, h1⟩))
        rw [show 144 * 0 + 4 * c + l = 4 * c + l by omega] at q
        exact ⟨q.1, q.2, Or.inr (by have := f0v_b (e := e) hb s2 s4 h1 h2; omega)⟩
      · refine h M2 (fun a z0 z1 z2 => (g1 a z1 z2).trans (e3 a z0 z1 z2)) (fun j z1 z2 => by rw [g1 0 hr0 (by decide)]; exact e3b j z1 z2) (fun s c l h1 h2 h3 => ?_) g3 ⟨by rw [g1 0 hr0 (by decide)]; exact e4, by rw [g1 0 hr0 (by decide)]; exact e5⟩
        have q := g2 s c l h1 h2 h3
        have ez : zY M1 S n = zY M S n := by unfold zY; rw [f13, f14, f15, f16]
        rw [f1, ez] at q; exact q
    · intro c hc ih M1 o4 e3 e3b e4 e5 eB e6
      have z0 := (e3b 0 (by decide) (by decide)).trans m0
      have z1 := (e3b 1 (by decide) (by decide)).trans m1
      refine ma_walk (mo_X5_hall ms_X5_cells ms_X5_place ms_X5_filled ms_X5_steps) hV [18, 29] (fun F hF => ?_)
      simp only [tb_X5_hall, hF, in_no, in_push, in_ild, in_lld, in_ald, in_ist, in_ast, in_lst, in_inc, in_iii, in_idv, in_ldv, in_lll, in_lli, in_lil, in_ii, in_il, in_li, in_ll, in_dup, in_dp2, q_if1, q_if2, in_go, in_sw, ma_sw, in_rv, in_ri, in_rz, in_rl, in_get, in_put, in_puz, in_iar, in_bar, in_lar, in_aar, in_iaw, in_baw, in_law, in_len, in_cpy, in_s1, in_s2, in_s3, in_v1, in_v2, in_v3, in_v4, in_v5, in_v6, ma_bk, ma_gl, ma_sl, ma_nl, ma_wc, ma_wd, ma_nn, ma_en, List.mem_cons, List.not_mem_nil, or_false, or_true, true_or, false_or, true_and, and_true, false_and, and_false, if_true, if_false, forall_const, true_implies, false_implies, not_true_eq_false, not_false_eq_true, Classical.not_not, implies_true, and_self, Nat.add_zero, Nat.zero_add, eq_self, ne_eq, reduceCtorEq, Nat.reduceLT, Nat.reduceLeDiff, Nat.reduceEqDiff, Nat.reduceSub, Nat.reduceAdd, i10, i01, im10, Int32.reduceLT, Int32.reduceLE, ↓reduceIte, reduceIte, up_r, uL_r, cp_r, Int32.toInt_toInt64, Int64.reduceToInt, Int32.reduceToInt, ↓b1_or, b1_0, b1_1, lc_lt, lc_le, lc_gt, lc_ge, lc_eq, ym_0, ym_1, ym_2, ym_3, ym_4, ym_5, ym_6, ym_7, ym_8, ym_9, ym_10, ym_11, ym_12, ym_13, ym_14, ym_15, ym_16, ym_17, ym_18, ym_19, ym_20, ym_21, ym_22, ym_23, ym_24, ym_25, ym_26, ym_27, ym_28, ym_29, ym_30, rm__0, rm__1, rm__2, rm__3, rm__4, rm__5, rm__6, rm__7, rm__8, rm__9, rm__10, rm__11, rm__12, rm__13, rm__14, rm__15, rm__16, rm__17, rm__18, rm__19, rm__20, rm__21, rm__22, rm__23, rm__24, rm__25, rm__26, rm__27, rm__28, rm__29, rm__30, rm__31, rm__32, rm__33, rm__34, rm__35, rm__36, rm__37, rm__38, rm__39, rm__40, rm__41, rm__42, rm__43, rm__44, rm__45, un_X5_cells, un_X5_place, un_X5_filled, un_X5_steps, yr, z0, z1, hwu]
      try simp only [iteP, Classical.not_not, b1_0, b1_1]
      rw [a_le (by omega) (by omega)]
      refine ⟨fun z => absurd z (by omega), fun _ => ?_⟩
      exact v2 c hc ih 0 (by omega) M1 e3 e3b e4 e5 eB (e6.sub (fun l hl q => absurd q (Nat.not_lt_zero l)))
  refine ma_walk (mo_X5_hall ms_X5_cells ms_X5_place ms_X5_filled ms_X5_steps) hV [18] (fun F hF => ?_)
  simp only [tb_X5_hall, hF, in_no, in_push, in_ild, in_lld, in_ald, in_ist, in_ast, in_lst, in_inc, in_iii, in_idv, in_ldv, in_lll, in_lli, in_lil, in_ii, in_il, in_li, in_ll, in_dup, in_dp2, q_if1, q_if2, in_go, in_sw, ma_sw, in_rv, in_ri, in_rz, in_rl, in_get, in_put, in_puz, in_iar, in_bar, in_lar, in_aar, in_iaw, in_baw, in_law, in_len, in_cpy, in_s1, in_s2, in_s3, in_v1, in_v2, in_v3, in_v4, in_v5, in_v6, ma_bk, ma_gl, ma_sl, ma_nl, ma_wc, ma_wd, ma_nn, ma_en, List.mem_cons, List.not_mem_nil, or_false, or_true, true_or, false_or, true_and, and_true, false_and, and_false, if_true, if_false, forall_const, true_implies, false_implies, not_true_eq_false, not_false_eq_true, Classical.not_not, implies_true, and_self, Nat.add_zero, Nat.zero_add, eq_self, ne_eq, reduceCtorEq, Nat.reduceLT, Nat.reduceLeDiff, Nat.reduceEqDiff, Nat.reduceSub, Nat.reduceAdd, i10, i01, im10, Int32.reduceLT, Int32.reduceLE, ↓reduceIte, reduceIte, up_r, uL_r, cp_r, Int32.toInt_toInt64, Int64.reduceToInt, Int32.reduceToInt, ↓b1_or, b1_0, b1_1, lc_lt, lc_le, lc_gt, lc_ge, lc_eq, ym_0, ym_1, ym_2, ym_3, ym_4, ym_5, ym_6, ym_7, ym_8, ym_9, ym_10, ym_11, ym_12, ym_13, ym_14, ym_15, ym_16, ym_17, ym_18, ym_19, ym_20, ym_21, ym_22, ym_23, ym_24, ym_25, ym_26, ym_27, ym_28, ym_29, ym_30, rm__0, rm__1, rm__2, rm__3, rm__4, rm__5, rm__6, rm__7, rm__8, rm__9, rm__10, rm__11, rm__12, rm__13, rm__14, rm__15, rm__16, rm__17, rm__18, rm__19, rm__20, rm__21, rm__22, rm__23, rm__24, rm__25, rm__26, rm__27, rm__28, rm__29, rm__30, rm__31, rm__32, rm__33, rm__34, rm__35, rm__36, rm__37, rm__38, rm__39, rm__40, rm__41, rm__42, rm__43, rm__44, rm__45, un_X5_cells, un_X5_place, un_X5_filled, un_X5_steps, m0, m1]
  try simp only [iteP, Classical.not_not, b1_0, b1_1]
  refine v1 0 (Nat.zero_le _) _ _ (fun a z0 z1 z2 => by rw [up_c z0, up_c z0]) (fun j z1 z2 => by simp only [up_r, z1, z2, and_false, if_false]) rfl rfl hB (fun s' c' l h1 h2 h3 => ?_)
  rcases h3 with h3 | h3 | h3
  · omega
  · omega
  · exact absurd h3.2.2 (fun z => z)
theorem pv_X5_hall : ∀ as M L K, S_X5_hall as M L K → ma_rn (tb_X5_hall S_X5_cells S_X5_place S_X5_filled S_X5_steps) 5 as M L K := by
  intro as M L K h
  unfold S_X5_hall at h
  split at h
  · obtain ⟨w, u, e, n, S, ts, ls, h⟩ := h; exact pw_X5_hall h.1 h.2
  · exact h.elim
