/-! coarse: means, the coarser sky begun (the component) -/
set_option maxRecDepth 100000
set_option maxHeartbeats 4000000
def pos (w W k q : Nat) : Nat := w * (2 * (k / W) + q / 2) + 2 * (k % W) + q % 2
theorem pos_lt {w W u U k q : Nat} (h0 : 0 < W) (hw : w = 2 * W) (hu : u = 2 * U) (hk : k < W * U) (hq : q < 4) : pos w W k q < w * u := by
  have h1 : k / W < U := Nat.div_lt_of_lt_mul hk
  have h2 : k % W < W := Nat.mod_lt _ h0
  have h3 : w * (2 * (k / W) + q / 2 + 1) ≤ w * u := Nat.mul_le_mul_left w (by omega)
  rw [Nat.mul_add, Nat.mul_one] at h3
  unfold pos
  omega
def mn4 (f : Nat → Int32) : Nat → Nat → Int64 → Int32
  | 0, _, a => (fdL a 4).toInt32
  | n + 1, q, a => if f q = 2000000000 then 2000000000 else mn4 f n (q + 1) (a + (f q).toInt64)
def S_X3_meanOf : ma_Cs := fun as M L K => match as with
  | [.ref k, .ref fr, .int si, .int ci, .int li] => ∃ (w : Nat) (W : Nat) (u : Nat) (U : Nat) (s : Nat) (c : Nat) (l : Nat), (k = 31 ∧ fr = 25 ∧ M 31 0 = nI W ∧ M 25 0 = nI w ∧ si = nI s ∧ ci = nI c ∧ li = nI l ∧ s < 13 ∧ 0 < W ∧ w = 2 * W ∧ u = 2 * U ∧ w ≤ 6 ∧ u ≤ 6 ∧ c < W * U ∧ l < 4) ∧ (K (some (.int (mn4 (fun q => M 26 (144 * s + 4 * pos w W c q + l)) 4 0 0))) M L)
  | _ => False
theorem ms_X3_meanOf : ma_ms S_X3_meanOf := by
  intro as M L K K' hk h
  unfold S_X3_meanOf at h ⊢
  split at h
  · obtain ⟨w, W, u, U, s, c, l, h⟩ := h
    exact ⟨w, W, u, U, s, c, l, h.1, hk _ _ _ h.2⟩
  · exact h.elim
theorem un_X3_meanOf {k : Nat} {fr : Nat} {si : Int32} {ci : Int32} {li : Int32} {M : ZM} {L : ZL} {K : ma_Kt} : S_X3_meanOf [.ref k, .ref fr, .int si, .int ci, .int li] M L K = (∃ (w : Nat) (W : Nat) (u : Nat) (U : Nat) (s : Nat) (c : Nat) (l : Nat), (k = 31 ∧ fr = 25 ∧ M 31 0 = nI W ∧ M 25 0 = nI w ∧ si = nI s ∧ ci = nI c ∧ li = nI l ∧ s < 13 ∧ 0 < W ∧ w = 2 * W ∧ u = 2 * U ∧ w ≤ 6 ∧ u ≤ 6 ∧ c < W * U ∧ l < 4) ∧ (K (some (.int (mn4 (fun q => M 26 (144 * s + 4 * pos w W c q + l)) 4 0 0))) M L)) := rfl
theorem pw_X3_meanOf {k : Nat} {fr : Nat} {si : Int32} {ci : Int32} {li : Int32} {w : Nat} {W : Nat} {u : Nat} {U : Nat} {s : Nat} {c : Nat} {l : Nat} {M : ZM} {L : ZL} {K : ma_Kt} (hp : k = 31 ∧ fr = 25 ∧ M 31 0 = nI W ∧ M 25 0 = nI w ∧ si = nI s ∧ ci = nI c ∧ li = nI l ∧ s < 13 ∧ 0 < W ∧ w = 2 * W ∧ u = 2 * U ∧ w ≤ 6 ∧ u ≤ 6 ∧ c < W * U ∧ l < 4) (h : (K (some (.int (mn4 (fun q => M 26 (144 * s + 4 * pos w W c q + l)) 4 0 0))) M L)) : ma_rn (tb_X3_meanOf S_X3_at S_J0_floorDiv_2) 11 [.ref k, .ref fr, .int si, .int ci, .int li] M L K := by
  refine ⟨Nat.le_of_ble_eq_true rfl, fun V hV => ?_⟩
  obtain ⟨rfl, rfl, m0, m1, rfl, rfl, rfl, hs, h0, hw, hu, w6, u6, hc, hl⟩ := hp
  have h36 : w * u ≤ 36 := Nat.mul_le_mul w6 u6
  have c36 : c < 36 := by
    have : W * U ≤ 3 * 3 := Nat.mul_le_mul (by omega) (by omega)
    omega
  have W0 : ¬ nI W = 0 := by rw [a_eq0 (by omega)]; omega
  have r2 : nI c / nI W = nI (c / W) := pk_div (by omega) (by omega) (by omega)
  have r1 : nI c - nI (c / W) * nI W = nI (c % W) := by rw [← r2]; exact pk_rem (by omega) (by omega) (by omega)
  have t1 : nI (c % W) * 2 = nI (c % W * 2) := by rw [show (2 : Int32) = nI 2 from rfl, pk_mul]
  have t2 : nI (c / W) * 2 = nI (c / W * 2) := by rw [show (2 : Int32) = nI 2 from rfl, pk_mul]
  have lp : ∀ n j (a : Int64) (o : Option Value), n + j = 4 → K (some (.int (mn4 (fun q => M 26 (144 * s + 4 * pos w W c q + l)) n j a))) M L → V 26 [some (.ref 31), some (.ref 25), some (.int (nI s)), some (.int (nI c)), some (.int (nI l)), some (.int (nI (c % W * 2))), some (.int (nI (c / W * 2))), some (.long a), none, some (.int (nI j)), o] [] M L := by
    intro n
    induction n with
    | zero =>
      intro j a o hj g
      have v1 : (4 : Int32) ≤ nI j := by rw [show j = 4 by omega]; decide
      have v2 : ¬ (4 : Int64) = 0 := by decide
      refine ma_walk (mo_X3_meanOf ms_X3_at ms_J0_floorDiv_2) hV [26] (fun F hF => ?_)
      simp only [tb_X3_meanOf, hF, in_no, in_push, in_ild, in_lld, in_ald, in_ist, in_ast, in_lst, in_inc, in_iii, in_idv, in_ldv, in_lll, in_lli, in_lil, in_ii, in_il, in_li, in_ll, in_dup, in_dp2, q_if1, q_if2, in_go, in_sw, ma_sw, in_rv, in_ri, in_rz, in_rl, in_get, in_put, in_puz, in_iar, in_bar, in_lar, in_aar, in_iaw, in_baw, in_law, in_len, in_cpy, in_s1, in_s2, in_s3, in_v1, in_v2, in_v3, in_v4, in_v5, in_v6, ma_bk, ma_gl, ma_sl, ma_nl, ma_wc, ma_wd, ma_nn, ma_en, List.mem_cons, List.not_mem_nil, or_false, or_true, true_or, false_or, true_and, and_true, false_and, and_false, if_true, if_false, forall_const, true_implies, false_implies, not_true_eq_false, not_false_eq_true, Classical.not_not, implies_true, and_self, Nat.add_zero, Nat.zero_add, eq_self, ne_eq, reduceCtorEq, Nat.reduceLT, Nat.reduceLeDiff, Nat.reduceEqDiff, Nat.reduceSub, Nat.reduceAdd, i10, i01, im10, Int32.reduceLT, Int32.reduceLE, ↓reduceIte, reduceIte, up_r, uL_r, cp_r, Int32.toInt_toInt64, Int64.reduceToInt, Int32.reduceToInt, ↓b1_or, b1_0, b1_1, lc_lt, lc_le, lc_gt, lc_ge, lc_eq, yx_0, yx_1, yx_2, yx_3, yx_4, yx_5, yx_6, yx_7, yx_8, yx_9, yx_10, yx_11, yx_12, yx_13, yx_14, yx_15, yx_16, yx_17, yx_18, yx_19, yx_20, yx_21, yx_22, yx_23, yx_24, yx_25, yx_26, yx_27, yx_28, yx_29, yx_30, yx_31, yx_32, yx_33, yx_34, yx_35, yx_36, yx_37, yx_38, yx_39, yx_40, yx_41, yx_42, yx_43, yx_44, yx_45, yx_46, yx_47, yx_48, yx_49, yx_50, yx_51, yx_52, yx_53, yx_54, yx_55, yx_56, yx_57, yx_58, yx_59, yx_60, yx_61, yx_62, yx_63, yx_64, yx_65, yx_66, yx_67, yx_68, rx_0, rx_1, rx_2, rx_3, rx_4, rx_5, rx_6, rx_7, rx_8, rx_9, rx_10, rx_11, rx_12, rx_13, rx_14, rx_15, rx_16, rx_17, rx_18, rx_19, rx_20, rx_21, rx_22, rx_23, rx_24, rx_25, rx_26, rx_27, rx_28, rx_29, rx_30, rx_31, rx_32, rx_33, rp_0, rp_1, rp_2, rp_3, rp_4, rp_5, rp_6, rp_7, rp_8, rs_0, rs_1, rs_2, rs_3, rs_4, re_0, re_1, re_2, re_3, re_4, re_5, rr_0, rr_1, rr_2, rr_3, rr_4, rk_0, rk_1, isP3, isP11, isP46, isP58, isS25, isS28, isS31, un_X3_at, un_J0_floorDiv_2, v1, v2]
      try simp only [iteP, Classical.not_not, b1_0, b1_1]
      exact g
    | succ n ih =>
      intro j a o hj g
      have v1 : ¬ (4 : Int32) ≤ nI j := fun y => by rw [show (4 : Int32) = nI 4 from rfl, a_le (by omega) (by omega)] at y; omega
      have v4 : nI j + 1 = nI (j + 1) := by rw [show (1 : Int32) = nI 1 from rfl, nI_add]
      have d2 : nI j / 2 = nI (j / 2) := pk_div (d := 2) (by omega) (by omega) (by omega)
      have d1 : nI j - nI (j / 2) * 2 = nI (j % 2) := by rw [← d2]; exact pk_rem (d := 2) (by omega) (by omega) (by omega)
      have d3 : nI w * (nI (c / W * 2) + nI (j / 2)) + nI (c % W * 2) + nI (j % 2) = nI (pos w W c j) := by
        rw [nI_add, pk_mul, nI_add, nI_add]; unfold pos; congr 1
        rw [Nat.mul_comm (c / W) 2, Nat.mul_comm (c % W) 2]
      have pl := pos_lt h0 hw hu hc (show j < 4 by omega)
      have z2 : ¬ (2 : Int32) = 0 := by decide
      rw [mn4] at g
      refine ma_walk (mo_X3_meanOf ms_X3_at ms_J0_floorDiv_2) hV [26] (fun F hF => ?_)
      simp only [tb_X3_meanOf, hF, in_no, in_push, in_ild, in_lld, in_ald, in_ist, in_ast, in_lst, in_inc, in_iii, in_idv, in_ldv, in_lll, in_lli, in_lil, in_ii, in_il, in_li, in_ll, in_dup, in_dp2, q_if1, q_if2, in_go, in_sw, ma_sw, in_rv, in_ri, in_rz, in_rl, in_get, in_put, in_puz, in_iar, in_bar, in_lar, in_aar, in_iaw, in_baw, in_law, in_len, in_cpy, in_s1, in_s2, in_s3, in_v1, in_v2, in_v3, in_v4, in_v5, in_v6, ma_bk, ma_gl, ma_sl, ma_nl, ma_wc, ma_wd, ma_nn, ma_en, List.mem_cons, List.not_mem_nil, or_false, or_true, true_or, false_or, true_and, and_true, false_and, and_false, if_true, if_false, forall_const, true_implies, false_implies, not_true_eq_false, not_false_eq_true, Classical.not_not, implies_true, and_self, Nat.add_zero, Nat.zero_add, eq_self, ne_eq, reduceCtorEq, Nat.reduceLT, Nat.reduceLeDiff, Nat.reduceEqDiff, Nat.reduceSub, Nat.reduceAdd, i10, i01, im10, Int32.reduceLT, Int32.reduceLE, ↓reduceIte, reduceIte, up_r, uL_r, cp_r, Int32.toInt_toInt64, Int64.reduceToInt, Int32.reduceToInt, ↓b1_or, b1_0, b1_1, lc_lt, lc_le, lc_gt, lc_ge, lc_eq, yx_0, yx_1, yx_2, yx_3, yx_4, yx_5, yx_6, yx_7, yx_8, yx_9, yx_10, yx_11, yx_12, yx_13, yx_14, yx_15, yx_16, yx_17, yx_18, yx_19, yx_20, yx_21, yx_22, yx_23, yx_24, yx_25, yx_26, yx_27, yx_28, yx_29, yx_30, yx_31, yx_32, yx_33, yx_34, yx_35, yx_36, yx_37, yx_38, yx_39, yx_40, yx_41, yx_42, yx_43, yx_44, yx_45, yx_46, yx_47, yx_48, yx_49, yx_50, yx_51, yx_52, yx_53, yx_54, yx_55, yx_56, yx_57, yx_58, yx_59, yx_60, yx_61, yx_62, yx_63, yx_64, yx_65, yx_66, yx_67, yx_68, rx_0, rx_1, rx_2, rx_3, rx_4, rx_5, rx_6, rx_7, rx_8, rx_9, rx_10, rx_11, rx_12, rx_13, rx_14, rx_15, rx_16, rx_17, rx_18, rx_19, rx_20, rx_21, rx_22, rx_23, rx_24, rx_25, rx_26, rx_27, rx_28, rx_29, rx_30, rx_31, rx_32, rx_33, rp_0, rp_1, rp_2, rp_3, rp_4, rp_5, rp_6, rp_7, rp_8, rs_0, rs_1, rs_2, rs_3, rs_4, re_0, re_1, re_2, re_3, re_4, re_5, rr_0, rr_1, rr_2, rr_3, rr_4, rk_0, rk_1, isP3, isP11, isP46, isP58, isS25, isS28, isS31, un_X3_at, un_J0_floorDiv_2, v1, v4, m1, d2, d1, d3, z2]
      try simp only [iteP, Classical.not_not, b1_0, b1_1]
      exact ⟨s, pos w W c j, l, ⟨rfl, rfl, rfl, hs, by omega, hl⟩, sw_n (fun y => by rw [if_pos y] at g; exact g) (fun y => by rw [if_neg y] at g; exact ih (j + 1) _ _ (by omega) g)⟩
  refine ma_walk (mo_X3_meanOf ms_X3_at ms_J0_floorDiv_2) hV [26] (fun F hF => ?_)
  simp only [tb_X3_meanOf, hF, in_no, in_push, in_ild, in_lld, in_ald, in_ist, in_ast, in_lst, in_inc, in_iii, in_idv, in_ldv, in_lll, in_lli, in_lil, in_ii, in_il, in_li, in_ll, in_dup, in_dp2, q_if1, q_if2, in_go, in_sw, ma_sw, in_rv, in_ri, in_rz, in_rl, in_get, in_put, in_puz, in_iar, in_bar, in_lar, in_aar, in_iaw, in_baw, in_law, in_len, in_cpy, in_s1, in_s2, in_s3, in_v1, in_v2, in_v3, in_v4, in_v5, in_v6, ma_bk, ma_gl, ma_sl, ma_nl, ma_wc, ma_wd, ma_nn, ma_en, List.mem_cons, List.not_mem_nil, or_false, or_true, true_or, false_or, true_and, and_true, false_and, and_false, if_true, if_false, forall_const, true_implies, false_implies, not_true_eq_false, not_false_eq_true, Classical.not_not, implies_true, and_self, Nat.add_zero, Nat.zero_add, eq_self, ne_eq, reduceCtorEq, Nat.reduceLT, Nat.reduceLeDiff, Nat.reduceEqDiff, Nat.reduceSub, Nat.reduceAdd, i10, i01, im10, Int32.reduceLT, Int32.reduceLE, ↓reduceIte, reduceIte, up_r, uL_r, cp_r, Int32.toInt_toInt64, Int64.reduceToInt, Int32.reduceToInt, ↓b1_or, b1_0, b1_1, lc_lt, lc_le, lc_gt, lc_ge, lc_eq, yx_0, yx_1, yx_2, yx_3, yx_4, yx_5, yx_6, yx_7, yx_8, yx_9, yx_10, yx_11, yx_12, yx_13, yx_14, yx_15, yx_16, yx_17, yx_18, yx_19, yx_20, yx_21, yx_22, yx_23, yx_24, yx_25, yx_26, yx_27, yx_28, yx_29, yx_30, yx_31, yx_32, yx_33, yx_34, yx_35, yx_36, yx_37, yx_38, yx_39, yx_40, yx_41, yx_42, yx_43, yx_44, yx_45, yx_46, yx_47, yx_48, yx_49, yx_50, yx_51, yx_52, yx_53, yx_54, yx_55, yx_56, yx_57, yx_58, yx_59, yx_60, yx_61, yx_62, yx_63, yx_64, yx_65, yx_66, yx_67, yx_68, rx_0, rx_1, rx_2, rx_3, rx_4, rx_5, rx_6, rx_7, rx_8, rx_9, rx_10, rx_11, rx_12, rx_13, rx_14, rx_15, rx_16, rx_17, rx_18, rx_19, rx_20, rx_21, rx_22, rx_23, rx_24, rx_25, rx_26, rx_27, rx_28, rx_29, rx_30, rx_31, rx_32, rx_33, rp_0, rp_1, rp_2, rp_3, rp_4, rp_5, rp_6, rp_7, rp_8, rs_0, rs_1, rs_2, rs_3, rs_4, re_0, re_1, re_2, re_3, re_4, re_5, rr_0, rr_1, rr_2, rr_3, rr_4, rk_0, rk_1, isP3, isP11, isP46, isP58, isS25, isS28, isS31, un_X3_at, un_J0_floorDiv_2, m0, W0, r2, r1, t1, t2]
  try simp only [iteP, Classical.not_not, b1_0, b1_1]
  exact lp 4 0 0 none rfl h
theorem pv_X3_meanOf : ∀ as M L K, S_X3_meanOf as M L K → ma_rn (tb_X3_meanOf S_X3_at S_J0_floorDiv_2) 11 as M L K := by
  intro as M L K h
  unfold S_X3_meanOf at h
  split at h
  · obtain ⟨w, W, u, U, s, c, l, h⟩ := h; exact pw_X3_meanOf h.1 h.2
  · exact h.elim
def S_X3_beginCoarse : ma_Cs := fun as M L K => match as with
  | [.ref k, .ref fr] => ∃ (w : Nat) (W : Nat) (u : Nat) (U : Nat), (k = 31 ∧ fr = 25 ∧ M 25 0 = nI w ∧ M 25 1 = nI u ∧ 0 < W ∧ 0 < U ∧ w = 2 * W ∧ u = 2 * U ∧ w ≤ 6 ∧ u ≤ 6) ∧ (∀ (M' : ZM), (∀ a, a ≠ 31 → a ≠ 32 → a ≠ 33 → M' a = M a) → M' 31 0 = nI W → M' 31 1 = nI U → (∀ c l, c < W * U → l < 4 → M' 32 (4 * c + l) = mn4 (fun q => M 26 (4 * pos w W c q + l)) 4 0 0 ∧ M' 33 (4 * c + l) = 0) → K none M' L)
  | _ => False
theorem ms_X3_beginCoarse : ma_ms S_X3_beginCoarse := by
  intro as M L K K' hk h
  unfold S_X3_beginCoarse at h ⊢
  split at h
  · obtain ⟨w, W, u, U, h⟩ := h
    exact ⟨w, W, u, U, h.1, fun x0 x1 x2 x3 x4 => hk _ _ _ (h.2 x0 x1 x2 x3 x4)⟩
  · exact h.elim
theorem un_X3_beginCoarse {k : Nat} {fr : Nat} {M : ZM} {L : ZL} {K : ma_Kt} : S_X3_beginCoarse [.ref k, .ref fr] M L K = (∃ (w : Nat) (W : Nat) (u : Nat) (U : Nat), (k = 31 ∧ fr = 25 ∧ M 25 0 = nI w ∧ M 25 1 = nI u ∧ 0 < W ∧ 0 < U ∧ w = 2 * W ∧ u = 2 * U ∧ w ≤ 6 ∧ u ≤ 6) ∧ (∀ (M' : ZM), (∀ a, a ≠ 31 → a ≠ 32 → a ≠ 33 → M' a = M a) → M' 31 0 = nI W → M' 31 1 = nI U → (∀ c l, c < W * U → l < 4 → M' 32 (4 * c + l) = mn4 (fun q => M 26 (4 * pos w W c q + l)) 4 0 0 ∧ M' 33 (4 * c + l) = 0) → K none M' L)) := rfl
theorem pw_X3_beginCoarse {k : Nat} {fr : Nat} {w : Nat} {W : Nat} {u : Nat} {U : Nat} {M : ZM} {L : ZL} {K : ma_Kt} (hp : k = 31 ∧ fr = 25 ∧ M 25 0 = nI w ∧ M 25 1 = nI u ∧ 0 < W ∧ 0 < U ∧ w = 2 * W ∧ u = 2 * U ∧ w ≤ 6 ∧ u ≤ 6) (h : (∀ (M' : ZM), (∀ a, a ≠ 31 → a ≠ 32 → a ≠ 33 → M' a = M a) → M' 31 0 = nI W → M' 31 1 = nI U → (∀ c l, c < W * U → l < 4 → M' 32 (4 * c + l) = mn4 (fun q => M 26 (4 * pos w W c q + l)) 4 0 0 ∧ M' 33 (4 * c + l) = 0) → K none M' L)) : ma_rn (tb_X3_beginCoarse S_X3_meanOf S_X3_put) 4 [.ref k, .ref fr] M L K := by
  refine ⟨Nat.le_of_ble_eq_true rfl, fun V hV => ?_⟩
  obtain ⟨rfl, rfl, m0, m1, h0, h0', hw, hu, w6, u6⟩ := hp
  have hWU : W * U ≤ 9 := Nat.mul_le_mul (show W ≤ 3 by omega) (show U ≤ 3 by omega)
  have t1 : nI w / 2 = nI W := by rw [show (2 : Int32) = nI 2 from rfl, pk_div (by omega) (by omega) (by omega)]; congr 1; omega
  have t2 : nI u / 2 = nI U := by rw [show (2 : Int32) = nI 2 from rfl, pk_div (by omega) (by omega) (by omega)]; congr 1; omega
  have z2 : ¬ (2 : Int32) = 0 := by decide
  have lp : ∀ n c (M1 : ZM) (o : Option Value), n + c = W * U → (∀ a, a ≠ 31 → a ≠ 32 → a ≠ 33 → M1 a = M a) → M1 31 0 = nI W → M1 31 1 = nI U → (∀ c' l, c' < c → l < 4 → M1 32 (4 * c' + l) = mn4 (fun q => M 26 (4 * pos w W c' q + l)) 4 0 0 ∧ M1 33 (4 * c' + l) = 0) → V 22 [some (.ref 31), some (.ref 25), some (.int (nI c)), o] [] M1 L := by
    intro n
    induction n with
    | zero =>
      intro c M1 o hn f1 f2 f3 f4
      have v1 : nI W * nI U ≤ nI c := by rw [pk_mul, a_le (by omega) (by omega)]; omega
      refine ma_walk (mo_X3_beginCoarse ms_X3_meanOf ms_X3_put) hV [22, 37] (fun F hF => ?_)
      simp only [tb_X3_beginCoarse, hF, in_no, in_push, in_ild, in_lld, in_ald, in_ist, in_ast, in_lst, in_inc, in_iii, in_idv, in_ldv, in_lll, in_lli, in_lil, in_ii, in_il, in_li, in_ll, in_dup, in_dp2, q_if1, q_if2, in_go, in_sw, ma_sw, in_rv, in_ri, in_rz, in_rl, in_get, in_put, in_puz, in_iar, in_bar, in_lar, in_aar, in_iaw, in_baw, in_law, in_len, in_cpy, in_s1, in_s2, in_s3, in_v1, in_v2, in_v3, in_v4, in_v5, in_v6, ma_bk, ma_gl, ma_sl, ma_nl, ma_wc, ma_wd, ma_nn, ma_en, List.mem_cons, List.not_mem_nil, or_false, or_true, true_or, false_or, true_and, and_true, false_and, and_false, if_true, if_false, forall_const, true_implies, false_implies, not_true_eq_false, not_false_eq_true, Classical.not_not, implies_true, and_self, Nat.add_zero, Nat.zero_add, eq_self, ne_eq, reduceCtorEq, Nat.reduceLT, Nat.reduceLeDiff, Nat.reduceEqDiff, Nat.reduceSub, Nat.reduceAdd, i10, i01, im10, Int32.reduceLT, Int32.reduceLE, ↓reduceIte, reduceIte, up_r, uL_r, cp_r, Int32.toInt_toInt64, Int64.reduceToInt, Int32.reduceToInt, ↓b1_or, b1_0, b1_1, lc_lt, lc_le, lc_gt, lc_ge, lc_eq, yx_0, yx_1, yx_2, yx_3, yx_4, yx_5, yx_6, yx_7, yx_8, yx_9, yx_10, yx_11, yx_12, yx_13, yx_14, yx_15, yx_16, yx_17, yx_18, yx_19, yx_20, yx_21, yx_22, yx_23, yx_24, yx_25, yx_26, yx_27, yx_28, yx_29, yx_30, yx_31, yx_32, yx_33, yx_34, yx_35, yx_36, yx_37, yx_38, yx_39, yx_40, yx_41, yx_42, yx_43, yx_44, yx_45, yx_46, yx_47, yx_48, yx_49, yx_50, yx_51, yx_52, yx_53, yx_54, yx_55, yx_56, yx_57, yx_58, yx_59, yx_60, yx_61, yx_62, yx_63, yx_64, yx_65, yx_66, yx_67, yx_68, rx_0, rx_1, rx_2, rx_3, rx_4, rx_5, rx_6, rx_7, rx_8, rx_9, rx_10, rx_11, rx_12, rx_13, rx_14, rx_15, rx_16, rx_17, rx_18, rx_19, rx_20, rx_21, rx_22, rx_23, rx_24, rx_25, rx_26, rx_27, rx_28, rx_29, rx_30, rx_31, rx_32, rx_33, rp_0, rp_1, rp_2, rp_3, rp_4, rp_5, rp_6, rp_7, rp_8, rs_0, rs_1, rs_2, rs_3, rs_4, re_0, re_1, re_2, re_3, re_4, re_5, rr_0, rr_1, rr_2, rr_3, rr_4, rk_0, rk_1, isP3, isP11, isP46, isP58, isS25, isS28, isS31, un_X3_meanOf, un_X3_put, f2, f3, v1]
      try simp only [iteP, Classical.not_not, b1_0, b1_1]
      exact h M1 f1 f2 f3 (fun c' l y1 y2 => f4 c' l (by omega) y2)
    | succ n ih =>
      intro c M1 o hn f1 f2 f3 f4
      have v1 : ¬ nI W * nI U ≤ nI c := by rw [pk_mul, a_le (by omega) (by omega)]; omega
      have v4 : nI c + 1 = nI (c + 1) := by rw [show (1 : Int32) = nI 1 from rfl, nI_add]
      have lp2 : ∀ m l (M1 : ZM), m + l = 4 → (∀ a, a ≠ 31 → a ≠ 32 → a ≠ 33 → M1 a = M a) → M1 31 0 = nI W → M1 31 1 = nI U → (∀ c' l', (c' < c ∨ (c' = c ∧ l' < l)) → l' < 4 → M1 32 (4 * c' + l') = mn4 (fun q => M 26 (4 * pos w W c' q + l')) 4 0 0 ∧ M1 33 (4 * c' + l') = 0) → V 37 [some (.ref 31), some (.ref 25), some (.int (nI c)), some (.int (nI l))] [] M1 L := by
        intro m
        induction m with
        | zero =>
          intro l M1 hm f1 f2 f3 f4
          have v2 : (4 : Int32) ≤ nI l := by rw [show l = 4 by omega]; decide
          refine ma_walk (mo_X3_beginCoarse ms_X3_meanOf ms_X3_put) hV [22, 37] (fun F hF => ?_)
          simp only [tb_X3_beginCoarse, hF, in_no, in_push, in_ild, in_lld, in_ald, in_ist, in_ast, in_lst, in_inc, in_iii, in_idv, in_ldv, in_lll, in_lli, in_lil, in_ii, in_il, in_li, in_ll, in_dup, in_dp2, q_if1, q_if2, in_go, in_sw, ma_sw, in_rv, in_ri, in_rz, in_rl, in_get, in_put, in_puz, in_iar, in_bar, in_lar, in_aar, in_iaw, in_baw, in_law, in_len, in_cpy, in_s1, in_s2, in_s3, in_v1, in_v2, in_v3, in_v4, in_v5, in_v6, ma_bk, ma_gl, ma_sl, ma_nl, ma_wc, ma_wd, ma_nn, ma_en, List.mem_cons, List.not_mem_nil, or_false, or_true, true_or, false_or, true_and, and_true, false_and, and_false, if_true, if_false, forall_const, true_implies, false_implies, not_true_eq_false, not_false_eq_true, Classical.not_not, implies_true, and_self, Nat.add_zero, Nat.zero_add, eq_self, ne_eq, reduceCtorEq, Nat.reduceLT, Nat.reduceLeDiff, Nat.reduceEqDiff, Nat.reduceSub, Nat.reduceAdd, i10, i01, im10, Int32.reduceLT, Int32.reduceLE, ↓reduceIte, reduceIte, up_r, uL_r, cp_r, Int32.toInt_toInt64, Int64.reduceToInt, Int32.reduceToInt, ↓b1_or, b1_0, b1_1, lc_lt, lc_le, lc_gt, lc_ge, lc_eq, yx_0, yx_1, yx_2, yx_3, yx_4, yx_5, yx_6, yx_7, yx_8, yx_9, yx_10, yx_11, yx_12, yx_13, yx_14, yx_15, yx_16, yx_17, yx_18, yx_19, yx_20, yx_21, yx_22, yx_23, yx_24, yx_25, yx_26, yx_27, yx_28, yx_29, yx_30, yx_31, yx_32, yx_33, yx_34, yx_35, yx_36, yx_37, yx_38, yx_39, yx_40, yx_41, yx_42, yx_43, yx_44, yx_45, yx_46, yx_47, yx_48, yx_49, yx_50, yx_51, yx_52, yx_53, yx_54, yx_55, yx_56, yx_57, yx_58, yx_59, yx_60, yx_61, yx_62, yx_63, yx_64, yx_65, yx_66, yx_67, yx_68, rx_0, rx_1, rx_2, rx_3, rx_4, rx_5, rx_6, rx_7, rx_8, rx_9, rx_10, rx_11, rx_12, rx_13, rx_14, rx_15, rx_16, rx_17, rx_18, rx_19, rx_20, rx_21, rx_22, rx_23, rx_24, rx_25, rx_26, rx_27, rx_28, rx_29, rx_30, rx_31, rx_32, rx_33, rp_0, rp_1, rp_2, rp_3, rp_4, rp_5, rp_6, rp_7, rp_8, rs_0, rs_1, rs_2, rs_3, rs_4, re_0, re_1, re_2, re_3, re_4, re_5, rr_0, rr_1, rr_2, rr_3, rr_4, rk_0, rk_1, isP3, isP11, isP46, isP58, isS25, isS28, isS31, un_X3_meanOf, un_X3_put, v2, v4]
          try simp only [iteP, Classical.not_not, b1_0, b1_1]
          exact ih (c + 1) M1 _ (by omega) f1 f2 f3 (fun c' l' y1 y2 => f4 c' l' (by omega) y2)
        | succ m ih2 =>
          intro l M1 hm f1 f2 f3 f4
          have v2 : ¬ (4 : Int32) ≤ nI l := fun y => by rw [show (4 : Int32) = nI 4 from rfl, a_le (by omega) (by omega)] at y; omega
          have v5 : nI l + 1 = nI (l + 1) := by rw [show (1 : Int32) = nI 1 from rfl, nI_add]
          have g26 := f1 26 (by decide) (by decide) (by decide)
          have g25 := f1 25 (by decide) (by decide) (by decide)
          refine ma_walk (mo_X3_beginCoarse ms_X3_meanOf ms_X3_put) hV [22, 37] (fun F hF => ?_)
          simp only [tb_X3_beginCoarse, hF, in_no, in_push, in_ild, in_lld, in_ald, in_ist, in_ast, in_lst, in_inc, in_iii, in_idv, in_ldv, in_lll, in_lli, in_lil, in_ii, in_il, in_li, in_ll, in_dup, in_dp2, q_if1, q_if2, in_go, in_sw, ma_sw, in_rv, in_ri, in_rz, in_rl, in_get, in_put, in_puz, in_iar, in_bar, in_lar, in_aar, in_iaw, in_baw, in_law, in_len, in_cpy, in_s1, in_s2, in_s3, in_v1, in_v2, in_v3, in_v4, in_v5, in_v6, ma_bk, ma_gl, ma_sl, ma_nl, ma_wc, ma_wd, ma_nn, ma_en, List.mem_cons, List.not_mem_nil, or_false, or_true, true_or, false_or, true_and, and_true, false_and, and_false, if_true, if_false, forall_const, true_implies, false_implies, not_true_eq_false, not_false_eq_true, Classical.not_not, implies_true, and_self, Nat.add_zero, Nat.zero_add, eq_self, ne_eq, reduceCtorEq, Nat.reduceLT, Nat.reduceLeDiff, Nat.reduceEqDiff, Nat.reduceSub, Nat.reduceAdd, i10, i01, im10, Int32.reduceLT, Int32.reduceLE, ↓reduceIte, reduceIte, up_r, uL_r, cp_r, Int32.toInt_toInt64, Int64.reduceToInt, Int32.reduceToInt, ↓b1_or, b1_0, b1_1, lc_lt, lc_le, lc_gt, lc_ge, lc_eq, yx_0, yx_1, yx_2, yx_3, yx_4, yx_5, yx_6, yx_7, yx_8, yx_9, yx_10, yx_11, yx_12, yx_13, yx_14, yx_15, yx_16, yx_17, yx_18, yx_19, yx_20, yx_21, yx_22, yx_23, yx_24, yx_25, yx_26, yx_27, yx_28, yx_29, yx_30, yx_31, yx_32, yx_33, yx_34, yx_35, yx_36, yx_37, yx_38, yx_39, yx_40, yx_41, yx_42, yx_43, yx_44, yx_45, yx_46, yx_47, yx_48, yx_49, yx_50, yx_51, yx_52, yx_53, yx_54, yx_55, yx_56, yx_57, yx_58, yx_59, yx_60, yx_61, yx_62, yx_63, yx_64, yx_65, yx_66, yx_67, yx_68, rx_0, rx_1, rx_2, rx_3, rx_4, rx_5, rx_6, rx_7, rx_8, rx_9, rx_10, rx_11, rx_12, rx_13, rx_14, rx_15, rx_16, rx_17, rx_18, rx_19, rx_20, rx_21, rx_22, rx_23, rx_24, rx_25, rx_26, rx_27, rx_28, rx_29, rx_30, rx_31, rx_32, rx_33, rp_0, rp_1, rp_2, rp_3, rp_4, rp_5, rp_6, rp_7, rp_8, rs_0, rs_1, rs_2, rs_3, rs_4, re_0, re_1, re_2, re_3, re_4, re_5, rr_0, rr_1, rr_2, rr_3, rr_4, rk_0, rk_1, isP3, isP11, isP46, isP58, isS25, isS28, isS31, un_X3_meanOf, un_X3_put, v2, v5]
          try simp only [iteP, Classical.not_not, b1_0, b1_1]
          refine ⟨w, W, u, U, 0, c, l, ⟨f2, by rw [g25]; exact m0, rfl, rfl, rfl, by omega, h0, hw, hu, w6, u6, by omega, by omega⟩, 0, c, l, ⟨rfl, rfl, rfl, by omega, by omega, by omega⟩, ?_⟩
          have e0 : 144 * 0 + 4 * c + l = 4 * c + l := by omega
          have e1 : (fun q => M1 26 (144 * 0 + 4 * pos w W c q + l)) = fun q => M 26 (4 * pos w W c q + l) := by
            funext q; rw [g26, show 144 * 0 + 4 * pos w W c q + l = 4 * pos w W c q + l by omega]
          rw [e0, e1]
          refine ih2 (l + 1) _ (by omega) (fun a y1 y2 y3 => by rw [up_c y3, up_c y2]; exact f1 a y1 y2 y3) (by rw [up_c (by decide), up_c (by decide)]; exact f2) (by rw [up_c (by decide), up_c (by decide)]; exact f3) (fun c' l' y1 y2 => ?_)
          by_cases y : c' = c ∧ l' = l
          · rw [y.1, y.2]
            refine ⟨?_, ?_⟩
            · rw [up_c (show (32 : Nat) ≠ 33 by decide), up_r, if_pos ⟨rfl, rfl⟩]
            · rw [up_r, if_pos ⟨rfl, rfl⟩]
          · have n0 : ¬ 4 * c' + l' = 4 * c + l := by omega
            have q := f4 c' l' (by omega) y2
            refine ⟨?_, ?_⟩
            · rw [up_c (show (32 : Nat) ≠ 33 by decide), up_r, if_neg (fun z => n0 z.2)]; exact q.1
            · rw [up_r, if_neg (fun z => n0 z.2), up_c (show (33 : Nat) ≠ 32 by decide)]; exact q.2
      refine ma_walk (mo_X3_beginCoarse ms_X3_meanOf ms_X3_put) hV [22, 37] (fun F hF => ?_)
      simp only [tb_X3_beginCoarse, hF, in_no, in_push, in_ild, in_lld, in_ald, in_ist, in_ast, in_lst, in_inc, in_iii, in_idv, in_ldv, in_lll, in_lli, in_lil, in_ii, in_il, in_li, in_ll, in_dup, in_dp2, q_if1, q_if2, in_go, in_sw, ma_sw, in_rv, in_ri, in_rz, in_rl, in_get, in_put, in_puz, in_iar, in_bar, in_lar, in_aar, in_iaw, in_baw, in_law, in_len, in_cpy, in_s1, in_s2, in_s3, in_v1, in_v2, in_v3, in_v4, in_v5, in_v6, ma_bk, ma_gl, ma_sl, ma_nl, ma_wc, ma_wd, ma_nn, ma_en, List.mem_cons, List.not_mem_nil, or_false, or_true, true_or, false_or, true_and, and_true, false_and, and_false, if_true, if_false, forall_const, true_implies, false_implies, not_true_eq_false, not_false_eq_true, Classical.not_not, implies_true, and_self, Nat.add_zero, Nat.zero_add, eq_self, ne_eq, reduceCtorEq, Nat.reduceLT, Nat.reduceLeDiff, Nat.reduceEqDiff, Nat.reduceSub, Nat.reduceAdd, i10, i01, im10, Int32.reduceLT, Int32.reduceLE, ↓reduceIte, reduceIte, up_r, uL_r, cp_r, Int32.toInt_toInt64, Int64.reduceToInt, Int32.reduceToInt, ↓b1_or, b1_0, b1_1, lc_lt, lc_le, lc_gt, lc_ge, lc_eq, yx_0, yx_1, yx_2, yx_3, yx_4, yx_5, yx_6, yx_7, yx_8, yx_9, yx_10, yx_11, yx_12, yx_13, yx_14, yx_15, yx_16, yx_17, yx_18, yx_19, yx_20, yx_21, yx_22, yx_23, yx_24, yx_25, yx_26, yx_27, yx_28, yx_29, yx_30, yx_31, yx_32, yx_33, yx_34, yx_35, yx_36, yx_37, yx_38, yx_39, yx_40, yx_41, yx_42, yx_43, yx_44, yx_45, yx_46, yx_47, yx_48, yx_49, yx_50, yx_51, yx_52, yx_53, yx_54, yx_55, yx_56, yx_57, yx_58, yx_59, yx_60, yx_61, yx_62, yx_63, yx_64, yx_65, yx_66, yx_67, yx_68, rx_0, rx_1, rx_2, rx_3, rx_4, rx_5, rx_6, rx_7, rx_8, rx_9, rx_10, rx_11, rx_12, rx_13, rx_14, rx_15, rx_16, rx_17, rx_18, rx_19, rx_20, rx_21, rx_22, rx_23, rx_24, rx_25, rx_26, rx_27, rx_28, rx_29, rx_30, rx_31, rx_32, rx_33, rp_0, rp_1, rp_2, rp_3, rp_4, rp_5, rp_6, rp_7, rp_8, rs_0, rs_1, rs_2, rs_3, rs_4, re_0, re_1, re_2, re_3, re_4, re_5, rr_0, rr_1, rr_2, rr_3, rr_4, rk_0, rk_1, isP3, isP11, isP46, isP58, isS25, isS28, isS31, un_X3_meanOf, un_X3_put, f2, f3, v1]
      try simp only [iteP, Classical.not_not, b1_0, b1_1]
      exact lp2 4 0 M1 rfl f1 f2 f3 (fun c' l' y1 y2 => f4 c' l' (by omega) y2)
  refine ma_walk (mo_X3_beginCoarse ms_X3_meanOf ms_X3_put) hV [22] (fun F hF => ?_)
  simp only [tb_X3_beginCoarse, hF, in_no, in_push, in_ild, in_lld, in_ald, in_ist, in_ast, in_lst, in_inc, in_iii, in_idv, in_ldv, in_lll, in_lli, in_lil, in_ii, in_il, in_li, in_ll, in_dup, in_dp2, q_if1, q_if2, in_go, in_sw, ma_sw, in_rv, in_ri, in_rz, in_rl, in_get, in_put, in_puz, in_iar, in_bar, in_lar, in_aar, in_iaw, in_baw, in_law, in_len, in_cpy, in_s1, in_s2, in_s3, in_v1, in_v2, in_v3, in_v4, in_v5, in_v6, ma_bk, ma_gl, ma_sl, ma_nl, ma_wc, ma_wd, ma_nn, ma_en, List.mem_cons, List.not_mem_nil, or_false, or_true, true_or, false_or, true_and, and_true, false_and, and_false, if_true, if_false, forall_const, true_implies, false_implies, not_true_eq_false, not_false_eq_true, Classical.not_not, implies_true, and_self, Nat.add_zero, Nat.zero_add, eq_self, ne_eq, reduceCtorEq, Nat.reduceLT, Nat.reduceLeDiff, Nat.reduceEqDiff, Nat.reduceSub, Nat.reduceAdd, i10, i01, im10, Int32.reduceLT, Int32.reduceLE, ↓reduceIte, reduceIte, up_r, uL_r, cp_r, Int32.toInt_toInt64, Int64.reduceToInt, Int32.reduceToInt, ↓b1_or, b1_0, b1_1, lc_lt, lc_le, lc_gt, lc_ge, lc_eq, yx_0, yx_1, yx_2, yx_3, yx_4, yx_5, yx_6, yx_7, yx_8, yx_9, yx_10, yx_11, yx_12, yx_13, yx_14, yx_15, yx_16, yx_17, yx_18, yx_19, yx_20, yx_21, yx_22, yx_23, yx_24, yx_25, yx_26, yx_27, yx_28, yx_29, yx_30, yx_31, yx_32, yx_33, yx_34, yx_35, yx_36, yx_37, yx_38, yx_39, yx_40, yx_41, yx_42, yx_43, yx_44, yx_45, yx_46, yx_47, yx_48, yx_49, yx_50, yx_51, yx_52, yx_53, yx_54, yx_55, yx_56, yx_57, yx_58, yx_59, yx_60, yx_61, yx_62, yx_63, yx_64, yx_65, yx_66, yx_67, yx_68, rx_0, rx_1, rx_2, rx_3, rx_4, rx_5, rx_6, rx_7, rx_8, rx_9, rx_10, rx_11, rx_12, rx_13, rx_14, rx_15, rx_16, rx_17, rx_18, rx_19, rx_20, rx_21, rx_22, rx_23, rx_24, rx_25, rx_26, rx_27, rx_28, rx_29, rx_30, rx_31, rx_32, rx_33, rp_0, rp_1, rp_2, rp_3, rp_4, rp_5, rp_6, rp_7, rp_8, rs_0, rs_1, rs_2, rs_3, rs_4, re_0, re_1, re_2, re_3, re_4, re_5, rr_0, rr_1, rr_2, rr_3, rr_4, rk_0, rk_1, isP3, isP11, isP46, isP58, isS25, isS28, isS31, un_X3_meanOf, un_X3_put, m0, m1, t1, t2, z2]
  try simp only [iteP, Classical.not_not, b1_0, b1_1]
  exact lp (W * U) 0 _ _ rfl (fun a y1 _ _ => by rw [up_c y1, up_c y1]) (by rw [up_r, if_neg (by omega), up_r, if_pos ⟨rfl, rfl⟩]) (by rw [up_r, if_pos ⟨rfl, rfl⟩]) (fun c' l' y _ => by omega)
theorem pv_X3_beginCoarse : ∀ as M L K, S_X3_beginCoarse as M L K → ma_rn (tb_X3_beginCoarse S_X3_meanOf S_X3_put) 4 as M L K := by
  intro as M L K h
  unfold S_X3_beginCoarse at h
  split at h
  · obtain ⟨w, W, u, U, h⟩ := h; exact pw_X3_beginCoarse h.1 h.2
  · exact h.elim
