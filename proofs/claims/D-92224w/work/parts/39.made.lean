/-! slips and lines (the component) -/
set_option maxRecDepth 100000
set_option maxHeartbeats 4000000
def abL (a : Int64) : Int64 := if 0 ≤ a then a else -a
theorem abL_d {a : Int64} : (if 0 ≤ a then a else -a) = abL a := rfl
theorem n64 {x y : Int64} : (x ≤ y) = ¬ (y < x) := by
  rw [Int64.le_iff_toInt_le, Int64.lt_iff_toInt_lt]; exact propext (by omega)
theorem n32 {x y : Int32} : (x ≤ y) = ¬ (y < x) := by
  rw [Int32.le_iff_toInt_le, Int32.lt_iff_toInt_lt]; exact propext (by omega)
def sv (v a : Int32) : Int32 := if 1000000000 < (v.toInt + a.toInt).natAbs then 2000000000 else Int32.ofInt (v.toInt + a.toInt)
def sl (f1 f2 f3 f4 : Nat → Int32) (S : Nat → Bool) (s c l : Nat) : Nat → Nat → Int32 → Int32
  | 0, _, v => v
  | n + 1, k, v => sl f1 f2 f3 f4 S s c l n (k + 1) (if S k = true ∧ f1 k = nI s ∧ f2 k = nI c ∧ f3 k = nI l ∧ ¬ v = 2000000000 then sv v (f4 k) else v)
theorem sl_F {f1 f2 f3 f4 : Nat → Int32} {S : Nat → Bool} {s c l : Nat} (h : ∀ k, S k = false) : ∀ n k v, sl f1 f2 f3 f4 S s c l n k v = v
  | 0, _, _ => rfl
  | n + 1, k, v => by
    rw [sl, if_neg (fun z => by rw [h k] at z; exact absurd z.1 (by decide))]
    exact sl_F h n (k + 1) v
theorem sv_X {v a : Int32} : (if 1000000000 < abL (v.toInt64 + a.toInt64) then (2000000000 : Int32) else (v.toInt64 + a.toInt64).toInt32) = sv v a := by
  have hv := i_rng v
  have ha := i_rng a
  have e1 : (v.toInt64 + a.toInt64).toInt = v.toInt + a.toInt := by
    rw [l_add (by rw [Int32.toInt_toInt64, Int32.toInt_toInt64]; omega) (by rw [Int32.toInt_toInt64, Int32.toInt_toInt64]; omega), Int32.toInt_toInt64, Int32.toInt_toInt64]
  have e2 : (1000000000 < abL (v.toInt64 + a.toInt64)) = (1000000000 < (v.toInt + a.toInt).natAbs) := by
    rw [Int64.lt_iff_toInt_lt, abL, l_abs (by omega), e1, show (1000000000 : Int64).toInt = 1000000000 from rfl]; exact propext (by omega)
  unfold sv
  by_cases c : 1000000000 < (v.toInt + a.toInt).natAbs
  · rw [if_pos c, if_pos (by rw [e2]; exact c)]
  · rw [if_neg c, if_neg (by rw [e2]; exact c)]
    apply i_ext
    rw [l_i (by omega) (by omega), e1, ofI (by omega) (by omega)]
def S_X3_slipped : ma_Cs := fun as M L K => match as with
  | [.ref k, .int v, .int ss, .int cc, .int ll, .int wo] => ∃ (s : Nat) (c : Nat) (l : Nat) (n : Nat) (S : Nat → Bool), (isS k ∧ ss = nI s ∧ cc = nI c ∧ ll = nI l ∧ M 0 10 = nI n ∧ n ≤ 12 ∧ ((wo < -4 ∧ ∀ i, S i = false) ∨ (¬ wo < -4 ∧ ∀ i, i < n → (S i = true ↔ ¬ nI i = wo)))) ∧ (K (some (.int (sl (M 21) (M 22) (M 23) (M 24) S s c l n 0 v))) M L)
  | _ => False
theorem ms_X3_slipped : ma_ms S_X3_slipped := by
  intro as M L K K' hk h
  unfold S_X3_slipped at h ⊢
  split at h
  · obtain ⟨s, c, l, n, S, h⟩ := h
    exact ⟨s, c, l, n, S, h.1, hk _ _ _ h.2⟩
  · exact h.elim
theorem un_X3_slipped {k : Nat} {v : Int32} {ss : Int32} {cc : Int32} {ll : Int32} {wo : Int32} {M : ZM} {L : ZL} {K : ma_Kt} : S_X3_slipped [.ref k, .int v, .int ss, .int cc, .int ll, .int wo] M L K = (∃ (s : Nat) (c : Nat) (l : Nat) (n : Nat) (S : Nat → Bool), (isS k ∧ ss = nI s ∧ cc = nI c ∧ ll = nI l ∧ M 0 10 = nI n ∧ n ≤ 12 ∧ ((wo < -4 ∧ ∀ i, S i = false) ∨ (¬ wo < -4 ∧ ∀ i, i < n → (S i = true ↔ ¬ nI i = wo)))) ∧ (K (some (.int (sl (M 21) (M 22) (M 23) (M 24) S s c l n 0 v))) M L)) := rfl
theorem pw_X3_slipped {k : Nat} {v : Int32} {ss : Int32} {cc : Int32} {ll : Int32} {wo : Int32} {s : Nat} {c : Nat} {l : Nat} {n : Nat} {S : Nat → Bool} {M : ZM} {L : ZL} {K : ma_Kt} (hp : isS k ∧ ss = nI s ∧ cc = nI c ∧ ll = nI l ∧ M 0 10 = nI n ∧ n ≤ 12 ∧ ((wo < -4 ∧ ∀ i, S i = false) ∨ (¬ wo < -4 ∧ ∀ i, i < n → (S i = true ↔ ¬ nI i = wo)))) (h : (K (some (.int (sl (M 21) (M 22) (M 23) (M 24) S s c l n 0 v))) M L)) : ma_rn (tb_X3_slipped S_J0_abs) 11 [.ref k, .int v, .int ss, .int cc, .int ll, .int wo] M L K := by
  refine ⟨Nat.le_of_ble_eq_true rfl, fun V hV => ?_⟩
  obtain ⟨hS, rfl, rfl, rfl, m0, hn, hw⟩ := hp
  obtain ⟨y0, y1, y2⟩ := id hS
  have lp : ¬ wo < -4 → (∀ i, i < n → (S i = true ↔ ¬ nI i = wo)) → ∀ m j x (o8 o9 : Option Value), j + m = n → K (some (.int (sl (M 21) (M 22) (M 23) (M 24) S s c l m j x))) M L → V 6 [some (.ref k), some (.int v), some (.int (nI s)), some (.int (nI c)), some (.int (nI l)), some (.int wo), some (.int x), some (.int (nI j)), o8, o9, none] [] M L := by
    intro hw1 hw2 m
    induction m with
    | zero =>
      intro j x o8 o9 e1 h
      refine ma_walk (mo_X3_slipped ms_J0_abs) hV [6, 87] (fun F hF => ?_)
      simp only [tb_X3_slipped, hF, in_no, in_push, in_ild, in_lld, in_ald, in_ist, in_ast, in_lst, in_inc, in_iii, in_idv, in_ldv, in_lll, in_lli, in_lil, in_ii, in_il, in_li, in_ll, in_dup, in_dp2, q_if1, q_if2, in_go, in_sw, ma_sw, in_rv, in_ri, in_rz, in_rl, in_get, in_put, in_puz, in_iar, in_bar, in_lar, in_aar, in_iaw, in_baw, in_law, in_len, in_cpy, in_s1, in_s2, in_s3, in_v1, in_v2, in_v3, in_v4, in_v5, in_v6, ma_bk, ma_gl, ma_sl, ma_nl, ma_wc, ma_wd, ma_nn, ma_en, List.mem_cons, List.not_mem_nil, or_false, or_true, true_or, false_or, true_and, and_true, false_and, and_false, if_true, if_false, forall_const, true_implies, false_implies, not_true_eq_false, not_false_eq_true, Classical.not_not, implies_true, and_self, Nat.add_zero, Nat.zero_add, eq_self, ne_eq, reduceCtorEq, Nat.reduceLT, Nat.reduceLeDiff, Nat.reduceEqDiff, Nat.reduceSub, Nat.reduceAdd, i10, i01, im10, Int32.reduceLT, Int32.reduceLE, ↓reduceIte, reduceIte, up_r, uL_r, cp_r, Int32.toInt_toInt64, Int64.reduceToInt, Int32.reduceToInt, ↓b1_or, b1_0, b1_1, lc_lt, lc_le, lc_gt, lc_ge, lc_eq, yx_0, yx_1, yx_2, yx_3, yx_4, yx_5, yx_6, yx_7, yx_8, yx_9, yx_10, yx_11, yx_12, yx_13, yx_14, yx_15, yx_16, yx_17, yx_18, yx_19, yx_20, yx_21, yx_22, yx_23, yx_24, yx_25, yx_26, yx_27, yx_28, yx_29, yx_30, yx_31, yx_32, yx_33, yx_34, yx_35, yx_36, yx_37, yx_38, yx_39, yx_40, yx_41, yx_42, yx_43, yx_44, yx_45, yx_46, yx_47, yx_48, yx_49, yx_50, yx_51, yx_52, yx_53, yx_54, yx_55, yx_56, yx_57, yx_58, yx_59, yx_60, yx_61, yx_62, yx_63, yx_64, yx_65, yx_66, yx_67, yx_68, rx_0, rx_1, rx_2, rx_3, rx_4, rx_5, rx_6, rx_7, rx_8, rx_9, rx_10, rx_11, rx_12, rx_13, rx_14, rx_15, rx_16, rx_17, rx_18, rx_19, rx_20, rx_21, rx_22, rx_23, rx_24, rx_25, rx_26, rx_27, rx_28, rx_29, rx_30, rx_31, rx_32, rx_33, rp_0, rp_1, rp_2, rp_3, rp_4, rp_5, rp_6, rp_7, rp_8, rs_0, rs_1, rs_2, rs_3, rs_4, re_0, re_1, re_2, re_3, re_4, re_5, rr_0, rr_1, rr_2, rr_3, rr_4, rk_0, rk_1, isP3, isP11, isP46, isP58, isS25, isS28, isS31, un_J0_abs, y0, m0]
      try simp only [iteP, Classical.not_not]
      rw [a_le (by omega) (by omega)]
      exact ⟨fun _ => h, fun z => absurd (by omega) z⟩
    | succ m ih =>
      intro j x o8 o9 e1 h
      rw [sl] at h
      have hj : vp_in (nI j) 12 := vp_in_nI (by omega) (by decide)
      have cj := a_cl (show j < 2147483648 by omega)
      have h87 : ∀ b, b = b1 (S j = true ∧ M 21 j = nI s ∧ M 22 j = nI c ∧ M 23 j = nI l ∧ ¬ x = 2000000000) → V 87 [some (.ref k), some (.int v), some (.int (nI s)), some (.int (nI c)), some (.int (nI l)), some (.int wo), some (.int x), some (.int (nI j)), o8, o9, none] [.int b] M L := by
        intro b hb
        rw [hb]
        refine ma_walk (mo_X3_slipped ms_J0_abs) hV [6] (fun F hF => ?_)
        simp only [tb_X3_slipped, hF, in_no, in_push, in_ild, in_lld, in_ald, in_ist, in_ast, in_lst, in_inc, in_iii, in_idv, in_ldv, in_lll, in_lli, in_lil, in_ii, in_il, in_li, in_ll, in_dup, in_dp2, q_if1, q_if2, in_go, in_sw, ma_sw, in_rv, in_ri, in_rz, in_rl, in_get, in_put, in_puz, in_iar, in_bar, in_lar, in_aar, in_iaw, in_baw, in_law, in_len, in_cpy, in_s1, in_s2, in_s3, in_v1, in_v2, in_v3, in_v4, in_v5, in_v6, ma_bk, ma_gl, ma_sl, ma_nl, ma_wc, ma_wd, ma_nn, ma_en, List.mem_cons, List.not_mem_nil, or_false, or_true, true_or, false_or, true_and, and_true, false_and, and_false, if_true, if_false, forall_const, true_implies, false_implies, not_true_eq_false, not_false_eq_true, Classical.not_not, implies_true, and_self, Nat.add_zero, Nat.zero_add, eq_self, ne_eq, reduceCtorEq, Nat.reduceLT, Nat.reduceLeDiff, Nat.reduceEqDiff, Nat.reduceSub, Nat.reduceAdd, i10, i01, im10, Int32.reduceLT, Int32.reduceLE, ↓reduceIte, reduceIte, up_r, uL_r, cp_r, Int32.toInt_toInt64, Int64.reduceToInt, Int32.reduceToInt, ↓b1_or, b1_0, b1_1, lc_lt, lc_le, lc_gt, lc_ge, lc_eq, yx_0, yx_1, yx_2, yx_3, yx_4, yx_5, yx_6, yx_7, yx_8, yx_9, yx_10, yx_11, yx_12, yx_13, yx_14, yx_15, yx_16, yx_17, yx_18, yx_19, yx_20, yx_21, yx_22, yx_23, yx_24, yx_25, yx_26, yx_27, yx_28, yx_29, yx_30, yx_31, yx_32, yx_33, yx_34, yx_35, yx_36, yx_37, yx_38, yx_39, yx_40, yx_41, yx_42, yx_43, yx_44, yx_45, yx_46, yx_47, yx_48, yx_49, yx_50, yx_51, yx_52, yx_53, yx_54, yx_55, yx_56, yx_57, yx_58, yx_59, yx_60, yx_61, yx_62, yx_63, yx_64, yx_65, yx_66, yx_67, yx_68, rx_0, rx_1, rx_2, rx_3, rx_4, rx_5, rx_6, rx_7, rx_8, rx_9, rx_10, rx_11, rx_12, rx_13, rx_14, rx_15, rx_16, rx_17, rx_18, rx_19, rx_20, rx_21, rx_22, rx_23, rx_24, rx_25, rx_26, rx_27, rx_28, rx_29, rx_30, rx_31, rx_32, rx_33, rp_0, rp_1, rp_2, rp_3, rp_4, rp_5, rp_6, rp_7, rp_8, rs_0, rs_1, rs_2, rs_3, rs_4, re_0, re_1, re_2, re_3, re_4, re_5, rr_0, rr_1, rr_2, rr_3, rr_4, rk_0, rk_1, isP3, isP11, isP46, isP58, isS25, isS28, isS31, un_J0_abs, y0, hj, cj, abL_d]
        try simp only [iteP, Classical.not_not]
        simp only [n64, nI_1, Classical.not_not]
        refine ⟨fun z => ?_, fun z => ⟨fun z2 => ?_, fun z2 => ?_⟩⟩
        · rw [if_neg z] at h; exact ih _ _ _ _ (by omega) h
        · rw [if_pos z, ← sv_X, if_neg z2] at h; exact ih _ _ _ _ (by omega) h
        · rw [if_pos z, ← sv_X, if_pos z2] at h; exact ih _ _ _ _ (by omega) h
      refine ma_walk (mo_X3_slipped ms_J0_abs) hV [6, 87] (fun F hF => ?_)
      simp only [tb_X3_slipped, hF, in_no, in_push, in_ild, in_lld, in_ald, in_ist, in_ast, in_lst, in_inc, in_iii, in_idv, in_ldv, in_lll, in_lli, in_lil, in_ii, in_il, in_li, in_ll, in_dup, in_dp2, q_if1, q_if2, in_go, in_sw, ma_sw, in_rv, in_ri, in_rz, in_rl, in_get, in_put, in_puz, in_iar, in_bar, in_lar, in_aar, in_iaw, in_baw, in_law, in_len, in_cpy, in_s1, in_s2, in_s3, in_v1, in_v2, in_v3, in_v4, in_v5, in_v6, ma_bk, ma_gl, ma_sl, ma_nl, ma_wc, ma_wd, ma_nn, ma_en, List.mem_cons, List.not_mem_nil, or_false, or_true, true_or, false_or, true_and, and_true, false_and, and_false, if_true, if_false, forall_const, true_implies, false_implies, not_true_eq_false, not_false_eq_true, Classical.not_not, implies_true, and_self, Nat.add_zero, Nat.zero_add, eq_self, ne_eq, reduceCtorEq, Nat.reduceLT, Nat.reduceLeDiff, Nat.reduceEqDiff, Nat.reduceSub, Nat.reduceAdd, i10, i01, im10, Int32.reduceLT, Int32.reduceLE, ↓reduceIte, reduceIte, up_r, uL_r, cp_r, Int32.toInt_toInt64, Int64.reduceToInt, Int32.reduceToInt, ↓b1_or, b1_0, b1_1, lc_lt, lc_le, lc_gt, lc_ge, lc_eq, yx_0, yx_1, yx_2, yx_3, yx_4, yx_5, yx_6, yx_7, yx_8, yx_9, yx_10, yx_11, yx_12, yx_13, yx_14, yx_15, yx_16, yx_17, yx_18, yx_19, yx_20, yx_21, yx_22, yx_23, yx_24, yx_25, yx_26, yx_27, yx_28, yx_29, yx_30, yx_31, yx_32, yx_33, yx_34, yx_35, yx_36, yx_37, yx_38, yx_39, yx_40, yx_41, yx_42, yx_43, yx_44, yx_45, yx_46, yx_47, yx_48, yx_49, yx_50, yx_51, yx_52, yx_53, yx_54, yx_55, yx_56, yx_57, yx_58, yx_59, yx_60, yx_61, yx_62, yx_63, yx_64, yx_65, yx_66, yx_67, yx_68, rx_0, rx_1, rx_2, rx_3, rx_4, rx_5, rx_6, rx_7, rx_8, rx_9, rx_10, rx_11, rx_12, rx_13, rx_14, rx_15, rx_16, rx_17, rx_18, rx_19, rx_20, rx_21, rx_22, rx_23, rx_24, rx_25, rx_26, rx_27, rx_28, rx_29, rx_30, rx_31, rx_32, rx_33, rp_0, rp_1, rp_2, rp_3, rp_4, rp_5, rp_6, rp_7, rp_8, rs_0, rs_1, rs_2, rs_3, rs_4, re_0, re_1, re_2, re_3, re_4, re_5, rr_0, rr_1, rr_2, rr_3, rr_4, rk_0, rk_1, isP3, isP11, isP46, isP58, isS25, isS28, isS31, un_J0_abs, y0, m0, hj, cj, hw1]
      try simp only [iteP, Classical.not_not]
      rw [a_le (by omega) (by omega)]
      refine ⟨fun z => absurd z (by omega), fun _ => ?_⟩
      have hSj := hw2 j (by omega)
      refine ⟨fun z => h87 _ (b1_f (fun q => (hSj.1 q.1) z)).symm, fun z => ⟨fun z2 => ⟨fun z3 => ⟨fun z4 => ⟨fun z5 => h87 _ (b1_f (fun q => q.2.2.2.2 z5)).symm, fun z5 => h87 _ (b1_t ⟨hSj.2 z, z2, z3, z4, z5⟩).symm⟩, fun z4 => h87 _ (b1_f (fun q => z4 q.2.2.2.1)).symm⟩, fun z3 => h87 _ (b1_f (fun q => z3 q.2.2.1)).symm⟩, fun z2 => h87 _ (b1_f (fun q => z2 q.2.1)).symm⟩⟩
  refine ma_walk (mo_X3_slipped ms_J0_abs) hV [6] (fun F hF => ?_)
  simp only [tb_X3_slipped, hF, in_no, in_push, in_ild, in_lld, in_ald, in_ist, in_ast, in_lst, in_inc, in_iii, in_idv, in_ldv, in_lll, in_lli, in_lil, in_ii, in_il, in_li, in_ll, in_dup, in_dp2, q_if1, q_if2, in_go, in_sw, ma_sw, in_rv, in_ri, in_rz, in_rl, in_get, in_put, in_puz, in_iar, in_bar, in_lar, in_aar, in_iaw, in_baw, in_law, in_len, in_cpy, in_s1, in_s2, in_s3, in_v1, in_v2, in_v3, in_v4, in_v5, in_v6, ma_bk, ma_gl, ma_sl, ma_nl, ma_wc, ma_wd, ma_nn, ma_en, List.mem_cons, List.not_mem_nil, or_false, or_true, true_or, false_or, true_and, and_true, false_and, and_false, if_true, if_false, forall_const, true_implies, false_implies, not_true_eq_false, not_false_eq_true, Classical.not_not, implies_true, and_self, Nat.add_zero, Nat.zero_add, eq_self, ne_eq, reduceCtorEq, Nat.reduceLT, Nat.reduceLeDiff, Nat.reduceEqDiff, Nat.reduceSub, Nat.reduceAdd, i10, i01, im10, Int32.reduceLT, Int32.reduceLE, ↓reduceIte, reduceIte, up_r, uL_r, cp_r, Int32.toInt_toInt64, Int64.reduceToInt, Int32.reduceToInt, ↓b1_or, b1_0, b1_1, lc_lt, lc_le, lc_gt, lc_ge, lc_eq, yx_0, yx_1, yx_2, yx_3, yx_4, yx_5, yx_6, yx_7, yx_8, yx_9, yx_10, yx_11, yx_12, yx_13, yx_14, yx_15, yx_16, yx_17, yx_18, yx_19, yx_20, yx_21, yx_22, yx_23, yx_24, yx_25, yx_26, yx_27, yx_28, yx_29, yx_30, yx_31, yx_32, yx_33, yx_34, yx_35, yx_36, yx_37, yx_38, yx_39, yx_40, yx_41, yx_42, yx_43, yx_44, yx_45, yx_46, yx_47, yx_48, yx_49, yx_50, yx_51, yx_52, yx_53, yx_54, yx_55, yx_56, yx_57, yx_58, yx_59, yx_60, yx_61, yx_62, yx_63, yx_64, yx_65, yx_66, yx_67, yx_68, rx_0, rx_1, rx_2, rx_3, rx_4, rx_5, rx_6, rx_7, rx_8, rx_9, rx_10, rx_11, rx_12, rx_13, rx_14, rx_15, rx_16, rx_17, rx_18, rx_19, rx_20, rx_21, rx_22, rx_23, rx_24, rx_25, rx_26, rx_27, rx_28, rx_29, rx_30, rx_31, rx_32, rx_33, rp_0, rp_1, rp_2, rp_3, rp_4, rp_5, rp_6, rp_7, rp_8, rs_0, rs_1, rs_2, rs_3, rs_4, re_0, re_1, re_2, re_3, re_4, re_5, rr_0, rr_1, rr_2, rr_3, rr_4, rk_0, rk_1, isP3, isP11, isP46, isP58, isS25, isS28, isS31, un_J0_abs]
  try simp only [iteP, Classical.not_not]
  rcases hw with ⟨hw1, hw2⟩ | ⟨hw1, hw2⟩
  · rw [sl_F hw2] at h
    refine ma_walk (mo_X3_slipped ms_J0_abs) hV [6, 87] (fun F hF => ?_)
    simp only [tb_X3_slipped, hF, in_no, in_push, in_ild, in_lld, in_ald, in_ist, in_ast, in_lst, in_inc, in_iii, in_idv, in_ldv, in_lll, in_lli, in_lil, in_ii, in_il, in_li, in_ll, in_dup, in_dp2, q_if1, q_if2, in_go, in_sw, ma_sw, in_rv, in_ri, in_rz, in_rl, in_get, in_put, in_puz, in_iar, in_bar, in_lar, in_aar, in_iaw, in_baw, in_law, in_len, in_cpy, in_s1, in_s2, in_s3, in_v1, in_v2, in_v3, in_v4, in_v5, in_v6, ma_bk, ma_gl, ma_sl, ma_nl, ma_wc, ma_wd, ma_nn, ma_en, List.mem_cons, List.not_mem_nil, or_false, or_true, true_or, false_or, true_and, and_true, false_and, and_false, if_true, if_false, forall_const, true_implies, false_implies, not_true_eq_false, not_false_eq_true, Classical.not_not, implies_true, and_self, Nat.add_zero, Nat.zero_add, eq_self, ne_eq, reduceCtorEq, Nat.reduceLT, Nat.reduceLeDiff, Nat.reduceEqDiff, Nat.reduceSub, Nat.reduceAdd, i10, i01, im10, Int32.reduceLT, Int32.reduceLE, ↓reduceIte, reduceIte, up_r, uL_r, cp_r, Int32.toInt_toInt64, Int64.reduceToInt, Int32.reduceToInt, ↓b1_or, b1_0, b1_1, lc_lt, lc_le, lc_gt, lc_ge, lc_eq, yx_0, yx_1, yx_2, yx_3, yx_4, yx_5, yx_6, yx_7, yx_8, yx_9, yx_10, yx_11, yx_12, yx_13, yx_14, yx_15, yx_16, yx_17, yx_18, yx_19, yx_20, yx_21, yx_22, yx_23, yx_24, yx_25, yx_26, yx_27, yx_28, yx_29, yx_30, yx_31, yx_32, yx_33, yx_34, yx_35, yx_36, yx_37, yx_38, yx_39, yx_40, yx_41, yx_42, yx_43, yx_44, yx_45, yx_46, yx_47, yx_48, yx_49, yx_50, yx_51, yx_52, yx_53, yx_54, yx_55, yx_56, yx_57, yx_58, yx_59, yx_60, yx_61, yx_62, yx_63, yx_64, yx_65, yx_66, yx_67, yx_68, rx_0, rx_1, rx_2, rx_3, rx_4, rx_5, rx_6, rx_7, rx_8, rx_9, rx_10, rx_11, rx_12, rx_13, rx_14, rx_15, rx_16, rx_17, rx_18, rx_19, rx_20, rx_21, rx_22, rx_23, rx_24, rx_25, rx_26, rx_27, rx_28, rx_29, rx_30, rx_31, rx_32, rx_33, rp_0, rp_1, rp_2, rp_3, rp_4, rp_5, rp_6, rp_7, rp_8, rs_0, rs_1, rs_2, rs_3, rs_4, re_0, re_1, re_2, re_3, re_4, re_5, rr_0, rr_1, rr_2, rr_3, rr_4, rk_0, rk_1, isP3, isP11, isP46, isP58, isS25, isS28, isS31, un_J0_abs, y0, m0, hw1]
    try simp only [iteP, Classical.not_not]
    exact ⟨fun _ => h, fun _ => h⟩
  · exact lp hw1 hw2 n 0 v none none (by omega) h
theorem pv_X3_slipped : ∀ as M L K, S_X3_slipped as M L K → ma_rn (tb_X3_slipped S_J0_abs) 11 as M L K := by
  intro as M L K h
  unfold S_X3_slipped at h
  split at h
  · obtain ⟨s, c, l, n, S, h⟩ := h; exact pw_X3_slipped h.1 h.2
  · exact h.elim
