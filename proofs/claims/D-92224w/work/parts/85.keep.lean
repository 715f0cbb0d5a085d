/-! ops: keep (the component's Kept, both sides) -/
set_option maxRecDepth 100000
set_option maxHeartbeats 4000000
theorem cp_f0 {M : ZM} {x y n : Nat} : ma_cp M x y 0 0 n y = fun i => if i < n then M x i else M y i := by
  funext i
  rw [cp_r]
  by_cases c : i < n
  · rw [if_pos ⟨rfl, by omega, by omega⟩, if_pos c, Nat.zero_add, Nat.sub_zero]
  · rw [if_neg (by omega), if_neg c]
theorem cp_f {M : ZM} {x y sp n : Nat} : ma_cp M x y sp 0 n y = fun i => if i < n then M x (sp + i) else M y i := by
  funext i
  rw [cp_r]
  by_cases c : i < n
  · rw [if_pos ⟨rfl, by omega, by omega⟩, if_pos c, Nat.sub_zero]
  · rw [if_neg (by omega), if_neg c]
def S_X4_keep : ma_Cs := fun as M L K => match as with
  | [.ref d, .ref k] => ∃ (q : Nat) (ts : List Tm) (ls : List Ln), (k = 0 ∧ q < 2 ∧ d = 45 + 12 * q ∧ PX M 11 ts ls ∧ ts.length ≤ 80 ∧ ls.length ≤ 4 ∧ BF (M 15)) ∧ (∀ (M' : ZM), (∀ a, a < 45 + 12 * q ∨ 56 + 12 * q < a → M' a = M a) → PX M' (46 + 12 * q) ts ls → BF (M' (50 + 12 * q)) → M' (45 + 12 * q) 2 = M 0 10 → M' (45 + 12 * q) 4 = M 0 7 → (∀ l, l < 4 → M' (56 + 12 * q) l = M 19 l) → (∀ c, c < 144 → M' (54 + 12 * q) c = M 20 c) → (∀ i, i < 12 → M' (55 + 12 * q) i = M 21 i ∧ M' (55 + 12 * q) (12 + i) = M 22 i ∧ M' (55 + 12 * q) (24 + i) = M 23 i ∧ M' (55 + 12 * q) (36 + i) = M 24 i) → K none M' L)
  | _ => False
theorem ms_X4_keep : ma_ms S_X4_keep := by
  intro as M L K K' hk h
  unfold S_X4_keep at h ⊢
  split at h
  · obtain ⟨q, ts, ls, h⟩ := h
    exact ⟨q, ts, ls, h.1, fun x0 x1 x2 x3 x4 x5 x6 x7 x8 => hk _ _ _ (h.2 x0 x1 x2 x3 x4 x5 x6 x7 x8)⟩
  · exact h.elim
theorem un_X4_keep {d : Nat} {k : Nat} {M : ZM} {L : ZL} {K : ma_Kt} : S_X4_keep [.ref d, .ref k] M L K = (∃ (q : Nat) (ts : List Tm) (ls : List Ln), (k = 0 ∧ q < 2 ∧ d = 45 + 12 * q ∧ PX M 11 ts ls ∧ ts.length ≤ 80 ∧ ls.length ≤ 4 ∧ BF (M 15)) ∧ (∀ (M' : ZM), (∀ a, a < 45 + 12 * q ∨ 56 + 12 * q < a → M' a = M a) → PX M' (46 + 12 * q) ts ls → BF (M' (50 + 12 * q)) → M' (45 + 12 * q) 2 = M 0 10 → M' (45 + 12 * q) 4 = M 0 7 → (∀ l, l < 4 → M' (56 + 12 * q) l = M 19 l) → (∀ c, c < 144 → M' (54 + 12 * q) c = M 20 c) → (∀ i, i < 12 → M' (55 + 12 * q) i = M 21 i ∧ M' (55 + 12 * q) (12 + i) = M 22 i ∧ M' (55 + 12 * q) (24 + i) = M 23 i ∧ M' (55 + 12 * q) (36 + i) = M 24 i) → K none M' L)) := rfl
theorem pw_X4_keep {d : Nat} {k : Nat} {q : Nat} {ts : List Tm} {ls : List Ln} {M : ZM} {L : ZL} {K : ma_Kt} (hp : k = 0 ∧ q < 2 ∧ d = 45 + 12 * q ∧ PX M 11 ts ls ∧ ts.length ≤ 80 ∧ ls.length ≤ 4 ∧ BF (M 15)) (h : (∀ (M' : ZM), (∀ a, a < 45 + 12 * q ∨ 56 + 12 * q < a → M' a = M a) → PX M' (46 + 12 * q) ts ls → BF (M' (50 + 12 * q)) → M' (45 + 12 * q) 2 = M 0 10 → M' (45 + 12 * q) 4 = M 0 7 → (∀ l, l < 4 → M' (56 + 12 * q) l = M 19 l) → (∀ c, c < 144 → M' (54 + 12 * q) c = M 20 c) → (∀ i, i < 12 → M' (55 + 12 * q) i = M 21 i ∧ M' (55 + 12 * q) (12 + i) = M 22 i ∧ M' (55 + 12 * q) (24 + i) = M 23 i ∧ M' (55 + 12 * q) (36 + i) = M 24 i) → K none M' L)) : ma_rn (tb_X4_keep S_X2_copy) 2 [.ref d, .ref k] M L K := by
  refine ⟨Nat.le_of_ble_eq_true rfl, fun V hV => ?_⟩
  obtain ⟨rfl, hq, rfl, hP, ht, hl, hB⟩ := hp
  have hq2 : q = 0 ∨ q = 1 := by omega
  rcases hq2 with rfl | rfl
  all_goals
    simp only [Nat.reduceMul, Nat.reduceAdd] at h ⊢
    refine ma_walk (mo_X4_keep ms_X2_copy) hV [] (fun F hF => ?_)
    simp only [tb_X4_keep, hF, in_no, in_push, in_ild, in_lld, in_ald, in_ist, in_ast, in_lst, in_inc, in_iii, in_idv, in_ldv, in_lll, in_lli, in_lil, in_ii, in_il, in_li, in_ll, in_dup, in_dp2, q_if1, q_if2, in_go, in_sw, ma_sw, in_rv, in_ri, in_rz, in_rl, in_get, in_put, in_puz, in_iar, in_bar, in_lar, in_aar, in_iaw, in_baw, in_law, in_len, in_cpy, in_s1, in_s2, in_s3, in_v1, in_v2, in_v3, in_v4, in_v5, in_v6, ma_bk, ma_gl, ma_sl, ma_nl, ma_wc, ma_wd, ma_nn, ma_en, List.mem_cons, List.not_mem_nil, or_false, or_true, true_or, false_or, true_and, and_true, false_and, and_false, if_true, if_false, forall_const, true_implies, false_implies, not_true_eq_false, not_false_eq_true, Classical.not_not, implies_true, and_self, Nat.add_zero, Nat.zero_add, eq_self, ne_eq, reduceCtorEq, Nat.reduceLT, Nat.reduceLeDiff, Nat.reduceEqDiff, Nat.reduceSub, Nat.reduceAdd, i10, i01, im10, Int32.reduceLT, Int32.reduceLE, ↓reduceIte, reduceIte, up_r, uL_r, cp_r, Int32.toInt_toInt64, Int64.reduceToInt, Int32.reduceToInt, ↓b1_or, b1_0, b1_1, lc_lt, lc_le, lc_gt, lc_ge, lc_eq, yx_0, yx_1, yx_2, yx_3, yx_4, yx_5, yx_6, yx_7, yx_8, yx_9, yx_10, yx_11, yx_12, yx_13, yx_14, yx_15, yx_16, yx_17, yx_18, yx_19, yx_20, yx_21, yx_22, yx_23, yx_24, yx_25, yx_26, yx_27, yx_28, yx_29, yx_30, yx_31, yx_32, yx_33, yx_34, yx_35, yx_36, yx_37, yx_38, yx_39, yx_40, yx_41, yx_42, yx_43, yx_44, yx_45, yx_46, yx_47, yx_48, yx_49, yx_50, yx_51, yx_52, yx_53, yx_54, yx_55, yx_56, yx_57, yx_58, yx_59, yx_60, yx_61, yx_62, yx_63, yx_64, yx_65, yx_66, yx_67, yx_68, rx_0, rx_1, rx_2, rx_3, rx_4, rx_5, rx_6, rx_7, rx_8, rx_9, rx_10, rx_11, rx_12, rx_13, rx_14, rx_15, rx_16, rx_17, rx_18, rx_19, rx_20, rx_21, rx_22, rx_23, rx_24, rx_25, rx_26, rx_27, rx_28, rx_29, rx_30, rx_31, rx_32, rx_33, rp_0, rp_1, rp_2, rp_3, rp_4, rp_5, rp_6, rp_7, rp_8, rs_0, rs_1, rs_2, rs_3, rs_4, re_0, re_1, re_2, re_3, re_4, re_5, rr_0, rr_1, rr_2, rr_3, rr_4, rk_0, rk_1, isP3, isP11, isP46, isP58, isS25, isS28, isS31, un_X2_copy, Int32.reduceToNatClampNeg, Nat.sub_zero, Nat.reduceMul]
    try simp only [iteP, Classical.not_not, b1_0, b1_1]
    refine ⟨ts, ls, ⟨by unfold isPP; omega, hP, ht, hl, hB⟩, fun M1 p1 p2 p3 => h _ (fun a ha => ?_) (p2.to (fun a y1 y2 => ?_)) ?_ ?_ ?_ (fun l hl => ?_) (fun c hc => ?_) (fun i hi => ⟨?_, ?_, ?_, ?_⟩)⟩
    · rw [up_c (by omega), cp_c (by omega), cp_c (by omega), cp_c (by omega), cp_c (by omega), up_c (by omega), cp_c (by omega), cp_c (by omega)]; exact p1 a (by omega)
    · rw [up_c (by omega), cp_c (by omega), cp_c (by omega), cp_c (by omega), cp_c (by omega), up_c (by omega), cp_c (by omega), cp_c (by omega)]
    · rw [up_c (by decide), cp_c (by decide), cp_c (by decide), cp_c (by decide), cp_c (by decide), up_c (by decide), cp_c (by decide), cp_c (by decide)]; exact p3
    · rw [up_r, if_neg (by omega), cp_c (by decide), cp_c (by decide), cp_c (by decide), cp_c (by decide), up_r, if_pos ⟨rfl, rfl⟩]; exact congrFun (p1 0 (by omega)) 10
    · rw [up_r, if_pos ⟨rfl, rfl⟩]; exact congrFun (p1 0 (by omega)) 7
    · rw [up_c (by decide), cp_c (by decide), cp_c (by decide), cp_c (by decide), cp_c (by decide), up_c (by decide), cp_in hl, cp_c (by decide)]; exact congrFun (p1 19 (by omega)) l
    · rw [up_c (by decide), cp_c (by decide), cp_c (by decide), cp_c (by decide), cp_c (by decide), up_c (by decide), cp_c (by decide), cp_in hc]; exact congrFun (p1 20 (by omega)) c
    · rw [up_c (by decide), cp_r, if_neg (by omega), cp_r, if_neg (by omega), cp_r, if_neg (by omega), cp_in hi, up_c (by decide), cp_c (by decide), cp_c (by decide)]; exact congrFun (p1 21 (by omega)) i
    · rw [up_c (by decide), cp_r, if_neg (by omega), cp_r, if_neg (by omega), cp_r, if_pos (by omega), cp_c (by decide), up_c (by decide), cp_c (by decide), cp_c (by decide), Nat.zero_add, Nat.add_sub_cancel_left]; exact congrFun (p1 22 (by omega)) i
    · rw [up_c (by decide), cp_r, if_neg (by omega), cp_r, if_pos (by omega), cp_c (by decide), cp_c (by decide), up_c (by decide), cp_c (by decide), cp_c (by decide), Nat.zero_add, Nat.add_sub_cancel_left]; exact congrFun (p1 23 (by omega)) i
    · rw [up_c (by decide), cp_r, if_pos (by omega), cp_c (by decide), cp_c (by decide), cp_c (by decide), up_c (by decide), cp_c (by decide), cp_c (by decide), Nat.zero_add, Nat.add_sub_cancel_left]; exact congrFun (p1 24 (by omega)) i
theorem pv_X4_keep : ∀ as M L K, S_X4_keep as M L K → ma_rn (tb_X4_keep S_X2_copy) 2 as M L K := by
  intro as M L K h
  unfold S_X4_keep at h
  split at h
  · obtain ⟨q, ts, ls, h⟩ := h; exact pw_X4_keep h.1 h.2
  · exact h.elim
def S_X4_back : ma_Cs := fun as M L K => match as with
  | [.ref d, .ref k] => ∃ (q : Nat) (ts : List Tm) (ls : List Ln), (k = 0 ∧ q < 2 ∧ d = 45 + 12 * q ∧ PX M (46 + 12 * q) ts ls ∧ ts.length ≤ 80 ∧ ls.length ≤ 4 ∧ BF (M (50 + 12 * q))) ∧ (∀ (M' : ZM), (∀ a, a < 11 ∧ a ≠ 0 ∨ 24 < a → M' a = M a) → (∀ j, j ≠ 7 → j ≠ 10 → j ≠ 15 → M' 0 j = M 0 j) → M' 0 7 = M (45 + 12 * q) 4 ∧ M' 0 10 = M (45 + 12 * q) 2 ∧ M' 0 15 = 0 → PX M' 11 ts ls ∧ BF (M' 15) → (M' 19 = fun i => if i < 4 then M (56 + 12 * q) i else M 19 i) ∧ (M' 20 = fun i => if i < 144 then M (54 + 12 * q) i else M 20 i) ∧ (M' 21 = fun i => if i < 12 then M (55 + 12 * q) i else M 21 i) ∧ (M' 22 = fun i => if i < 12 then M (55 + 12 * q) (12 + i) else M 22 i) ∧ (M' 23 = fun i => if i < 12 then M (55 + 12 * q) (24 + i) else M 23 i) ∧ (M' 24 = fun i => if i < 12 then M (55 + 12 * q) (36 + i) else M 24 i) → K none M' L)
  | _ => False
theorem ms_X4_back : ma_ms S_X4_back := by
  intro as M L K K' hk h
  unfold S_X4_back at h ⊢
  split at h
  · obtain ⟨q, ts, ls, h⟩ := h
    exact ⟨q, ts, ls, h.1, fun x0 x1 x2 x3 x4 x5 => hk _ _ _ (h.2 x0 x1 x2 x3 x4 x5)⟩
  · exact h.elim
theorem un_X4_back {d : Nat} {k : Nat} {M : ZM} {L : ZL} {K : ma_Kt} : S_X4_back [.ref d, .ref k] M L K = (∃ (q : Nat) (ts : List Tm) (ls : List Ln), (k = 0 ∧ q < 2 ∧ d = 45 + 12 * q ∧ PX M (46 + 12 * q) ts ls ∧ ts.length ≤ 80 ∧ ls.length ≤ 4 ∧ BF (M (50 + 12 * q))) ∧ (∀ (M' : ZM), (∀ a, a < 11 ∧ a ≠ 0 ∨ 24 < a → M' a = M a) → (∀ j, j ≠ 7 → j ≠ 10 → j ≠ 15 → M' 0 j = M 0 j) → M' 0 7 = M (45 + 12 * q) 4 ∧ M' 0 10 = M (45 + 12 * q) 2 ∧ M' 0 15 = 0 → PX M' 11 ts ls ∧ BF (M' 15) → (M' 19 = fun i => if i < 4 then M (56 + 12 * q) i else M 19 i) ∧ (M' 20 = fun i => if i < 144 then M (54 + 12 * q) i else M 20 i) ∧ (M' 21 = fun i => if i < 12 then M (55 + 12 * q) i else M 21 i) ∧ (M' 22 = fun i => if i < 12 then M (55 + 12 * q) (12 + i) else M 22 i) ∧ (M' 23 = fun i => if i < 12 then M (55 + 12 * q) (24 + i) else M 23 i) ∧ (M' 24 = fun i => if i < 12 then M (55 + 12 * q) (36 + i) else M 24 i) → K none M' L)) := rfl
theorem pw_X4_back {d : Nat} {k : Nat} {q : Nat} {ts : List Tm} {ls : List Ln} {M : ZM} {L : ZL} {K : ma_Kt} (hp : k = 0 ∧ q < 2 ∧ d = 45 + 12 * q ∧ PX M (46 + 12 * q) ts ls ∧ ts.length ≤ 80 ∧ ls.length ≤ 4 ∧ BF (M (50 + 12 * q))) (h : (∀ (M' : ZM), (∀ a, a < 11 ∧ a ≠ 0 ∨ 24 < a → M' a = M a) → (∀ j, j ≠ 7 → j ≠ 10 → j ≠ 15 → M' 0 j = M 0 j) → M' 0 7 = M (45 + 12 * q) 4 ∧ M' 0 10 = M (45 + 12 * q) 2 ∧ M' 0 15 = 0 → PX M' 11 ts ls ∧ BF (M' 15) → (M' 19 = fun i => if i < 4 then M (56 + 12 * q) i else M 19 i) ∧ (M' 20 = fun i => if i < 144 then M (54 + 12 * q) i else M 20 i) ∧ (M' 21 = fun i => if i < 12 then M (55 + 12 * q) i else M 21 i) ∧ (M' 22 = fun i => if i < 12 then M (55 + 12 * q) (12 + i) else M 22 i) ∧ (M' 23 = fun i => if i < 12 then M (55 + 12 * q) (24 + i) else M 23 i) ∧ (M' 24 = fun i => if i < 12 then M (55 + 12 * q) (36 + i) else M 24 i) → K none M' L)) : ma_rn (tb_X4_back S_X2_copy) 2 [.ref d, .ref k] M L K := by
  refine ⟨Nat.le_of_ble_eq_true rfl, fun V hV => ?_⟩
  obtain ⟨rfl, hq, rfl, hP, ht, hl, hB⟩ := hp
  have hq2 : q = 0 ∨ q = 1 := by omega
  rcases hq2 with rfl | rfl
  all_goals
    simp only [Nat.reduceMul, Nat.reduceAdd] at h hP hB ⊢
    refine ma_walk (mo_X4_back ms_X2_copy) hV [] (fun F hF => ?_)
    simp only [tb_X4_back, hF, in_no, in_push, in_ild, in_lld, in_ald, in_ist, in_ast, in_lst, in_inc, in_iii, in_idv, in_ldv, in_lll, in_lli, in_lil, in_ii, in_il, in_li, in_ll, in_dup, in_dp2, q_if1, q_if2, in_go, in_sw, ma_sw, in_rv, in_ri, in_rz, in_rl, in_get, in_put, in_puz, in_iar, in_bar, in_lar, in_aar, in_iaw, in_baw, in_law, in_len, in_cpy, in_s1, in_s2, in_s3, in_v1, in_v2, in_v3, in_v4, in_v5, in_v6, ma_bk, ma_gl, ma_sl, ma_nl, ma_wc, ma_wd, ma_nn, ma_en, List.mem_cons, List.not_mem_nil, or_false, or_true, true_or, false_or, true_and, and_true, false_and, and_false, if_true, if_false, forall_const, true_implies, false_implies, not_true_eq_false, not_false_eq_true, Classical.not_not, implies_true, and_self, Nat.add_zero, Nat.zero_add, eq_self, ne_eq, reduceCtorEq, Nat.reduceLT, Nat.reduceLeDiff, Nat.reduceEqDiff, Nat.reduceSub, Nat.reduceAdd, i10, i01, im10, Int32.reduceLT, Int32.reduceLE, ↓reduceIte, reduceIte, up_r, uL_r, cp_r, Int32.toInt_toInt64, Int64.reduceToInt, Int32.reduceToInt, ↓b1_or, b1_0, b1_1, lc_lt, lc_le, lc_gt, lc_ge, lc_eq, yx_0, yx_1, yx_2, yx_3, yx_4, yx_5, yx_6, yx_7, yx_8, yx_9, yx_10, yx_11, yx_12, yx_13, yx_14, yx_15, yx_16, yx_17, yx_18, yx_19, yx_20, yx_21, yx_22, yx_23, yx_24, yx_25, yx_26, yx_27, yx_28, yx_29, yx_30, yx_31, yx_32, yx_33, yx_34, yx_35, yx_36, yx_37, yx_38, yx_39, yx_40, yx_41, yx_42, yx_43, yx_44, yx_45, yx_46, yx_47, yx_48, yx_49, yx_50, yx_51, yx_52, yx_53, yx_54, yx_55, yx_56, yx_57, yx_58, yx_59, yx_60, yx_61, yx_62, yx_63, yx_64, yx_65, yx_66, yx_67, yx_68, rx_0, rx_1, rx_2, rx_3, rx_4, rx_5, rx_6, rx_7, rx_8, rx_9, rx_10, rx_11, rx_12, rx_13, rx_14, rx_15, rx_16, rx_17, rx_18, rx_19, rx_20, rx_21, rx_22, rx_23, rx_24, rx_25, rx_26, rx_27, rx_28, rx_29, rx_30, rx_31, rx_32, rx_33, rp_0, rp_1, rp_2, rp_3, rp_4, rp_5, rp_6, rp_7, rp_8, rs_0, rs_1, rs_2, rs_3, rs_4, re_0, re_1, re_2, re_3, re_4, re_5, rr_0, rr_1, rr_2, rr_3, rr_4, rk_0, rk_1, isP3, isP11, isP46, isP58, isS25, isS28, isS31, un_X2_copy, Int32.reduceToNatClampNeg, Nat.sub_zero, Nat.reduceMul]
    try simp only [iteP, Classical.not_not, b1_0, b1_1]
    refine ⟨ts, ls, ⟨by unfold isPP; omega, hP, ht, hl, hB⟩, fun M1 p1 p2 p3 => h _ (fun a ha => ?_) (fun j y1 y2 y3 => ?_) ⟨?_, ?_, ?_⟩ ⟨p2.to (fun a y1 y2 => ?_), ?_⟩ ⟨?_, ?_, ?_, ?_, ?_, ?_⟩⟩
    · rw [up_c (by omega), up_c (by omega), cp_c (by omega), cp_c (by omega), cp_c (by omega), cp_c (by omega), up_c (by omega), cp_c (by omega), cp_c (by omega)]; exact p1 a (by omega)
    · rw [up_r, if_neg (by omega), up_r, if_neg (by omega), cp_c (by decide), cp_c (by decide), cp_c (by decide), cp_c (by decide), up_r, if_neg (by omega), cp_c (by decide), cp_c (by decide)]; exact congrFun (p1 0 (by omega)) j
    · rw [up_r, if_neg (by omega), up_r, if_pos ⟨rfl, rfl⟩]; exact congrFun (p1 _ (by omega)) 4
    · rw [up_r, if_neg (by omega), up_r, if_neg (by omega), cp_c (by decide), cp_c (by decide), cp_c (by decide), cp_c (by decide), up_r, if_pos ⟨rfl, rfl⟩]; exact congrFun (p1 _ (by omega)) 2
    · rw [up_r, if_pos ⟨rfl, rfl⟩]
    · rw [up_c (by omega), up_c (by omega), cp_c (by omega), cp_c (by omega), cp_c (by omega), cp_c (by omega), up_c (by omega), cp_c (by omega), cp_c (by omega)]
    · rw [up_c (by omega), up_c (by omega), cp_c (by omega), cp_c (by omega), cp_c (by omega), cp_c (by omega), up_c (by omega), cp_c (by omega), cp_c (by omega)]; exact p3
    · rw [up_c (by decide), up_c (by decide), cp_c (by decide), cp_c (by decide), cp_c (by decide), cp_c (by decide), up_c (by decide), cp_f0, cp_c (by decide), cp_c (by decide), p1 _ (by omega), p1 19 (by omega)]
    · rw [up_c (by decide), up_c (by decide), cp_c (by decide), cp_c (by decide), cp_c (by decide), cp_c (by decide), up_c (by decide), cp_c (by decide), cp_f0, p1 _ (by omega), p1 20 (by omega)]
    · rw [up_c (by decide), up_c (by decide), cp_c (by decide), cp_c (by decide), cp_c (by decide), cp_f0, up_c (by decide), up_c (by decide), cp_c (by decide), cp_c (by decide), cp_c (by decide), cp_c (by decide), p1 _ (by omega), p1 21 (by omega)]
    · rw [up_c (by decide), up_c (by decide), cp_c (by decide), cp_c (by decide), cp_f, cp_c (by decide), cp_c (by decide), up_c (by decide), up_c (by decide), cp_c (by decide), cp_c (by decide), cp_c (by decide), cp_c (by decide), p1 _ (by omega), p1 22 (by omega)]
    · rw [up_c (by decide), up_c (by decide), cp_c (by decide), cp_f, cp_c (by decide), cp_c (by decide), cp_c (by decide), cp_c (by decide), up_c (by decide), up_c (by decide), cp_c (by decide), cp_c (by decide), cp_c (by decide), cp_c (by decide), p1 _ (by omega), p1 23 (by omega)]
    · rw [up_c (by decide), up_c (by decide), cp_f, cp_c (by decide), cp_c (by decide), cp_c (by decide), cp_c (by decide), cp_c (by decide), cp_c (by decide), up_c (by decide), up_c (by decide), cp_c (by decide), cp_c (by decide), cp_c (by decide), cp_c (by decide), p1 _ (by omega), p1 24 (by omega)]
theorem pv_X4_back : ∀ as M L K, S_X4_back as M L K → ma_rn (tb_X4_back S_X2_copy) 2 as M L K := by
  intro as M L K h
  unfold S_X4_back at h
  split at h
  · obtain ⟨q, ts, ls, h⟩ := h; exact pw_X4_back h.1 h.2
  · exact h.elim
/-- what is kept of a state's numbers -/
def kN (N : ZM) (k : Nat) : ZM := fun a i => if a = 21 ∧ 700 * k ≤ i ∧ i < 700 * k + 700 then kT N (i - 700 * k) else N a i
theorem kN_c {N : ZM} {k a : Nat} (h : a ≠ 21) : kN N k a = N a := by funext i; exact if_neg (fun y => h y.1)
theorem kN_in {N : ZM} {k r : Nat} (h : r < 700) : kN N k 21 (700 * k + r) = kT N r := by
  unfold kN; rw [if_pos ⟨rfl, by omega, by omega⟩, Nat.add_sub_cancel_left]
theorem kN_out {N : ZM} {k i : Nat} (h : i < 700 * k ∨ 700 * k + 700 ≤ i) : kN N k 21 i = N 21 i := if_neg (by omega)
def nKeep (x : St) (k : Nat) : St := (ma_up (kN (sN x) k) 0 30 (nI (k + 1)), sP x, sp x, fun i => if i = k then sp x else sk x i)
def oKeep (x : St) : Int32 × St := if sN x 0 30 = 2 then (-3, x) else (nI (nat (sN x 0 30) + 1), nKeep x (nat (sN x 0 30)))
theorem J.km {x : St} (h : J x) : ∃ km : Nat, sN x 0 30 = nI km ∧ km ≤ 2 ∧ nat (sN x 0 30) = km := by
  obtain ⟨⟨w, u, e, wk, n, ns, a, b, km, h1, h2, h3, h4, h5, h6, h7, h8, h9, g1, g2, g3, g4, g5, g6, g7, g8, g9, f1, f2⟩, ja, jp, jk⟩ := h
  exact ⟨km, h9, f2, by unfold nat; rw [h9, a_cl (by omega)]⟩
def Jk1 (f : Nat → Int32) (k : Nat) (p : Plan) : Prop := Jp p ∧ (∃ e n : Nat, f (700 * k + 1) = nI e ∧ e < 3 ∧ f (700 * k + 2) = nI n ∧ n ≤ 12) ∧ Fb (fun l => f (700 * k + 3 + l)) (fun c => f (700 * k + 271 + c)) ∧ Am (fun i => f (700 * k + 451 + i))
theorem Jk1.c {f g : Nat → Int32} {k : Nat} {p : Plan} (e : ∀ r, r < 700 → g (700 * k + r) = f (700 * k + r)) (h : Jk1 f k p) : Jk1 g k p := by
  obtain ⟨h1, ⟨a, b, h2, h3, h4, h5⟩, ⟨h6, h7⟩, h8⟩ := h
  refine ⟨h1, ⟨a, b, by rw [e 1 (by omega)]; exact h2, h3, by rw [e 2 (by omega)]; exact h4, h5⟩, ⟨fun l hl => ?_, fun l hl => ?_⟩, fun l hl => ?_⟩
  · have q := h6 l hl
    have z := e (3 + l) (by omega)
    rw [← Nat.add_assoc] at z
    dsimp only at q ⊢
    rw [z]; exact q
  · have q := h7 l hl
    have z := e (271 + l) (by omega)
    rw [← Nat.add_assoc] at z
    dsimp only at q ⊢
    rw [z]; exact q
  · have q := h8 l hl
    have z := e (451 + l) (by omega)
    rw [← Nat.add_assoc] at z
    dsimp only at q ⊢
    rw [z]; exact q
theorem J_keep {x : St} (h : J x) : J (oKeep x).2 := by
  unfold oKeep
  split
  · exact h
  · next c =>
    obtain ⟨⟨w, u, e, wk, n, ns, a, b, km, h1, h2, h3, h4, h5, h6, h7, h8, h9, g1, g2, g3, g4, g5, g6, g7, g8, g9, f1, f2⟩, ja, jp, jk⟩ := h
    have nk : nat (sN x 0 30) = km := by unfold nat; rw [h9, a_cl (by omega)]
    have km2 : km < 2 := by
      have : km ≠ 2 := fun y => c (by rw [h9, y]; rfl)
      omega
    show J (nKeep x (nat (sN x 0 30)))
    rw [nk]
    have ec : ∀ a, a ≠ 0 → a ≠ 21 → ma_up (kN (sN x) km) 0 30 (nI (km + 1)) a = sN x a := fun a y1 y2 => (up_c y1).trans (kN_c y2)
    have e0 : ∀ j, j ≠ 30 → ma_up (kN (sN x) km) 0 30 (nI (km + 1)) 0 j = sN x 0 j := fun j hj => by
      rw [up_r, if_neg (fun y => hj y.2), kN_c (by decide)]
    have e21 : ma_up (kN (sN x) km) 0 30 (nI (km + 1)) 21 = kN (sN x) km 21 := up_c (by decide)
    refine ⟨⟨w, u, e, wk, n, ns, a, b, km + 1, (e0 0 (by decide)).trans h1, (e0 1 (by decide)).trans h2, (e0 2 (by decide)).trans h3, (e0 3 (by decide)).trans h4, (e0 5 (by decide)).trans h5, (e0 19 (by decide)).trans h6, (e0 24 (by decide)).trans h7, (e0 25 (by decide)).trans h8, ?_, g1, g2, g3, g4, g5, g6, g7, g8, g9, f1, by omega⟩, ?_, jp, ?_⟩
    · show ma_up (kN (sN x) km) 0 30 (nI (km + 1)) 0 30 = _
      rw [up_r, if_pos ⟨rfl, rfl⟩]
    · show Ja (ma_up (kN (sN x) km) 0 30 (nI (km + 1)))
      unfold Ja
      rw [ec 2 (by decide) (by decide), ec 1 (by decide) (by decide), ec 12 (by decide) (by decide), ec 16 (by decide) (by decide), ec 19 (by decide) (by decide), ec 20 (by decide) (by decide)]
      exact ja
    · intro k hk
      show Jk1 (ma_up (kN (sN x) km) 0 30 (nI (km + 1)) 21) k (if k = km then sp x else sk x k)
      rw [e21]
      by_cases z : k = km
      · subst z
        rw [if_pos rfl]
        have z := fun r (hr : r < 700) => kN_in (N := sN x) (k := k) hr
        refine ⟨jp, ⟨e, ns, (z 1 (by omega)).trans h3, g5, (z 2 (by omega)).trans h6, g8⟩, ⟨fun l hl => ?_, fun l hl => ?_⟩, fun l hl => ?_⟩
        · have y := z (3 + l) (by omega)
          rw [← Nat.add_assoc, kT_1 _ hl] at y
          dsimp only
          rw [y]; exact ja.2.1.1 l hl
        · have y := z (271 + l) (by omega)
          rw [← Nat.add_assoc, kT_12 _ hl] at y
          dsimp only
          rw [y]; exact ja.2.1.2 l hl
        · have y := z (451 + l) (by omega)
          rw [← Nat.add_assoc, kT_16 _ hl] at y
          dsimp only
          rw [y]; exact ja.2.2.1 l hl
      · rw [if_neg z]
        exact Jk1.c (fun r hr => kN_out (by omega)) (jk k hk)
theorem hv_c {x y : St} (e0 : sN y 0 0 = sN x 0 0) (e1 : sN y 0 1 = sN x 0 1) (e2 : sN y 0 2 = sN x 0 2) (e19 : sN y 0 19 = sN x 0 19) (a1 : sN y 1 = sN x 1) (a12 : sN y 12 = sN x 12) (a13 : sN y 13 = sN x 13) (a14 : sN y 14 = sN x 14) (a15 : sN y 15 = sN x 15) (a16 : sN y 16 = sN x 16) (p : sp y = sp x) : hv y = hv x ∧ hk y = hk x := by
  have ez : ∀ S n, zY (sN y) S n = zY (sN x) S n := fun S n => by unfold zY; rw [a13, a14, a15, a16]
  refine ⟨?_, ?_⟩
  · funext S; unfold hv; rw [e0, e1, e2, e19, a1, a12, p, ez]
  · unfold hk; rw [e0, e1, e2, a12, p]
theorem Xk1.to2 {M M' N N' : ZM} {k : Nat} {p : Plan} (h : Xk1 M N k p) (e : ∀ a, 45 + 12 * k ≤ a → a ≤ 56 + 12 * k → M' a = M a) (eN : ∀ r, r < 700 → N' 21 (700 * k + r) = N 21 (700 * k + r)) : Xk1 M' N' k p := by
  obtain ⟨h1, h2, h3, h4, h5, h6, h7⟩ := h
  refine ⟨h1.to (fun a z1 z2 => e a (by omega) (by omega)), ?_, ?_, ?_, fun l hl => ?_, fun l hl => ?_, fun l hl => ?_⟩
  · rw [e _ (by omega) (by omega)]; exact h2
  · rw [e _ (by omega) (by omega), eN 2 (by omega)]; exact h3
  · rw [e _ (by omega) (by omega), eN 1 (by omega)]; exact h4
  · rw [e _ (by omega) (by omega), Nat.add_assoc, eN (3 + l) (by omega), ← Nat.add_assoc]; exact h5 l hl
  · rw [e _ (by omega) (by omega), Nat.add_assoc, eN (271 + l) (by omega), ← Nat.add_assoc]; exact h6 l hl
  · rw [e _ (by omega) (by omega), Nat.add_assoc, eN (415 + l) (by omega), ← Nat.add_assoc]; exact h7 l hl
theorem sl48 {f : Nat → Int32} {N : ZM} {b : Nat} (h : ∀ i, i < 12 → f i = N 13 i ∧ f (12 + i) = N 14 i ∧ f (24 + i) = N 15 i ∧ f (36 + i) = N 16 i) : ∀ i, i < 48 → f i = kT N (415 + i) := fun i hi => by
  by_cases c1 : i < 12
  · rw [(h i c1).1, kT_13 N c1]
  · by_cases c2 : i < 24
    · have q := (h (i - 12) (by omega)).2.1
      rw [show 12 + (i - 12) = i by omega] at q
      rw [q, show 415 + i = 427 + (i - 12) by omega, kT_14 N (by omega)]
    · by_cases c3 : i < 36
      · have q := (h (i - 24) (by omega)).2.2.1
        rw [show 24 + (i - 24) = i by omega] at q
        rw [q, show 415 + i = 439 + (i - 24) by omega, kT_15 N (by omega)]
      · have q := (h (i - 36) (by omega)).2.2.2
        rw [show 36 + (i - 36) = i by omega] at q
        rw [q, show 415 + i = 451 + (i - 36) by omega, kT_16 N (by omega)]
theorem kT_c {M N : ZM} (e2 : M 0 2 = N 0 2) (e19 : M 0 19 = N 0 19) (a1 : M 1 = N 1) (a12 : M 12 = N 12) (a13 : M 13 = N 13) (a14 : M 14 = N 14) (a15 : M 15 = N 15) (a16 : M 16 = N 16) {i : Nat} (hi : (1 ≤ i ∧ i < 7) ∨ (271 ≤ i ∧ i < 463)) : kT M i = kT N i := by
  by_cases c1 : i < 3
  · have : i = 1 ∨ i = 2 := by omega
    rcases this with rfl | rfl
    · exact e2
    · exact e19
  · by_cases c2 : i < 7
    · obtain ⟨l, rfl⟩ : ∃ l, i = 3 + l := ⟨i - 3, by omega⟩
      rw [kT_1 M (by omega), kT_1 N (by omega), a1]
    · by_cases c3 : i < 415
      · obtain ⟨l, rfl⟩ : ∃ l, i = 271 + l := ⟨i - 271, by omega⟩
        rw [kT_12 M (by omega), kT_12 N (by omega), a12]
      · by_cases c4 : i < 427
        · obtain ⟨l, rfl⟩ : ∃ l, i = 415 + l := ⟨i - 415, by omega⟩
          rw [kT_13 M (by omega), kT_13 N (by omega), a13]
        · by_cases c5 : i < 439
          · obtain ⟨l, rfl⟩ : ∃ l, i = 427 + l := ⟨i - 427, by omega⟩
            rw [kT_14 M (by omega), kT_14 N (by omega), a14]
          · by_cases c6 : i < 451
            · obtain ⟨l, rfl⟩ : ∃ l, i = 439 + l := ⟨i - 439, by omega⟩
              rw [kT_15 M (by omega), kT_15 N (by omega), a15]
            · obtain ⟨l, rfl⟩ : ∃ l, i = 451 + l := ⟨i - 451, by omega⟩
              rw [kT_16 M (by omega), kT_16 N (by omega), a16]
theorem YK.to {f g : Nat → Int32} {b : Nat} {p : Plan} (h : YK f b p) (hp : Vp p.1 p.2) (e : ∀ r, r < 700 → g (b + r) = f (b + r)) : YK g b p := by
  obtain ⟨h1, h2, h3, h4⟩ := h
  obtain ⟨v1, v2, v3, v4⟩ := hp
  have e' : ∀ a r, a + r < 700 → g (b + a + r) = f (b + a + r) := fun a r hr => by rw [Nat.add_assoc]; exact e _ hr
  refine ⟨?_, fun i hi => ?_, fun l hl hn => ?_, fun t ht => ?_⟩
  · have := e 0 (by omega)
    rw [Nat.add_zero] at this; rw [this]; exact h1
  · have q := h2 i hi
    have q4 := (v4 i hi).2.2.2.2
    have q5 : (lnA p.2 i).1 < 4 := q4
    rw [e' 7 i (by omega), e' 11 _ (by omega), e' 15 _ (by omega), e' 19 _ (by omega), e' 23 _ (by omega), e' 27 _ (by omega)]
    exact q
  · rw [e' 11 l (by omega)]; exact h3 l hl hn
  · rw [e' 31 t (by omega), e' 111 t (by omega), e' 191 t (by omega)]; exact h4 t ht
theorem Pc.yk {M : ZM} {p : Plan} (h : Pc M p.1 p.2) (hp : Vp p.1 p.2) {g : Nat → Int32} {b : Nat} (e : ∀ r, r < 463 → g (b + r) = kT M r) : YK g b p := by
  obtain ⟨v1, v2, v3, v4⟩ := id hp
  have e' : ∀ a r, a + r < 463 → g (b + a + r) = kT M (a + r) := fun a r hr => by rw [Nat.add_assoc]; exact e _ hr
  refine ⟨?_, fun i hi => ?_, fun l hl hn => ?_, fun t ht => ?_⟩
  · have := e 0 (by omega)
    rw [Nat.add_zero] at this; rw [this]; exact h.1
  · obtain ⟨q1, q2, q3, q4', q5, q6⟩ := h.ln hi
    have q4 : (lnA p.2 i).1 < 4 := (v4 i hi).2.2.2.2
    rw [e' 7 i (by omega), e' 11 _ (by omega), e' 15 _ (by omega), e' 19 _ (by omega), e' 23 _ (by omega), e' 27 _ (by omega), kT_3 M (by omega), kT_4 M q4, kT_5 M q4, kT_6 M q4, kT_7 M q4, kT_8 M q4]
    exact ⟨q1, q2, q3, q4', q5, q6⟩
  · have q := h.2.1.2 l hl hn
    rw [Nat.zero_add] at q
    rw [e' 11 l (by omega), kT_4 M hl]; exact q
  · obtain ⟨q1, q2, q3⟩ := h.tm ht
    rw [e' 31 t (by omega), e' 111 t (by omega), e' 191 t (by omega), kT_9 M (by omega), kT_10 M (by omega), kT_11 M (by omega)]
    exact ⟨q1, q2, q3⟩
def S_X0_keep : ma_Cs := fun as M L K => match as with
  | [.ref k] => ∃ (x : St), (k = 0 ∧ J x ∧ RX M L x) ∧ (∀ (M' : ZM) (L' : ZL), RX M' L' (oKeep x).2 → K (some (.int (oKeep x).1)) M' L')
  | _ => False
theorem ms_X0_keep : ma_ms S_X0_keep := by
  intro as M L K K' hk h
  unfold S_X0_keep at h ⊢
  split at h
  · obtain ⟨x, h⟩ := h
    exact ⟨x, h.1, fun x0 x1 x2 => hk _ _ _ (h.2 x0 x1 x2)⟩
  · exact h.elim
theorem un_X0_keep {k : Nat} {M : ZM} {L : ZL} {K : ma_Kt} : S_X0_keep [.ref k] M L K = (∃ (x : St), (k = 0 ∧ J x ∧ RX M L x) ∧ (∀ (M' : ZM) (L' : ZL), RX M' L' (oKeep x).2 → K (some (.int (oKeep x).1)) M' L')) := rfl
theorem pw_X0_keep {k : Nat} {x : St} {M : ZM} {L : ZL} {K : ma_Kt} (hp : k = 0 ∧ J x ∧ RX M L x) (h : (∀ (M' : ZM) (L' : ZL), RX M' L' (oKeep x).2 → K (some (.int (oKeep x).1)) M' L')) : ma_rn (tb_X0_keep S_X4_keep) 1 [.ref k] M L K := by
  refine ⟨Nat.le_of_ble_eq_true rfl, fun V hV => ?_⟩
  obtain ⟨rfl, hJ, hR⟩ := hp
  obtain ⟨⟨c0, c5, c6, c7, c10, c19, c20, c25, c33⟩, ⟨a19, a1, a20, a21, a22, a23, a24, a34, a37, a38, a39⟩, ⟨k1, k2, k3, k4⟩, r4⟩ := id hR
  obtain ⟨km, e1, e2, e3⟩ := hJ.km
  unfold oKeep at h
  rw [e3, e1] at h
  rw [e1] at c33
  by_cases ck : km = 2
  · have z2 : nI km = 2 := by rw [ck]; rfl
    rw [if_pos z2] at h
    refine ma_walk (mo_X0_keep ms_X4_keep) hV [] (fun F hF => ?_)
    simp only [tb_X0_keep, hF, in_no, in_push, in_ild, in_lld, in_ald, in_ist, in_ast, in_lst, in_inc, in_iii, in_idv, in_ldv, in_lll, in_lli, in_lil, in_ii, in_il, in_li, in_ll, in_dup, in_dp2, q_if1, q_if2, in_go, in_sw, ma_sw, in_rv, in_ri, in_rz, in_rl, in_get, in_put, in_puz, in_iar, in_bar, in_lar, in_aar, in_iaw, in_baw, in_law, in_len, in_cpy, in_s1, in_s2, in_s3, in_v1, in_v2, in_v3, in_v4, in_v5, in_v6, ma_bk, ma_gl, ma_sl, ma_nl, ma_wc, ma_wd, ma_nn, ma_en, List.mem_cons, List.not_mem_nil, or_false, or_true, true_or, false_or, true_and, and_true, false_and, and_false, if_true, if_false, forall_const, true_implies, false_implies, not_true_eq_false, not_false_eq_true, Classical.not_not, implies_true, and_self, Nat.add_zero, Nat.zero_add, eq_self, ne_eq, reduceCtorEq, Nat.reduceLT, Nat.reduceLeDiff, Nat.reduceEqDiff, Nat.reduceSub, Nat.reduceAdd, i10, i01, im10, Int32.reduceLT, Int32.reduceLE, ↓reduceIte, reduceIte, up_r, uL_r, cp_r, Int32.toInt_toInt64, Int64.reduceToInt, Int32.reduceToInt, ↓b1_or, b1_0, b1_1, lc_lt, lc_le, lc_gt, lc_ge, lc_eq, yx_0, yx_1, yx_2, yx_3, yx_4, yx_5, yx_6, yx_7, yx_8, yx_9, yx_10, yx_11, yx_12, yx_13, yx_14, yx_15, yx_16, yx_17, yx_18, yx_19, yx_20, yx_21, yx_22, yx_23, yx_24, yx_25, yx_26, yx_27, yx_28, yx_29, yx_30, yx_31, yx_32, yx_33, yx_34, yx_35, yx_36, yx_37, yx_38, yx_39, yx_40, yx_41, yx_42, yx_43, yx_44, yx_45, yx_46, yx_47, yx_48, yx_49, yx_50, yx_51, yx_52, yx_53, yx_54, yx_55, yx_56, yx_57, yx_58, yx_59, yx_60, yx_61, yx_62, yx_63, yx_64, yx_65, yx_66, yx_67, yx_68, rx_0, rx_1, rx_2, rx_3, rx_4, rx_5, rx_6, rx_7, rx_8, rx_9, rx_10, rx_11, rx_12, rx_13, rx_14, rx_15, rx_16, rx_17, rx_18, rx_19, rx_20, rx_21, rx_22, rx_23, rx_24, rx_25, rx_26, rx_27, rx_28, rx_29, rx_30, rx_31, rx_32, rx_33, rp_0, rp_1, rp_2, rp_3, rp_4, rp_5, rp_6, rp_7, rp_8, rs_0, rs_1, rs_2, rs_3, rs_4, re_0, re_1, re_2, re_3, re_4, re_5, rr_0, rr_1, rr_2, rr_3, rr_4, rk_0, rk_1, isP3, isP11, isP46, isP58, isS25, isS28, isS31, un_X4_keep, c33, z2]
    try simp only [iteP, Classical.not_not, b1_0, b1_1]
    exact h M L hR
  · have z2 : ¬ nI km = 2 := fun y => ck (by
      have z := congrArg Int32.toInt y
      rw [a_ti (by omega), show (2 : Int32).toInt = 2 from rfl] at z; omega)
    rw [if_neg z2] at h
    have ck2 : km = 0 ∨ km = 1 := by omega
    have lk := hJ.2.2.1.1.1
    have v1 : vp_in (nI km) 2 := vp_in_nI (by omega) (by decide)
    have v2 := a_cl (show km < 2147483648 by omega)
    have v3 : rKp km = some (45 + 12 * km) := by rcases ck2 with rfl | rfl <;> rfl
    have v4 : (YX (45 + 12 * km)).1 = 0 := by rcases ck2 with rfl | rfl <;> rfl
    have v5 : (YX (45 + 12 * km)).2.1 = 4 := by rcases ck2 with rfl | rfl <;> rfl
    refine ma_walk (mo_X0_keep ms_X4_keep) hV [] (fun F hF => ?_)
    simp only [tb_X0_keep, hF, in_no, in_push, in_ild, in_lld, in_ald, in_ist, in_ast, in_lst, in_inc, in_iii, in_idv, in_ldv, in_lll, in_lli, in_lil, in_ii, in_il, in_li, in_ll, in_dup, in_dp2, q_if1, q_if2, in_go, in_sw, ma_sw, in_rv, in_ri, in_rz, in_rl, in_get, in_put, in_puz, in_iar, in_bar, in_lar, in_aar, in_iaw, in_baw, in_law, in_len, in_cpy, in_s1, in_s2, in_s3, in_v1, in_v2, in_v3, in_v4, in_v5, in_v6, ma_bk, ma_gl, ma_sl, ma_nl, ma_wc, ma_wd, ma_nn, ma_en, List.mem_cons, List.not_mem_nil, or_false, or_true, true_or, false_or, true_and, and_true, false_and, and_false, if_true, if_false, forall_const, true_implies, false_implies, not_true_eq_false, not_false_eq_true, Classical.not_not, implies_true, and_self, Nat.add_zero, Nat.zero_add, eq_self, ne_eq, reduceCtorEq, Nat.reduceLT, Nat.reduceLeDiff, Nat.reduceEqDiff, Nat.reduceSub, Nat.reduceAdd, i10, i01, im10, Int32.reduceLT, Int32.reduceLE, ↓reduceIte, reduceIte, up_r, uL_r, cp_r, Int32.toInt_toInt64, Int64.reduceToInt, Int32.reduceToInt, ↓b1_or, b1_0, b1_1, lc_lt, lc_le, lc_gt, lc_ge, lc_eq, yx_0, yx_1, yx_2, yx_3, yx_4, yx_5, yx_6, yx_7, yx_8, yx_9, yx_10, yx_11, yx_12, yx_13, yx_14, yx_15, yx_16, yx_17, yx_18, yx_19, yx_20, yx_21, yx_22, yx_23, yx_24, yx_25, yx_26, yx_27, yx_28, yx_29, yx_30, yx_31, yx_32, yx_33, yx_34, yx_35, yx_36, yx_37, yx_38, yx_39, yx_40, yx_41, yx_42, yx_43, yx_44, yx_45, yx_46, yx_47, yx_48, yx_49, yx_50, yx_51, yx_52, yx_53, yx_54, yx_55, yx_56, yx_57, yx_58, yx_59, yx_60, yx_61, yx_62, yx_63, yx_64, yx_65, yx_66, yx_67, yx_68, rx_0, rx_1, rx_2, rx_3, rx_4, rx_5, rx_6, rx_7, rx_8, rx_9, rx_10, rx_11, rx_12, rx_13, rx_14, rx_15, rx_16, rx_17, rx_18, rx_19, rx_20, rx_21, rx_22, rx_23, rx_24, rx_25, rx_26, rx_27, rx_28, rx_29, rx_30, rx_31, rx_32, rx_33, rp_0, rp_1, rp_2, rp_3, rp_4, rp_5, rp_6, rp_7, rp_8, rs_0, rs_1, rs_2, rs_3, rs_4, re_0, re_1, re_2, re_3, re_4, re_5, rr_0, rr_1, rr_2, rr_3, rr_4, rk_0, rk_1, isP3, isP11, isP46, isP58, isS25, isS28, isS31, un_X4_keep, c33, z2, v1, v2, v3, v4, v5]
    try simp only [iteP, Classical.not_not, b1_0, b1_1]
    refine ⟨km, (sp x).1, (sp x).2, ⟨by omega, rfl, k1, lk.1, lk.2.1, k3⟩, fun M2 p1 p2 p3 p4 p5 p6 p7 p8 => ?_⟩
    have m0 : M2 0 = M 0 := p1 0 (by omega)
    rw [m0, c33, show nI km + 1 = nI (km + 1) by rw [show (1 : Int32) = nI 1 from rfl, nI_add]]
    have f0 : ∀ j, j ≠ 33 → ma_up M2 0 33 (nI (km + 1)) 0 j = M 0 j := fun j hj => by
      rw [up_r, if_neg (fun y => hj y.2), m0]
    have fa : ∀ a, a ≠ 0 → a < 45 ∨ (45 + 12 * km ≤ a ∧ a ≤ 56 + 12 * km) ∨ 45 ≤ a → ma_up M2 0 33 (nI (km + 1)) a = M2 a := fun a h0 _ => up_c h0
    have e0 : ∀ j, j ≠ 30 → sN (nKeep x km) 0 j = sN x 0 j := fun j hj => by
      show ma_up (kN (sN x) km) 0 30 (nI (km + 1)) 0 j = _
      rw [up_r, if_neg (fun y => hj y.2), kN_c (by decide)]
    have ec : ∀ a, a ≠ 0 → a ≠ 21 → sN (nKeep x km) a = sN x a := fun a y1 y2 => (up_c (M := kN (sN x) km) (j := 30) (v := nI (km + 1)) y1).trans (kN_c y2)
    have e21 : sN (nKeep x km) 21 = kN (sN x) km 21 := up_c (M := kN (sN x) km) (k := 0) (j := 30) (v := nI (km + 1)) (a := 21) (by decide)
    have fl : ∀ a, a ≠ 0 → a < 45 + 12 * km ∨ 56 + 12 * km < a → ma_up M2 0 33 (nI (km + 1)) a = M a := fun a y1 y2 => (up_c y1).trans (p1 a y2)
    have hq := hv_c (x := x) (y := nKeep x km) (e0 0 (by decide)) (e0 1 (by decide)) (e0 2 (by decide)) (e0 19 (by decide)) (ec 1 (by decide) (by decide)) (ec 12 (by decide) (by decide)) (ec 13 (by decide) (by decide)) (ec 14 (by decide) (by decide)) (ec 15 (by decide) (by decide)) (ec 16 (by decide) (by decide)) rfl
    refine h _ L ⟨⟨?_, ?_, ?_, ?_, ?_, ?_, ?_, ?_, ?_⟩, ⟨?_, ?_, ?_, ?_, ?_, ?_, ?_, ?_, ?_, ?_, ?_⟩, ⟨?_, ?_, ?_, fun k hk => ?_⟩, ?_⟩
    · rw [f0 0 (by decide), e0 5 (by decide)]; exact c0
    · rw [f0 5 (by decide), e0 0 (by decide)]; exact c5
    · rw [f0 6 (by decide), e0 1 (by decide)]; exact c6
    · rw [f0 7 (by decide), e0 2 (by decide)]; exact c7
    · rw [f0 10 (by decide), e0 19 (by decide)]; exact c10
    · rw [f0 19 (by decide), e0 24 (by decide)]; exact c19
    · rw [f0 20 (by decide), e0 25 (by decide)]; exact c20
    · rw [f0 25 (by decide), e0 3 (by decide)]; exact c25
    · show _ = ma_up (kN (sN x) km) 0 30 (nI (km + 1)) 0 30
      rw [up_r, up_r, if_pos ⟨rfl, rfl⟩, if_pos ⟨rfl, rfl⟩]
    · rw [fl 19 (by decide) (by omega), ec 1 (by decide) (by decide)]; exact a19
    · rw [fl 1 (by decide) (by omega), ec 2 (by decide) (by decide)]; exact a1
    · rw [fl 20 (by decide) (by omega), ec 12 (by decide) (by decide)]; exact a20
    · rw [fl 21 (by decide) (by omega), ec 13 (by decide) (by decide)]; exact a21
    · rw [fl 22 (by decide) (by omega), ec 14 (by decide) (by decide)]; exact a22
    · rw [fl 23 (by decide) (by omega), ec 15 (by decide) (by decide)]; exact a23
    · rw [fl 24 (by decide) (by omega), ec 16 (by decide) (by decide)]; exact a24
    · exact a34
    · rw [fl 37 (by decide) (by omega), ec 18 (by decide) (by decide)]; exact a37
    · rw [fl 38 (by decide) (by omega), ec 19 (by decide) (by decide)]; exact a38
    · rw [fl 39 (by decide) (by omega), ec 20 (by decide) (by decide)]; exact a39
    · exact k1.to (fun a y1 y2 => fl a (by omega) (by omega))
    · rw [fl 7 (by decide) (by omega)]; exact k2
    · rw [fl 15 (by decide) (by omega)]; exact k3
    · show Xk1 _ _ k (if k = km then sp x else sk x k)
      by_cases z : k = km
      · subst z
        rw [if_pos rfl]
        have zz := fun r (hr : r < 700) => kN_in (N := sN x) (k := k) hr
        refine ⟨p2.to (fun a y1 y2 => up_c (by omega)), ?_, ?_, ?_, fun l hl => ?_, fun l hl => ?_, fun l hl => ?_⟩
        · rw [up_c (by omega)]; exact p3
        · rw [up_c (by omega), e21, zz 2 (by omega), p4, c10]; rfl
        · rw [up_c (by omega), e21, zz 1 (by omega), p5, c7]; rfl
        · rw [up_c (by omega), e21, Nat.add_assoc, zz (3 + l) (by omega), kT_1 _ hl, p6 l hl, a19]
        · rw [up_c (by omega), e21, Nat.add_assoc, zz (271 + l) (by omega), kT_12 _ hl, p7 l hl, a20]
        · rw [up_c (by omega), e21, Nat.add_assoc, zz (415 + l) (by omega)]
          refine sl48 (b := 0) (fun i hi => ?_) l hl
          rw [← a21, ← a22, ← a23, ← a24]; exact p8 i hi
      · rw [if_neg z]
        exact (k4 k hk).to2 (fun a y1 y2 => fl a (by omega) (by omega)) (fun r hr => by rw [e21]; exact kN_out (by omega))
    · rw [f0 15 (by decide)]
      rcases r4 with y | ⟨y, q1, q2, q3, q4, q5⟩
      · exact Or.inl y
      · refine Or.inr ⟨y, ?_⟩
        unfold Xh
        rw [fl 25 (by decide) (by omega), fl 26 (by decide) (by omega), fl 28 (by decide) (by omega), fl 29 (by decide) (by omega), fl 30 (by decide) (by omega), e0 0 (by decide), e0 1 (by decide), hq.1, hq.2]
        exact ⟨q1, q2, q3, q4, q5⟩
theorem pv_X0_keep : ∀ as M L K, S_X0_keep as M L K → ma_rn (tb_X0_keep S_X4_keep) 1 as M L K := by
  intro as M L K h
  unfold S_X0_keep at h
  split at h
  · obtain ⟨x, h⟩ := h; exact pw_X0_keep h.1 h.2
  · exact h.elim
def S_X5_keep : ma_Cs := fun as M L K => match as with
  | [.ref k] => ∃ (x : St), (k = 0 ∧ J x ∧ RY M L x) ∧ (∀ (M' : ZM) (L' : ZL), RY M' L' (oKeep x).2 → K (some (.int (oKeep x).1)) M' L')
  | _ => False
theorem ms_X5_keep : ma_ms S_X5_keep := by
  intro as M L K K' hk h
  unfold S_X5_keep at h ⊢
  split at h
  · obtain ⟨x, h⟩ := h
    exact ⟨x, h.1, fun x0 x1 x2 => hk _ _ _ (h.2 x0 x1 x2)⟩
  · exact h.elim
theorem un_X5_keep {k : Nat} {M : ZM} {L : ZL} {K : ma_Kt} : S_X5_keep [.ref k] M L K = (∃ (x : St), (k = 0 ∧ J x ∧ RY M L x) ∧ (∀ (M' : ZM) (L' : ZL), RY M' L' (oKeep x).2 → K (some (.int (oKeep x).1)) M' L')) := rfl
theorem pw_X5_keep {k : Nat} {x : St} {M : ZM} {L : ZL} {K : ma_Kt} (hp : k = 0 ∧ J x ∧ RY M L x) (h : (∀ (M' : ZM) (L' : ZL), RY M' L' (oKeep x).2 → K (some (.int (oKeep x).1)) M' L')) : ma_rn (tb_X5_keep S_X5_moveAll) 1 [.ref k] M L K := by
  refine ⟨Nat.le_of_ble_eq_true rfl, fun V hV => ?_⟩
  obtain ⟨rfl, hJ, hR⟩ := hp
  obtain ⟨km, e1, e2, e3⟩ := hJ.km
  have c30 := hR.1.2.2.2.2.2.2.2.2
  unfold oKeep at h
  rw [e3, e1] at h
  rw [e1] at c30
  by_cases ck : km = 2
  · have z2 : nI km = 2 := by rw [ck]; rfl
    rw [if_pos z2] at h
    refine ma_walk (mo_X5_keep ms_X5_moveAll) hV [] (fun F hF => ?_)
    simp only [tb_X5_keep, hF, in_no, in_push, in_ild, in_lld, in_ald, in_ist, in_ast, in_lst, in_inc, in_iii, in_idv, in_ldv, in_lll, in_lli, in_lil, in_ii, in_il, in_li, in_ll, in_dup, in_dp2, q_if1, q_if2, in_go, in_sw, ma_sw, in_rv, in_ri, in_rz, in_rl, in_get, in_put, in_puz, in_iar, in_bar, in_lar, in_aar, in_iaw, in_baw, in_law, in_len, in_cpy, in_s1, in_s2, in_s3, in_v1, in_v2, in_v3, in_v4, in_v5, in_v6, ma_bk, ma_gl, ma_sl, ma_nl, ma_wc, ma_wd, ma_nn, ma_en, List.mem_cons, List.not_mem_nil, or_false, or_true, true_or, false_or, true_and, and_true, false_and, and_false, if_true, if_false, forall_const, true_implies, false_implies, not_true_eq_false, not_false_eq_true, Classical.not_not, implies_true, and_self, Nat.add_zero, Nat.zero_add, eq_self, ne_eq, reduceCtorEq, Nat.reduceLT, Nat.reduceLeDiff, Nat.reduceEqDiff, Nat.reduceSub, Nat.reduceAdd, i10, i01, im10, Int32.reduceLT, Int32.reduceLE, ↓reduceIte, reduceIte, up_r, uL_r, cp_r, Int32.toInt_toInt64, Int64.reduceToInt, Int32.reduceToInt, ↓b1_or, b1_0, b1_1, lc_lt, lc_le, lc_gt, lc_ge, lc_eq, ym_0, ym_1, ym_2, ym_3, ym_4, ym_5, ym_6, ym_7, ym_8, ym_9, ym_10, ym_11, ym_12, ym_13, ym_14, ym_15, ym_16, ym_17, ym_18, ym_19, ym_20, ym_21, ym_22, ym_23, ym_24, ym_25, ym_26, ym_27, ym_28, ym_29, ym_30, rm__0, rm__1, rm__2, rm__3, rm__4, rm__5, rm__6, rm__7, rm__8, rm__9, rm__10, rm__11, rm__12, rm__13, rm__14, rm__15, rm__16, rm__17, rm__18, rm__19, rm__20, rm__21, rm__22, rm__23, rm__24, rm__25, rm__26, rm__27, rm__28, rm__29, rm__30, rm__31, rm__32, rm__33, rm__34, rm__35, rm__36, rm__37, rm__38, rm__39, rm__40, rm__41, rm__42, rm__43, rm__44, rm__45, un_X5_moveAll, c30, z2]
    try simp only [iteP, Classical.not_not, b1_0, b1_1]
    exact h M L hR
  · have z2 : ¬ nI km = 2 := fun y => ck (by
      have z := congrArg Int32.toInt y
      rw [a_ti (by omega), show (2 : Int32).toInt = 2 from rfl] at z; omega)
    rw [if_neg z2] at h
    refine ma_walk (mo_X5_keep ms_X5_moveAll) hV [] (fun F hF => ?_)
    simp only [tb_X5_keep, hF, in_no, in_push, in_ild, in_lld, in_ald, in_ist, in_ast, in_lst, in_inc, in_iii, in_idv, in_ldv, in_lll, in_lli, in_lil, in_ii, in_il, in_li, in_ll, in_dup, in_dp2, q_if1, q_if2, in_go, in_sw, ma_sw, in_rv, in_ri, in_rz, in_rl, in_get, in_put, in_puz, in_iar, in_bar, in_lar, in_aar, in_iaw, in_baw, in_law, in_len, in_cpy, in_s1, in_s2, in_s3, in_v1, in_v2, in_v3, in_v4, in_v5, in_v6, ma_bk, ma_gl, ma_sl, ma_nl, ma_wc, ma_wd, ma_nn, ma_en, List.mem_cons, List.not_mem_nil, or_false, or_true, true_or, false_or, true_and, and_true, false_and, and_false, if_true, if_false, forall_const, true_implies, false_implies, not_true_eq_false, not_false_eq_true, Classical.not_not, implies_true, and_self, Nat.add_zero, Nat.zero_add, eq_self, ne_eq, reduceCtorEq, Nat.reduceLT, Nat.reduceLeDiff, Nat.reduceEqDiff, Nat.reduceSub, Nat.reduceAdd, i10, i01, im10, Int32.reduceLT, Int32.reduceLE, ↓reduceIte, reduceIte, up_r, uL_r, cp_r, Int32.toInt_toInt64, Int64.reduceToInt, Int32.reduceToInt, ↓b1_or, b1_0, b1_1, lc_lt, lc_le, lc_gt, lc_ge, lc_eq, ym_0, ym_1, ym_2, ym_3, ym_4, ym_5, ym_6, ym_7, ym_8, ym_9, ym_10, ym_11, ym_12, ym_13, ym_14, ym_15, ym_16, ym_17, ym_18, ym_19, ym_20, ym_21, ym_22, ym_23, ym_24, ym_25, ym_26, ym_27, ym_28, ym_29, ym_30, rm__0, rm__1, rm__2, rm__3, rm__4, rm__5, rm__6, rm__7, rm__8, rm__9, rm__10, rm__11, rm__12, rm__13, rm__14, rm__15, rm__16, rm__17, rm__18, rm__19, rm__20, rm__21, rm__22, rm__23, rm__24, rm__25, rm__26, rm__27, rm__28, rm__29, rm__30, rm__31, rm__32, rm__33, rm__34, rm__35, rm__36, rm__37, rm__38, rm__39, rm__40, rm__41, rm__42, rm__43, rm__44, rm__45, un_X5_moveAll, c30, z2]
    try simp only [iteP, Classical.not_not, b1_0, b1_1]
    refine ⟨km, ⟨rfl, by omega⟩, ?_⟩
    intro M2 ⟨i1, i2, i3⟩
    obtain ⟨⟨c0, c1, c2, c3, c5, c19, c24, c25, c30'⟩, ⟨a1, a2, a12, a13, a14, a15, a16, a17, a18, a19, a20⟩, r3, r4, r5⟩ := id hR
    have lk := hJ.2.2.1.1.1
    have m0 : M2 0 = M 0 := i1 0 (by decide)
    rw [m0, c30, show nI km + 1 = nI (km + 1) by rw [show (1 : Int32) = nI 1 from rfl, nI_add]]
    have f0 : ∀ j, j ≠ 30 → ma_up M2 0 30 (nI (km + 1)) 0 j = M 0 j := fun j hj => by
      rw [up_r, if_neg (fun y => hj y.2), m0]
    have e0 : ∀ j, j ≠ 30 → sN (nKeep x km) 0 j = sN x 0 j := fun j hj => by
      show ma_up (kN (sN x) km) 0 30 (nI (km + 1)) 0 j = _
      rw [up_r, if_neg (fun y => hj y.2), kN_c (by decide)]
    have e30 : sN (nKeep x km) 0 30 = nI (km + 1) := by
      show ma_up (kN (sN x) km) 0 30 (nI (km + 1)) 0 30 = _
      rw [up_r, if_pos ⟨rfl, rfl⟩]
    have ec : ∀ a, a ≠ 0 → a ≠ 21 → sN (nKeep x km) a = sN x a := fun a y1 y2 => (up_c (M := kN (sN x) km) (j := 30) (v := nI (km + 1)) y1).trans (kN_c y2)
    have e21 : sN (nKeep x km) 21 = kN (sN x) km 21 := up_c (M := kN (sN x) km) (k := 0) (j := 30) (v := nI (km + 1)) (a := 21) (by decide)
    have fl : ∀ a, a ≠ 0 → a ≠ 21 → ma_up M2 0 30 (nI (km + 1)) a = M a := fun a y1 y2 => (up_c y1).trans (i1 a y2)
    have f21 : ma_up M2 0 30 (nI (km + 1)) 21 = M2 21 := up_c (by decide)
    refine h _ L ⟨⟨?_, ?_, ?_, ?_, ?_, ?_, ?_, ?_, ?_⟩, ⟨?_, ?_, ?_, ?_, ?_, ?_, ?_, ?_, ?_, ?_, ?_⟩, r3.to (f0 7 (by decide)) (fun a y1 y2 => fl a (by omega) (by omega)), ?_, ?_⟩
    · rw [f0 0 (by decide), e0 0 (by decide)]; exact c0
    · rw [f0 1 (by decide), e0 1 (by decide)]; exact c1
    · rw [f0 2 (by decide), e0 2 (by decide)]; exact c2
    · rw [f0 3 (by decide), e0 3 (by decide)]; exact c3
    · rw [f0 5 (by decide), e0 5 (by decide)]; exact c5
    · rw [f0 19 (by decide), e0 19 (by decide)]; exact c19
    · rw [f0 24 (by decide), e0 24 (by decide)]; exact c24
    · rw [f0 25 (by decide), e0 25 (by decide)]; exact c25
    · rw [e30, up_r, if_pos ⟨rfl, rfl⟩]
    · rw [fl 1 (by decide) (by decide), ec 1 (by decide) (by decide)]; exact a1
    · rw [fl 2 (by decide) (by decide), ec 2 (by decide) (by decide)]; exact a2
    · rw [fl 12 (by decide) (by decide), ec 12 (by decide) (by decide)]; exact a12
    · rw [fl 13 (by decide) (by decide), ec 13 (by decide) (by decide)]; exact a13
    · rw [fl 14 (by decide) (by decide), ec 14 (by decide) (by decide)]; exact a14
    · rw [fl 15 (by decide) (by decide), ec 15 (by decide) (by decide)]; exact a15
    · rw [fl 16 (by decide) (by decide), ec 16 (by decide) (by decide)]; exact a16
    · exact a17
    · rw [fl 18 (by decide) (by decide), ec 18 (by decide) (by decide)]; exact a18
    · rw [fl 19 (by decide) (by decide), ec 19 (by decide) (by decide)]; exact a19
    · rw [fl 20 (by decide) (by decide), ec 20 (by decide) (by decide)]; exact a20
    · unfold B24; rw [fl 24 (by decide) (by decide)]; exact r4
    · show Yk _ _ (sk (nKeep x km)) (nat (sN (nKeep x km) 0 30))
      rw [e30, show nat (nI (km + 1)) = km + 1 from a_cl (by omega)]
      intro k hk
      rw [f21, e21]
      show YK _ _ (if k = km then sp x else sk x k) ∧ _
      by_cases z : k = km
      · subst z
        rw [if_pos rfl]
        refine ⟨r3.yk lk (fun r hr => i2 r (by omega) hr), fun i hi => ?_⟩
        rw [i2 i (by omega) (by omega), kN_in (by omega)]
        exact kT_c (c2) (c19) a1 a12 a13 a14 a15 a16 hi
      · rw [if_neg z]
        have hk' : k < km := by omega
        have jk := hJ.2.2.2 k (by omega)
        rw [e3] at r5
        have q := r5 k hk'
        have oo : ∀ r, r < 700 → M2 21 (700 * k + r) = M 21 (700 * k + r) := fun r hr => i3 _ (by omega)
        refine ⟨q.1.to jk.1.1.1 oo, fun i hi => ?_⟩
        rw [oo i (by omega), kN_out (by omega)]; exact q.2 i hi
theorem pv_X5_keep : ∀ as M L K, S_X5_keep as M L K → ma_rn (tb_X5_keep S_X5_moveAll) 1 as M L K := by
  intro as M L K h
  unfold S_X5_keep at h
  split at h
  · obtain ⟨x, h⟩ := h; exact pw_X5_keep h.1 h.2
  · exact h.elim
/-! op: back -/
def bN (N : ZM) (k : Nat) : ZM := fun a => if a = 0 then upd (upd (upd (N 0) 2 (N 21 (700 * k + 1))) 19 (N 21 (700 * k + 2))) 30 (nI k) else if a = 1 ∨ (12 ≤ a ∧ a ≤ 16) then kU (N a) (N 21) k (ba a) (kp3 12 a) else N a
theorem bN_c {N : ZM} {k a : Nat} (h0 : a ≠ 0) (h1 : ¬ (a = 1 ∨ (12 ≤ a ∧ a ≤ 16))) : bN N k a = N a := by unfold bN; rw [if_neg h0, if_neg h1]
theorem bN_0 {N : ZM} {k j : Nat} (h2 : j ≠ 2) (h19 : j ≠ 19) (h30 : j ≠ 30) : bN N k 0 j = N 0 j := by
  unfold bN; rw [if_pos rfl, pk_un h30, pk_un h19, pk_un h2]
def nBack (x : St) (k : Nat) : St := (bN (sN x) k, sP x, sk x k, sk x)
def oBack (x : St) : Int32 × St := if sN x 0 30 = 0 then (-2, x) else (nI (nat (sN x 0 30) - 1), nBack x (nat (sN x 0 30) - 1))
theorem J_back {x : St} (h : J x) : J (oBack x).2 := by
  unfold oBack
  split
  · exact h
  · next c =>
    obtain ⟨⟨w, u, e, wk, n, ns, a, b, km, h1, h2, h3, h4, h5, h6, h7, h8, h9, g1, g2, g3, g4, g5, g6, g7, g8, g9, f1, f2⟩, ja, jp, jk⟩ := h
    have nk : nat (sN x 0 30) = km := by unfold nat; rw [h9, a_cl (by omega)]
    have km2 : km ≠ 0 := fun y => c (by rw [h9, y]; rfl)
    show J (nBack x (nat (sN x 0 30) - 1))
    rw [nk]
    obtain ⟨k, rfl⟩ : ∃ k, km = k + 1 := ⟨km - 1, by omega⟩
    rw [Nat.add_sub_cancel]
    obtain ⟨j1, ⟨e', n', j2, j3, j4, j5⟩, ⟨j6, j7⟩, j8⟩ := jk k (by omega)
    refine ⟨⟨w, u, e', wk, n, n', a, b, k, (bN_0 (N := sN x) (k := k) (by decide) (by decide) (by decide)).trans h1, (bN_0 (N := sN x) (k := k) (by decide) (by decide) (by decide)).trans h2, ?_, (bN_0 (N := sN x) (k := k) (by decide) (by decide) (by decide)).trans h4, (bN_0 (N := sN x) (k := k) (by decide) (by decide) (by decide)).trans h5, ?_, (bN_0 (N := sN x) (k := k) (by decide) (by decide) (by decide)).trans h7, (bN_0 (N := sN x) (k := k) (by decide) (by decide) (by decide)).trans h8, ?_, g1, g2, g3, g4, j3, g6, g7, j5, g9, f1, by omega⟩, ⟨?_, ⟨fun l hl => ?_, fun l hl => ?_⟩, fun l hl => ?_, ?_, ?_⟩, j1, fun k' hk' => ?_⟩
    · show bN (sN x) k 0 2 = _
      unfold bN; rw [if_pos rfl, pk_un (by decide), pk_un (by decide), pk_us]; exact j2
    · show bN (sN x) k 0 19 = _
      unfold bN; rw [if_pos rfl, pk_un (by decide), pk_us]; exact j4
    · show bN (sN x) k 0 30 = _
      unfold bN; rw [if_pos rfl, pk_us]
    · exact ja.1
    · show -1000000 ≤ (kU (sN x 1) (sN x 21) k 3 4 l).toInt ∧ (kU (sN x 1) (sN x 21) k 3 4 l).toInt ≤ 1000000
      unfold kU; rw [if_pos hl, ← Nat.add_assoc]; exact j6 l hl
    · show kU (sN x 12) (sN x 21) k 271 144 l = 2000000 ∨ (-1000000 ≤ (kU (sN x 12) (sN x 21) k 271 144 l).toInt ∧ (kU (sN x 12) (sN x 21) k 271 144 l).toInt ≤ 1000000)
      unfold kU; rw [if_pos hl, ← Nat.add_assoc]; exact j7 l hl
    · show -1000000 ≤ (kU (sN x 16) (sN x 21) k 451 12 l).toInt ∧ (kU (sN x 16) (sN x 21) k 451 12 l).toInt ≤ 1000000
      unfold kU; rw [if_pos hl, ← Nat.add_assoc]; exact j8 l hl
    · exact ja.2.2.2.1
    · exact ja.2.2.2.2
    · exact jk k' hk'
theorem kU_c {f f' g g' : Nat → Int32} {q b j : Nat} (e : f = f') (h : ∀ i, i < j → g (700 * q + (b + i)) = g' (700 * q + (b + i))) : kU f g q b j = kU f' g' q b j := by
  subst e
  funext i
  unfold kU
  by_cases c : i < j
  · rw [if_pos c, if_pos c, h i c]
  · rw [if_neg c, if_neg c]
theorem kU_i {f g h' : Nat → Int32} {q b j : Nat} (h : ∀ i, i < j → h' i = g (700 * q + (b + i))) : (fun i => if i < j then h' i else f i) = kU f g q b j := by
  funext i
  unfold kU
  by_cases c : i < j
  · rw [if_pos c, if_pos c, h i c]
  · rw [if_neg c, if_neg c]
def S_X0_back : ma_Cs := fun as M L K => match as with
  | [.ref k] => ∃ (x : St), (k = 0 ∧ J x ∧ RX M L x) ∧ (∀ (M' : ZM) (L' : ZL), RX M' L' (oBack x).2 → K (some (.int (oBack x).1)) M' L')
  | _ => False
theorem ms_X0_back : ma_ms S_X0_back := by
  intro as M L K K' hk h
  unfold S_X0_back at h ⊢
  split at h
  · obtain ⟨x, h⟩ := h
    exact ⟨x, h.1, fun x0 x1 x2 => hk _ _ _ (h.2 x0 x1 x2)⟩
  · exact h.elim
theorem un_X0_back {k : Nat} {M : ZM} {L : ZL} {K : ma_Kt} : S_X0_back [.ref k] M L K = (∃ (x : St), (k = 0 ∧ J x ∧ RX M L x) ∧ (∀ (M' : ZM) (L' : ZL), RX M' L' (oBack x).2 → K (some (.int (oBack x).1)) M' L')) := rfl
theorem pw_X0_back {k : Nat} {x : St} {M : ZM} {L : ZL} {K : ma_Kt} (hp : k = 0 ∧ J x ∧ RX M L x) (h : (∀ (M' : ZM) (L' : ZL), RX M' L' (oBack x).2 → K (some (.int (oBack x).1)) M' L')) : ma_rn (tb_X0_back S_X4_back) 1 [.ref k] M L K := by
  refine ⟨Nat.le_of_ble_eq_true rfl, fun V hV => ?_⟩
  obtain ⟨rfl, hJ, hR⟩ := hp
  obtain ⟨⟨c0, c5, c6, c7, c10, c19, c20, c25, c33⟩, ⟨a19, a1, a20, a21, a22, a23, a24, a34, a37, a38, a39⟩, ⟨k1, k2, k3, k4⟩, r4⟩ := id hR
  obtain ⟨km, e1, e2, e3⟩ := hJ.km
  unfold oBack at h
  rw [e3, e1] at h
  rw [e1] at c33
  by_cases ck : km = 0
  · have z2 : nI km = 0 := by rw [ck]; rfl
    rw [if_pos z2] at h
    refine ma_walk (mo_X0_back ms_X4_back) hV [] (fun F hF => ?_)
    simp only [tb_X0_back, hF, in_no, in_push, in_ild, in_lld, in_ald, in_ist, in_ast, in_lst, in_inc, in_iii, in_idv, in_ldv, in_lll, in_lli, in_lil, in_ii, in_il, in_li, in_ll, in_dup, in_dp2, q_if1, q_if2, in_go, in_sw, ma_sw, in_rv, in_ri, in_rz, in_rl, in_get, in_put, in_puz, in_iar, in_bar, in_lar, in_aar, in_iaw, in_baw, in_law, in_len, in_cpy, in_s1, in_s2, in_s3, in_v1, in_v2, in_v3, in_v4, in_v5, in_v6, ma_bk, ma_gl, ma_sl, ma_nl, ma_wc, ma_wd, ma_nn, ma_en, List.mem_cons, List.not_mem_nil, or_false, or_true, true_or, false_or, true_and, and_true, false_and, and_false, if_true, if_false, forall_const, true_implies, false_implies, not_true_eq_false, not_false_eq_true, Classical.not_not, implies_true, and_self, Nat.add_zero, Nat.zero_add, eq_self, ne_eq, reduceCtorEq, Nat.reduceLT, Nat.reduceLeDiff, Nat.reduceEqDiff, Nat.reduceSub, Nat.reduceAdd, i10, i01, im10, Int32.reduceLT, Int32.reduceLE, ↓reduceIte, reduceIte, up_r, uL_r, cp_r, Int32.toInt_toInt64, Int64.reduceToInt, Int32.reduceToInt, ↓b1_or, b1_0, b1_1, lc_lt, lc_le, lc_gt, lc_ge, lc_eq, yx_0, yx_1, yx_2, yx_3, yx_4, yx_5, yx_6, yx_7, yx_8, yx_9, yx_10, yx_11, yx_12, yx_13, yx_14, yx_15, yx_16, yx_17, yx_18, yx_19, yx_20, yx_21, yx_22, yx_23, yx_24, yx_25, yx_26, yx_27, yx_28, yx_29, yx_30, yx_31, yx_32, yx_33, yx_34, yx_35, yx_36, yx_37, yx_38, yx_39, yx_40, yx_41, yx_42, yx_43, yx_44, yx_45, yx_46, yx_47, yx_48, yx_49, yx_50, yx_51, yx_52, yx_53, yx_54, yx_55, yx_56, yx_57, yx_58, yx_59, yx_60, yx_61, yx_62, yx_63, yx_64, yx_65, yx_66, yx_67, yx_68, rx_0, rx_1, rx_2, rx_3, rx_4, rx_5, rx_6, rx_7, rx_8, rx_9, rx_10, rx_11, rx_12, rx_13, rx_14, rx_15, rx_16, rx_17, rx_18, rx_19, rx_20, rx_21, rx_22, rx_23, rx_24, rx_25, rx_26, rx_27, rx_28, rx_29, rx_30, rx_31, rx_32, rx_33, rp_0, rp_1, rp_2, rp_3, rp_4, rp_5, rp_6, rp_7, rp_8, rs_0, rs_1, rs_2, rs_3, rs_4, re_0, re_1, re_2, re_3, re_4, re_5, rr_0, rr_1, rr_2, rr_3, rr_4, rk_0, rk_1, isP3, isP11, isP46, isP58, isS25, isS28, isS31, un_X4_back, c33, z2]
    try simp only [iteP, Classical.not_not, b1_0, b1_1]
    exact h M L hR
  · have z2 : ¬ nI km = 0 := by rw [a_eq0 (by omega)]; exact ck
    rw [if_neg z2] at h
    obtain ⟨q, rfl⟩ : ∃ k, km = k + 1 := ⟨km - 1, by omega⟩
    rw [Nat.add_sub_cancel] at h
    have ck2 : q = 0 ∨ q = 1 := by omega
    have lk := (hJ.2.2.2 q (by omega)).1.1.1
    have v0 : nI (q + 1) - 1 = nI q := nI_pred q
    have v1 : vp_in (nI q) 2 := vp_in_nI (by omega) (by decide)
    have v2 := a_cl (show q < 2147483648 by omega)
    have v3 : rKp q = some (45 + 12 * q) := by rcases ck2 with rfl | rfl <;> rfl
    have v4 : (YX (45 + 12 * q)).1 = 0 := by rcases ck2 with rfl | rfl <;> rfl
    have v5 : (YX (45 + 12 * q)).2.1 = 4 := by rcases ck2 with rfl | rfl <;> rfl
    obtain ⟨t1, t2, t3, t4, t5, t6, t7⟩ := k4 q (by omega)
    have n45 : ¬ 45 + 12 * q = 0 := by omega
    have n50 : ¬ 50 + 12 * q = 0 := by omega
    have n54 : ¬ 54 + 12 * q = 0 := by omega
    have n55 : ¬ 55 + 12 * q = 0 := by omega
    have n56 : ¬ 56 + 12 * q = 0 := by omega
    refine ma_walk (mo_X0_back ms_X4_back) hV [] (fun F hF => ?_)
    simp only [tb_X0_back, hF, in_no, in_push, in_ild, in_lld, in_ald, in_ist, in_ast, in_lst, in_inc, in_iii, in_idv, in_ldv, in_lll, in_lli, in_lil, in_ii, in_il, in_li, in_ll, in_dup, in_dp2, q_if1, q_if2, in_go, in_sw, ma_sw, in_rv, in_ri, in_rz, in_rl, in_get, in_put, in_puz, in_iar, in_bar, in_lar, in_aar, in_iaw, in_baw, in_law, in_len, in_cpy, in_s1, in_s2, in_s3, in_v1, in_v2, in_v3, in_v4, in_v5, in_v6, ma_bk, ma_gl, ma_sl, ma_nl, ma_wc, ma_wd, ma_nn, ma_en, List.mem_cons, List.not_mem_nil, or_false, or_true, true_or, false_or, true_and, and_true, false_and, and_false, if_true, if_false, forall_const, true_implies, false_implies, not_true_eq_false, not_false_eq_true, Classical.not_not, implies_true, and_self, Nat.add_zero, Nat.zero_add, eq_self, ne_eq, reduceCtorEq, Nat.reduceLT, Nat.reduceLeDiff, Nat.reduceEqDiff, Nat.reduceSub, Nat.reduceAdd, i10, i01, im10, Int32.reduceLT, Int32.reduceLE, ↓reduceIte, reduceIte, up_r, uL_r, cp_r, Int32.toInt_toInt64, Int64.reduceToInt, Int32.reduceToInt, ↓b1_or, b1_0, b1_1, lc_lt, lc_le, lc_gt, lc_ge, lc_eq, yx_0, yx_1, yx_2, yx_3, yx_4, yx_5, yx_6, yx_7, yx_8, yx_9, yx_10, yx_11, yx_12, yx_13, yx_14, yx_15, yx_16, yx_17, yx_18, yx_19, yx_20, yx_21, yx_22, yx_23, yx_24, yx_25, yx_26, yx_27, yx_28, yx_29, yx_30, yx_31, yx_32, yx_33, yx_34, yx_35, yx_36, yx_37, yx_38, yx_39, yx_40, yx_41, yx_42, yx_43, yx_44, yx_45, yx_46, yx_47, yx_48, yx_49, yx_50, yx_51, yx_52, yx_53, yx_54, yx_55, yx_56, yx_57, yx_58, yx_59, yx_60, yx_61, yx_62, yx_63, yx_64, yx_65, yx_66, yx_67, yx_68, rx_0, rx_1, rx_2, rx_3, rx_4, rx_5, rx_6, rx_7, rx_8, rx_9, rx_10, rx_11, rx_12, rx_13, rx_14, rx_15, rx_16, rx_17, rx_18, rx_19, rx_20, rx_21, rx_22, rx_23, rx_24, rx_25, rx_26, rx_27, rx_28, rx_29, rx_30, rx_31, rx_32, rx_33, rp_0, rp_1, rp_2, rp_3, rp_4, rp_5, rp_6, rp_7, rp_8, rs_0, rs_1, rs_2, rs_3, rs_4, re_0, re_1, re_2, re_3, re_4, re_5, rr_0, rr_1, rr_2, rr_3, rr_4, rk_0, rk_1, isP3, isP11, isP46, isP58, isS25, isS28, isS31, un_X4_back, c33, z2, v0, v1, v2, v3, v4, v5, n45, n50, n54, n55, n56]
    try simp only [iteP, Classical.not_not, b1_0, b1_1]
    have mc : ∀ a, a ≠ 0 → ma_up M 0 33 (nI q) a = M a := fun a ha => up_c ha
    refine ⟨q, (sk x q).1, (sk x q).2, ⟨by omega, rfl, t1.to (fun a y1 y2 => mc a (by omega)), lk.1, lk.2.1, by rw [mc _ (by omega)]; exact t2⟩, fun M2 p1 p2 p3 p4 p5 => ?_⟩
    have m33 : M2 0 33 = nI q := by rw [p2 33 (by decide) (by decide) (by decide), if_pos rfl]
    have f0 : ∀ j, j ≠ 33 → j ≠ 7 → j ≠ 10 → j ≠ 15 → M2 0 j = M 0 j := fun j y0 y1 y2 y3 => by
      rw [p2 j y1 y2 y3, if_neg y0]
    have fl : ∀ a, (a < 11 ∧ a ≠ 0) ∨ 24 < a → M2 a = M a := fun a ha => (p1 a ha).trans (mc a (by omega))
    obtain ⟨q19, q20, q21, q22, q23, q24⟩ := p5
    rw [m33]
    refine h _ L ⟨⟨?_, ?_, ?_, ?_, ?_, ?_, ?_, ?_, ?_⟩, ⟨?_, ?_, ?_, ?_, ?_, ?_, ?_, ?_, ?_, ?_, ?_⟩, ⟨p4.1, ?_, p4.2, fun k hk => ?_⟩, Or.inl p3.2.2⟩
    · rw [f0 0 (by decide) (by decide) (by decide) (by decide)]; exact c0
    · rw [f0 5 (by decide) (by decide) (by decide) (by decide)]; exact c5
    · rw [f0 6 (by decide) (by decide) (by decide) (by decide)]; exact c6
    · rw [p3.1, t4]
      show _ = bN (sN x) q 0 2
      unfold bN; rw [if_pos rfl, pk_un (by decide), pk_un (by decide), pk_us]
    · rw [p3.2.1, t3]
      show _ = bN (sN x) q 0 19
      unfold bN; rw [if_pos rfl, pk_un (by decide), pk_us]
    · rw [f0 19 (by decide) (by decide) (by decide) (by decide)]; exact c19
    · rw [f0 20 (by decide) (by decide) (by decide) (by decide)]; exact c20
    · rw [f0 25 (by decide) (by decide) (by decide) (by decide)]; exact c25
    · rw [m33]
      show _ = bN (sN x) q 0 30
      unfold bN; rw [if_pos rfl, pk_us]
    · show M2 19 = kU (sN x 1) (sN x 21) q 3 4
      rw [q19, a19]; exact kU_i (fun i hi => by rw [if_neg (by omega), t5 i hi, Nat.add_assoc])
    · rw [fl 1 (by omega)]; exact a1
    · show M2 20 = kU (sN x 12) (sN x 21) q 271 144
      rw [q20, a20]; exact kU_i (fun i hi => by rw [if_neg (by omega), t6 i hi, Nat.add_assoc])
    · show M2 21 = kU (sN x 13) (sN x 21) q 415 12
      rw [q21, a21]; exact kU_i (fun i hi => by rw [if_neg (by omega), t7 i (by omega), Nat.add_assoc])
    · show M2 22 = kU (sN x 14) (sN x 21) q 427 12
      rw [q22, a22]; exact kU_i (fun i hi => by rw [if_neg (by omega), t7 (12 + i) (by omega)]; congr 1; omega)
    · show M2 23 = kU (sN x 15) (sN x 21) q 439 12
      rw [q23, a23]; exact kU_i (fun i hi => by rw [if_neg (by omega), t7 (24 + i) (by omega)]; congr 1; omega)
    · show M2 24 = kU (sN x 16) (sN x 21) q 451 12
      rw [q24, a24]; exact kU_i (fun i hi => by rw [if_neg (by omega), t7 (36 + i) (by omega)]; congr 1; omega)
    · exact a34
    · rw [fl 37 (by omega)]; exact a37
    · rw [fl 38 (by omega)]; exact a38
    · rw [fl 39 (by omega)]; exact a39
    · rw [fl 7 (by omega)]; exact k2
    · exact (k4 k hk).to (fun a y1 y2 => fl a (by omega)) (show bN (sN x) q 21 = sN x 21 from bN_c (by decide) (by omega))
theorem pv_X0_back : ∀ as M L K, S_X0_back as M L K → ma_rn (tb_X0_back S_X4_back) 1 as M L K := by
  intro as M L K h
  unfold S_X0_back at h
  split at h
  · obtain ⟨x, h⟩ := h; exact pw_X0_back h.1 h.2
  · exact h.elim
def S_X5_back : ma_Cs := fun as M L K => match as with
  | [.ref k] => ∃ (x : St), (k = 0 ∧ J x ∧ RY M L x) ∧ (∀ (M' : ZM) (L' : ZL), RY M' L' (oBack x).2 → K (some (.int (oBack x).1)) M' L')
  | _ => False
theorem ms_X5_back : ma_ms S_X5_back := by
  intro as M L K K' hk h
  unfold S_X5_back at h ⊢
  split at h
  · obtain ⟨x, h⟩ := h
    exact ⟨x, h.1, fun x0 x1 x2 => hk _ _ _ (h.2 x0 x1 x2)⟩
  · exact h.elim
theorem un_X5_back {k : Nat} {M : ZM} {L : ZL} {K : ma_Kt} : S_X5_back [.ref k] M L K = (∃ (x : St), (k = 0 ∧ J x ∧ RY M L x) ∧ (∀ (M' : ZM) (L' : ZL), RY M' L' (oBack x).2 → K (some (.int (oBack x).1)) M' L')) := rfl
theorem pw_X5_back {k : Nat} {x : St} {M : ZM} {L : ZL} {K : ma_Kt} (hp : k = 0 ∧ J x ∧ RY M L x) (h : (∀ (M' : ZM) (L' : ZL), RY M' L' (oBack x).2 → K (some (.int (oBack x).1)) M' L')) : ma_rn (tb_X5_back S_X5_moveAll) 1 [.ref k] M L K := by
  refine ⟨Nat.le_of_ble_eq_true rfl, fun V hV => ?_⟩
  obtain ⟨rfl, hJ, hR⟩ := hp
  obtain ⟨⟨c0, c1, c2, c3, c5, c19, c24, c25, c30⟩, ⟨a1, a2, a12, a13, a14, a15, a16, a17, a18, a19, a20⟩, r3, r4, r5⟩ := id hR
  obtain ⟨km, e1, e2, e3⟩ := hJ.km
  unfold oBack at h
  rw [e3, e1] at h
  rw [e1] at c30
  rw [e3] at r5
  by_cases ck : km = 0
  · have z2 : nI km = 0 := by rw [ck]; rfl
    rw [if_pos z2] at h
    refine ma_walk (mo_X5_back ms_X5_moveAll) hV [] (fun F hF => ?_)
    simp only [tb_X5_back, hF, in_no, in_push, in_ild, in_lld, in_ald, in_ist, in_ast, in_lst, in_inc, in_iii, in_idv, in_ldv, in_lll, in_lli, in_lil, in_ii, in_il, in_li, in_ll, in_dup, in_dp2, q_if1, q_if2, in_go, in_sw, ma_sw, in_rv, in_ri, in_rz, in_rl, in_get, in_put, in_puz, in_iar, in_bar, in_lar, in_aar, in_iaw, in_baw, in_law, in_len, in_cpy, in_s1, in_s2, in_s3, in_v1, in_v2, in_v3, in_v4, in_v5, in_v6, ma_bk, ma_gl, ma_sl, ma_nl, ma_wc, ma_wd, ma_nn, ma_en, List.mem_cons, List.not_mem_nil, or_false, or_true, true_or, false_or, true_and, and_true, false_and, and_false, if_true, if_false, forall_const, true_implies, false_implies, not_true_eq_false, not_false_eq_true, Classical.not_not, implies_true, and_self, Nat.add_zero, Nat.zero_add, eq_self, ne_eq, reduceCtorEq, Nat.reduceLT, Nat.reduceLeDiff, Nat.reduceEqDiff, Nat.reduceSub, Nat.reduceAdd, i10, i01, im10, Int32.reduceLT, Int32.reduceLE, ↓reduceIte, reduceIte, up_r, uL_r, cp_r, Int32.toInt_toInt64, Int64.reduceToInt, Int32.reduceToInt, ↓b1_or, b1_0, b1_1, lc_lt, lc_le, lc_gt, lc_ge, lc_eq, ym_0, ym_1, ym_2, ym_3, ym_4, ym_5, ym_6, ym_7, ym_8, ym_9, ym_10, ym_11, ym_12, ym_13, ym_14, ym_15, ym_16, ym_17, ym_18, ym_19, ym_20, ym_21, ym_22, ym_23, ym_24, ym_25, ym_26, ym_27, ym_28, ym_29, ym_30, rm__0, rm__1, rm__2, rm__3, rm__4, rm__5, rm__6, rm__7, rm__8, rm__9, rm__10, rm__11, rm__12, rm__13, rm__14, rm__15, rm__16, rm__17, rm__18, rm__19, rm__20, rm__21, rm__22, rm__23, rm__24, rm__25, rm__26, rm__27, rm__28, rm__29, rm__30, rm__31, rm__32, rm__33, rm__34, rm__35, rm__36, rm__37, rm__38, rm__39, rm__40, rm__41, rm__42, rm__43, rm__44, rm__45, un_X5_moveAll, c30, z2]
    try simp only [iteP, Classical.not_not, b1_0, b1_1]
    exact h M L hR
  · have z2 : ¬ nI km = 0 := by rw [a_eq0 (by omega)]; exact ck
    rw [if_neg z2] at h
    obtain ⟨q, rfl⟩ : ∃ k, km = k + 1 := ⟨km - 1, by omega⟩
    rw [Nat.add_sub_cancel] at h
    have v0 : nI (q + 1) - 1 = nI q := nI_pred q
    obtain ⟨⟨y1, y2, y3, y4⟩, yn⟩ := r5 q (by omega)
    obtain ⟨w1, w2, w3, w4⟩ := id (hJ.2.2.2 q (by omega)).1.1.1
    refine ma_walk (mo_X5_back ms_X5_moveAll) hV [] (fun F hF => ?_)
    simp only [tb_X5_back, hF, in_no, in_push, in_ild, in_lld, in_ald, in_ist, in_ast, in_lst, in_inc, in_iii, in_idv, in_ldv, in_lll, in_lli, in_lil, in_ii, in_il, in_li, in_ll, in_dup, in_dp2, q_if1, q_if2, in_go, in_sw, ma_sw, in_rv, in_ri, in_rz, in_rl, in_get, in_put, in_puz, in_iar, in_bar, in_lar, in_aar, in_iaw, in_baw, in_law, in_len, in_cpy, in_s1, in_s2, in_s3, in_v1, in_v2, in_v3, in_v4, in_v5, in_v6, ma_bk, ma_gl, ma_sl, ma_nl, ma_wc, ma_wd, ma_nn, ma_en, List.mem_cons, List.not_mem_nil, or_false, or_true, true_or, false_or, true_and, and_true, false_and, and_false, if_true, if_false, forall_const, true_implies, false_implies, not_true_eq_false, not_false_eq_true, Classical.not_not, implies_true, and_self, Nat.add_zero, Nat.zero_add, eq_self, ne_eq, reduceCtorEq, Nat.reduceLT, Nat.reduceLeDiff, Nat.reduceEqDiff, Nat.reduceSub, Nat.reduceAdd, i10, i01, im10, Int32.reduceLT, Int32.reduceLE, ↓reduceIte, reduceIte, up_r, uL_r, cp_r, Int32.toInt_toInt64, Int64.reduceToInt, Int32.reduceToInt, ↓b1_or, b1_0, b1_1, lc_lt, lc_le, lc_gt, lc_ge, lc_eq, ym_0, ym_1, ym_2, ym_3, ym_4, ym_5, ym_6, ym_7, ym_8, ym_9, ym_10, ym_11, ym_12, ym_13, ym_14, ym_15, ym_16, ym_17, ym_18, ym_19, ym_20, ym_21, ym_22, ym_23, ym_24, ym_25, ym_26, ym_27, ym_28, ym_29, ym_30, rm__0, rm__1, rm__2, rm__3, rm__4, rm__5, rm__6, rm__7, rm__8, rm__9, rm__10, rm__11, rm__12, rm__13, rm__14, rm__15, rm__16, rm__17, rm__18, rm__19, rm__20, rm__21, rm__22, rm__23, rm__24, rm__25, rm__26, rm__27, rm__28, rm__29, rm__30, rm__31, rm__32, rm__33, rm__34, rm__35, rm__36, rm__37, rm__38, rm__39, rm__40, rm__41, rm__42, rm__43, rm__44, rm__45, un_X5_moveAll, c30, z2, v0]
    try simp only [iteP, Classical.not_not, b1_0, b1_1]
    refine ⟨q, ⟨rfl, by omega⟩, ?_⟩
    intro M2 ⟨g0, g1⟩
    have mc : ∀ a, a ≠ 0 → ma_up M 0 30 (nI q) a = M a := fun a ha => up_c ha
    have ga : ∀ a, a ≠ 0 → M2 a = kU (M a) (M 21) q (ba a) (kp3 12 a) := fun a ha => by
      rw [g1 a ha, mc a ha, mc 21 (by decide)]
    have fl : ∀ a, a ≠ 0 → kp3 12 a = 0 → M2 a = M a := fun a ha h9 => by rw [ga a ha, h9, kU_0]
    have f0 : ∀ j, j ≠ 7 → j ≠ 2 → j ≠ 19 → j ≠ 30 → M2 0 j = M 0 j := fun j x1 x2 x3 x4 => by
      rw [g0, up_r, if_neg (fun y => x3 y.2), up_r, if_neg (fun y => x2 y.2), up_r, if_neg (fun y => x1 y.2), up_r, if_neg (fun y => x4 y.2)]
    have m30 : M2 0 30 = nI q := by
      rw [g0, up_r, if_neg (by omega), up_r, if_neg (by omega), up_r, if_neg (by omega), up_r, if_pos ⟨rfl, rfl⟩]
    have m7 : M2 0 7 = M 21 (700 * q) := by
      rw [g0, up_r, if_neg (by omega), up_r, if_neg (by omega), up_r, if_pos ⟨rfl, rfl⟩]
    have m2 : M2 0 2 = M 21 (700 * q + 1) := by
      rw [g0, up_r, if_neg (by omega), up_r, if_pos ⟨rfl, rfl⟩]
    have m19 : M2 0 19 = M 21 (700 * q + 2) := by
      rw [g0, up_r, if_pos ⟨rfl, rfl⟩]
    have yn' : ∀ i, (1 ≤ i ∧ i < 7) ∨ (271 ≤ i ∧ i < 463) → M 21 (700 * q + i) = sN x 21 (700 * q + i) := yn
    have kr : ∀ c b j i, i < j → M2 c = kU (M c) (M 21) q b j → M2 c i = M 21 (700 * q + (b + i)) := fun c b j i hi e => by
      rw [e]; unfold kU; rw [if_pos hi]
    rw [m30]
    refine h _ L ⟨⟨?_, ?_, ?_, ?_, ?_, ?_, ?_, ?_, ?_⟩, ⟨?_, ?_, ?_, ?_, ?_, ?_, ?_, ?_, ?_, ?_, ?_⟩, ⟨m7.trans y1, ⟨fun i hi => ?_, fun l hl hn => ?_⟩, fun t ht => ?_⟩, ?_, ?_⟩
    · rw [f0 0 (by decide) (by decide) (by decide) (by decide)]; exact c0
    · rw [f0 1 (by decide) (by decide) (by decide) (by decide)]; exact c1
    · rw [m2, yn' 1 (by omega)]
      show _ = bN (sN x) q 0 2
      unfold bN; rw [if_pos rfl, pk_un (by decide), pk_un (by decide), pk_us]
    · rw [f0 3 (by decide) (by decide) (by decide) (by decide)]; exact c3
    · rw [f0 5 (by decide) (by decide) (by decide) (by decide)]; exact c5
    · rw [m19, yn' 2 (by omega)]
      show _ = bN (sN x) q 0 19
      unfold bN; rw [if_pos rfl, pk_un (by decide), pk_us]
    · rw [f0 24 (by decide) (by decide) (by decide) (by decide)]; exact c24
    · rw [f0 25 (by decide) (by decide) (by decide) (by decide)]; exact c25
    · rw [m30]
      show _ = bN (sN x) q 0 30
      unfold bN; rw [if_pos rfl, pk_us]
    · show M2 1 = kU (sN x 1) (sN x 21) q 3 4
      rw [ga 1 (by decide)]
      show kU (M 1) (M 21) q 3 4 = _
      exact kU_c a1 (fun i hi => yn' (3 + i) (by omega))
    · rw [fl 2 (by decide) rfl]; exact a2
    · show M2 12 = kU (sN x 12) (sN x 21) q 271 144
      rw [ga 12 (by decide)]
      show kU (M 12) (M 21) q 271 144 = _
      exact kU_c a12 (fun i hi => yn' (271 + i) (by omega))
    · show M2 13 = kU (sN x 13) (sN x 21) q 415 12
      rw [ga 13 (by decide)]
      show kU (M 13) (M 21) q 415 12 = _
      exact kU_c a13 (fun i hi => yn' (415 + i) (by omega))
    · show M2 14 = kU (sN x 14) (sN x 21) q 427 12
      rw [ga 14 (by decide)]
      show kU (M 14) (M 21) q 427 12 = _
      exact kU_c a14 (fun i hi => yn' (427 + i) (by omega))
    · show M2 15 = kU (sN x 15) (sN x 21) q 439 12
      rw [ga 15 (by decide)]
      show kU (M 15) (M 21) q 439 12 = _
      exact kU_c a15 (fun i hi => yn' (439 + i) (by omega))
    · show M2 16 = kU (sN x 16) (sN x 21) q 451 12
      rw [ga 16 (by decide)]
      show kU (M 16) (M 21) q 451 12 = _
      exact kU_c a16 (fun i hi => yn' (451 + i) (by omega))
    · exact a17
    · rw [fl 18 (by decide) rfl]; exact a18
    · rw [fl 19 (by decide) rfl]; exact a19
    · rw [fl 20 (by decide) rfl]; exact a20
    · have q4 : (lnA (sk x q).2 i).1 < 4 := (w4 i hi).2.2.2.2
      have hi' : i < (sk x q).2.length := hi
      obtain ⟨z1, z2, z3, z4, z5, z6⟩ := y2 i hi
      simp only [Nat.zero_add]
      refine ⟨?_, ?_, ?_, ?_, ?_, ?_⟩
      · rw [kr 3 7 4 i (by omega) (ga 3 (by decide)), ← Nat.add_assoc]; exact z1
      · refine (kr 4 11 4 _ q4 (ga 4 (by decide))).trans ?_
        rw [← Nat.add_assoc]; exact z2
      · refine (kr 5 15 4 _ q4 (ga 5 (by decide))).trans ?_
        rw [← Nat.add_assoc]; exact z3
      · refine (kr 6 19 4 _ q4 (ga 6 (by decide))).trans ?_
        rw [← Nat.add_assoc]; exact z4
      · refine (kr 7 23 4 _ q4 (ga 7 (by decide))).trans ?_
        rw [← Nat.add_assoc]; exact z5
      · refine (kr 8 27 4 _ q4 (ga 8 (by decide))).trans ?_
        rw [← Nat.add_assoc]; exact z6
    · rw [Nat.zero_add, kr 4 11 4 l hl (ga 4 (by decide)), ← Nat.add_assoc]; exact y3 l hl hn
    · have ht' : t < (sk x q).1.length := ht
      obtain ⟨z1, z2, z3⟩ := y4 t ht
      simp only [Nat.zero_add]
      refine ⟨?_, ?_, ?_⟩
      · rw [kr 9 31 80 t (by omega) (ga 9 (by decide)), ← Nat.add_assoc]; exact z1
      · rw [kr 10 111 80 t (by omega) (ga 10 (by decide)), ← Nat.add_assoc]; exact z2
      · rw [kr 11 191 80 t (by omega) (ga 11 (by decide)), ← Nat.add_assoc]; exact z3
    · unfold B24; rw [fl 24 (by decide) rfl]; exact r4
    · show Yk _ (bN (sN x) q) (sk x) (nat (bN (sN x) q 0 30))
      have e30 : bN (sN x) q 0 30 = nI q := by unfold bN; rw [if_pos rfl, pk_us]
      rw [e30, show nat (nI q) = q from a_cl (by omega)]
      intro k hk
      rw [fl 21 (by decide) rfl, bN_c (by decide) (by omega)]
      exact r5 k (by omega)
theorem pv_X5_back : ∀ as M L K, S_X5_back as M L K → ma_rn (tb_X5_back S_X5_moveAll) 1 as M L K := by
  intro as M L K h
  unfold S_X5_back at h
  split at h
  · obtain ⟨x, h⟩ := h; exact pw_X5_back h.1 h.2
  · exact h.elim
