/-! op: second -/
set_option maxRecDepth 100000
set_option maxHeartbeats 4000000
def sdm (f g : Nat → Int32) : Nat → Nat → Int32 → Int32
  | 0, _, a => a
  | n + 1, l, a => sdm f g n (l + 1) (a ||| (if f l = g l then 0 else (1 : Int32) <<< (nI l &&& 31)))
def oSecond (s c : Int32) (x : St) : Int32 := if (1 ≤ s.toInt ∧ s.toInt ≤ 12) ∧ (0 ≤ c.toInt ∧ c.toInt < (nat (sN x 0 0) * nat (sN x 0 1) : Nat)) then sdm (hv x sAll (nat s) (nat c)) (anw x (nat s) (nat c)) 4 0 0 else -1
def S_X0_second : ma_Cs := fun as M L K => match as with
  | [.ref k, .int s, .int c] => ∃ (x : St), (k = 0 ∧ J x ∧ RX M L x) ∧ (∀ (M' : ZM), RX M' L x → K (some (.int (oSecond s c x))) M' L)
  | _ => False
theorem ms_X0_second : ma_ms S_X0_second := by
  intro as M L K K' hk h
  unfold S_X0_second at h ⊢
  split at h
  · obtain ⟨x, h⟩ := h
    exact ⟨x, h.1, fun x0 x1 => hk _ _ _ (h.2 x0 x1)⟩
  · exact h.elim
theorem un_X0_second {k : Nat} {s : Int32} {c : Int32} {M : ZM} {L : ZL} {K : ma_Kt} : S_X0_second [.ref k, .int s, .int c] M L K = (∃ (x : St), (k = 0 ∧ J x ∧ RX M L x) ∧ (∀ (M' : ZM), RX M' L x → K (some (.int (oSecond s c x))) M' L)) := rfl
theorem pw_X0_second {k : Nat} {s : Int32} {c : Int32} {x : St} {M : ZM} {L : ZL} {K : ma_Kt} (hp : k = 0 ∧ J x ∧ RX M L x) (h : (∀ (M' : ZM), RX M' L x → K (some (.int (oSecond s c x))) M' L)) : ma_rn (tb_X0_second S_X0_isIn S_X0_isCell S_X0_refresh S_X3_at S_X0_anew) 5 [.ref k, .int s, .int c] M L K := by
  refine ⟨Nat.le_of_ble_eq_true rfl, fun V hV => ?_⟩
  obtain ⟨rfl, hJ, hR⟩ := hp
  obtain ⟨w, u, e, ns, ta, tb, h1, h2, h3, h6, h7, h8, hs, w2, w6, u2, u6, e3, n12, ta12, tb4, q0, q36, n1, n2, n3, n6⟩ := hJ.sky
  have b5 := hR.1.2.1
  have b6 := hR.1.2.2.1
  rw [h1] at b5
  rw [h2] at b6
  unfold oSecond at h
  rw [n1, n2] at h
  refine ma_walk (mo_X0_second ms_X0_isIn ms_X0_isCell ms_X0_refresh ms_X3_at ms_X0_anew) hV [31] (fun F hF => ?_)
  simp only [tb_X0_second, hF, in_no, in_push, in_ild, in_lld, in_ald, in_ist, in_ast, in_lst, in_inc, in_iii, in_idv, in_ldv, in_lll, in_lli, in_lil, in_ii, in_il, in_li, in_ll, in_dup, in_dp2, q_if1, q_if2, in_go, in_sw, ma_sw, in_rv, in_ri, in_rz, in_rl, in_get, in_put, in_puz, in_iar, in_bar, in_lar, in_aar, in_iaw, in_baw, in_law, in_len, in_cpy, in_s1, in_s2, in_s3, in_v1, in_v2, in_v3, in_v4, in_v5, in_v6, ma_bk, ma_gl, ma_sl, ma_nl, ma_wc, ma_wd, ma_nn, ma_en, List.mem_cons, List.not_mem_nil, or_false, or_true, true_or, false_or, true_and, and_true, false_and, and_false, if_true, if_false, forall_const, true_implies, false_implies, not_true_eq_false, not_false_eq_true, Classical.not_not, implies_true, and_self, Nat.add_zero, Nat.zero_add, eq_self, ne_eq, reduceCtorEq, Nat.reduceLT, Nat.reduceLeDiff, Nat.reduceEqDiff, Nat.reduceSub, Nat.reduceAdd, i10, i01, im10, Int32.reduceLT, Int32.reduceLE, ↓reduceIte, reduceIte, up_r, uL_r, cp_r, Int32.toInt_toInt64, Int64.reduceToInt, Int32.reduceToInt, ↓b1_or, b1_0, b1_1, lc_lt, lc_le, lc_gt, lc_ge, lc_eq, yx_0, yx_1, yx_2, yx_3, yx_4, yx_5, yx_6, yx_7, yx_8, yx_9, yx_10, yx_11, yx_12, yx_13, yx_14, yx_15, yx_16, yx_17, yx_18, yx_19, yx_20, yx_21, yx_22, yx_23, yx_24, yx_25, yx_26, yx_27, yx_28, yx_29, yx_30, yx_31, yx_32, yx_33, yx_34, yx_35, yx_36, yx_37, yx_38, yx_39, yx_40, yx_41, yx_42, yx_43, yx_44, yx_45, yx_46, yx_47, yx_48, yx_49, yx_50, yx_51, yx_52, yx_53, yx_54, yx_55, yx_56, yx_57, yx_58, yx_59, yx_60, yx_61, yx_62, yx_63, yx_64, yx_65, yx_66, yx_67, yx_68, rx_0, rx_1, rx_2, rx_3, rx_4, rx_5, rx_6, rx_7, rx_8, rx_9, rx_10, rx_11, rx_12, rx_13, rx_14, rx_15, rx_16, rx_17, rx_18, rx_19, rx_20, rx_21, rx_22, rx_23, rx_24, rx_25, rx_26, rx_27, rx_28, rx_29, rx_30, rx_31, rx_32, rx_33, rp_0, rp_1, rp_2, rp_3, rp_4, rp_5, rp_6, rp_7, rp_8, rs_0, rs_1, rs_2, rs_3, rs_4, re_0, re_1, re_2, re_3, re_4, re_5, rr_0, rr_1, rr_2, rr_3, rr_4, rk_0, rk_1, isP3, isP11, isP46, isP58, isS25, isS28, isS31, un_X0_isIn, un_X0_isCell, un_X0_refresh, un_X3_at, un_X0_anew, b5, b6]
  try simp only [iteP, Classical.not_not, b1_0, b1_1]
  clear hF
  have kq : (nI w * nI u - 1).toInt = ((w * u : Nat) : Int) - 1 := by
    rw [pk_mul, show (1 : Int32) = nI 1 from rfl, pk_sub (by omega), a_ti (by omega)]; omega
  rw [kq]
  refine br_n (fun z => by have g := h M hR; rw [if_neg (fun y => z y.1)] at g; exact g) (fun z => br_n (fun z2 => by have g := h M hR; rw [if_neg (fun y => z2 (by omega))] at g; exact g) (fun z2 => ?_))
  obtain ⟨d, ed, hd, bd'⟩ := a_of (show 0 ≤ s.toInt by omega)
  obtain ⟨m, em, hm, bm⟩ := a_of z2.1
  have nd : nat s = d := by unfold nat; rw [ed, a_cl bd']
  have nm' : nat c = m := by unfold nat; rw [em, a_cl bm]
  rw [if_pos ⟨z, by omega⟩, nd, nm'] at h
  refine ⟨x, ⟨hJ, hR⟩, fun M' g1 g2 => ?_⟩
  have g := h M' g1
  have lp : ∀ n j a, n + j = 4 → K (some (.int (sdm (hv x sAll d m) (anw x d m) n j a))) M' L → V 31 [some (.ref 0), some (.int (nI d)), some (.int (nI m)), some (.int a), some (.int (nI j))] [] M' L := by
    intro n
    induction n with
    | zero =>
      intro j a hj g
      have v1 : (4 : Int32) ≤ nI j := by rw [show j = 4 by omega]; decide
      refine ma_walk (mo_X0_second ms_X0_isIn ms_X0_isCell ms_X0_refresh ms_X3_at ms_X0_anew) hV [31] (fun F hF => ?_)
      simp only [tb_X0_second, hF, in_no, in_push, in_ild, in_lld, in_ald, in_ist, in_ast, in_lst, in_inc, in_iii, in_idv, in_ldv, in_lll, in_lli, in_lil, in_ii, in_il, in_li, in_ll, in_dup, in_dp2, q_if1, q_if2, in_go, in_sw, ma_sw, in_rv, in_ri, in_rz, in_rl, in_get, in_put, in_puz, in_iar, in_bar, in_lar, in_aar, in_iaw, in_baw, in_law, in_len, in_cpy, in_s1, in_s2, in_s3, in_v1, in_v2, in_v3, in_v4, in_v5, in_v6, ma_bk, ma_gl, ma_sl, ma_nl, ma_wc, ma_wd, ma_nn, ma_en, List.mem_cons, List.not_mem_nil, or_false, or_true, true_or, false_or, true_and, and_true, false_and, and_false, if_true, if_false, forall_const, true_implies, false_implies, not_true_eq_false, not_false_eq_true, Classical.not_not, implies_true, and_self, Nat.add_zero, Nat.zero_add, eq_self, ne_eq, reduceCtorEq, Nat.reduceLT, Nat.reduceLeDiff, Nat.reduceEqDiff, Nat.reduceSub, Nat.reduceAdd, i10, i01, im10, Int32.reduceLT, Int32.reduceLE, ↓reduceIte, reduceIte, up_r, uL_r, cp_r, Int32.toInt_toInt64, Int64.reduceToInt, Int32.reduceToInt, ↓b1_or, b1_0, b1_1, lc_lt, lc_le, lc_gt, lc_ge, lc_eq, yx_0, yx_1, yx_2, yx_3, yx_4, yx_5, yx_6, yx_7, yx_8, yx_9, yx_10, yx_11, yx_12, yx_13, yx_14, yx_15, yx_16, yx_17, yx_18, yx_19, yx_20, yx_21, yx_22, yx_23, yx_24, yx_25, yx_26, yx_27, yx_28, yx_29, yx_30, yx_31, yx_32, yx_33, yx_34, yx_35, yx_36, yx_37, yx_38, yx_39, yx_40, yx_41, yx_42, yx_43, yx_44, yx_45, yx_46, yx_47, yx_48, yx_49, yx_50, yx_51, yx_52, yx_53, yx_54, yx_55, yx_56, yx_57, yx_58, yx_59, yx_60, yx_61, yx_62, yx_63, yx_64, yx_65, yx_66, yx_67, yx_68, rx_0, rx_1, rx_2, rx_3, rx_4, rx_5, rx_6, rx_7, rx_8, rx_9, rx_10, rx_11, rx_12, rx_13, rx_14, rx_15, rx_16, rx_17, rx_18, rx_19, rx_20, rx_21, rx_22, rx_23, rx_24, rx_25, rx_26, rx_27, rx_28, rx_29, rx_30, rx_31, rx_32, rx_33, rp_0, rp_1, rp_2, rp_3, rp_4, rp_5, rp_6, rp_7, rp_8, rs_0, rs_1, rs_2, rs_3, rs_4, re_0, re_1, re_2, re_3, re_4, re_5, rr_0, rr_1, rr_2, rr_3, rr_4, rk_0, rk_1, isP3, isP11, isP46, isP58, isS25, isS28, isS31, un_X0_isIn, un_X0_isCell, un_X0_refresh, un_X3_at, un_X0_anew, v1]
      try simp only [iteP, Classical.not_not, b1_0, b1_1]
      exact g
    | succ n ih =>
      intro j a hj g
      have v1 : ¬ (4 : Int32) ≤ nI j := fun y => by rw [show (4 : Int32) = nI 4 from rfl, a_le (by omega) (by omega)] at y; omega
      have v4 : nI j + 1 = nI (j + 1) := by rw [show (1 : Int32) = nI 1 from rfl, nI_add]
      rw [sdm] at g
      refine ma_walk (mo_X0_second ms_X0_isIn ms_X0_isCell ms_X0_refresh ms_X3_at ms_X0_anew) hV [31] (fun F hF => ?_)
      simp only [tb_X0_second, hF, in_no, in_push, in_ild, in_lld, in_ald, in_ist, in_ast, in_lst, in_inc, in_iii, in_idv, in_ldv, in_lll, in_lli, in_lil, in_ii, in_il, in_li, in_ll, in_dup, in_dp2, q_if1, q_if2, in_go, in_sw, ma_sw, in_rv, in_ri, in_rz, in_rl, in_get, in_put, in_puz, in_iar, in_bar, in_lar, in_aar, in_iaw, in_baw, in_law, in_len, in_cpy, in_s1, in_s2, in_s3, in_v1, in_v2, in_v3, in_v4, in_v5, in_v6, ma_bk, ma_gl, ma_sl, ma_nl, ma_wc, ma_wd, ma_nn, ma_en, List.mem_cons, List.not_mem_nil, or_false, or_true, true_or, false_or, true_and, and_true, false_and, and_false, if_true, if_false, forall_const, true_implies, false_implies, not_true_eq_false, not_false_eq_true, Classical.not_not, implies_true, and_self, Nat.add_zero, Nat.zero_add, eq_self, ne_eq, reduceCtorEq, Nat.reduceLT, Nat.reduceLeDiff, Nat.reduceEqDiff, Nat.reduceSub, Nat.reduceAdd, i10, i01, im10, Int32.reduceLT, Int32.reduceLE, ↓reduceIte, reduceIte, up_r, uL_r, cp_r, Int32.toInt_toInt64, Int64.reduceToInt, Int32.reduceToInt, ↓b1_or, b1_0, b1_1, lc_lt, lc_le, lc_gt, lc_ge, lc_eq, yx_0, yx_1, yx_2, yx_3, yx_4, yx_5, yx_6, yx_7, yx_8, yx_9, yx_10, yx_11, yx_12, yx_13, yx_14, yx_15, yx_16, yx_17, yx_18, yx_19, yx_20, yx_21, yx_22, yx_23, yx_24, yx_25, yx_26, yx_27, yx_28, yx_29, yx_30, yx_31, yx_32, yx_33, yx_34, yx_35, yx_36, yx_37, yx_38, yx_39, yx_40, yx_41, yx_42, yx_43, yx_44, yx_45, yx_46, yx_47, yx_48, yx_49, yx_50, yx_51, yx_52, yx_53, yx_54, yx_55, yx_56, yx_57, yx_58, yx_59, yx_60, yx_61, yx_62, yx_63, yx_64, yx_65, yx_66, yx_67, yx_68, rx_0, rx_1, rx_2, rx_3, rx_4, rx_5, rx_6, rx_7, rx_8, rx_9, rx_10, rx_11, rx_12, rx_13, rx_14, rx_15, rx_16, rx_17, rx_18, rx_19, rx_20, rx_21, rx_22, rx_23, rx_24, rx_25, rx_26, rx_27, rx_28, rx_29, rx_30, rx_31, rx_32, rx_33, rp_0, rp_1, rp_2, rp_3, rp_4, rp_5, rp_6, rp_7, rp_8, rs_0, rs_1, rs_2, rs_3, rs_4, re_0, re_1, re_2, re_3, re_4, re_5, rr_0, rr_1, rr_2, rr_3, rr_4, rk_0, rk_1, isP3, isP11, isP46, isP58, isS25, isS28, isS31, un_X0_isIn, un_X0_isCell, un_X0_refresh, un_X3_at, un_X0_anew, v1, v4]
      try simp only [iteP, Classical.not_not, b1_0, b1_1]
      refine ⟨d, m, j, ⟨rfl, rfl, rfl, by omega, by omega, by omega⟩, x, d, m, j, ⟨hJ, g1, g2, rfl, rfl, rfl, by omega, by omega, by rw [n1, n2]; omega, by omega⟩, ?_⟩
      rw [(g2.2.2.2.2 d m j (by omega) (by rw [n1, n2]; omega) (by omega)).2.1]
      first
      | exact br_n (fun y => by rw [if_neg y] at g; exact ih (j + 1) _ (by omega) g) (fun y => by rw [if_pos y] at g; exact ih (j + 1) _ (by omega) g)
      | exact sw_n (fun y => by rw [if_pos y] at g; exact ih (j + 1) _ (by omega) g) (fun y => by rw [if_neg y] at g; exact ih (j + 1) _ (by omega) g)
  rw [ed, em]
  exact lp 4 0 0 rfl g
theorem pv_X0_second : ∀ as M L K, S_X0_second as M L K → ma_rn (tb_X0_second S_X0_isIn S_X0_isCell S_X0_refresh S_X3_at S_X0_anew) 5 as M L K := by
  intro as M L K h
  unfold S_X0_second at h
  split at h
  · obtain ⟨x, h⟩ := h; exact pw_X0_second h.1 h.2
  · exact h.elim
def S_X5_second : ma_Cs := fun as M L K => match as with
  | [.ref k, .int s, .int c] => ∃ (x : St), (k = 0 ∧ J x ∧ RY M L x) ∧ (∀ (M' : ZM), RY M' L x → K (some (.int (oSecond s c x))) M' L)
  | _ => False
theorem ms_X5_second : ma_ms S_X5_second := by
  intro as M L K K' hk h
  unfold S_X5_second at h ⊢
  split at h
  · obtain ⟨x, h⟩ := h
    exact ⟨x, h.1, fun x0 x1 => hk _ _ _ (h.2 x0 x1)⟩
  · exact h.elim
theorem un_X5_second {k : Nat} {s : Int32} {c : Int32} {M : ZM} {L : ZL} {K : ma_Kt} : S_X5_second [.ref k, .int s, .int c] M L K = (∃ (x : St), (k = 0 ∧ J x ∧ RY M L x) ∧ (∀ (M' : ZM), RY M' L x → K (some (.int (oSecond s c x))) M' L)) := rfl
theorem pw_X5_second {k : Nat} {s : Int32} {c : Int32} {x : St} {M : ZM} {L : ZL} {K : ma_Kt} (hp : k = 0 ∧ J x ∧ RY M L x) (h : (∀ (M' : ZM), RY M' L x → K (some (.int (oSecond s c x))) M' L)) : ma_rn (tb_X5_second S_X5_in S_X5_isCell S_X5_all S_X5_hall S_X5_made S_X5_place) 5 [.ref k, .int s, .int c] M L K := by
  refine ⟨Nat.le_of_ble_eq_true rfl, fun V hV => ?_⟩
  obtain ⟨rfl, hJ, hR⟩ := hp
  obtain ⟨w, u, e, ns, ta, tb, h1, h2, h3, h6, h7, h8, hs, w2, w6, u2, u6, e3, n12, ta12, tb4, q0, q36, n1, n2, n3, n6⟩ := hJ.sky
  have c0 := hR.1.1
  have c1 := hR.1.2.1
  have c19 := hR.1.2.2.2.2.2.1
  unfold oSecond at h
  rw [n1, n2] at h
  refine ma_walk (mo_X5_second ms_X5_in ms_X5_isCell ms_X5_all ms_X5_hall ms_X5_made ms_X5_place) hV [39] (fun F hF => ?_)
  simp only [tb_X5_second, hF, in_no, in_push, in_ild, in_lld, in_ald, in_ist, in_ast, in_lst, in_inc, in_iii, in_idv, in_ldv, in_lll, in_lli, in_lil, in_ii, in_il, in_li, in_ll, in_dup, in_dp2, q_if1, q_if2, in_go, in_sw, ma_sw, in_rv, in_ri, in_rz, in_rl, in_get, in_put, in_puz, in_iar, in_bar, in_lar, in_aar, in_iaw, in_baw, in_law, in_len, in_cpy, in_s1, in_s2, in_s3, in_v1, in_v2, in_v3, in_v4, in_v5, in_v6, ma_bk, ma_gl, ma_sl, ma_nl, ma_wc, ma_wd, ma_nn, ma_en, List.mem_cons, List.not_mem_nil, or_false, or_true, true_or, false_or, true_and, and_true, false_and, and_false, if_true, if_false, forall_const, true_implies, false_implies, not_true_eq_false, not_false_eq_true, Classical.not_not, implies_true, and_self, Nat.add_zero, Nat.zero_add, eq_self, ne_eq, reduceCtorEq, Nat.reduceLT, Nat.reduceLeDiff, Nat.reduceEqDiff, Nat.reduceSub, Nat.reduceAdd, i10, i01, im10, Int32.reduceLT, Int32.reduceLE, ↓reduceIte, reduceIte, up_r, uL_r, cp_r, Int32.toInt_toInt64, Int64.reduceToInt, Int32.reduceToInt, ↓b1_or, b1_0, b1_1, lc_lt, lc_le, lc_gt, lc_ge, lc_eq, ym_0, ym_1, ym_2, ym_3, ym_4, ym_5, ym_6, ym_7, ym_8, ym_9, ym_10, ym_11, ym_12, ym_13, ym_14, ym_15, ym_16, ym_17, ym_18, ym_19, ym_20, ym_21, ym_22, ym_23, ym_24, ym_25, ym_26, ym_27, ym_28, ym_29, ym_30, rm__0, rm__1, rm__2, rm__3, rm__4, rm__5, rm__6, rm__7, rm__8, rm__9, rm__10, rm__11, rm__12, rm__13, rm__14, rm__15, rm__16, rm__17, rm__18, rm__19, rm__20, rm__21, rm__22, rm__23, rm__24, rm__25, rm__26, rm__27, rm__28, rm__29, rm__30, rm__31, rm__32, rm__33, rm__34, rm__35, rm__36, rm__37, rm__38, rm__39, rm__40, rm__41, rm__42, rm__43, rm__44, rm__45, un_X5_in, un_X5_isCell, un_X5_all, un_X5_hall, un_X5_made, un_X5_place, c0, c1, c19]
  try simp only [iteP, Classical.not_not, b1_0, b1_1]
  clear hF
  rw [show (sN x 0 0 * sN x 0 1 - 1).toInt = ((w * u : Nat) : Int) - 1 by
    rw [h1, h2, pk_mul, show (1 : Int32) = nI 1 from rfl, pk_sub (by omega), a_ti (by omega)]; omega]
  refine br_n (fun z => by have g := h M hR; rw [if_neg (fun y => z y.1)] at g; exact g) (fun z => br_n (fun z2 => by have g := h M hR; rw [if_neg (fun y => z2 (by omega))] at g; exact g) (fun z2 => ?_))
  obtain ⟨d, ed, hd, bd'⟩ := a_of (show 0 ≤ s.toInt by omega)
  obtain ⟨m, em, hm, bm⟩ := a_of z2.1
  have nd : nat s = d := by unfold nat; rw [ed, a_cl bd']
  have nm' : nat c = m := by unfold nat; rw [em, a_cl bm]
  rw [if_pos ⟨z, by omega⟩, nd, nm'] at h
  refine ⟨w, u, e, ns, sAll, (sp x).1, (sp x).2, ⟨Or.inl rfl, ?_⟩, fun M2 p1 p2 p3 p4 p5 => ?_⟩
  · have q := hR.pre hJ h1 h2 h3 h6 hs n12 (set := (1 : Int32) <<< (sN x 0 19 &&& 31) - 1) (S := sAll) (fun i hi => ⟨fun _ => by rw [h6]; exact all_b ⟨ns, by omega⟩ ⟨i, by omega⟩ hi, fun _ => rfl⟩)
    rw [c0, c1, c19] at q
    exact q
  have hR2 := hR.behind (Or.inl rfl) p1 p2 p4
  have hv2 := hR.val h1 h2 h3 h6 (by omega) (by omega) (by omega) (by omega) p3
  have g := h M2 hR2
  have hVq := hJ.2.2.1.1
  have hVf := hJ.2.2.1.2
  obtain ⟨⟨d0, d1, d2, d3, d5, d19, d24, d25, d30⟩, ⟨a1, a2, a12, a13, a14, a15, a16, a17, a18, a19, a20⟩, r3, r4⟩ := id hR2
  rw [h3] at d2
  have lp : ∀ n j a, n + j = 4 → K (some (.int (sdm (hv x sAll d m) (anw x d m) n j a))) M2 L → V 39 [some (.ref 0), some (.int (nI d)), some (.int (nI m)), some (.int a), some (.int (nI j))] [] M2 L := by
    intro n
    induction n with
    | zero =>
      intro j a hj g
      have v1 : (4 : Int32) ≤ nI j := by rw [show j = 4 by omega]; decide
      refine ma_walk (mo_X5_second ms_X5_in ms_X5_isCell ms_X5_all ms_X5_hall ms_X5_made ms_X5_place) hV [39] (fun F hF => ?_)
      simp only [tb_X5_second, hF, in_no, in_push, in_ild, in_lld, in_ald, in_ist, in_ast, in_lst, in_inc, in_iii, in_idv, in_ldv, in_lll, in_lli, in_lil, in_ii, in_il, in_li, in_ll, in_dup, in_dp2, q_if1, q_if2, in_go, in_sw, ma_sw, in_rv, in_ri, in_rz, in_rl, in_get, in_put, in_puz, in_iar, in_bar, in_lar, in_aar, in_iaw, in_baw, in_law, in_len, in_cpy, in_s1, in_s2, in_s3, in_v1, in_v2, in_v3, in_v4, in_v5, in_v6, ma_bk, ma_gl, ma_sl, ma_nl, ma_wc, ma_wd, ma_nn, ma_en, List.mem_cons, List.not_mem_nil, or_false, or_true, true_or, false_or, true_and, and_true, false_and, and_false, if_true, if_false, forall_const, true_implies, false_implies, not_true_eq_false, not_false_eq_true, Classical.not_not, implies_true, and_self, Nat.add_zero, Nat.zero_add, eq_self, ne_eq, reduceCtorEq, Nat.reduceLT, Nat.reduceLeDiff, Nat.reduceEqDiff, Nat.reduceSub, Nat.reduceAdd, i10, i01, im10, Int32.reduceLT, Int32.reduceLE, ↓reduceIte, reduceIte, up_r, uL_r, cp_r, Int32.toInt_toInt64, Int64.reduceToInt, Int32.reduceToInt, ↓b1_or, b1_0, b1_1, lc_lt, lc_le, lc_gt, lc_ge, lc_eq, ym_0, ym_1, ym_2, ym_3, ym_4, ym_5, ym_6, ym_7, ym_8, ym_9, ym_10, ym_11, ym_12, ym_13, ym_14, ym_15, ym_16, ym_17, ym_18, ym_19, ym_20, ym_21, ym_22, ym_23, ym_24, ym_25, ym_26, ym_27, ym_28, ym_29, ym_30, rm__0, rm__1, rm__2, rm__3, rm__4, rm__5, rm__6, rm__7, rm__8, rm__9, rm__10, rm__11, rm__12, rm__13, rm__14, rm__15, rm__16, rm__17, rm__18, rm__19, rm__20, rm__21, rm__22, rm__23, rm__24, rm__25, rm__26, rm__27, rm__28, rm__29, rm__30, rm__31, rm__32, rm__33, rm__34, rm__35, rm__36, rm__37, rm__38, rm__39, rm__40, rm__41, rm__42, rm__43, rm__44, rm__45, un_X5_in, un_X5_isCell, un_X5_all, un_X5_hall, un_X5_made, un_X5_place, v1]
      try simp only [iteP, Classical.not_not, b1_0, b1_1]
      exact g
    | succ n ih =>
      intro j a hj g
      have v1 : ¬ (4 : Int32) ≤ nI j := fun y => by rw [show (4 : Int32) = nI 4 from rfl, a_le (by omega) (by omega)] at y; omega
      have v4 : nI j + 1 = nI (j + 1) := by rw [show (1 : Int32) = nI 1 from rfl, nI_add]
      have e0 : 144 * nI d + 4 * nI m + nI j = nI (144 * d + 4 * m + j) := pl_e d m j
      have v2 : vp_in (nI (144 * d + 4 * m + j)) 1872 := vp_in_nI (by omega) (by decide)
      have v3 := a_cl (show 144 * d + 4 * m + j < 2147483648 by omega)
      have v5 := (hv2 d m j (by omega) (by omega) (by omega)).1
      have A := anw_y hJ (M2 := M2) (c := m) (s := d) (l := j) n1 n2 n3 (by omega) (by omega) (by omega) (by omega) (by omega) (by omega) a1 (fun s c l y1 y2 y3 => (hv2 s c l y1 y2 y3).1)
      rw [sdm] at g
      refine ma_walk (mo_X5_second ms_X5_in ms_X5_isCell ms_X5_all ms_X5_hall ms_X5_made ms_X5_place) hV [39] (fun F hF => ?_)
      simp only [tb_X5_second, hF, in_no, in_push, in_ild, in_lld, in_ald, in_ist, in_ast, in_lst, in_inc, in_iii, in_idv, in_ldv, in_lll, in_lli, in_lil, in_ii, in_il, in_li, in_ll, in_dup, in_dp2, q_if1, q_if2, in_go, in_sw, ma_sw, in_rv, in_ri, in_rz, in_rl, in_get, in_put, in_puz, in_iar, in_bar, in_lar, in_aar, in_iaw, in_baw, in_law, in_len, in_cpy, in_s1, in_s2, in_s3, in_v1, in_v2, in_v3, in_v4, in_v5, in_v6, ma_bk, ma_gl, ma_sl, ma_nl, ma_wc, ma_wd, ma_nn, ma_en, List.mem_cons, List.not_mem_nil, or_false, or_true, true_or, false_or, true_and, and_true, false_and, and_false, if_true, if_false, forall_const, true_implies, false_implies, not_true_eq_false, not_false_eq_true, Classical.not_not, implies_true, and_self, Nat.add_zero, Nat.zero_add, eq_self, ne_eq, reduceCtorEq, Nat.reduceLT, Nat.reduceLeDiff, Nat.reduceEqDiff, Nat.reduceSub, Nat.reduceAdd, i10, i01, im10, Int32.reduceLT, Int32.reduceLE, ↓reduceIte, reduceIte, up_r, uL_r, cp_r, Int32.toInt_toInt64, Int64.reduceToInt, Int32.reduceToInt, ↓b1_or, b1_0, b1_1, lc_lt, lc_le, lc_gt, lc_ge, lc_eq, ym_0, ym_1, ym_2, ym_3, ym_4, ym_5, ym_6, ym_7, ym_8, ym_9, ym_10, ym_11, ym_12, ym_13, ym_14, ym_15, ym_16, ym_17, ym_18, ym_19, ym_20, ym_21, ym_22, ym_23, ym_24, ym_25, ym_26, ym_27, ym_28, ym_29, ym_30, rm__0, rm__1, rm__2, rm__3, rm__4, rm__5, rm__6, rm__7, rm__8, rm__9, rm__10, rm__11, rm__12, rm__13, rm__14, rm__15, rm__16, rm__17, rm__18, rm__19, rm__20, rm__21, rm__22, rm__23, rm__24, rm__25, rm__26, rm__27, rm__28, rm__29, rm__30, rm__31, rm__32, rm__33, rm__34, rm__35, rm__36, rm__37, rm__38, rm__39, rm__40, rm__41, rm__42, rm__43, rm__44, rm__45, un_X5_in, un_X5_isCell, un_X5_all, un_X5_hall, un_X5_made, un_X5_place, v1, v4, e0, v2, v3, v5]
      try simp only [iteP, Classical.not_not, b1_0, b1_1]
      refine ⟨w, u, e, m, d, j, (sp x).1, (sp x).2, ⟨Or.inl rfl, ⟨p5.1, p5.2, d2, ⟨by omega, by omega, by omega, by omega, e3, by omega, by omega⟩, by omega⟩, by omega, rfl, rfl, rfl, by omega, r3, hVq.1, hVf⟩, fun hno => ?_, fun i hi e1 => ?_⟩
      · rw [A.1 hno]
        first
        | exact br_n (fun y => by rw [if_neg (fun y9 => y y9.symm)] at g; exact ih (j + 1) _ (by omega) g) (fun y => by rw [if_pos y.symm] at g; exact ih (j + 1) _ (by omega) g)
        | exact sw_n (fun y => by rw [if_pos y.symm] at g; exact ih (j + 1) _ (by omega) g) (fun y => by rw [if_neg (fun y9 => y y9.symm)] at g; exact ih (j + 1) _ (by omega) g)
      · rw [A.2 i hi e1]
        first
        | exact br_n (fun y => by rw [if_neg (fun y9 => y y9.symm)] at g; exact ih (j + 1) _ (by omega) g) (fun y => by rw [if_pos y.symm] at g; exact ih (j + 1) _ (by omega) g)
        | exact sw_n (fun y => by rw [if_pos y.symm] at g; exact ih (j + 1) _ (by omega) g) (fun y => by rw [if_neg (fun y9 => y y9.symm)] at g; exact ih (j + 1) _ (by omega) g)
  rw [ed, em]
  exact lp 4 0 0 rfl g
theorem pv_X5_second : ∀ as M L K, S_X5_second as M L K → ma_rn (tb_X5_second S_X5_in S_X5_isCell S_X5_all S_X5_hall S_X5_made S_X5_place) 5 as M L K := by
  intro as M L K h
  unfold S_X5_second at h
  split at h
  · obtain ⟨x, h⟩ := h; exact pw_X5_second h.1 h.2
  · exact h.elim
