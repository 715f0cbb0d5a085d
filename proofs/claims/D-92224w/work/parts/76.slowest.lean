/-! op: slowest -/
set_option maxRecDepth 100000
set_option maxHeartbeats 4000000
def oSlowest (s : Int32) (x : St) : Int32 := if 1 ≤ s.toInt ∧ s.toInt ≤ 12 then nI (am (esx x (nat s)) (nat (sN x 0 0) * nat (sN x 0 1))) else -1
def S_X0_slowest : ma_Cs := fun as M L K => match as with
  | [.ref k, .int s] => ∃ (x : St), (k = 0 ∧ J x ∧ RX M L x) ∧ (∀ (M' : ZM), RX M' L x → K (some (.int (oSlowest s x))) M' L)
  | _ => False
theorem ms_X0_slowest : ma_ms S_X0_slowest := by
  intro as M L K K' hk h
  unfold S_X0_slowest at h ⊢
  split at h
  · obtain ⟨x, h⟩ := h
    exact ⟨x, h.1, fun x0 x1 => hk _ _ _ (h.2 x0 x1)⟩
  · exact h.elim
theorem un_X0_slowest {k : Nat} {s : Int32} {M : ZM} {L : ZL} {K : ma_Kt} : S_X0_slowest [.ref k, .int s] M L K = (∃ (x : St), (k = 0 ∧ J x ∧ RX M L x) ∧ (∀ (M' : ZM), RX M' L x → K (some (.int (oSlowest s x))) M' L)) := rfl
theorem pw_X0_slowest {k : Nat} {s : Int32} {x : St} {M : ZM} {L : ZL} {K : ma_Kt} (hp : k = 0 ∧ J x ∧ RX M L x) (h : (∀ (M' : ZM), RX M' L x → K (some (.int (oSlowest s x))) M' L)) : ma_rn (tb_X0_slowest S_X0_isIn S_X0_layEnds S_X0_lastOf) 2 [.ref k, .int s] M L K := by
  refine ⟨Nat.le_of_ble_eq_true rfl, fun V hV => ?_⟩
  obtain ⟨rfl, hJ, hR⟩ := hp
  obtain ⟨w, u, e, wk, h1, h2, h3, h4, hs, hPe, hb, hpc, he, hlt, q0, q36, hn⟩ := hJ.people
  obtain ⟨⟨c0, c5, c6, c7, c10, c19, c20, c25, c33⟩, ⟨a19, a1, a20, a21, a22, a23, a24, a34, a37, a38, a39⟩, r3, r4⟩ := id hR
  rw [h1] at c5
  rw [h2] at c6
  unfold oSlowest at h
  rw [hn] at h
  refine ma_walk (mo_X0_slowest ms_X0_isIn ms_X0_layEnds ms_X0_lastOf) hV [] (fun F hF => ?_)
  simp only [tb_X0_slowest, hF, in_no, in_push, in_ild, in_lld, in_ald, in_ist, in_ast, in_lst, in_inc, in_iii, in_idv, in_ldv, in_lll, in_lli, in_lil, in_ii, in_il, in_li, in_ll, in_dup, in_dp2, q_if1, q_if2, in_go, in_sw, ma_sw, in_rv, in_ri, in_rz, in_rl, in_get, in_put, in_puz, in_iar, in_bar, in_lar, in_aar, in_iaw, in_baw, in_law, in_len, in_cpy, in_s1, in_s2, in_s3, in_v1, in_v2, in_v3, in_v4, in_v5, in_v6, ma_bk, ma_gl, ma_sl, ma_nl, ma_wc, ma_wd, ma_nn, ma_en, List.mem_cons, List.not_mem_nil, or_false, or_true, true_or, false_or, true_and, and_true, false_and, and_false, if_true, if_false, forall_const, true_implies, false_implies, not_true_eq_false, not_false_eq_true, Classical.not_not, implies_true, and_self, Nat.add_zero, Nat.zero_add, eq_self, ne_eq, reduceCtorEq, Nat.reduceLT, Nat.reduceLeDiff, Nat.reduceEqDiff, Nat.reduceSub, Nat.reduceAdd, i10, i01, im10, Int32.reduceLT, Int32.reduceLE, ↓reduceIte, reduceIte, up_r, uL_r, cp_r, Int32.toInt_toInt64, Int64.reduceToInt, Int32.reduceToInt, ↓b1_or, b1_0, b1_1, lc_lt, lc_le, lc_gt, lc_ge, lc_eq, yx_0, yx_1, yx_2, yx_3, yx_4, yx_5, yx_6, yx_7, yx_8, yx_9, yx_10, yx_11, yx_12, yx_13, yx_14, yx_15, yx_16, yx_17, yx_18, yx_19, yx_20, yx_21, yx_22, yx_23, yx_24, yx_25, yx_26, yx_27, yx_28, yx_29, yx_30, yx_31, yx_32, yx_33, yx_34, yx_35, yx_36, yx_37, yx_38, yx_39, yx_40, yx_41, yx_42, yx_43, yx_44, yx_45, yx_46, yx_47, yx_48, yx_49, yx_50, yx_51, yx_52, yx_53, yx_54, yx_55, yx_56, yx_57, yx_58, yx_59, yx_60, yx_61, yx_62, yx_63, yx_64, yx_65, yx_66, yx_67, yx_68, rx_0, rx_1, rx_2, rx_3, rx_4, rx_5, rx_6, rx_7, rx_8, rx_9, rx_10, rx_11, rx_12, rx_13, rx_14, rx_15, rx_16, rx_17, rx_18, rx_19, rx_20, rx_21, rx_22, rx_23, rx_24, rx_25, rx_26, rx_27, rx_28, rx_29, rx_30, rx_31, rx_32, rx_33, rp_0, rp_1, rp_2, rp_3, rp_4, rp_5, rp_6, rp_7, rp_8, rs_0, rs_1, rs_2, rs_3, rs_4, re_0, re_1, re_2, re_3, re_4, re_5, rr_0, rr_1, rr_2, rr_3, rr_4, rk_0, rk_1, isP3, isP11, isP46, isP58, isS25, isS28, isS31, un_X0_isIn, un_X0_layEnds, un_X0_lastOf, c5, c6]
  try simp only [iteP, Classical.not_not, b1_0, b1_1]
  refine br_n (fun z => by have g := h M hR; rw [if_neg z] at g; exact g) (fun z => ?_)
  obtain ⟨m, em, hm, bm⟩ := a_of (x := s) (by omega)
  have nm' : nat s = m := by unfold nat; rw [em, a_cl bm]
  have m13 : m < 13 := by omega
  rw [nm', if_pos z] at h
  refine ⟨w, u, e, wk, bbx x, pcx x, m, ⟨rfl, rfl, by rw [c7, h3], hs, by rw [c25, h4], hPe, fun c hc => by rw [a39]; exact hb c hc, fun p hp => by rw [a38]; exact hpc p hp, em, m13⟩, fun M' g1 g2 => ?_⟩
  have g0 : M' 0 = M 0 := g1.1 0 (by decide) (by decide) (by decide)
  exact ⟨m, w * u, esx x m, ⟨em, m13, by rw [g0, c5, c6, pk_mul], q0, q36, fun c hc => ⟨by rw [he]; exact g2 m c (Nat.le_refl _) hc, hlt m c m13 hc⟩⟩, h M' (hR.lf g1 h1 h2)⟩
theorem pv_X0_slowest : ∀ as M L K, S_X0_slowest as M L K → ma_rn (tb_X0_slowest S_X0_isIn S_X0_layEnds S_X0_lastOf) 2 as M L K := by
  intro as M L K h
  unfold S_X0_slowest at h
  split at h
  · obtain ⟨x, h⟩ := h; exact pw_X0_slowest h.1 h.2
  · exact h.elim
def S_X5_slowest : ma_Cs := fun as M L K => match as with
  | [.ref k, .int s] => ∃ (x : St), (k = 0 ∧ J x ∧ RY M L x) ∧ (∀ (M' : ZM), RY M' L x → K (some (.int (oSlowest s x))) M' L)
  | _ => False
theorem ms_X5_slowest : ma_ms S_X5_slowest := by
  intro as M L K K' hk h
  unfold S_X5_slowest at h ⊢
  split at h
  · obtain ⟨x, h⟩ := h
    exact ⟨x, h.1, fun x0 x1 => hk _ _ _ (h.2 x0 x1)⟩
  · exact h.elim
theorem un_X5_slowest {k : Nat} {s : Int32} {M : ZM} {L : ZL} {K : ma_Kt} : S_X5_slowest [.ref k, .int s] M L K = (∃ (x : St), (k = 0 ∧ J x ∧ RY M L x) ∧ (∀ (M' : ZM), RY M' L x → K (some (.int (oSlowest s x))) M' L)) := rfl
theorem pw_X5_slowest {k : Nat} {s : Int32} {x : St} {M : ZM} {L : ZL} {K : ma_Kt} (hp : k = 0 ∧ J x ∧ RY M L x) (h : (∀ (M' : ZM), RY M' L x → K (some (.int (oSlowest s x))) M' L)) : ma_rn (tb_X5_slowest S_X5_in S_X5_ownEnds S_X5_lastOf) 3 [.ref k, .int s] M L K := by
  refine ⟨Nat.le_of_ble_eq_true rfl, fun V hV => ?_⟩
  obtain ⟨rfl, hJ, hR⟩ := hp
  obtain ⟨w, u, e, wk, h1, h2, h3, h4, hs, hPe, hb, hpc, he, hlt, q0, q36, hn⟩ := hJ.people
  obtain ⟨⟨c0, c1, c2, c3, c5, c19, c24, c25, c30⟩, ⟨a1, a2, a12, a13, a14, a15, a16, a17, a18, a19, a20⟩, r3, r4⟩ := id hR
  rw [h1] at c0
  rw [h2] at c1
  unfold oSlowest at h
  rw [hn] at h
  refine ma_walk (mo_X5_slowest ms_X5_in ms_X5_ownEnds ms_X5_lastOf) hV [20] (fun F hF => ?_)
  simp only [tb_X5_slowest, hF, in_no, in_push, in_ild, in_lld, in_ald, in_ist, in_ast, in_lst, in_inc, in_iii, in_idv, in_ldv, in_lll, in_lli, in_lil, in_ii, in_il, in_li, in_ll, in_dup, in_dp2, q_if1, q_if2, in_go, in_sw, ma_sw, in_rv, in_ri, in_rz, in_rl, in_get, in_put, in_puz, in_iar, in_bar, in_lar, in_aar, in_iaw, in_baw, in_law, in_len, in_cpy, in_s1, in_s2, in_s3, in_v1, in_v2, in_v3, in_v4, in_v5, in_v6, ma_bk, ma_gl, ma_sl, ma_nl, ma_wc, ma_wd, ma_nn, ma_en, List.mem_cons, List.not_mem_nil, or_false, or_true, true_or, false_or, true_and, and_true, false_and, and_false, if_true, if_false, forall_const, true_implies, false_implies, not_true_eq_false, not_false_eq_true, Classical.not_not, implies_true, and_self, Nat.add_zero, Nat.zero_add, eq_self, ne_eq, reduceCtorEq, Nat.reduceLT, Nat.reduceLeDiff, Nat.reduceEqDiff, Nat.reduceSub, Nat.reduceAdd, i10, i01, im10, Int32.reduceLT, Int32.reduceLE, ↓reduceIte, reduceIte, up_r, uL_r, cp_r, Int32.toInt_toInt64, Int64.reduceToInt, Int32.reduceToInt, ↓b1_or, b1_0, b1_1, lc_lt, lc_le, lc_gt, lc_ge, lc_eq, ym_0, ym_1, ym_2, ym_3, ym_4, ym_5, ym_6, ym_7, ym_8, ym_9, ym_10, ym_11, ym_12, ym_13, ym_14, ym_15, ym_16, ym_17, ym_18, ym_19, ym_20, ym_21, ym_22, ym_23, ym_24, ym_25, ym_26, ym_27, ym_28, ym_29, ym_30, rm__0, rm__1, rm__2, rm__3, rm__4, rm__5, rm__6, rm__7, rm__8, rm__9, rm__10, rm__11, rm__12, rm__13, rm__14, rm__15, rm__16, rm__17, rm__18, rm__19, rm__20, rm__21, rm__22, rm__23, rm__24, rm__25, rm__26, rm__27, rm__28, rm__29, rm__30, rm__31, rm__32, rm__33, rm__34, rm__35, rm__36, rm__37, rm__38, rm__39, rm__40, rm__41, rm__42, rm__43, rm__44, rm__45, un_X5_in, un_X5_ownEnds, un_X5_lastOf, c0, c1]
  try simp only [iteP, Classical.not_not, b1_0, b1_1]
  refine br_n (fun z => by have g := h M hR; rw [if_neg z] at g; exact g) (fun z => ?_)
  obtain ⟨m, em, hm, bm⟩ := a_of (x := s) (by omega)
  have nm' : nat s = m := by unfold nat; rw [em, a_cl bm]
  have m13 : m < 13 := by omega
  rw [nm', if_pos z] at h
  refine ⟨w, u, e, wk, bbx x, pcx x, ⟨rfl, rfl, by rw [c2, h3], hs, by rw [c3, h4], hPe, fun c hc => by rw [a20]; exact hb c hc, fun p hp => by rw [a19]; exact hpc p hp⟩, fun M' g1 g2 g3 => ?_⟩
  have g := h M' (hR.fr g1 g2)
  clear hF
  obtain ⟨q, hq⟩ : ∃ q, w * u = q + 1 := ⟨w * u - 1, by omega⟩
  have al := am_lt (esx x m) q
  have mx := mxv_am (esx x m) q
  rw [← hq] at al mx
  have lo : M' 0 0 * M' 0 1 = nI (w * u) := by rw [g2 0 (by decide) (by decide), g2 1 (by decide) (by decide), c0, c1, pk_mul]
  have lw : ∀ c, c < w * u → M' 28 (36 * m + c) = nI (esx x m c) ∧ esx x m c < 100000 := fun c hc => ⟨by rw [he]; exact g3 m c (by omega) hc, hlt m c m13 hc⟩
  have ix : ∀ d, 36 * nI m + nI d = nI (36 * m + d) := fun d => by rw [show (36 : Int32) = nI 36 from rfl, pk_mul, nI_add]
  have lp : ∀ d, d ≤ am (esx x m) (w * u) → V 20 [some (.ref 0), some (.int (nI m)), some (.int (nI d))] [] M' L := by
    refine lp_up ?_ ?_
    · have v1 : vp_in (nI (36 * m + am (esx x m) (w * u))) 468 := vp_in_nI (by omega) (by decide)
      have v2 := a_cl (show 36 * m + am (esx x m) (w * u) < 2147483648 by omega)
      have v4 := (lw _ al).1
      refine ma_walk (mo_X5_slowest ms_X5_in ms_X5_ownEnds ms_X5_lastOf) hV [20] (fun F hF => ?_)
      simp only [tb_X5_slowest, hF, in_no, in_push, in_ild, in_lld, in_ald, in_ist, in_ast, in_lst, in_inc, in_iii, in_idv, in_ldv, in_lll, in_lli, in_lil, in_ii, in_il, in_li, in_ll, in_dup, in_dp2, q_if1, q_if2, in_go, in_sw, ma_sw, in_rv, in_ri, in_rz, in_rl, in_get, in_put, in_puz, in_iar, in_bar, in_lar, in_aar, in_iaw, in_baw, in_law, in_len, in_cpy, in_s1, in_s2, in_s3, in_v1, in_v2, in_v3, in_v4, in_v5, in_v6, ma_bk, ma_gl, ma_sl, ma_nl, ma_wc, ma_wd, ma_nn, ma_en, List.mem_cons, List.not_mem_nil, or_false, or_true, true_or, false_or, true_and, and_true, false_and, and_false, if_true, if_false, forall_const, true_implies, false_implies, not_true_eq_false, not_false_eq_true, Classical.not_not, implies_true, and_self, Nat.add_zero, Nat.zero_add, eq_self, ne_eq, reduceCtorEq, Nat.reduceLT, Nat.reduceLeDiff, Nat.reduceEqDiff, Nat.reduceSub, Nat.reduceAdd, i10, i01, im10, Int32.reduceLT, Int32.reduceLE, ↓reduceIte, reduceIte, up_r, uL_r, cp_r, Int32.toInt_toInt64, Int64.reduceToInt, Int32.reduceToInt, ↓b1_or, b1_0, b1_1, lc_lt, lc_le, lc_gt, lc_ge, lc_eq, ym_0, ym_1, ym_2, ym_3, ym_4, ym_5, ym_6, ym_7, ym_8, ym_9, ym_10, ym_11, ym_12, ym_13, ym_14, ym_15, ym_16, ym_17, ym_18, ym_19, ym_20, ym_21, ym_22, ym_23, ym_24, ym_25, ym_26, ym_27, ym_28, ym_29, ym_30, rm__0, rm__1, rm__2, rm__3, rm__4, rm__5, rm__6, rm__7, rm__8, rm__9, rm__10, rm__11, rm__12, rm__13, rm__14, rm__15, rm__16, rm__17, rm__18, rm__19, rm__20, rm__21, rm__22, rm__23, rm__24, rm__25, rm__26, rm__27, rm__28, rm__29, rm__30, rm__31, rm__32, rm__33, rm__34, rm__35, rm__36, rm__37, rm__38, rm__39, rm__40, rm__41, rm__42, rm__43, rm__44, rm__45, un_X5_in, un_X5_ownEnds, un_X5_lastOf, ix, v1, v2, v4]
      try simp only [iteP, Classical.not_not, b1_0, b1_1]
      refine ⟨m, w * u, esx x m, ⟨rfl, m13, lo, q36, lw⟩, fun _ => g, fun y => absurd (by rw [mx]) y⟩
    · intro d hd ih
      have st := am_st (esx x m) (w * u) d hd
      have v1 : vp_in (nI (36 * m + d)) 468 := vp_in_nI (by omega) (by decide)
      have v2 := a_cl (show 36 * m + d < 2147483648 by omega)
      have v4 := (lw d (by omega)).1
      have v5 := (lw _ al).2
      have v3 : nI d + 1 = nI (d + 1) := by rw [show (1 : Int32) = nI 1 from rfl, nI_add]
      refine ma_walk (mo_X5_slowest ms_X5_in ms_X5_ownEnds ms_X5_lastOf) hV [20] (fun F hF => ?_)
      simp only [tb_X5_slowest, hF, in_no, in_push, in_ild, in_lld, in_ald, in_ist, in_ast, in_lst, in_inc, in_iii, in_idv, in_ldv, in_lll, in_lli, in_lil, in_ii, in_il, in_li, in_ll, in_dup, in_dp2, q_if1, q_if2, in_go, in_sw, ma_sw, in_rv, in_ri, in_rz, in_rl, in_get, in_put, in_puz, in_iar, in_bar, in_lar, in_aar, in_iaw, in_baw, in_law, in_len, in_cpy, in_s1, in_s2, in_s3, in_v1, in_v2, in_v3, in_v4, in_v5, in_v6, ma_bk, ma_gl, ma_sl, ma_nl, ma_wc, ma_wd, ma_nn, ma_en, List.mem_cons, List.not_mem_nil, or_false, or_true, true_or, false_or, true_and, and_true, false_and, and_false, if_true, if_false, forall_const, true_implies, false_implies, not_true_eq_false, not_false_eq_true, Classical.not_not, implies_true, and_self, Nat.add_zero, Nat.zero_add, eq_self, ne_eq, reduceCtorEq, Nat.reduceLT, Nat.reduceLeDiff, Nat.reduceEqDiff, Nat.reduceSub, Nat.reduceAdd, i10, i01, im10, Int32.reduceLT, Int32.reduceLE, ↓reduceIte, reduceIte, up_r, uL_r, cp_r, Int32.toInt_toInt64, Int64.reduceToInt, Int32.reduceToInt, ↓b1_or, b1_0, b1_1, lc_lt, lc_le, lc_gt, lc_ge, lc_eq, ym_0, ym_1, ym_2, ym_3, ym_4, ym_5, ym_6, ym_7, ym_8, ym_9, ym_10, ym_11, ym_12, ym_13, ym_14, ym_15, ym_16, ym_17, ym_18, ym_19, ym_20, ym_21, ym_22, ym_23, ym_24, ym_25, ym_26, ym_27, ym_28, ym_29, ym_30, rm__0, rm__1, rm__2, rm__3, rm__4, rm__5, rm__6, rm__7, rm__8, rm__9, rm__10, rm__11, rm__12, rm__13, rm__14, rm__15, rm__16, rm__17, rm__18, rm__19, rm__20, rm__21, rm__22, rm__23, rm__24, rm__25, rm__26, rm__27, rm__28, rm__29, rm__30, rm__31, rm__32, rm__33, rm__34, rm__35, rm__36, rm__37, rm__38, rm__39, rm__40, rm__41, rm__42, rm__43, rm__44, rm__45, un_X5_in, un_X5_ownEnds, un_X5_lastOf, ix, v1, v2, v4, v3]
      try simp only [iteP, Classical.not_not, b1_0, b1_1]
      refine ⟨m, w * u, esx x m, ⟨rfl, m13, lo, q36, lw⟩, fun y => ?_, fun _ => ih⟩
      rw [mx, a_eq (by omega) (by omega)] at y
      omega
  rw [em]
  exact lp 0 (Nat.zero_le _)
theorem pv_X5_slowest : ∀ as M L K, S_X5_slowest as M L K → ma_rn (tb_X5_slowest S_X5_in S_X5_ownEnds S_X5_lastOf) 3 as M L K := by
  intro as M L K h
  unfold S_X5_slowest at h
  split at h
  · obtain ⟨x, h⟩ := h; exact pw_X5_slowest h.1 h.2
  · exact h.elim
