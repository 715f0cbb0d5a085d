/-! ops: give, put, first -/
set_option maxRecDepth 100000
set_option maxHeartbeats 4000000
/-- a cell of the state -/
def isC (x : St) (c : Int32) : Prop := 0 ≤ c.toInt ∧ c.toInt ≤ (sN x 0 0 * sN x 0 1 - 1).toInt
theorem wu_ti {w u : Nat} (h1 : 2 ≤ w) (h2 : w ≤ 6) (h3 : 2 ≤ u) (h4 : u ≤ 6) : (nI w * nI u - 1).toInt = (w * u : Nat) - 1 ∧ 4 ≤ w * u ∧ w * u ≤ 36 := by
  have q1 := Nat.mul_le_mul h1 h3
  have q2 := Nat.mul_le_mul h2 h4
  rw [pk_mul, show (1 : Int32) = nI 1 from rfl, pk_sub (by omega), a_ti (by omega)]
  omega
theorem isC.lt {x : St} {c : Int32} (hJ : J x) (h : isC x c) : c.toInt < 36 := by
  obtain ⟨⟨w, u, e, wk, n, ns, a', b, km, h1, h2, h3, h4, h5, h6, h7, h8, h9, g1, g2, g3, g4, g5, g6, g7, g8, g9, f1, f2⟩, ja, jp, jk⟩ := hJ
  have q := h.2
  rw [h1, h2] at q
  have q2 := wu_ti g1 g2 g3 g4
  omega
/-! give -/
def oGive (c v : Int32) (x : St) : Int32 × St := if (0 ≤ c.toInt ∧ c.toInt ≤ (sN x 0 0 * sN x 0 1 - 1).toInt) ∧ (0 ≤ v.toInt ∧ v.toInt ≤ 5) then (sN x 20 (nat c), wN x (ma_up (sN x) 20 (nat c) v)) else (-1, x)
def S_X0_give : ma_Cs := fun as M L K => match as with
  | [.ref k, .int c, .int v] => ∃ (x : St), (k = 0 ∧ J x ∧ RX M L x) ∧ (∀ (M' : ZM) (L' : ZL), RX M' L' (oGive c v x).2 → K (some (.int (oGive c v x).1)) M' L')
  | _ => False
theorem ms_X0_give : ma_ms S_X0_give := by
  intro as M L K K' hk h
  unfold S_X0_give at h ⊢
  split at h
  · obtain ⟨x, h⟩ := h
    exact ⟨x, h.1, fun x0 x1 x2 => hk _ _ _ (h.2 x0 x1 x2)⟩
  · exact h.elim
theorem un_X0_give {k : Nat} {c : Int32} {v : Int32} {M : ZM} {L : ZL} {K : ma_Kt} : S_X0_give [.ref k, .int c, .int v] M L K = (∃ (x : St), (k = 0 ∧ J x ∧ RX M L x) ∧ (∀ (M' : ZM) (L' : ZL), RX M' L' (oGive c v x).2 → K (some (.int (oGive c v x).1)) M' L')) := rfl
theorem pw_X0_give {k : Nat} {c : Int32} {v : Int32} {x : St} {M : ZM} {L : ZL} {K : ma_Kt} (hp : k = 0 ∧ J x ∧ RX M L x) (h : (∀ (M' : ZM) (L' : ZL), RX M' L' (oGive c v x).2 → K (some (.int (oGive c v x).1)) M' L')) : ma_rn (tb_X0_give S_X0_isCell S_X0_isPerson) 4 [.ref k, .int c, .int v] M L K := by
  refine ⟨Nat.le_of_ble_eq_true rfl, fun V hV => ?_⟩
  obtain ⟨rfl, hJ, hR⟩ := hp
  obtain ⟨r1, ⟨a19, a1, a20, a21, a22, a23, a24, a34, a37, a38, a39⟩, r3, r4⟩ := id hR
  have c5 := r1.2.1
  have c6 := r1.2.2.1
  unfold oGive at h
  refine ma_walk (mo_X0_give ms_X0_isCell ms_X0_isPerson) hV [] (fun F hF => ?_)
  simp only [tb_X0_give, hF, in_no, in_push, in_ild, in_lld, in_ald, in_ist, in_ast, in_lst, in_inc, in_iii, in_idv, in_ldv, in_lll, in_lli, in_lil, in_ii, in_il, in_li, in_ll, in_dup, in_dp2, q_if1, q_if2, in_go, in_sw, ma_sw, in_rv, in_ri, in_rz, in_rl, in_get, in_put, in_puz, in_iar, in_bar, in_lar, in_aar, in_iaw, in_baw, in_law, in_len, in_cpy, in_s1, in_s2, in_s3, in_v1, in_v2, in_v3, in_v4, in_v5, in_v6, ma_bk, ma_gl, ma_sl, ma_nl, ma_wc, ma_wd, ma_nn, ma_en, List.mem_cons, List.not_mem_nil, or_false, or_true, true_or, false_or, true_and, and_true, false_and, and_false, if_true, if_false, forall_const, true_implies, false_implies, not_true_eq_false, not_false_eq_true, Classical.not_not, implies_true, and_self, Nat.add_zero, Nat.zero_add, eq_self, ne_eq, reduceCtorEq, Nat.reduceLT, Nat.reduceLeDiff, Nat.reduceEqDiff, Nat.reduceSub, Nat.reduceAdd, i10, i01, im10, Int32.reduceLT, Int32.reduceLE, ↓reduceIte, reduceIte, up_r, uL_r, cp_r, Int32.toInt_toInt64, Int64.reduceToInt, Int32.reduceToInt, ↓b1_or, b1_0, b1_1, lc_lt, lc_le, lc_gt, lc_ge, lc_eq, yx_0, yx_1, yx_2, yx_3, yx_4, yx_5, yx_6, yx_7, yx_8, yx_9, yx_10, yx_11, yx_12, yx_13, yx_14, yx_15, yx_16, yx_17, yx_18, yx_19, yx_20, yx_21, yx_22, yx_23, yx_24, yx_25, yx_26, yx_27, yx_28, yx_29, yx_30, yx_31, yx_32, yx_33, yx_34, yx_35, yx_36, yx_37, yx_38, yx_39, yx_40, yx_41, yx_42, yx_43, yx_44, yx_45, yx_46, yx_47, yx_48, yx_49, yx_50, yx_51, yx_52, yx_53, yx_54, yx_55, yx_56, yx_57, yx_58, yx_59, yx_60, yx_61, yx_62, yx_63, yx_64, yx_65, yx_66, yx_67, yx_68, rx_0, rx_1, rx_2, rx_3, rx_4, rx_5, rx_6, rx_7, rx_8, rx_9, rx_10, rx_11, rx_12, rx_13, rx_14, rx_15, rx_16, rx_17, rx_18, rx_19, rx_20, rx_21, rx_22, rx_23, rx_24, rx_25, rx_26, rx_27, rx_28, rx_29, rx_30, rx_31, rx_32, rx_33, rp_0, rp_1, rp_2, rp_3, rp_4, rp_5, rp_6, rp_7, rp_8, rs_0, rs_1, rs_2, rs_3, rs_4, re_0, re_1, re_2, re_3, re_4, re_5, rr_0, rr_1, rr_2, rr_3, rr_4, rk_0, rk_1, isP3, isP11, isP46, isP58, isS25, isS28, isS31, un_X0_isCell, un_X0_isPerson, c5, c6]
  try simp only [iteP, Classical.not_not, b1_0, b1_1]
  refine ⟨fun z => ?_, fun z => ⟨fun z2 => ?_, fun z2 => ?_⟩⟩
  · rw [if_neg (fun q => z q.1)] at h; exact h M L hR
  · rw [if_neg (fun q => z2 q.2)] at h; exact h M L hR
  · rw [if_pos ⟨z, z2⟩] at h
    have hc := isC.lt hJ z
    have hv : vp_in c 36 := vp_in_iff.2 (by omega)
    refine ⟨hv, hv, ?_⟩
    rw [a39]
    exact h _ L ⟨r1, ⟨a19, a1, a20, a21, a22, a23, a24, a34, a37, a38, by show ma_up M 39 _ v 39 = ma_up (sN x) 20 _ v 20; rw [ma_up_at, ma_up_at, a39]; rfl⟩, r3.to (fun a ha => up_c (by omega)) rfl, r4⟩
theorem pv_X0_give : ∀ as M L K, S_X0_give as M L K → ma_rn (tb_X0_give S_X0_isCell S_X0_isPerson) 4 as M L K := by
  intro as M L K h
  unfold S_X0_give at h
  split at h
  · obtain ⟨x, h⟩ := h; exact pw_X0_give h.1 h.2
  · exact h.elim
def S_X5_give : ma_Cs := fun as M L K => match as with
  | [.ref k, .int c, .int v] => ∃ (x : St), (k = 0 ∧ J x ∧ RY M L x) ∧ (∀ (M' : ZM) (L' : ZL), RY M' L' (oGive c v x).2 → K (some (.int (oGive c v x).1)) M' L')
  | _ => False
theorem ms_X5_give : ma_ms S_X5_give := by
  intro as M L K K' hk h
  unfold S_X5_give at h ⊢
  split at h
  · obtain ⟨x, h⟩ := h
    exact ⟨x, h.1, fun x0 x1 x2 => hk _ _ _ (h.2 x0 x1 x2)⟩
  · exact h.elim
theorem un_X5_give {k : Nat} {c : Int32} {v : Int32} {M : ZM} {L : ZL} {K : ma_Kt} : S_X5_give [.ref k, .int c, .int v] M L K = (∃ (x : St), (k = 0 ∧ J x ∧ RY M L x) ∧ (∀ (M' : ZM) (L' : ZL), RY M' L' (oGive c v x).2 → K (some (.int (oGive c v x).1)) M' L')) := rfl
theorem pw_X5_give {k : Nat} {c : Int32} {v : Int32} {x : St} {M : ZM} {L : ZL} {K : ma_Kt} (hp : k = 0 ∧ J x ∧ RY M L x) (h : (∀ (M' : ZM) (L' : ZL), RY M' L' (oGive c v x).2 → K (some (.int (oGive c v x).1)) M' L')) : ma_rn (tb_X5_give S_X5_isCell S_X5_in) 4 [.ref k, .int c, .int v] M L K := by
  refine ⟨Nat.le_of_ble_eq_true rfl, fun V hV => ?_⟩
  obtain ⟨rfl, hJ, hR⟩ := hp
  obtain ⟨r1, ⟨a1, a2, a12, a13, a14, a15, a16, a17, a18, a19, a20⟩, r3, r4⟩ := id hR
  have c0 := r1.1
  have c1 := r1.2.1
  unfold oGive at h
  refine ma_walk (mo_X5_give ms_X5_isCell ms_X5_in) hV [] (fun F hF => ?_)
  simp only [tb_X5_give, hF, in_no, in_push, in_ild, in_lld, in_ald, in_ist, in_ast, in_lst, in_inc, in_iii, in_idv, in_ldv, in_lll, in_lli, in_lil, in_ii, in_il, in_li, in_ll, in_dup, in_dp2, q_if1, q_if2, in_go, in_sw, ma_sw, in_rv, in_ri, in_rz, in_rl, in_get, in_put, in_puz, in_iar, in_bar, in_lar, in_aar, in_iaw, in_baw, in_law, in_len, in_cpy, in_s1, in_s2, in_s3, in_v1, in_v2, in_v3, in_v4, in_v5, in_v6, ma_bk, ma_gl, ma_sl, ma_nl, ma_wc, ma_wd, ma_nn, ma_en, List.mem_cons, List.not_mem_nil, or_false, or_true, true_or, false_or, true_and, and_true, false_and, and_false, if_true, if_false, forall_const, true_implies, false_implies, not_true_eq_false, not_false_eq_true, Classical.not_not, implies_true, and_self, Nat.add_zero, Nat.zero_add, eq_self, ne_eq, reduceCtorEq, Nat.reduceLT, Nat.reduceLeDiff, Nat.reduceEqDiff, Nat.reduceSub, Nat.reduceAdd, i10, i01, im10, Int32.reduceLT, Int32.reduceLE, ↓reduceIte, reduceIte, up_r, uL_r, cp_r, Int32.toInt_toInt64, Int64.reduceToInt, Int32.reduceToInt, ↓b1_or, b1_0, b1_1, lc_lt, lc_le, lc_gt, lc_ge, lc_eq, ym_0, ym_1, ym_2, ym_3, ym_4, ym_5, ym_6, ym_7, ym_8, ym_9, ym_10, ym_11, ym_12, ym_13, ym_14, ym_15, ym_16, ym_17, ym_18, ym_19, ym_20, ym_21, ym_22, ym_23, ym_24, ym_25, ym_26, ym_27, ym_28, ym_29, ym_30, rm__0, rm__1, rm__2, rm__3, rm__4, rm__5, rm__6, rm__7, rm__8, rm__9, rm__10, rm__11, rm__12, rm__13, rm__14, rm__15, rm__16, rm__17, rm__18, rm__19, rm__20, rm__21, rm__22, rm__23, rm__24, rm__25, rm__26, rm__27, rm__28, rm__29, rm__30, rm__31, rm__32, rm__33, rm__34, rm__35, rm__36, rm__37, rm__38, rm__39, rm__40, rm__41, rm__42, rm__43, rm__44, rm__45, un_X5_isCell, un_X5_in, c0, c1]
  try simp only [iteP, Classical.not_not, b1_0, b1_1]
  refine ⟨fun z => ?_, fun z => ⟨fun z2 => ?_, fun z2 => ?_⟩⟩
  · rw [if_neg (fun q => z q.1)] at h; exact h M L hR
  · rw [if_neg (fun q => z2 q.2)] at h; exact h M L hR
  · rw [if_pos ⟨z, z2⟩] at h
    have hc := isC.lt hJ z
    have hv : vp_in c 36 := vp_in_iff.2 (by omega)
    refine ⟨hv, hv, ?_⟩
    rw [a20]
    exact h _ L ⟨r1, ⟨a1, a2, a12, a13, a14, a15, a16, a17, a18, a19, by show ma_up M 20 _ v 20 = ma_up (sN x) 20 _ v 20; rw [ma_up_at, ma_up_at, a20]; rfl⟩, r3.to rfl (fun a z1 z2 => up_c (by omega)), r4.1, r4.2.to rfl rfl⟩
theorem pv_X5_give : ∀ as M L K, S_X5_give as M L K → ma_rn (tb_X5_give S_X5_isCell S_X5_in) 4 as M L K := by
  intro as M L K h
  unfold S_X5_give at h
  split at h
  · obtain ⟨x, h⟩ := h; exact pw_X5_give h.1 h.2
  · exact h.elim
theorem J_give {c v : Int32} {x : St} (h : J x) : J (oGive c v x).2 := by
  unfold oGive
  split
  · next c2 =>
    obtain ⟨h1, ⟨a1, a2, a3, a4, a5⟩, h3, h4⟩ := h
    refine ⟨h1, ⟨a1, a2, a3, a4, fun q hq => ?_⟩, h3, h4⟩
    show ∃ v', v' < 6 ∧ ma_up (sN x) 20 (nat c) v 20 q = nI v'
    rw [ma_up_at]
    by_cases e : q = nat c
    · obtain ⟨m, em, hm, _⟩ := a_of (x := v) (by omega)
      exact ⟨m, by omega, by rw [e, pk_us]; exact em⟩
    · rw [pk_un e]; exact a5 q hq
  · exact h
/-! put -/
def oPut (c v : Int32) (x : St) : Int32 × St := if (0 ≤ c.toInt ∧ c.toInt ≤ (sN x 0 0 * sN x 0 1 - 1).toInt) ∧ (-1000000000 ≤ v.toInt ∧ v.toInt ≤ 1000000000) then (sN x 18 (nat c), wN x (ma_up (sN x) 18 (nat c) v)) else (-2000000000, x)
def S_X0_put : ma_Cs := fun as M L K => match as with
  | [.ref k, .int c, .int v] => ∃ (x : St), (k = 0 ∧ J x ∧ RX M L x) ∧ (∀ (M' : ZM) (L' : ZL), RX M' L' (oPut c v x).2 → K (some (.int (oPut c v x).1)) M' L')
  | _ => False
theorem ms_X0_put : ma_ms S_X0_put := by
  intro as M L K K' hk h
  unfold S_X0_put at h ⊢
  split at h
  · obtain ⟨x, h⟩ := h
    exact ⟨x, h.1, fun x0 x1 x2 => hk _ _ _ (h.2 x0 x1 x2)⟩
  · exact h.elim
theorem un_X0_put {k : Nat} {c : Int32} {v : Int32} {M : ZM} {L : ZL} {K : ma_Kt} : S_X0_put [.ref k, .int c, .int v] M L K = (∃ (x : St), (k = 0 ∧ J x ∧ RX M L x) ∧ (∀ (M' : ZM) (L' : ZL), RX M' L' (oPut c v x).2 → K (some (.int (oPut c v x).1)) M' L')) := rfl
theorem pw_X0_put {k : Nat} {c : Int32} {v : Int32} {x : St} {M : ZM} {L : ZL} {K : ma_Kt} (hp : k = 0 ∧ J x ∧ RX M L x) (h : (∀ (M' : ZM) (L' : ZL), RX M' L' (oPut c v x).2 → K (some (.int (oPut c v x).1)) M' L')) : ma_rn (tb_X0_put S_X0_isCell S_X0_isIn) 4 [.ref k, .int c, .int v] M L K := by
  refine ⟨Nat.le_of_ble_eq_true rfl, fun V hV => ?_⟩
  obtain ⟨rfl, hJ, hR⟩ := hp
  obtain ⟨r1, ⟨a19, a1, a20, a21, a22, a23, a24, a34, a37, a38, a39⟩, r3, r4⟩ := id hR
  have c5 := r1.2.1
  have c6 := r1.2.2.1
  unfold oPut at h
  refine ma_walk (mo_X0_put ms_X0_isCell ms_X0_isIn) hV [] (fun F hF => ?_)
  simp only [tb_X0_put, hF, in_no, in_push, in_ild, in_lld, in_ald, in_ist, in_ast, in_lst, in_inc, in_iii, in_idv, in_ldv, in_lll, in_lli, in_lil, in_ii, in_il, in_li, in_ll, in_dup, in_dp2, q_if1, q_if2, in_go, in_sw, ma_sw, in_rv, in_ri, in_rz, in_rl, in_get, in_put, in_puz, in_iar, in_bar, in_lar, in_aar, in_iaw, in_baw, in_law, in_len, in_cpy, in_s1, in_s2, in_s3, in_v1, in_v2, in_v3, in_v4, in_v5, in_v6, ma_bk, ma_gl, ma_sl, ma_nl, ma_wc, ma_wd, ma_nn, ma_en, List.mem_cons, List.not_mem_nil, or_false, or_true, true_or, false_or, true_and, and_true, false_and, and_false, if_true, if_false, forall_const, true_implies, false_implies, not_true_eq_false, not_false_eq_true, Classical.not_not, implies_true, and_self, Nat.add_zero, Nat.zero_add, eq_self, ne_eq, reduceCtorEq, Nat.reduceLT, Nat.reduceLeDiff, Nat.reduceEqDiff, Nat.reduceSub, Nat.reduceAdd, i10, i01, im10, Int32.reduceLT, Int32.reduceLE, ↓reduceIte, reduceIte, up_r, uL_r, cp_r, Int32.toInt_toInt64, Int64.reduceToInt, Int32.reduceToInt, ↓b1_or, b1_0, b1_1, lc_lt, lc_le, lc_gt, lc_ge, lc_eq, yx_0, yx_1, yx_2, yx_3, yx_4, yx_5, yx_6, yx_7, yx_8, yx_9, yx_10, yx_11, yx_12, yx_13, yx_14, yx_15, yx_16, yx_17, yx_18, yx_19, yx_20, yx_21, yx_22, yx_23, yx_24, yx_25, yx_26, yx_27, yx_28, yx_29, yx_30, yx_31, yx_32, yx_33, yx_34, yx_35, yx_36, yx_37, yx_38, yx_39, yx_40, yx_41, yx_42, yx_43, yx_44, yx_45, yx_46, yx_47, yx_48, yx_49, yx_50, yx_51, yx_52, yx_53, yx_54, yx_55, yx_56, yx_57, yx_58, yx_59, yx_60, yx_61, yx_62, yx_63, yx_64, yx_65, yx_66, yx_67, yx_68, rx_0, rx_1, rx_2, rx_3, rx_4, rx_5, rx_6, rx_7, rx_8, rx_9, rx_10, rx_11, rx_12, rx_13, rx_14, rx_15, rx_16, rx_17, rx_18, rx_19, rx_20, rx_21, rx_22, rx_23, rx_24, rx_25, rx_26, rx_27, rx_28, rx_29, rx_30, rx_31, rx_32, rx_33, rp_0, rp_1, rp_2, rp_3, rp_4, rp_5, rp_6, rp_7, rp_8, rs_0, rs_1, rs_2, rs_3, rs_4, re_0, re_1, re_2, re_3, re_4, re_5, rr_0, rr_1, rr_2, rr_3, rr_4, rk_0, rk_1, isP3, isP11, isP46, isP58, isS25, isS28, isS31, un_X0_isCell, un_X0_isIn, c5, c6]
  try simp only [iteP, Classical.not_not, b1_0, b1_1]
  refine ⟨fun z => ?_, fun z => ⟨fun z2 => ?_, fun z2 => ?_⟩⟩
  · rw [if_neg (fun q => z q.1)] at h; exact h M L hR
  · rw [if_neg (fun q => z2 q.2)] at h; exact h M L hR
  · rw [if_pos ⟨z, z2⟩] at h
    have hc := isC.lt hJ z
    have hv : vp_in c 36 := vp_in_iff.2 (by omega)
    refine ⟨hv, hv, ?_⟩
    rw [a37]
    exact h _ L ⟨r1, ⟨a19, a1, a20, a21, a22, a23, a24, a34, by show ma_up M 37 _ v 37 = ma_up (sN x) 18 _ v 18; rw [ma_up_at, ma_up_at, a37]; rfl, a38, a39⟩, r3.to (fun a ha => up_c (by omega)) rfl, r4⟩
theorem pv_X0_put : ∀ as M L K, S_X0_put as M L K → ma_rn (tb_X0_put S_X0_isCell S_X0_isIn) 4 as M L K := by
  intro as M L K h
  unfold S_X0_put at h
  split at h
  · obtain ⟨x, h⟩ := h; exact pw_X0_put h.1 h.2
  · exact h.elim
def S_X5_put : ma_Cs := fun as M L K => match as with
  | [.ref k, .int c, .int v] => ∃ (x : St), (k = 0 ∧ J x ∧ RY M L x) ∧ (∀ (M' : ZM) (L' : ZL), RY M' L' (oPut c v x).2 → K (some (.int (oPut c v x).1)) M' L')
  | _ => False
theorem ms_X5_put : ma_ms S_X5_put := by
  intro as M L K K' hk h
  unfold S_X5_put at h ⊢
  split at h
  · obtain ⟨x, h⟩ := h
    exact ⟨x, h.1, fun x0 x1 x2 => hk _ _ _ (h.2 x0 x1 x2)⟩
  · exact h.elim
theorem un_X5_put {k : Nat} {c : Int32} {v : Int32} {M : ZM} {L : ZL} {K : ma_Kt} : S_X5_put [.ref k, .int c, .int v] M L K = (∃ (x : St), (k = 0 ∧ J x ∧ RY M L x) ∧ (∀ (M' : ZM) (L' : ZL), RY M' L' (oPut c v x).2 → K (some (.int (oPut c v x).1)) M' L')) := rfl
theorem pw_X5_put {k : Nat} {c : Int32} {v : Int32} {x : St} {M : ZM} {L : ZL} {K : ma_Kt} (hp : k = 0 ∧ J x ∧ RY M L x) (h : (∀ (M' : ZM) (L' : ZL), RY M' L' (oPut c v x).2 → K (some (.int (oPut c v x).1)) M' L')) : ma_rn (tb_X5_put S_X5_isCell S_X5_in) 4 [.ref k, .int c, .int v] M L K := by
  refine ⟨Nat.le_of_ble_eq_true rfl, fun V hV => ?_⟩
  obtain ⟨rfl, hJ, hR⟩ := hp
  obtain ⟨r1, ⟨a1, a2, a12, a13, a14, a15, a16, a17, a18, a19, a20⟩, r3, r4⟩ := id hR
  have c0 := r1.1
  have c1 := r1.2.1
  unfold oPut at h
  refine ma_walk (mo_X5_put ms_X5_isCell ms_X5_in) hV [] (fun F hF => ?_)
  simp only [tb_X5_put, hF, in_no, in_push, in_ild, in_lld, in_ald, in_ist, in_ast, in_lst, in_inc, in_iii, in_idv, in_ldv, in_lll, in_lli, in_lil, in_ii, in_il, in_li, in_ll, in_dup, in_dp2, q_if1, q_if2, in_go, in_sw, ma_sw, in_rv, in_ri, in_rz, in_rl, in_get, in_put, in_puz, in_iar, in_bar, in_lar, in_aar, in_iaw, in_baw, in_law, in_len, in_cpy, in_s1, in_s2, in_s3, in_v1, in_v2, in_v3, in_v4, in_v5, in_v6, ma_bk, ma_gl, ma_sl, ma_nl, ma_wc, ma_wd, ma_nn, ma_en, List.mem_cons, List.not_mem_nil, or_false, or_true, true_or, false_or, true_and, and_true, false_and, and_false, if_true, if_false, forall_const, true_implies, false_implies, not_true_eq_false, not_false_eq_true, Classical.not_not, implies_true, and_self, Nat.add_zero, Nat.zero_add, eq_self, ne_eq, reduceCtorEq, Nat.reduceLT, Nat.reduceLeDiff, Nat.reduceEqDiff, Nat.reduceSub, Nat.reduceAdd, i10, i01, im10, Int32.reduceLT, Int32.reduceLE, ↓reduceIte, reduceIte, up_r, uL_r, cp_r, Int32.toInt_toInt64, Int64.reduceToInt, Int32.reduceToInt, ↓b1_or, b1_0, b1_1, lc_lt, lc_le, lc_gt, lc_ge, lc_eq, ym_0, ym_1, ym_2, ym_3, ym_4, ym_5, ym_6, ym_7, ym_8, ym_9, ym_10, ym_11, ym_12, ym_13, ym_14, ym_15, ym_16, ym_17, ym_18, ym_19, ym_20, ym_21, ym_22, ym_23, ym_24, ym_25, ym_26, ym_27, ym_28, ym_29, ym_30, rm__0, rm__1, rm__2, rm__3, rm__4, rm__5, rm__6, rm__7, rm__8, rm__9, rm__10, rm__11, rm__12, rm__13, rm__14, rm__15, rm__16, rm__17, rm__18, rm__19, rm__20, rm__21, rm__22, rm__23, rm__24, rm__25, rm__26, rm__27, rm__28, rm__29, rm__30, rm__31, rm__32, rm__33, rm__34, rm__35, rm__36, rm__37, rm__38, rm__39, rm__40, rm__41, rm__42, rm__43, rm__44, rm__45, un_X5_isCell, un_X5_in, c0, c1]
  try simp only [iteP, Classical.not_not, b1_0, b1_1]
  refine ⟨fun z => ?_, fun z => ⟨fun z2 => ?_, fun z2 => ?_⟩⟩
  · rw [if_neg (fun q => z q.1)] at h; exact h M L hR
  · rw [if_neg (fun q => z2 q.2)] at h; exact h M L hR
  · rw [if_pos ⟨z, z2⟩] at h
    have hc := isC.lt hJ z
    have hv : vp_in c 36 := vp_in_iff.2 (by omega)
    refine ⟨hv, hv, ?_⟩
    rw [a18]
    exact h _ L ⟨r1, ⟨a1, a2, a12, a13, a14, a15, a16, a17, by show ma_up M 18 _ v 18 = ma_up (sN x) 18 _ v 18; rw [ma_up_at, ma_up_at, a18]; rfl, a19, a20⟩, r3.to rfl (fun a z1 z2 => up_c (by omega)), r4.1, r4.2.to rfl rfl⟩
theorem pv_X5_put : ∀ as M L K, S_X5_put as M L K → ma_rn (tb_X5_put S_X5_isCell S_X5_in) 4 as M L K := by
  intro as M L K h
  unfold S_X5_put at h
  split at h
  · obtain ⟨x, h⟩ := h; exact pw_X5_put h.1 h.2
  · exact h.elim
theorem J_put {c v : Int32} {x : St} (h : J x) : J (oPut c v x).2 := by
  unfold oPut
  split
  · exact h
  · exact h
/-! first -/
def oFirst (c l v : Int32) (x : St) : Int32 × St := if (0 ≤ c.toInt ∧ c.toInt ≤ (sN x 0 0 * sN x 0 1 - 1).toInt) ∧ (0 ≤ l.toInt ∧ l.toInt ≤ 3) ∧ ((-1000000 ≤ v.toInt ∧ v.toInt ≤ 1000000) ∨ v = 2000000) then (sN x 12 (nat (4 * c + l)), wN x (ma_up (sN x) 12 (nat (4 * c + l)) v)) else (-2000000, x)
theorem ix_4 {c l : Int32} (h1 : 0 ≤ c.toInt) (h2 : c.toInt < 36) (h3 : 0 ≤ l.toInt ∧ l.toInt ≤ 3) : vp_in (4 * c + l) 144 := by
  obtain ⟨m, em, hm, _⟩ := a_of h1
  obtain ⟨n, en, hn, _⟩ := a_of h3.1
  rw [em, en, show (4 : Int32) = nI 4 from rfl, pk_mul, nI_add]
  exact vp_in_nI (by omega) (by decide)
def S_X0_first : ma_Cs := fun as M L K => match as with
  | [.ref k, .int c, .int l, .int v] => ∃ (x : St), (k = 0 ∧ J x ∧ RX M L x) ∧ (∀ (M' : ZM) (L' : ZL), RX M' L' (oFirst c l v x).2 → K (some (.int (oFirst c l v x).1)) M' L')
  | _ => False
theorem ms_X0_first : ma_ms S_X0_first := by
  intro as M L K K' hk h
  unfold S_X0_first at h ⊢
  split at h
  · obtain ⟨x, h⟩ := h
    exact ⟨x, h.1, fun x0 x1 x2 => hk _ _ _ (h.2 x0 x1 x2)⟩
  · exact h.elim
theorem un_X0_first {k : Nat} {c : Int32} {l : Int32} {v : Int32} {M : ZM} {L : ZL} {K : ma_Kt} : S_X0_first [.ref k, .int c, .int l, .int v] M L K = (∃ (x : St), (k = 0 ∧ J x ∧ RX M L x) ∧ (∀ (M' : ZM) (L' : ZL), RX M' L' (oFirst c l v x).2 → K (some (.int (oFirst c l v x).1)) M' L')) := rfl
theorem pw_X0_first {k : Nat} {c : Int32} {l : Int32} {v : Int32} {x : St} {M : ZM} {L : ZL} {K : ma_Kt} (hp : k = 0 ∧ J x ∧ RX M L x) (h : (∀ (M' : ZM) (L' : ZL), RX M' L' (oFirst c l v x).2 → K (some (.int (oFirst c l v x).1)) M' L')) : ma_rn (tb_X0_first S_X0_isCell S_X0_isLetter S_X0_isIn) 5 [.ref k, .int c, .int l, .int v] M L K := by
  refine ⟨Nat.le_of_ble_eq_true rfl, fun V hV => ?_⟩
  obtain ⟨rfl, hJ, hR⟩ := hp
  obtain ⟨r1, ⟨a19, a1, a20, a21, a22, a23, a24, a34, a37, a38, a39⟩, r3, r4⟩ := id hR
  have c5 := r1.2.1
  have c6 := r1.2.2.1
  unfold oFirst at h
  refine ma_walk (mo_X0_first ms_X0_isCell ms_X0_isLetter ms_X0_isIn) hV [] (fun F hF => ?_)
  simp only [tb_X0_first, hF, in_no, in_push, in_ild, in_lld, in_ald, in_ist, in_ast, in_lst, in_inc, in_iii, in_idv, in_ldv, in_lll, in_lli, in_lil, in_ii, in_il, in_li, in_ll, in_dup, in_dp2, q_if1, q_if2, in_go, in_sw, ma_sw, in_rv, in_ri, in_rz, in_rl, in_get, in_put, in_puz, in_iar, in_bar, in_lar, in_aar, in_iaw, in_baw, in_law, in_len, in_cpy, in_s1, in_s2, in_s3, in_v1, in_v2, in_v3, in_v4, in_v5, in_v6, ma_bk, ma_gl, ma_sl, ma_nl, ma_wc, ma_wd, ma_nn, ma_en, List.mem_cons, List.not_mem_nil, or_false, or_true, true_or, false_or, true_and, and_true, false_and, and_false, if_true, if_false, forall_const, true_implies, false_implies, not_true_eq_false, not_false_eq_true, Classical.not_not, implies_true, and_self, Nat.add_zero, Nat.zero_add, eq_self, ne_eq, reduceCtorEq, Nat.reduceLT, Nat.reduceLeDiff, Nat.reduceEqDiff, Nat.reduceSub, Nat.reduceAdd, i10, i01, im10, Int32.reduceLT, Int32.reduceLE, ↓reduceIte, reduceIte, up_r, uL_r, cp_r, Int32.toInt_toInt64, Int64.reduceToInt, Int32.reduceToInt, ↓b1_or, b1_0, b1_1, lc_lt, lc_le, lc_gt, lc_ge, lc_eq, yx_0, yx_1, yx_2, yx_3, yx_4, yx_5, yx_6, yx_7, yx_8, yx_9, yx_10, yx_11, yx_12, yx_13, yx_14, yx_15, yx_16, yx_17, yx_18, yx_19, yx_20, yx_21, yx_22, yx_23, yx_24, yx_25, yx_26, yx_27, yx_28, yx_29, yx_30, yx_31, yx_32, yx_33, yx_34, yx_35, yx_36, yx_37, yx_38, yx_39, yx_40, yx_41, yx_42, yx_43, yx_44, yx_45, yx_46, yx_47, yx_48, yx_49, yx_50, yx_51, yx_52, yx_53, yx_54, yx_55, yx_56, yx_57, yx_58, yx_59, yx_60, yx_61, yx_62, yx_63, yx_64, yx_65, yx_66, yx_67, yx_68, rx_0, rx_1, rx_2, rx_3, rx_4, rx_5, rx_6, rx_7, rx_8, rx_9, rx_10, rx_11, rx_12, rx_13, rx_14, rx_15, rx_16, rx_17, rx_18, rx_19, rx_20, rx_21, rx_22, rx_23, rx_24, rx_25, rx_26, rx_27, rx_28, rx_29, rx_30, rx_31, rx_32, rx_33, rp_0, rp_1, rp_2, rp_3, rp_4, rp_5, rp_6, rp_7, rp_8, rs_0, rs_1, rs_2, rs_3, rs_4, re_0, re_1, re_2, re_3, re_4, re_5, rr_0, rr_1, rr_2, rr_3, rr_4, rk_0, rk_1, isP3, isP11, isP46, isP58, isS25, isS28, isS31, un_X0_isCell, un_X0_isLetter, un_X0_isIn, c5, c6]
  try simp only [iteP, Classical.not_not, b1_0, b1_1]
  have ok : (0 ≤ c.toInt ∧ c.toInt ≤ (sN x 0 0 * sN x 0 1 - 1).toInt) → (0 ≤ l.toInt ∧ l.toInt ≤ 3) → ((-1000000 ≤ v.toInt ∧ v.toInt ≤ 1000000) ∨ v = 2000000) → vp_in (4 * c + l) 144 ∧ vp_in (4 * c + l) 144 ∧ K (some (.int (M 20 (4 * c + l).toNatClampNeg))) (ma_up (ma_up M 20 (4 * c + l).toNatClampNeg v) 0 15 0) L := by
    intro z z2 z3
    rw [if_pos ⟨z, z2, z3⟩] at h
    have hv := ix_4 z.1 (isC.lt hJ z) z2
    refine ⟨hv, hv, ?_⟩
    rw [a20]
    exact h _ L ⟨r1, ⟨a19, a1, by show ma_up (ma_up M 20 _ v) 0 15 0 20 = ma_up (sN x) 12 _ v 12; rw [up_c (by decide), ma_up_at, ma_up_at, a20]; rfl, a21, a22, a23, a24, a34, a37, a38, a39⟩, r3.to (fun a ha => by rw [up_c (by omega), up_c (by omega)]) rfl, Or.inl rfl⟩
  refine ⟨fun z => ?_, fun z => ⟨fun z2 => ?_, fun z2 => ⟨fun z3 => ⟨fun z4 => ok z z2 (Or.inr z4), fun z4 => ?_⟩, fun z3 => ok z z2 (Or.inl z3)⟩⟩⟩
  · rw [if_neg (fun q => z q.1)] at h; exact h M L hR
  · rw [if_neg (fun q => z2 q.2.1)] at h; exact h M L hR
  · rw [if_neg (fun q => by rcases q.2.2 with y | y; exact z3 y; exact z4 y)] at h; exact h M L hR
theorem pv_X0_first : ∀ as M L K, S_X0_first as M L K → ma_rn (tb_X0_first S_X0_isCell S_X0_isLetter S_X0_isIn) 5 as M L K := by
  intro as M L K h
  unfold S_X0_first at h
  split at h
  · obtain ⟨x, h⟩ := h; exact pw_X0_first h.1 h.2
  · exact h.elim
def S_X5_first : ma_Cs := fun as M L K => match as with
  | [.ref k, .int c, .int l, .int v] => ∃ (x : St), (k = 0 ∧ J x ∧ RY M L x) ∧ (∀ (M' : ZM) (L' : ZL), RY M' L' (oFirst c l v x).2 → K (some (.int (oFirst c l v x).1)) M' L')
  | _ => False
theorem ms_X5_first : ma_ms S_X5_first := by
  intro as M L K K' hk h
  unfold S_X5_first at h ⊢
  split at h
  · obtain ⟨x, h⟩ := h
    exact ⟨x, h.1, fun x0 x1 x2 => hk _ _ _ (h.2 x0 x1 x2)⟩
  · exact h.elim
theorem un_X5_first {k : Nat} {c : Int32} {l : Int32} {v : Int32} {M : ZM} {L : ZL} {K : ma_Kt} : S_X5_first [.ref k, .int c, .int l, .int v] M L K = (∃ (x : St), (k = 0 ∧ J x ∧ RY M L x) ∧ (∀ (M' : ZM) (L' : ZL), RY M' L' (oFirst c l v x).2 → K (some (.int (oFirst c l v x).1)) M' L')) := rfl
theorem pw_X5_first {k : Nat} {c : Int32} {l : Int32} {v : Int32} {x : St} {M : ZM} {L : ZL} {K : ma_Kt} (hp : k = 0 ∧ J x ∧ RY M L x) (h : (∀ (M' : ZM) (L' : ZL), RY M' L' (oFirst c l v x).2 → K (some (.int (oFirst c l v x).1)) M' L')) : ma_rn (tb_X5_first S_X5_isCell S_X5_isLetter S_X5_in) 5 [.ref k, .int c, .int l, .int v] M L K := by
  refine ⟨Nat.le_of_ble_eq_true rfl, fun V hV => ?_⟩
  obtain ⟨rfl, hJ, hR⟩ := hp
  obtain ⟨r1, ⟨a1, a2, a12, a13, a14, a15, a16, a17, a18, a19, a20⟩, r3, r4⟩ := id hR
  have c0 := r1.1
  have c1 := r1.2.1
  unfold oFirst at h
  refine ma_walk (mo_X5_first ms_X5_isCell ms_X5_isLetter ms_X5_in) hV [] (fun F hF => ?_)
  simp only [tb_X5_first, hF, in_no, in_push, in_ild, in_lld, in_ald, in_ist, in_ast, in_lst, in_inc, in_iii, in_idv, in_ldv, in_lll, in_lli, in_lil, in_ii, in_il, in_li, in_ll, in_dup, in_dp2, q_if1, q_if2, in_go, in_sw, ma_sw, in_rv, in_ri, in_rz, in_rl, in_get, in_put, in_puz, in_iar, in_bar, in_lar, in_aar, in_iaw, in_baw, in_law, in_len, in_cpy, in_s1, in_s2, in_s3, in_v1, in_v2, in_v3, in_v4, in_v5, in_v6, ma_bk, ma_gl, ma_sl, ma_nl, ma_wc, ma_wd, ma_nn, ma_en, List.mem_cons, List.not_mem_nil, or_false, or_true, true_or, false_or, true_and, and_true, false_and, and_false, if_true, if_false, forall_const, true_implies, false_implies, not_true_eq_false, not_false_eq_true, Classical.not_not, implies_true, and_self, Nat.add_zero, Nat.zero_add, eq_self, ne_eq, reduceCtorEq, Nat.reduceLT, Nat.reduceLeDiff, Nat.reduceEqDiff, Nat.reduceSub, Nat.reduceAdd, i10, i01, im10, Int32.reduceLT, Int32.reduceLE, ↓reduceIte, reduceIte, up_r, uL_r, cp_r, Int32.toInt_toInt64, Int64.reduceToInt, Int32.reduceToInt, ↓b1_or, b1_0, b1_1, lc_lt, lc_le, lc_gt, lc_ge, lc_eq, ym_0, ym_1, ym_2, ym_3, ym_4, ym_5, ym_6, ym_7, ym_8, ym_9, ym_10, ym_11, ym_12, ym_13, ym_14, ym_15, ym_16, ym_17, ym_18, ym_19, ym_20, ym_21, ym_22, ym_23, ym_24, ym_25, ym_26, ym_27, ym_28, ym_29, ym_30, rm__0, rm__1, rm__2, rm__3, rm__4, rm__5, rm__6, rm__7, rm__8, rm__9, rm__10, rm__11, rm__12, rm__13, rm__14, rm__15, rm__16, rm__17, rm__18, rm__19, rm__20, rm__21, rm__22, rm__23, rm__24, rm__25, rm__26, rm__27, rm__28, rm__29, rm__30, rm__31, rm__32, rm__33, rm__34, rm__35, rm__36, rm__37, rm__38, rm__39, rm__40, rm__41, rm__42, rm__43, rm__44, rm__45, un_X5_isCell, un_X5_isLetter, un_X5_in, c0, c1]
  try simp only [iteP, Classical.not_not, b1_0, b1_1]
  have ok : (0 ≤ c.toInt ∧ c.toInt ≤ (sN x 0 0 * sN x 0 1 - 1).toInt) → (0 ≤ l.toInt ∧ l.toInt ≤ 3) → ((-1000000 ≤ v.toInt ∧ v.toInt ≤ 1000000) ∨ v = 2000000) → vp_in (4 * c + l) 144 ∧ vp_in (4 * c + l) 144 ∧ K (some (.int (M 12 (4 * c + l).toNatClampNeg))) (ma_up M 12 (4 * c + l).toNatClampNeg v) L := by
    intro z z2 z3
    rw [if_pos ⟨z, z2, z3⟩] at h
    have hv := ix_4 z.1 (isC.lt hJ z) z2
    refine ⟨hv, hv, ?_⟩
    rw [a12]
    exact h _ L ⟨r1, ⟨a1, a2, by show ma_up M 12 _ v 12 = ma_up (sN x) 12 _ v 12; rw [ma_up_at, ma_up_at, a12]; rfl, a13, a14, a15, a16, a17, a18, a19, a20⟩, r3.to rfl (fun a z1 z2 => up_c (by omega)), r4.1, r4.2.to rfl rfl⟩
  refine ⟨fun z => ?_, fun z => ⟨fun z2 => ?_, fun z2 => ⟨fun z3 => ⟨fun z4 => ok z z2 (Or.inr z4), fun z4 => ?_⟩, fun z3 => ok z z2 (Or.inl z3)⟩⟩⟩
  · rw [if_neg (fun q => z q.1)] at h; exact h M L hR
  · rw [if_neg (fun q => z2 q.2.1)] at h; exact h M L hR
  · rw [if_neg (fun q => by rcases q.2.2 with y | y; exact z3 y; exact z4 y)] at h; exact h M L hR
theorem pv_X5_first : ∀ as M L K, S_X5_first as M L K → ma_rn (tb_X5_first S_X5_isCell S_X5_isLetter S_X5_in) 5 as M L K := by
  intro as M L K h
  unfold S_X5_first at h
  split at h
  · obtain ⟨x, h⟩ := h; exact pw_X5_first h.1 h.2
  · exact h.elim
theorem J_first {c l v : Int32} {x : St} (h : J x) : J (oFirst c l v x).2 := by
  unfold oFirst
  split
  · next c2 =>
    obtain ⟨h1, ⟨a1, a2, a3, a4, a5⟩, h3, h4⟩ := h
    refine ⟨h1, ⟨a1, ?_, a3, a4, a5⟩, h3, h4⟩
    show Fb (sN x 1) (ma_up (sN x) 12 (nat (4 * c + l)) v 12)
    rw [ma_up_at]
    exact a2.uf (by rcases c2.2.2 with y | y; exact Or.inr y; exact Or.inl y)
  · exact h
