/-! ops: slip, tell -/
set_option maxRecDepth 100000
set_option maxHeartbeats 4000000
abbrev cSlip (s c l a : Int32) (x : St) : Prop := (1 ≤ s.toInt ∧ s.toInt ≤ 12) ∧ (0 ≤ c.toInt ∧ c.toInt ≤ (sN x 0 0 * sN x 0 1 - 1).toInt) ∧ (0 ≤ l.toInt ∧ l.toInt ≤ 3) ∧ (-1000000 ≤ a.toInt ∧ a.toInt ≤ 1000000) ∧ ¬ a = 0
def nSlip (s c l a : Int32) (x : St) : St := wN x (ma_up (ma_up (ma_up (ma_up (ma_up (sN x) 13 (nat (sN x 0 19)) s) 14 (nat (sN x 0 19)) c) 15 (nat (sN x 0 19)) l) 16 (nat (sN x 0 19)) a) 0 19 (sN x 0 19 + 1))
theorem nSlip_13 (s c l a : Int32) (x : St) : sN (nSlip s c l a x) 13 = upd (sN x 13) (nat (sN x 0 19)) s := by
  show ma_up (ma_up (ma_up (ma_up (ma_up (sN x) 13 (nat (sN x 0 19)) s) 14 (nat (sN x 0 19)) c) 15 (nat (sN x 0 19)) l) 16 (nat (sN x 0 19)) a) 0 19 (sN x 0 19 + 1) 13 = _
  simp only [up_c, ma_up_at, ne_eq, Nat.reduceEqDiff, not_false_eq_true]
theorem nSlip_14 (s c l a : Int32) (x : St) : sN (nSlip s c l a x) 14 = upd (sN x 14) (nat (sN x 0 19)) c := by
  show ma_up (ma_up (ma_up (ma_up (ma_up (sN x) 13 (nat (sN x 0 19)) s) 14 (nat (sN x 0 19)) c) 15 (nat (sN x 0 19)) l) 16 (nat (sN x 0 19)) a) 0 19 (sN x 0 19 + 1) 14 = _
  simp only [up_c, ma_up_at, ne_eq, Nat.reduceEqDiff, not_false_eq_true]
theorem nSlip_15 (s c l a : Int32) (x : St) : sN (nSlip s c l a x) 15 = upd (sN x 15) (nat (sN x 0 19)) l := by
  show ma_up (ma_up (ma_up (ma_up (ma_up (sN x) 13 (nat (sN x 0 19)) s) 14 (nat (sN x 0 19)) c) 15 (nat (sN x 0 19)) l) 16 (nat (sN x 0 19)) a) 0 19 (sN x 0 19 + 1) 15 = _
  simp only [up_c, ma_up_at, ne_eq, Nat.reduceEqDiff, not_false_eq_true]
theorem nSlip_16 (s c l a : Int32) (x : St) : sN (nSlip s c l a x) 16 = upd (sN x 16) (nat (sN x 0 19)) a := by
  show ma_up (ma_up (ma_up (ma_up (ma_up (sN x) 13 (nat (sN x 0 19)) s) 14 (nat (sN x 0 19)) c) 15 (nat (sN x 0 19)) l) 16 (nat (sN x 0 19)) a) 0 19 (sN x 0 19 + 1) 16 = _
  simp only [up_c, ma_up_at, ne_eq, Nat.reduceEqDiff, not_false_eq_true]
def oSlip (s c l a : Int32) (x : St) : Int32 × St := if cSlip s c l a x then (if sN x 0 19 = 12 then (-3, x) else (sN x 0 19 + 1, nSlip s c l a x)) else (-1, x)
def S_X0_slip : ma_Cs := fun as M L K => match as with
  | [.ref k, .int s, .int c, .int l, .int a] => ∃ (x : St), (k = 0 ∧ J x ∧ RX M L x) ∧ (∀ (M' : ZM) (L' : ZL), RX M' L' (oSlip s c l a x).2 → K (some (.int (oSlip s c l a x).1)) M' L')
  | _ => False
theorem ms_X0_slip : ma_ms S_X0_slip := by
  intro as M L K K' hk h
  unfold S_X0_slip at h ⊢
  split at h
  · obtain ⟨x, h⟩ := h
    exact ⟨x, h.1, fun x0 x1 x2 => hk _ _ _ (h.2 x0 x1 x2)⟩
  · exact h.elim
theorem un_X0_slip {k : Nat} {s : Int32} {c : Int32} {l : Int32} {a : Int32} {M : ZM} {L : ZL} {K : ma_Kt} : S_X0_slip [.ref k, .int s, .int c, .int l, .int a] M L K = (∃ (x : St), (k = 0 ∧ J x ∧ RX M L x) ∧ (∀ (M' : ZM) (L' : ZL), RX M' L' (oSlip s c l a x).2 → K (some (.int (oSlip s c l a x).1)) M' L')) := rfl
theorem pw_X0_slip {k : Nat} {s : Int32} {c : Int32} {l : Int32} {a : Int32} {x : St} {M : ZM} {L : ZL} {K : ma_Kt} (hp : k = 0 ∧ J x ∧ RX M L x) (h : (∀ (M' : ZM) (L' : ZL), RX M' L' (oSlip s c l a x).2 → K (some (.int (oSlip s c l a x).1)) M' L')) : ma_rn (tb_X0_slip S_X0_isPlace S_X0_isIn) 5 [.ref k, .int s, .int c, .int l, .int a] M L K := by
  refine ⟨Nat.le_of_ble_eq_true rfl, fun V hV => ?_⟩
  obtain ⟨rfl, hJ, hR⟩ := hp
  obtain ⟨⟨c0, c5, c6, c7, c10, c19, c20, c25, c33⟩, ⟨a19, a1, a20, a21, a22, a23, a24, a34, a37, a38, a39⟩, r3, r4⟩ := id hR
  unfold oSlip at h
  have no : ¬ cSlip s c l a x → K (some (.int (-1))) M L := fun z => by rw [if_neg z] at h; exact h M L hR
  have full : cSlip s c l a x → sN x 0 19 = 12 → K (some (.int (-3))) M L := fun z z2 => by rw [if_pos z, if_pos z2] at h; exact h M L hR
  have yes : cSlip s c l a x → ¬ sN x 0 19 = 12 → ∀ (M' : ZM) (L' : ZL), RX M' L' (nSlip s c l a x) → K (some (.int (sN x 0 19 + 1))) M' L' := fun z z2 => by rw [if_pos z, if_neg z2] at h; exact h
  refine ma_walk (mo_X0_slip ms_X0_isPlace ms_X0_isIn) hV [] (fun F hF => ?_)
  simp only [tb_X0_slip, hF, in_no, in_push, in_ild, in_lld, in_ald, in_ist, in_ast, in_lst, in_inc, in_iii, in_idv, in_ldv, in_lll, in_lli, in_lil, in_ii, in_il, in_li, in_ll, in_dup, in_dp2, q_if1, q_if2, in_go, in_sw, ma_sw, in_rv, in_ri, in_rz, in_rl, in_get, in_put, in_puz, in_iar, in_bar, in_lar, in_aar, in_iaw, in_baw, in_law, in_len, in_cpy, in_s1, in_s2, in_s3, in_v1, in_v2, in_v3, in_v4, in_v5, in_v6, ma_bk, ma_gl, ma_sl, ma_nl, ma_wc, ma_wd, ma_nn, ma_en, List.mem_cons, List.not_mem_nil, or_false, or_true, true_or, false_or, true_and, and_true, false_and, and_false, if_true, if_false, forall_const, true_implies, false_implies, not_true_eq_false, not_false_eq_true, Classical.not_not, implies_true, and_self, Nat.add_zero, Nat.zero_add, eq_self, ne_eq, reduceCtorEq, Nat.reduceLT, Nat.reduceLeDiff, Nat.reduceEqDiff, Nat.reduceSub, Nat.reduceAdd, i10, i01, im10, Int32.reduceLT, Int32.reduceLE, ↓reduceIte, reduceIte, up_r, uL_r, cp_r, Int32.toInt_toInt64, Int64.reduceToInt, Int32.reduceToInt, ↓b1_or, b1_0, b1_1, lc_lt, lc_le, lc_gt, lc_ge, lc_eq, yx_0, yx_1, yx_2, yx_3, yx_4, yx_5, yx_6, yx_7, yx_8, yx_9, yx_10, yx_11, yx_12, yx_13, yx_14, yx_15, yx_16, yx_17, yx_18, yx_19, yx_20, yx_21, yx_22, yx_23, yx_24, yx_25, yx_26, yx_27, yx_28, yx_29, yx_30, yx_31, yx_32, yx_33, yx_34, yx_35, yx_36, yx_37, yx_38, yx_39, yx_40, yx_41, yx_42, yx_43, yx_44, yx_45, yx_46, yx_47, yx_48, yx_49, yx_50, yx_51, yx_52, yx_53, yx_54, yx_55, yx_56, yx_57, yx_58, yx_59, yx_60, yx_61, yx_62, yx_63, yx_64, yx_65, yx_66, yx_67, yx_68, rx_0, rx_1, rx_2, rx_3, rx_4, rx_5, rx_6, rx_7, rx_8, rx_9, rx_10, rx_11, rx_12, rx_13, rx_14, rx_15, rx_16, rx_17, rx_18, rx_19, rx_20, rx_21, rx_22, rx_23, rx_24, rx_25, rx_26, rx_27, rx_28, rx_29, rx_30, rx_31, rx_32, rx_33, rp_0, rp_1, rp_2, rp_3, rp_4, rp_5, rp_6, rp_7, rp_8, rs_0, rs_1, rs_2, rs_3, rs_4, re_0, re_1, re_2, re_3, re_4, re_5, rr_0, rr_1, rr_2, rr_3, rr_4, rk_0, rk_1, isP3, isP11, isP46, isP58, isS25, isS28, isS31, un_X0_isPlace, un_X0_isIn, c5, c6, c10]
  try simp only [iteP, Classical.not_not, b1_0, b1_1]
  have s0 : s = 0 ↔ s.toInt = 0 := ⟨fun z => by rw [z]; rfl, fun z => i_ext z⟩
  refine ⟨fun z => no (fun q => z ⟨⟨by have := q.1; omega, q.1.2⟩, q.2.1, q.2.2.1⟩), fun z => ⟨fun z2 => no (fun q => by have := s0.1 z2; have := q.1; omega), fun z2 => ⟨fun z3 => no (fun q => q.2.2.2.2 z3), fun z3 => ⟨fun z4 => no (fun q => z4 q.2.2.2.1), fun z4 => ?_⟩⟩⟩⟩
  have hC : cSlip s c l a x := ⟨⟨by have : ¬ s.toInt = 0 := fun y => z2 (s0.2 y); have := z.1.1; omega, z.1.2⟩, z.2.1, z.2.2, z4, z3⟩
  refine ⟨fun z5 => full hC z5, fun z5 => ?_⟩
  obtain ⟨⟨w', u', e, wk, n, ns, a', b, km, h1, h2, h3, h4, h5, h6, h7, h8, h9, g1, g2, g3, g4, g5, g6, g7, g8, g9, f1, f2⟩, ja, jp, jk⟩ := hJ
  have hv : vp_in (sN x 0 19) 12 := by
    rw [h6]
    refine vp_in_nI ?_ (by decide)
    have : ns ≠ 12 := fun y => z5 (by rw [h6, y]; rfl)
    omega
  refine ⟨hv, hv, hv, hv, yes hC z5 _ _ ⟨⟨c0, c5, c6, c7, rfl, c19, c20, c25, c33⟩, ⟨a19, a1, a20, ?_, ?_, ?_, ?_, a34, a37, a38, a39⟩, r3.to (fun a ha => ?_) rfl, Or.inl rfl⟩⟩
  · rw [nSlip_13]
    simp only [up_c, ma_up_at, ud_2, ne_eq, Nat.reduceEqDiff, not_false_eq_true] <;> try rfl
    rw [a21]; rfl
  · rw [nSlip_14]
    simp only [up_c, ma_up_at, ud_2, ne_eq, Nat.reduceEqDiff, not_false_eq_true] <;> try rfl
    rw [a22]; rfl
  · rw [nSlip_15]
    simp only [up_c, ma_up_at, ud_2, ne_eq, Nat.reduceEqDiff, not_false_eq_true] <;> try rfl
    rw [a23]; rfl
  · rw [nSlip_16]
    simp only [up_c, ma_up_at, ud_2, ne_eq, Nat.reduceEqDiff, not_false_eq_true] <;> try rfl
    rw [a24]; rfl
  · rw [up_c (by omega), up_c (by omega), up_c (by omega), up_c (by omega), up_c (by omega), up_c (by omega)]
theorem pv_X0_slip : ∀ as M L K, S_X0_slip as M L K → ma_rn (tb_X0_slip S_X0_isPlace S_X0_isIn) 5 as M L K := by
  intro as M L K h
  unfold S_X0_slip at h
  split at h
  · obtain ⟨x, h⟩ := h; exact pw_X0_slip h.1 h.2
  · exact h.elim
def S_X5_slip : ma_Cs := fun as M L K => match as with
  | [.ref k, .int s, .int c, .int l, .int a] => ∃ (x : St), (k = 0 ∧ J x ∧ RY M L x) ∧ (∀ (M' : ZM) (L' : ZL), RY M' L' (oSlip s c l a x).2 → K (some (.int (oSlip s c l a x).1)) M' L')
  | _ => False
theorem ms_X5_slip : ma_ms S_X5_slip := by
  intro as M L K K' hk h
  unfold S_X5_slip at h ⊢
  split at h
  · obtain ⟨x, h⟩ := h
    exact ⟨x, h.1, fun x0 x1 x2 => hk _ _ _ (h.2 x0 x1 x2)⟩
  · exact h.elim
theorem un_X5_slip {k : Nat} {s : Int32} {c : Int32} {l : Int32} {a : Int32} {M : ZM} {L : ZL} {K : ma_Kt} : S_X5_slip [.ref k, .int s, .int c, .int l, .int a] M L K = (∃ (x : St), (k = 0 ∧ J x ∧ RY M L x) ∧ (∀ (M' : ZM) (L' : ZL), RY M' L' (oSlip s c l a x).2 → K (some (.int (oSlip s c l a x).1)) M' L')) := rfl
theorem pw_X5_slip {k : Nat} {s : Int32} {c : Int32} {l : Int32} {a : Int32} {x : St} {M : ZM} {L : ZL} {K : ma_Kt} (hp : k = 0 ∧ J x ∧ RY M L x) (h : (∀ (M' : ZM) (L' : ZL), RY M' L' (oSlip s c l a x).2 → K (some (.int (oSlip s c l a x).1)) M' L')) : ma_rn (tb_X5_slip S_X5_in S_X5_isCell S_X5_isLetter) 5 [.ref k, .int s, .int c, .int l, .int a] M L K := by
  refine ⟨Nat.le_of_ble_eq_true rfl, fun V hV => ?_⟩
  obtain ⟨rfl, hJ, hR⟩ := hp
  obtain ⟨⟨c0, c1, c2, c3, c5, c19, c24, c25, c30⟩, ⟨a1, a2, a12, a13, a14, a15, a16, a17, a18, a19, a20⟩, r3, r4⟩ := id hR
  unfold oSlip at h
  have no : ¬ cSlip s c l a x → K (some (.int (-1))) M L := fun z => by rw [if_neg z] at h; exact h M L hR
  have full : cSlip s c l a x → sN x 0 19 = 12 → K (some (.int (-3))) M L := fun z z2 => by rw [if_pos z, if_pos z2] at h; exact h M L hR
  have yes : cSlip s c l a x → ¬ sN x 0 19 = 12 → ∀ (M' : ZM) (L' : ZL), RY M' L' (nSlip s c l a x) → K (some (.int (sN x 0 19 + 1))) M' L' := fun z z2 => by rw [if_pos z, if_neg z2] at h; exact h
  refine ma_walk (mo_X5_slip ms_X5_in ms_X5_isCell ms_X5_isLetter) hV [] (fun F hF => ?_)
  simp only [tb_X5_slip, hF, in_no, in_push, in_ild, in_lld, in_ald, in_ist, in_ast, in_lst, in_inc, in_iii, in_idv, in_ldv, in_lll, in_lli, in_lil, in_ii, in_il, in_li, in_ll, in_dup, in_dp2, q_if1, q_if2, in_go, in_sw, ma_sw, in_rv, in_ri, in_rz, in_rl, in_get, in_put, in_puz, in_iar, in_bar, in_lar, in_aar, in_iaw, in_baw, in_law, in_len, in_cpy, in_s1, in_s2, in_s3, in_v1, in_v2, in_v3, in_v4, in_v5, in_v6, ma_bk, ma_gl, ma_sl, ma_nl, ma_wc, ma_wd, ma_nn, ma_en, List.mem_cons, List.not_mem_nil, or_false, or_true, true_or, false_or, true_and, and_true, false_and, and_false, if_true, if_false, forall_const, true_implies, false_implies, not_true_eq_false, not_false_eq_true, Classical.not_not, implies_true, and_self, Nat.add_zero, Nat.zero_add, eq_self, ne_eq, reduceCtorEq, Nat.reduceLT, Nat.reduceLeDiff, Nat.reduceEqDiff, Nat.reduceSub, Nat.reduceAdd, i10, i01, im10, Int32.reduceLT, Int32.reduceLE, ↓reduceIte, reduceIte, up_r, uL_r, cp_r, Int32.toInt_toInt64, Int64.reduceToInt, Int32.reduceToInt, ↓b1_or, b1_0, b1_1, lc_lt, lc_le, lc_gt, lc_ge, lc_eq, ym_0, ym_1, ym_2, ym_3, ym_4, ym_5, ym_6, ym_7, ym_8, ym_9, ym_10, ym_11, ym_12, ym_13, ym_14, ym_15, ym_16, ym_17, ym_18, ym_19, ym_20, ym_21, ym_22, ym_23, ym_24, ym_25, ym_26, ym_27, ym_28, ym_29, ym_30, rm__0, rm__1, rm__2, rm__3, rm__4, rm__5, rm__6, rm__7, rm__8, rm__9, rm__10, rm__11, rm__12, rm__13, rm__14, rm__15, rm__16, rm__17, rm__18, rm__19, rm__20, rm__21, rm__22, rm__23, rm__24, rm__25, rm__26, rm__27, rm__28, rm__29, rm__30, rm__31, rm__32, rm__33, rm__34, rm__35, rm__36, rm__37, rm__38, rm__39, rm__40, rm__41, rm__42, rm__43, rm__44, rm__45, un_X5_in, un_X5_isCell, un_X5_isLetter, c0, c1, c19]
  try simp only [iteP, Classical.not_not, b1_0, b1_1]
  refine ⟨fun z => no (fun q => z q.1), fun z => ⟨fun z2 => no (fun q => z2 q.2.1), fun z2 => ⟨fun z3 => no (fun q => z3 q.2.2.1), fun z3 => ⟨fun z4 => no (fun q => z4 q.2.2.2.1), fun z4 => ⟨fun z5 => no (fun q => q.2.2.2.2 z5), fun z5 => ?_⟩⟩⟩⟩⟩
  have hC : cSlip s c l a x := ⟨z, z2, z3, z4, z5⟩
  refine ⟨fun z6 => full hC z6, fun z6 => ?_⟩
  obtain ⟨⟨w', u', e, wk, n, ns, a', b, km, h1, h2, h3, h4, h5, h6, h7, h8, h9, g1, g2, g3, g4, g5, g6, g7, g8, g9, f1, f2⟩, ja, jp, jk⟩ := hJ
  have hv : vp_in (sN x 0 19) 12 := by
    rw [h6]
    refine vp_in_nI ?_ (by decide)
    have : ns ≠ 12 := fun y => z6 (by rw [h6, y]; rfl)
    omega
  refine ⟨hv, hv, hv, hv, yes hC z6 _ _ ⟨⟨c0, c1, c2, c3, c5, rfl, c24, c25, c30⟩, ⟨a1, a2, a12, ?_, ?_, ?_, ?_, a17, a18, a19, a20⟩, r3.to rfl (fun a z1 z2 => ?_), r4.1, r4.2.to rfl rfl⟩⟩
  · rw [nSlip_13]
    simp only [up_c, ma_up_at, ud_2, ne_eq, Nat.reduceEqDiff, not_false_eq_true] <;> try rfl
    rw [a13]; rfl
  · rw [nSlip_14]
    simp only [up_c, ma_up_at, ud_2, ne_eq, Nat.reduceEqDiff, not_false_eq_true] <;> try rfl
    rw [a14]; rfl
  · rw [nSlip_15]
    simp only [up_c, ma_up_at, ud_2, ne_eq, Nat.reduceEqDiff, not_false_eq_true] <;> try rfl
    rw [a15]; rfl
  · rw [nSlip_16]
    simp only [up_c, ma_up_at, ud_2, ne_eq, Nat.reduceEqDiff, not_false_eq_true] <;> try rfl
    rw [a16]; rfl
  · rw [up_c (by omega), up_c (by omega), up_c (by omega), up_c (by omega), up_c (by omega)]
theorem pv_X5_slip : ∀ as M L K, S_X5_slip as M L K → ma_rn (tb_X5_slip S_X5_in S_X5_isCell S_X5_isLetter) 5 as M L K := by
  intro as M L K h
  unfold S_X5_slip at h
  split at h
  · obtain ⟨x, h⟩ := h; exact pw_X5_slip h.1 h.2
  · exact h.elim
theorem J_slip {s c l a : Int32} {x : St} (h : J x) : J (oSlip s c l a x).2 := by
  unfold oSlip
  by_cases hC : cSlip s c l a x
  · rw [if_pos hC]
    split
    · exact h
    · next z =>
      obtain ⟨⟨w', u', e, wk, n, ns, a', b, km, h1, h2, h3, h4, h5, h6, h7, h8, h9, g1, g2, g3, g4, g5, g6, g7, g8, g9, f1, f2⟩, ⟨b1, b2, b3, b4, b5⟩, jp, jk⟩ := h
      have : ns ≠ 12 := fun y => z (by rw [h6, y]; rfl)
      refine ⟨⟨w', u', e, wk, n, ns + 1, a', b, km, h1, h2, h3, h4, h5, ?_, h7, h8, h9, g1, g2, g3, g4, g5, g6, g7, by omega, g9, f1, f2⟩, ⟨b1, b2, ?_, b4, b5⟩, jp, jk⟩
      · show sN x 0 19 + 1 = _
        rw [h6, nI_1]
      · show Am (sN (nSlip s c l a x) 16)
        rw [nSlip_16]
        exact b3.u hC.2.2.2.1
  · rw [if_neg hC]; exact h
