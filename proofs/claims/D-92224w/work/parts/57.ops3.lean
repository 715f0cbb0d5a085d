/-! ops: sky, slip -/
set_option maxRecDepth 100000
set_option maxHeartbeats 4000000
def fif (f : Nat → Int32) (n : Nat) (v : Int32) : Nat → Int32 := fun j => if j < n then v else f j
def fiL (f : Nat → Int64) (n : Nat) (v : Int64) : Nat → Int64 := fun j => if j < n then v else f j
theorem fi_at {M : ZM} {a n : Nat} {v : Int32} : fi M a n v a = fif (M a) n v := by
  funext j; unfold fi fif; simp only [true_and]
theorem fi_c {M : ZM} {a n : Nat} {v : Int32} {x : Nat} (h : x ≠ a) : fi M a n v x = M x := by
  funext j; exact if_neg (fun z => h z.1)
theorem fL_at {M : ZL} {a n : Nat} {v : Int64} : fL M a n v a = fiL (M a) n v := by
  funext j; unfold fL fiL; simp only [true_and]
/-! sky -/
def oSky (w u : Int32) (x : St) : Int32 × St := if (2 ≤ w.toInt ∧ w.toInt ≤ 6) ∧ (2 ≤ u.toInt ∧ u.toInt ≤ 6) then (w * u, (ma_up (fi (fi (ma_up (ma_up (ma_up (sN x) 0 0 w) 0 1 u) 0 30 0) 12 144 2000000) 20 36 0) 0 19 0, fL (sP x) 17 12 2000000000000, sp x, sk x)) else (-1, x)
def S_X0_sky : ma_Cs := fun as M L K => match as with
  | [.ref k, .int w, .int u] => ∃ (x : St), (k = 0 ∧ J x ∧ RX M L x) ∧ (∀ (M' : ZM) (L' : ZL), RX M' L' (oSky w u x).2 → K (some (.int (oSky w u x).1)) M' L')
  | _ => False
theorem ms_X0_sky : ma_ms S_X0_sky := by
  intro as M L K K' hk h
  unfold S_X0_sky at h ⊢
  split at h
  · obtain ⟨x, h⟩ := h
    exact ⟨x, h.1, fun x0 x1 x2 => hk _ _ _ (h.2 x0 x1 x2)⟩
  · exact h.elim
theorem un_X0_sky {k : Nat} {w : Int32} {u : Int32} {M : ZM} {L : ZL} {K : ma_Kt} : S_X0_sky [.ref k, .int w, .int u] M L K = (∃ (x : St), (k = 0 ∧ J x ∧ RX M L x) ∧ (∀ (M' : ZM) (L' : ZL), RX M' L' (oSky w u x).2 → K (some (.int (oSky w u x).1)) M' L')) := rfl
theorem pw_X0_sky {k : Nat} {w : Int32} {u : Int32} {x : St} {M : ZM} {L : ZL} {K : ma_Kt} (hp : k = 0 ∧ J x ∧ RX M L x) (h : (∀ (M' : ZM) (L' : ZL), RX M' L' (oSky w u x).2 → K (some (.int (oSky w u x).1)) M' L')) : ma_rn (tb_X0_sky S_X0_isIn S_X0_clearSky S_X0_cells) 3 [.ref k, .int w, .int u] M L K := by
  refine ⟨Nat.le_of_ble_eq_true rfl, fun V hV => ?_⟩
  obtain ⟨rfl, hJ, hR⟩ := hp
  obtain ⟨⟨c0, c5, c6, c7, c10, c19, c20, c25, c33⟩, ⟨a19, a1, a20, a21, a22, a23, a24, a34, a37, a38, a39⟩, r3, r4⟩ := id hR
  unfold oSky at h
  refine ma_walk (mo_X0_sky ms_X0_isIn ms_X0_clearSky ms_X0_cells) hV [] (fun F hF => ?_)
  simp only [tb_X0_sky, hF, in_no, in_push, in_ild, in_lld, in_ald, in_ist, in_ast, in_lst, in_inc, in_iii, in_idv, in_ldv, in_lll, in_lli, in_lil, in_ii, in_il, in_li, in_ll, in_dup, in_dp2, q_if1, q_if2, in_go, in_sw, ma_sw, in_rv, in_ri, in_rz, in_rl, in_get, in_put, in_puz, in_iar, in_bar, in_lar, in_aar, in_iaw, in_baw, in_law, in_len, in_cpy, in_s1, in_s2, in_s3, in_v1, in_v2, in_v3, in_v4, in_v5, in_v6, ma_bk, ma_gl, ma_sl, ma_nl, ma_wc, ma_wd, ma_nn, ma_en, List.mem_cons, List.not_mem_nil, or_false, or_true, true_or, false_or, true_and, and_true, false_and, and_false, if_true, if_false, forall_const, true_implies, false_implies, not_true_eq_false, not_false_eq_true, Classical.not_not, implies_true, and_self, Nat.add_zero, Nat.zero_add, eq_self, ne_eq, reduceCtorEq, Nat.reduceLT, Nat.reduceLeDiff, Nat.reduceEqDiff, Nat.reduceSub, Nat.reduceAdd, i10, i01, im10, Int32.reduceLT, Int32.reduceLE, ↓reduceIte, reduceIte, up_r, uL_r, cp_r, Int32.toInt_toInt64, Int64.reduceToInt, Int32.reduceToInt, ↓b1_or, b1_0, b1_1, lc_lt, lc_le, lc_gt, lc_ge, lc_eq, yx_0, yx_1, yx_2, yx_3, yx_4, yx_5, yx_6, yx_7, yx_8, yx_9, yx_10, yx_11, yx_12, yx_13, yx_14, yx_15, yx_16, yx_17, yx_18, yx_19, yx_20, yx_21, yx_22, yx_23, yx_24, yx_25, yx_26, yx_27, yx_28, yx_29, yx_30, yx_31, yx_32, yx_33, yx_34, yx_35, yx_36, yx_37, yx_38, yx_39, yx_40, yx_41, yx_42, yx_43, yx_44, yx_45, yx_46, yx_47, yx_48, yx_49, yx_50, yx_51, yx_52, yx_53, yx_54, yx_55, yx_56, yx_57, yx_58, yx_59, yx_60, yx_61, yx_62, yx_63, yx_64, yx_65, yx_66, yx_67, yx_68, rx_0, rx_1, rx_2, rx_3, rx_4, rx_5, rx_6, rx_7, rx_8, rx_9, rx_10, rx_11, rx_12, rx_13, rx_14, rx_15, rx_16, rx_17, rx_18, rx_19, rx_20, rx_21, rx_22, rx_23, rx_24, rx_25, rx_26, rx_27, rx_28, rx_29, rx_30, rx_31, rx_32, rx_33, rp_0, rp_1, rp_2, rp_3, rp_4, rp_5, rp_6, rp_7, rp_8, rs_0, rs_1, rs_2, rs_3, rs_4, re_0, re_1, re_2, re_3, re_4, re_5, rr_0, rr_1, rr_2, rr_3, rr_4, rk_0, rk_1, isP3, isP11, isP46, isP58, isS25, isS28, isS31, un_X0_isIn, un_X0_clearSky, un_X0_cells]
  try simp only [iteP, Classical.not_not, b1_0, b1_1]
  refine ⟨fun z => ?_, fun z => ⟨fun z2 => ?_, fun z2 => ?_⟩⟩
  · rw [if_neg (fun q => z q.1)] at h; exact h M L hR
  · rw [if_neg (fun q => z2 q.2)] at h; exact h M L hR
  · rw [if_pos ⟨z, z2⟩] at h
    refine h _ _ ⟨⟨c0, rfl, rfl, c7, rfl, c19, c20, c25, rfl⟩, ⟨a19, a1, ?_, a21, a22, a23, a24, ?_, a37, a38, ?_⟩, r3.to (fun a ha => ?_) rfl, Or.inl rfl⟩
    · show fi (fi _ 20 144 2000000) 39 36 0 20 = fi (fi _ 12 144 2000000) 20 36 0 12
      rw [fi_c (by decide), fi_at, fi_c (by decide), fi_at, up_c (by decide), up_c (by decide), up_c (by decide), up_c (by decide), up_c (by decide), a20]
    · rw [fL_at]
      show _ = fL (sP x) 17 12 2000000000000 17
      rw [fL_at, a34]
    · show fi (fi _ 20 144 2000000) 39 36 0 39 = fi (fi _ 12 144 2000000) 20 36 0 20
      rw [fi_at, fi_c (by decide), fi_at, fi_c (by decide), up_c (by decide), up_c (by decide), up_c (by decide), up_c (by decide), up_c (by decide), a39]
    · rw [up_c (by omega), up_c (by omega), up_c (by omega), fi_c (by omega), fi_c (by omega), up_c (by omega), up_c (by omega)]
theorem pv_X0_sky : ∀ as M L K, S_X0_sky as M L K → ma_rn (tb_X0_sky S_X0_isIn S_X0_clearSky S_X0_cells) 3 as M L K := by
  intro as M L K h
  unfold S_X0_sky at h
  split at h
  · obtain ⟨x, h⟩ := h; exact pw_X0_sky h.1 h.2
  · exact h.elim
def S_X5_sky : ma_Cs := fun as M L K => match as with
  | [.ref k, .int w, .int u] => ∃ (x : St), (k = 0 ∧ J x ∧ RY M L x) ∧ (∀ (M' : ZM) (L' : ZL), RY M' L' (oSky w u x).2 → K (some (.int (oSky w u x).1)) M' L')
  | _ => False
theorem ms_X5_sky : ma_ms S_X5_sky := by
  intro as M L K K' hk h
  unfold S_X5_sky at h ⊢
  split at h
  · obtain ⟨x, h⟩ := h
    exact ⟨x, h.1, fun x0 x1 x2 => hk _ _ _ (h.2 x0 x1 x2)⟩
  · exact h.elim
theorem un_X5_sky {k : Nat} {w : Int32} {u : Int32} {M : ZM} {L : ZL} {K : ma_Kt} : S_X5_sky [.ref k, .int w, .int u] M L K = (∃ (x : St), (k = 0 ∧ J x ∧ RY M L x) ∧ (∀ (M' : ZM) (L' : ZL), RY M' L' (oSky w u x).2 → K (some (.int (oSky w u x).1)) M' L')) := rfl
theorem pw_X5_sky {k : Nat} {w : Int32} {u : Int32} {x : St} {M : ZM} {L : ZL} {K : ma_Kt} (hp : k = 0 ∧ J x ∧ RY M L x) (h : (∀ (M' : ZM) (L' : ZL), RY M' L' (oSky w u x).2 → K (some (.int (oSky w u x).1)) M' L')) : ma_rn (tb_X5_sky S_X5_in S_X5_begins S_X5_cells) 3 [.ref k, .int w, .int u] M L K := by
  refine ⟨Nat.le_of_ble_eq_true rfl, fun V hV => ?_⟩
  obtain ⟨rfl, hJ, hR⟩ := hp
  obtain ⟨⟨c0, c1, c2, c3, c5, c19, c24, c25, c30⟩, ⟨a1, a2, a12, a13, a14, a15, a16, a17, a18, a19, a20⟩, r3, r4⟩ := id hR
  unfold oSky at h
  refine ma_walk (mo_X5_sky ms_X5_in ms_X5_begins ms_X5_cells) hV [] (fun F hF => ?_)
  simp only [tb_X5_sky, hF, in_no, in_push, in_ild, in_lld, in_ald, in_ist, in_ast, in_lst, in_inc, in_iii, in_idv, in_ldv, in_lll, in_lli, in_lil, in_ii, in_il, in_li, in_ll, in_dup, in_dp2, q_if1, q_if2, in_go, in_sw, ma_sw, in_rv, in_ri, in_rz, in_rl, in_get, in_put, in_puz, in_iar, in_bar, in_lar, in_aar, in_iaw, in_baw, in_law, in_len, in_cpy, in_s1, in_s2, in_s3, in_v1, in_v2, in_v3, in_v4, in_v5, in_v6, ma_bk, ma_gl, ma_sl, ma_nl, ma_wc, ma_wd, ma_nn, ma_en, List.mem_cons, List.not_mem_nil, or_false, or_true, true_or, false_or, true_and, and_true, false_and, and_false, if_true, if_false, forall_const, true_implies, false_implies, not_true_eq_false, not_false_eq_true, Classical.not_not, implies_true, and_self, Nat.add_zero, Nat.zero_add, eq_self, ne_eq, reduceCtorEq, Nat.reduceLT, Nat.reduceLeDiff, Nat.reduceEqDiff, Nat.reduceSub, Nat.reduceAdd, i10, i01, im10, Int32.reduceLT, Int32.reduceLE, ↓reduceIte, reduceIte, up_r, uL_r, cp_r, Int32.toInt_toInt64, Int64.reduceToInt, Int32.reduceToInt, ↓b1_or, b1_0, b1_1, lc_lt, lc_le, lc_gt, lc_ge, lc_eq, ym_0, ym_1, ym_2, ym_3, ym_4, ym_5, ym_6, ym_7, ym_8, ym_9, ym_10, ym_11, ym_12, ym_13, ym_14, ym_15, ym_16, ym_17, ym_18, ym_19, ym_20, ym_21, ym_22, ym_23, ym_24, ym_25, ym_26, ym_27, ym_28, ym_29, ym_30, rm__0, rm__1, rm__2, rm__3, rm__4, rm__5, rm__6, rm__7, rm__8, rm__9, rm__10, rm__11, rm__12, rm__13, rm__14, rm__15, rm__16, rm__17, rm__18, rm__19, rm__20, rm__21, rm__22, rm__23, rm__24, rm__25, rm__26, rm__27, rm__28, rm__29, rm__30, rm__31, rm__32, rm__33, rm__34, rm__35, rm__36, rm__37, rm__38, rm__39, rm__40, rm__41, rm__42, rm__43, rm__44, rm__45, un_X5_in, un_X5_begins, un_X5_cells]
  try simp only [iteP, Classical.not_not, b1_0, b1_1]
  refine ⟨fun z => ?_, fun z => ⟨fun z2 => ?_, fun z2 => ?_⟩⟩
  · rw [if_neg (fun q => z q.1)] at h; exact h M L hR
  · rw [if_neg (fun q => z2 q.2)] at h; exact h M L hR
  · rw [if_pos ⟨z, z2⟩] at h
    refine h _ _ ⟨⟨rfl, rfl, c2, c3, c5, rfl, c24, c25, rfl⟩, ⟨a1, a2, ?_, a13, a14, a15, a16, ?_, a18, a19, ?_⟩, r3.to rfl (fun a z1 z2 => ?_), r4.1, fun k hk => ?_⟩
    · show fi (fi _ 12 144 2000000) 20 36 0 12 = fi (fi _ 12 144 2000000) 20 36 0 12
      rw [fi_c (by decide), fi_at, fi_c (by decide), fi_at, up_c (by decide), up_c (by decide), up_c (by decide), up_c (by decide), up_c (by decide), up_c (by decide), a12]
    · rw [fL_at]
      show _ = fL (sP x) 17 12 2000000000000 17
      rw [fL_at, a17]
    · show fi (fi _ 12 144 2000000) 20 36 0 20 = fi (fi _ 12 144 2000000) 20 36 0 20
      rw [fi_at, fi_c (by decide), fi_at, fi_c (by decide), up_c (by decide), up_c (by decide), up_c (by decide), up_c (by decide), up_c (by decide), up_c (by decide), a20]
    · rw [up_c (by omega), fi_c (by omega), fi_c (by omega), up_c (by omega), up_c (by omega), up_c (by omega)]
    · exact absurd hk (Nat.not_lt_zero k)
theorem pv_X5_sky : ∀ as M L K, S_X5_sky as M L K → ma_rn (tb_X5_sky S_X5_in S_X5_begins S_X5_cells) 3 as M L K := by
  intro as M L K h
  unfold S_X5_sky at h
  split at h
  · obtain ⟨x, h⟩ := h; exact pw_X5_sky h.1 h.2
  · exact h.elim
theorem J_sky {w u : Int32} {x : St} (h : J x) : J (oSky w u x).2 := by
  unfold oSky
  split
  · next c =>
    obtain ⟨⟨w', u', e, wk, n, ns, a', b, km, h1, h2, h3, h4, h5, h6, h7, h8, h9, g1, g2, g3, g4, g5, g6, g7, g8, g9, f1, f2⟩, ⟨a1, a2, a3, a4, a5⟩, jp, jk⟩ := h
    obtain ⟨m, em, hm, _⟩ := a_of (x := w) (by omega)
    obtain ⟨m2, em2, hm2, _⟩ := a_of (x := u) (by omega)
    refine ⟨⟨m, m2, e, wk, n, 0, a', b, 0, em, em2, h3, h4, h5, rfl, h7, h8, rfl, by omega, by omega, by omega, by omega, g5, g6, g7, by omega, g9, f1, by omega⟩, ⟨a1, ⟨a2.1, fun i hi => ?_⟩, a3, a4, fun c hc => ?_⟩, jp, jk⟩
    · left
      show fi (fi _ 12 144 2000000) 20 36 0 12 i = _
      rw [fi_c (by decide), fi_at, fif, if_pos hi]
    · refine ⟨0, by omega, ?_⟩
      show fi (fi _ 12 144 2000000) 20 36 0 20 c = _
      rw [fi_at, fif, if_pos hc]; rfl
  · exact h
