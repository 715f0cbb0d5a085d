/-! the component's skies made fresh; ops: at, marked -/
set_option maxRecDepth 100000
set_option maxHeartbeats 4000000
theorem zXY {M N : ZM} {S : Nat → Bool} {n : Nat} (h1 : M 21 = N 13) (h2 : M 22 = N 14) (h3 : M 23 = N 15) (h4 : M 24 = N 16) : zX M S n = zY N S n := by
  unfold zX zY; rw [h1, h2, h3, h4]
theorem hv_e {x : St} {w u e n : Nat} (h0 : sN x 0 0 = nI w) (h1 : sN x 0 1 = nI u) (h2 : sN x 0 2 = nI e) (h3 : sN x 0 19 = nI n) (b0 : w < 2147483648) (b1 : u < 2147483648) (b2 : e < 2147483648) (b3 : n < 2147483648) (S : Nat → Bool) : hv x S = val (sN x 1) w u e (sp x).1 (sp x).2 (zY (sN x) S n) (f0v (sN x 1) (sN x 12) w u e) := by
  unfold hv nat; rw [h0, h1, h2, h3, a_cl b0, a_cl b1, a_cl b2, a_cl b3]
theorem hk_e {x : St} {w u e : Nat} (h0 : sN x 0 0 = nI w) (h1 : sN x 0 1 = nI u) (h2 : sN x 0 2 = nI e) (b0 : w < 2147483648) (b1 : u < 2147483648) (b2 : e < 2147483648) : hk x = vak w u e (sp x).1 (sp x).2 (f0k (sN x 12)) := by
  unfold hk nat; rw [h0, h1, h2, a_cl b0, a_cl b1, a_cl b2]
def S_X0_refresh : ma_Cs := fun as M L K => match as with
  | [.ref k] => ∃ (x : St), (k = 0 ∧ J x ∧ RX M L x) ∧ (∀ (M' : ZM), RX M' L x → Xh M' x → K none M' L)
  | _ => False
theorem ms_X0_refresh : ma_ms S_X0_refresh := by
  intro as M L K K' hk h
  unfold S_X0_refresh at h ⊢
  split at h
  · obtain ⟨x, h⟩ := h
    exact ⟨x, h.1, fun x0 x1 x2 => hk _ _ _ (h.2 x0 x1 x2)⟩
  · exact h.elim
theorem un_X0_refresh {k : Nat} {M : ZM} {L : ZL} {K : ma_Kt} : S_X0_refresh [.ref k] M L K = (∃ (x : St), (k = 0 ∧ J x ∧ RX M L x) ∧ (∀ (M' : ZM), RX M' L x → Xh M' x → K none M' L)) := rfl
theorem pw_X0_refresh {k : Nat} {x : St} {M : ZM} {L : ZL} {K : ma_Kt} (hp : k = 0 ∧ J x ∧ RX M L x) (h : (∀ (M' : ZM), RX M' L x → Xh M' x → K none M' L)) : ma_rn (tb_X0_refresh S_X3_begin S_X3_run) 1 [.ref k] M L K := by
  refine ⟨Nat.le_of_ble_eq_true rfl, fun V hV => ?_⟩
  obtain ⟨rfl, hJ, hR⟩ := hp
  obtain ⟨⟨c0, c5, c6, c7, c10, c19, c20, c25, c33⟩, ⟨a19, a1, a20, a21, a22, a23, a24, a34, a37, a38, a39⟩, r3, r4⟩ := id hR
  obtain ⟨⟨w, u, e, wk, n, ns, a', b, km, h1, h2, h3, h4, h5, h6, h7, h8, h9, g1, g2, g3, g4, g5, g6, g7, g8, g9, f1, f2⟩, ja, jp, jk⟩ := id hJ
  have hq := wu_ti g1 g2 g3 g4
  rcases r4 with r4 | ⟨r4, r5⟩
  · have hs : Sh w u e 0 0 := ⟨by omega, by omega, by omega, by omega, g5, by omega, by omega⟩
    have m5 := c5.trans h1
    have m6 := c6.trans h2
    have m7 := c7.trans h3
    have m10 := c10.trans h6
    refine ma_walk (mo_X0_refresh ms_X3_begin ms_X3_run) hV [] (fun F hF => ?_)
    simp only [tb_X0_refresh, hF, in_no, in_push, in_ild, in_lld, in_ald, in_ist, in_ast, in_lst, in_inc, in_iii, in_idv, in_ldv, in_lll, in_lli, in_lil, in_ii, in_il, in_li, in_ll, in_dup, in_dp2, q_if1, q_if2, in_go, in_sw, ma_sw, in_rv, in_ri, in_rz, in_rl, in_get, in_put, in_puz, in_iar, in_bar, in_lar, in_aar, in_iaw, in_baw, in_law, in_len, in_cpy, in_s1, in_s2, in_s3, in_v1, in_v2, in_v3, in_v4, in_v5, in_v6, ma_bk, ma_gl, ma_sl, ma_nl, ma_wc, ma_wd, ma_nn, ma_en, List.mem_cons, List.not_mem_nil, or_false, or_true, true_or, false_or, true_and, and_true, false_and, and_false, if_true, if_false, forall_const, true_implies, false_implies, not_true_eq_false, not_false_eq_true, Classical.not_not, implies_true, and_self, Nat.add_zero, Nat.zero_add, eq_self, ne_eq, reduceCtorEq, Nat.reduceLT, Nat.reduceLeDiff, Nat.reduceEqDiff, Nat.reduceSub, Nat.reduceAdd, i10, i01, im10, Int32.reduceLT, Int32.reduceLE, ↓reduceIte, reduceIte, up_r, uL_r, cp_r, Int32.toInt_toInt64, Int64.reduceToInt, Int32.reduceToInt, ↓b1_or, b1_0, b1_1, lc_lt, lc_le, lc_gt, lc_ge, lc_eq, yx_0, yx_1, yx_2, yx_3, yx_4, yx_5, yx_6, yx_7, yx_8, yx_9, yx_10, yx_11, yx_12, yx_13, yx_14, yx_15, yx_16, yx_17, yx_18, yx_19, yx_20, yx_21, yx_22, yx_23, yx_24, yx_25, yx_26, yx_27, yx_28, yx_29, yx_30, yx_31, yx_32, yx_33, yx_34, yx_35, yx_36, yx_37, yx_38, yx_39, yx_40, yx_41, yx_42, yx_43, yx_44, yx_45, yx_46, yx_47, yx_48, yx_49, yx_50, yx_51, yx_52, yx_53, yx_54, yx_55, yx_56, yx_57, yx_58, yx_59, yx_60, yx_61, yx_62, yx_63, yx_64, yx_65, yx_66, yx_67, yx_68, rx_0, rx_1, rx_2, rx_3, rx_4, rx_5, rx_6, rx_7, rx_8, rx_9, rx_10, rx_11, rx_12, rx_13, rx_14, rx_15, rx_16, rx_17, rx_18, rx_19, rx_20, rx_21, rx_22, rx_23, rx_24, rx_25, rx_26, rx_27, rx_28, rx_29, rx_30, rx_31, rx_32, rx_33, rp_0, rp_1, rp_2, rp_3, rp_4, rp_5, rp_6, rp_7, rp_8, rs_0, rs_1, rs_2, rs_3, rs_4, re_0, re_1, re_2, re_3, re_4, re_5, rr_0, rr_1, rr_2, rr_3, rr_4, rk_0, rk_1, isP3, isP11, isP46, isP58, isS25, isS28, isS31, un_X3_begin, un_X3_run, r4]
    try simp only [iteP, Classical.not_not, b1_0, b1_1]
    refine ⟨w, u, e, ⟨Or.inl rfl, m5, m6, m7, hs, by rw [a19, a20]; exact ja.2.1⟩, fun M1 p1 p2 p3 p4 => ?_⟩
    have q0 : M1 0 = M 0 := p1 0 (by decide) (by decide) (by decide)
    refine ⟨w, u, e, 12, ns, sNo, (sp x).1, (sp x).2, f0v (M 19) (M 20) w u e, f0k (M 20), ⟨Or.inl rfl, p2, p3, by rw [q0]; exact m7, hs, rfl, by omega, by rw [q0]; exact m10, g8, fun _ => rfl, r3.1.to (fun a z1 z2 => p1 a (by omega) (by omega) (by omega)), jp.1, fun c l z1 z2 => ⟨(p4 c l z1 z2).1, (p4 c l z1 z2).2, of_eq_true b1_or⟩⟩, fun M2 p5 p6 => ?_⟩
    have q0 : M2 0 = M 0 := (p5 0 (by decide) (by decide)).trans q0
    have fr2 : ∀ a, a ≠ 25 → a ≠ 26 → a ≠ 27 → M2 a = M a := fun a z1 z2 z3 => (p5 a z2 z3).trans (p1 a z1 z2 z3)
    refine ⟨w, u, e, ⟨Or.inr (Or.inl rfl), by rw [q0]; exact m5, by rw [q0]; exact m6, by rw [q0]; exact m7, hs, by rw [fr2 19 (by decide) (by decide) (by decide), fr2 20 (by decide) (by decide) (by decide), a19, a20]; exact ja.2.1⟩, fun M3 p7 p8 p9 pA => ?_⟩
    have q0 : M3 0 = M 0 := (p7 0 (by decide) (by decide) (by decide)).trans q0
    have fr3 : ∀ a, a < 25 ∨ 30 < a → M3 a = M a := fun a z1 => (p7 a (by omega) (by omega) (by omega)).trans (fr2 a (by omega) (by omega) (by omega))
    refine ⟨w, u, e, 12, ns, sAll, (sp x).1, (sp x).2, f0v (M2 19) (M2 20) w u e, f0k (M2 20), ⟨Or.inr (Or.inl rfl), p8, p9, by rw [q0]; exact m7, hs, rfl, by omega, by rw [q0]; exact m10, g8, fun i hi => ⟨fun _ z => ?_, fun _ => rfl⟩, r3.1.to (fun a z1 z2 => fr3 a (by omega)), jp.1, fun c l z1 z2 => ⟨(pA c l z1 z2).1, (pA c l z1 z2).2, of_eq_true b1_or⟩⟩, fun M4 pB pC => ?_⟩
    · have z3 : (nI i).toInt = (-4 : Int32).toInt := by rw [z]
      rw [a_ti (by omega), show (-4 : Int32).toInt = -4 from rfl] at z3; omega
    have fr4 : ∀ a, a < 25 ∨ 30 < a → M4 a = M a := fun a z1 => (pB a (by omega) (by omega)).trans (fr3 a z1)
    have q0 : M4 0 = M 0 := fr4 0 (by omega)
    have e1 : val (M1 19) w u e (sp x).1 (sp x).2 (zX M1 sNo ns) (f0v (M 19) (M 20) w u e) = hv x sNo := by
      rw [hv_e h1 h2 h3 h6 (by omega) (by omega) (by omega) (by omega) sNo, zXY (N := sN x) ((p1 21 (by decide) (by decide) (by decide)).trans a21) ((p1 22 (by decide) (by decide) (by decide)).trans a22) ((p1 23 (by decide) (by decide) (by decide)).trans a23) ((p1 24 (by decide) (by decide) (by decide)).trans a24), p1 19 (by decide) (by decide) (by decide), a19, a20]
    have e2 : val (M3 19) w u e (sp x).1 (sp x).2 (zX M3 sAll ns) (f0v (M2 19) (M2 20) w u e) = hv x sAll := by
      rw [hv_e h1 h2 h3 h6 (by omega) (by omega) (by omega) (by omega) sAll, zXY (N := sN x) ((fr3 21 (by omega)).trans a21) ((fr3 22 (by omega)).trans a22) ((fr3 23 (by omega)).trans a23) ((fr3 24 (by omega)).trans a24), fr3 19 (by omega), fr2 19 (by decide) (by decide) (by decide), fr2 20 (by decide) (by decide) (by decide), a19, a20]
    have e3 : vak w u e (sp x).1 (sp x).2 (f0k (M2 20)) = hk x := by
      rw [hk_e h1 h2 h3 (by omega) (by omega) (by omega), fr2 20 (by decide) (by decide) (by decide), a20]
    have hXh : ∀ M5 : ZM, (∀ a, a ≠ 0 → M5 a = M4 a) → Xh M5 x := by
      intro M5 h9
      refine ⟨?_, ?_, ?_, ?_, fun s c l z1 z2 z3 => ?_⟩
      · rw [h9 25 (by decide), pB 25 (by decide) (by decide), p7 25 (by decide) (by decide) (by decide), p5 25 (by decide) (by decide), h1]; exact p2
      · rw [h9 25 (by decide), pB 25 (by decide) (by decide), p7 25 (by decide) (by decide) (by decide), p5 25 (by decide) (by decide), h2]; exact p3
      · rw [h9 28 (by decide), pB 28 (by decide) (by decide), h1]; exact p8
      · rw [h9 28 (by decide), pB 28 (by decide) (by decide), h2]; exact p9
      · have z2' : c < w * u := by
          unfold nat at z2
          rw [h1, h2, a_cl (by omega), a_cl (by omega)] at z2; exact z2
        have y1 := p6 s c l z1 z2' z3
        have y2 := pC s c l z1 z2' z3
        rw [e1] at y1
        rw [e2, e3] at y2
        rw [h9 26 (by decide), h9 29 (by decide), h9 30 (by decide), pB 26 (by decide) (by decide), p7 26 (by decide) (by decide) (by decide)]
        exact ⟨y1.1, y2.1, y2.2⟩
    have hX5 := hXh (ma_up M4 0 15 1) (fun a ha => up_c ha)
    refine h _ ⟨⟨?_, ?_, ?_, ?_, ?_, ?_, ?_, ?_, ?_⟩, ⟨?_, ?_, ?_, ?_, ?_, ?_, ?_, a34, ?_, ?_, ?_⟩, r3.to (fun a ha => ?_) rfl, Or.inr ⟨rfl, hX5⟩⟩ hX5
    · show M4 0 0 = _; rw [q0]; exact c0
    · show M4 0 5 = _; rw [q0]; exact c5
    · show M4 0 6 = _; rw [q0]; exact c6
    · show M4 0 7 = _; rw [q0]; exact c7
    · show M4 0 10 = _; rw [q0]; exact c10
    · show M4 0 19 = _; rw [q0]; exact c19
    · show M4 0 20 = _; rw [q0]; exact c20
    · show M4 0 25 = _; rw [q0]; exact c25
    · show M4 0 33 = _; rw [q0]; exact c33
    · rw [up_c (by decide), fr4 19 (by omega)]; exact a19
    · intro i; rw [up_c (by decide), fr4 1 (by omega)]; exact a1 i
    · rw [up_c (by decide), fr4 20 (by omega)]; exact a20
    · rw [up_c (by decide), fr4 21 (by omega)]; exact a21
    · rw [up_c (by decide), fr4 22 (by omega)]; exact a22
    · rw [up_c (by decide), fr4 23 (by omega)]; exact a23
    · rw [up_c (by decide), fr4 24 (by omega)]; exact a24
    · rw [up_c (by decide), fr4 37 (by omega)]; exact a37
    · rw [up_c (by decide), fr4 38 (by omega)]; exact a38
    · rw [up_c (by decide), fr4 39 (by omega)]; exact a39
    · rw [up_c (by omega)]; exact fr4 a (by omega)
  · refine ma_walk (mo_X0_refresh ms_X3_begin ms_X3_run) hV [] (fun F hF => ?_)
    simp only [tb_X0_refresh, hF, in_no, in_push, in_ild, in_lld, in_ald, in_ist, in_ast, in_lst, in_inc, in_iii, in_idv, in_ldv, in_lll, in_lli, in_lil, in_ii, in_il, in_li, in_ll, in_dup, in_dp2, q_if1, q_if2, in_go, in_sw, ma_sw, in_rv, in_ri, in_rz, in_rl, in_get, in_put, in_puz, in_iar, in_bar, in_lar, in_aar, in_iaw, in_baw, in_law, in_len, in_cpy, in_s1, in_s2, in_s3, in_v1, in_v2, in_v3, in_v4, in_v5, in_v6, ma_bk, ma_gl, ma_sl, ma_nl, ma_wc, ma_wd, ma_nn, ma_en, List.mem_cons, List.not_mem_nil, or_false, or_true, true_or, false_or, true_and, and_true, false_and, and_false, if_true, if_false, forall_const, true_implies, false_implies, not_true_eq_false, not_false_eq_true, Classical.not_not, implies_true, and_self, Nat.add_zero, Nat.zero_add, eq_self, ne_eq, reduceCtorEq, Nat.reduceLT, Nat.reduceLeDiff, Nat.reduceEqDiff, Nat.reduceSub, Nat.reduceAdd, i10, i01, im10, Int32.reduceLT, Int32.reduceLE, ↓reduceIte, reduceIte, up_r, uL_r, cp_r, Int32.toInt_toInt64, Int64.reduceToInt, Int32.reduceToInt, ↓b1_or, b1_0, b1_1, lc_lt, lc_le, lc_gt, lc_ge, lc_eq, yx_0, yx_1, yx_2, yx_3, yx_4, yx_5, yx_6, yx_7, yx_8, yx_9, yx_10, yx_11, yx_12, yx_13, yx_14, yx_15, yx_16, yx_17, yx_18, yx_19, yx_20, yx_21, yx_22, yx_23, yx_24, yx_25, yx_26, yx_27, yx_28, yx_29, yx_30, yx_31, yx_32, yx_33, yx_34, yx_35, yx_36, yx_37, yx_38, yx_39, yx_40, yx_41, yx_42, yx_43, yx_44, yx_45, yx_46, yx_47, yx_48, yx_49, yx_50, yx_51, yx_52, yx_53, yx_54, yx_55, yx_56, yx_57, yx_58, yx_59, yx_60, yx_61, yx_62, yx_63, yx_64, yx_65, yx_66, yx_67, yx_68, rx_0, rx_1, rx_2, rx_3, rx_4, rx_5, rx_6, rx_7, rx_8, rx_9, rx_10, rx_11, rx_12, rx_13, rx_14, rx_15, rx_16, rx_17, rx_18, rx_19, rx_20, rx_21, rx_22, rx_23, rx_24, rx_25, rx_26, rx_27, rx_28, rx_29, rx_30, rx_31, rx_32, rx_33, rp_0, rp_1, rp_2, rp_3, rp_4, rp_5, rp_6, rp_7, rp_8, rs_0, rs_1, rs_2, rs_3, rs_4, re_0, re_1, re_2, re_3, re_4, re_5, rr_0, rr_1, rr_2, rr_3, rr_4, rk_0, rk_1, isP3, isP11, isP46, isP58, isS25, isS28, isS31, un_X3_begin, un_X3_run, r4]
    try simp only [iteP, Classical.not_not, b1_0, b1_1]
    exact h M hR r5
theorem pv_X0_refresh : ∀ as M L K, S_X0_refresh as M L K → ma_rn (tb_X0_refresh S_X3_begin S_X3_run) 1 as M L K := by
  intro as M L K h
  unfold S_X0_refresh at h
  split at h
  · obtain ⟨x, h⟩ := h; exact pw_X0_refresh h.1 h.2
  · exact h.elim
/-! at, marked -/
abbrev cPl (s c l : Int32) (x : St) : Prop := (0 ≤ s.toInt ∧ s.toInt ≤ 12) ∧ (0 ≤ c.toInt ∧ c.toInt ≤ (sN x 0 0 * sN x 0 1 - 1).toInt) ∧ (0 ≤ l.toInt ∧ l.toInt ≤ 3)
theorem cPl.n {s c l : Int32} {x : St} (hJ : J x) (h : cPl s c l x) : s = nI (nat s) ∧ c = nI (nat c) ∧ l = nI (nat l) ∧ nat s ≤ 12 ∧ nat c < nat (sN x 0 0) * nat (sN x 0 1) ∧ nat c < 36 ∧ nat l < 4 := by
  obtain ⟨⟨w, u, e, wk, n, ns, a', b, km, h1, h2, h3, h4, h5, h6, h7, h8, h9, g1, g2, g3, g4, g5, g6, g7, g8, g9, f1, f2⟩, ja, jp, jk⟩ := hJ
  have hq := wu_ti g1 g2 g3 g4
  obtain ⟨m, em, hm, bm⟩ := a_of h.1.1
  obtain ⟨m2, em2, hm2, bm2⟩ := a_of h.2.1.1
  obtain ⟨m3, em3, hm3, bm3⟩ := a_of h.2.2.1
  have q := h.2.1.2
  rw [h1, h2, hq.1] at q
  have := h.1
  have := h.2.2
  unfold nat
  rw [h1, h2, em, em2, em3, a_cl bm, a_cl bm2, a_cl bm3, a_cl (by omega), a_cl (by omega)]
  refine ⟨rfl, rfl, rfl, by omega, by omega, by omega, by omega⟩
def oAt (b s c l : Int32) (x : St) : Int32 := if cPl s c l x then hv x (if b = 0 then sAll else sNo) (nat s) (nat c) (nat l) else -2000000000
def S_X0_at : ma_Cs := fun as M L K => match as with
  | [.ref k, .int b, .int s, .int c, .int l] => ∃ (x : St), (k = 0 ∧ J x ∧ RX M L x) ∧ (∀ (M' : ZM), RX M' L x → K (some (.int (oAt b s c l x))) M' L)
  | _ => False
theorem ms_X0_at : ma_ms S_X0_at := by
  intro as M L K K' hk h
  unfold S_X0_at at h ⊢
  split at h
  · obtain ⟨x, h⟩ := h
    exact ⟨x, h.1, fun x0 x1 => hk _ _ _ (h.2 x0 x1)⟩
  · exact h.elim
theorem un_X0_at {k : Nat} {b : Int32} {s : Int32} {c : Int32} {l : Int32} {M : ZM} {L : ZL} {K : ma_Kt} : S_X0_at [.ref k, .int b, .int s, .int c, .int l] M L K = (∃ (x : St), (k = 0 ∧ J x ∧ RX M L x) ∧ (∀ (M' : ZM), RX M' L x → K (some (.int (oAt b s c l x))) M' L)) := rfl
theorem pw_X0_at {k : Nat} {b : Int32} {s : Int32} {c : Int32} {l : Int32} {x : St} {M : ZM} {L : ZL} {K : ma_Kt} (hp : k = 0 ∧ J x ∧ RX M L x) (h : (∀ (M' : ZM), RX M' L x → K (some (.int (oAt b s c l x))) M' L)) : ma_rn (tb_X0_at S_X0_isPlace S_X0_refresh S_X3_at) 5 [.ref k, .int b, .int s, .int c, .int l] M L K := by
  refine ⟨Nat.le_of_ble_eq_true rfl, fun V hV => ?_⟩
  obtain ⟨rfl, hJ, hR⟩ := hp
  have c5 := hR.1.2.1
  have c6 := hR.1.2.2.1
  unfold oAt at h
  refine ma_walk (mo_X0_at ms_X0_isPlace ms_X0_refresh ms_X3_at) hV [] (fun F hF => ?_)
  simp only [tb_X0_at, hF, in_no, in_push, in_ild, in_lld, in_ald, in_ist, in_ast, in_lst, in_inc, in_iii, in_idv, in_ldv, in_lll, in_lli, in_lil, in_ii, in_il, in_li, in_ll, in_dup, in_dp2, q_if1, q_if2, in_go, in_sw, ma_sw, in_rv, in_ri, in_rz, in_rl, in_get, in_put, in_puz, in_iar, in_bar, in_lar, in_aar, in_iaw, in_baw, in_law, in_len, in_cpy, in_s1, in_s2, in_s3, in_v1, in_v2, in_v3, in_v4, in_v5, in_v6, ma_bk, ma_gl, ma_sl, ma_nl, ma_wc, ma_wd, ma_nn, ma_en, List.mem_cons, List.not_mem_nil, or_false, or_true, true_or, false_or, true_and, and_true, false_and, and_false, if_true, if_false, forall_const, true_implies, false_implies, not_true_eq_false, not_false_eq_true, Classical.not_not, implies_true, and_self, Nat.add_zero, Nat.zero_add, eq_self, ne_eq, reduceCtorEq, Nat.reduceLT, Nat.reduceLeDiff, Nat.reduceEqDiff, Nat.reduceSub, Nat.reduceAdd, i10, i01, im10, Int32.reduceLT, Int32.reduceLE, ↓reduceIte, reduceIte, up_r, uL_r, cp_r, Int32.toInt_toInt64, Int64.reduceToInt, Int32.reduceToInt, ↓b1_or, b1_0, b1_1, lc_lt, lc_le, lc_gt, lc_ge, lc_eq, yx_0, yx_1, yx_2, yx_3, yx_4, yx_5, yx_6, yx_7, yx_8, yx_9, yx_10, yx_11, yx_12, yx_13, yx_14, yx_15, yx_16, yx_17, yx_18, yx_19, yx_20, yx_21, yx_22, yx_23, yx_24, yx_25, yx_26, yx_27, yx_28, yx_29, yx_30, yx_31, yx_32, yx_33, yx_34, yx_35, yx_36, yx_37, yx_38, yx_39, yx_40, yx_41, yx_42, yx_43, yx_44, yx_45, yx_46, yx_47, yx_48, yx_49, yx_50, yx_51, yx_52, yx_53, yx_54, yx_55, yx_56, yx_57, yx_58, yx_59, yx_60, yx_61, yx_62, yx_63, yx_64, yx_65, yx_66, yx_67, yx_68, rx_0, rx_1, rx_2, rx_3, rx_4, rx_5, rx_6, rx_7, rx_8, rx_9, rx_10, rx_11, rx_12, rx_13, rx_14, rx_15, rx_16, rx_17, rx_18, rx_19, rx_20, rx_21, rx_22, rx_23, rx_24, rx_25, rx_26, rx_27, rx_28, rx_29, rx_30, rx_31, rx_32, rx_33, rp_0, rp_1, rp_2, rp_3, rp_4, rp_5, rp_6, rp_7, rp_8, rs_0, rs_1, rs_2, rs_3, rs_4, re_0, re_1, re_2, re_3, re_4, re_5, rr_0, rr_1, rr_2, rr_3, rr_4, rk_0, rk_1, isP3, isP11, isP46, isP58, isS25, isS28, isS31, un_X0_isPlace, un_X0_refresh, un_X3_at, c5, c6]
  try simp only [iteP, Classical.not_not, b1_0, b1_1]
  refine ⟨fun z => ?_, fun z => ⟨x, ⟨hJ, hR⟩, fun M2 p1 p2 => ?_⟩⟩
  · rw [if_neg z] at h; exact h M hR
  · rw [if_pos z] at h
    obtain ⟨e1, e2, e3, e4, e5, e6, e7⟩ := cPl.n hJ z
    have q := p2.2.2.2.2 (nat s) (nat c) (nat l) e4 e5 e7
    refine ⟨fun y => ⟨nat s, nat c, nat l, ⟨e1, e2, e3, by omega, e6, e7⟩, ?_⟩, fun y => ⟨nat s, nat c, nat l, ⟨e1, e2, e3, by omega, e6, e7⟩, ?_⟩⟩
    · rw [if_pos y] at h; rw [q.2.1]; exact h M2 p1
    · rw [if_neg y] at h; rw [q.1]; exact h M2 p1
theorem pv_X0_at : ∀ as M L K, S_X0_at as M L K → ma_rn (tb_X0_at S_X0_isPlace S_X0_refresh S_X3_at) 5 as M L K := by
  intro as M L K h
  unfold S_X0_at at h
  split at h
  · obtain ⟨x, h⟩ := h; exact pw_X0_at h.1 h.2
  · exact h.elim
noncomputable def oMarked (s c l : Int32) (x : St) : Int32 := @ite _ (cPl s c l x) (Classical.propDecidable _) (if hk x (nat s) (nat c) (nat l) = 0 then 0 else 1) (-1)
def S_X0_marked : ma_Cs := fun as M L K => match as with
  | [.ref k, .int s, .int c, .int l] => ∃ (x : St), (k = 0 ∧ J x ∧ RX M L x) ∧ (∀ (M' : ZM), RX M' L x → K (some (.int (oMarked s c l x))) M' L)
  | _ => False
theorem ms_X0_marked : ma_ms S_X0_marked := by
  intro as M L K K' hk h
  unfold S_X0_marked at h ⊢
  split at h
  · obtain ⟨x, h⟩ := h
    exact ⟨x, h.1, fun x0 x1 => hk _ _ _ (h.2 x0 x1)⟩
  · exact h.elim
theorem un_X0_marked {k : Nat} {s : Int32} {c : Int32} {l : Int32} {M : ZM} {L : ZL} {K : ma_Kt} : S_X0_marked [.ref k, .int s, .int c, .int l] M L K = (∃ (x : St), (k = 0 ∧ J x ∧ RX M L x) ∧ (∀ (M' : ZM), RX M' L x → K (some (.int (oMarked s c l x))) M' L)) := rfl
theorem pw_X0_marked {k : Nat} {s : Int32} {c : Int32} {l : Int32} {x : St} {M : ZM} {L : ZL} {K : ma_Kt} (hp : k = 0 ∧ J x ∧ RX M L x) (h : (∀ (M' : ZM), RX M' L x → K (some (.int (oMarked s c l x))) M' L)) : ma_rn (tb_X0_marked S_X0_isPlace S_X0_refresh S_X3_place) 4 [.ref k, .int s, .int c, .int l] M L K := by
  refine ⟨Nat.le_of_ble_eq_true rfl, fun V hV => ?_⟩
  obtain ⟨rfl, hJ, hR⟩ := hp
  have c5 := hR.1.2.1
  have c6 := hR.1.2.2.1
  unfold oMarked at h
  refine ma_walk (mo_X0_marked ms_X0_isPlace ms_X0_refresh ms_X3_place) hV [] (fun F hF => ?_)
  simp only [tb_X0_marked, hF, in_no, in_push, in_ild, in_lld, in_ald, in_ist, in_ast, in_lst, in_inc, in_iii, in_idv, in_ldv, in_lll, in_lli, in_lil, in_ii, in_il, in_li, in_ll, in_dup, in_dp2, q_if1, q_if2, in_go, in_sw, ma_sw, in_rv, in_ri, in_rz, in_rl, in_get, in_put, in_puz, in_iar, in_bar, in_lar, in_aar, in_iaw, in_baw, in_law, in_len, in_cpy, in_s1, in_s2, in_s3, in_v1, in_v2, in_v3, in_v4, in_v5, in_v6, ma_bk, ma_gl, ma_sl, ma_nl, ma_wc, ma_wd, ma_nn, ma_en, List.mem_cons, List.not_mem_nil, or_false, or_true, true_or, false_or, true_and, and_true, false_and, and_false, if_true, if_false, forall_const, true_implies, false_implies, not_true_eq_false, not_false_eq_true, Classical.not_not, implies_true, and_self, Nat.add_zero, Nat.zero_add, eq_self, ne_eq, reduceCtorEq, Nat.reduceLT, Nat.reduceLeDiff, Nat.reduceEqDiff, Nat.reduceSub, Nat.reduceAdd, i10, i01, im10, Int32.reduceLT, Int32.reduceLE, ↓reduceIte, reduceIte, up_r, uL_r, cp_r, Int32.toInt_toInt64, Int64.reduceToInt, Int32.reduceToInt, ↓b1_or, b1_0, b1_1, lc_lt, lc_le, lc_gt, lc_ge, lc_eq, yx_0, yx_1, yx_2, yx_3, yx_4, yx_5, yx_6, yx_7, yx_8, yx_9, yx_10, yx_11, yx_12, yx_13, yx_14, yx_15, yx_16, yx_17, yx_18, yx_19, yx_20, yx_21, yx_22, yx_23, yx_24, yx_25, yx_26, yx_27, yx_28, yx_29, yx_30, yx_31, yx_32, yx_33, yx_34, yx_35, yx_36, yx_37, yx_38, yx_39, yx_40, yx_41, yx_42, yx_43, yx_44, yx_45, yx_46, yx_47, yx_48, yx_49, yx_50, yx_51, yx_52, yx_53, yx_54, yx_55, yx_56, yx_57, yx_58, yx_59, yx_60, yx_61, yx_62, yx_63, yx_64, yx_65, yx_66, yx_67, yx_68, rx_0, rx_1, rx_2, rx_3, rx_4, rx_5, rx_6, rx_7, rx_8, rx_9, rx_10, rx_11, rx_12, rx_13, rx_14, rx_15, rx_16, rx_17, rx_18, rx_19, rx_20, rx_21, rx_22, rx_23, rx_24, rx_25, rx_26, rx_27, rx_28, rx_29, rx_30, rx_31, rx_32, rx_33, rp_0, rp_1, rp_2, rp_3, rp_4, rp_5, rp_6, rp_7, rp_8, rs_0, rs_1, rs_2, rs_3, rs_4, re_0, re_1, re_2, re_3, re_4, re_5, rr_0, rr_1, rr_2, rr_3, rr_4, rk_0, rk_1, isP3, isP11, isP46, isP58, isS25, isS28, isS31, un_X0_isPlace, un_X0_refresh, un_X3_place, c5, c6]
  try simp only [iteP, Classical.not_not, b1_0, b1_1]
  refine ⟨fun z => ?_, fun z => ⟨x, ⟨hJ, hR⟩, fun M2 p1 p2 => ?_⟩⟩
  · rw [if_neg z] at h; exact h M hR
  · rw [if_pos z] at h
    obtain ⟨e1, e2, e3, e4, e5, e6, e7⟩ := cPl.n hJ z
    have q := p2.2.2.2.2 (nat s) (nat c) (nat l) e4 e5 e7
    have e0 : (s * 36 + c) * 4 + l = nI (144 * nat s + 4 * nat c + nat l) := by
      rw [e1, e2, e3]
      unfold nat
      rw [a_cl (show (s.toNatClampNeg) < 2147483648 by unfold nat at e4; omega), a_cl (show (c.toNatClampNeg) < 2147483648 by unfold nat at e6; omega), a_cl (show (l.toNatClampNeg) < 2147483648 by unfold nat at e7; omega)]
      rw [show (36 : Int32) = nI 36 from rfl, show (4 : Int32) = nI 4 from rfl, pk_mul, nI_add, pk_mul, nI_add]; congr 1; omega
    rw [e0, a_cl (by omega), a_vi (by omega), q.2.2]
    refine ⟨by omega, fun y => ?_, fun y => ?_⟩
    · rw [if_pos y] at h; exact h M2 p1
    · rw [if_neg y] at h; exact h M2 p1
theorem pv_X0_marked : ∀ as M L K, S_X0_marked as M L K → ma_rn (tb_X0_marked S_X0_isPlace S_X0_refresh S_X3_place) 4 as M L K := by
  intro as M L K h
  unfold S_X0_marked at h
  split at h
  · obtain ⟨x, h⟩ := h; exact pw_X0_marked h.1 h.2
  · exact h.elim
