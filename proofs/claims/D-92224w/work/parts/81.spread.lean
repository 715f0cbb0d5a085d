/-! op: spread -/
set_option maxRecDepth 100000
set_option maxHeartbeats 4000000
def sps (f g : Nat → Nat → Nat → Int32) (s : Nat) : Nat → Nat → Int32 × Int32 → Int32 × Int32
  | 0, _, a => a
  | n + 1, k, a => sps f g s n (k + 1) (if f s (k / 4) (k % 4) = g s (k / 4) (k % 4) then a else (a.1 + 1, nI s))
def spr (f g : Nat → Nat → Nat → Int32) (N : Nat) : Nat → Nat → Int32 × Int32 → Int32 × Int32
  | 0, _, a => a
  | n + 1, s, a => spr f g N n (s + 1) (sps f g s (4 * N) 0 a)
def spo (wh nn : Int32) (r : Int32 × Int32) : Int32 := if wh = 0 then r.1 else if wh = 1 then r.2 else if r.2 = nn then 0 else 1
theorem sps_e {f g : Nat → Nat → Nat → Int32} {s : Nat} (h : ∀ c l, f s c l = g s c l) : ∀ n k a, sps f g s n k a = a
  | 0, _, _ => rfl
  | n + 1, k, a => by rw [sps, if_pos (h _ _), sps_e h n]
def oSpread (i n wh : Int32) (x : St) : Int32 := if ¬ i < 0 ∧ (1 ≤ n.toInt ∧ n.toInt ≤ 12) ∧ (0 ≤ wh.toInt ∧ wh.toInt ≤ 2) then (if i < sN x 0 19 then spo wh n (spr (hv x sAll) (hv x (sBut (nat i))) (nat (sN x 0 0) * nat (sN x 0 1)) (nat n) 1 (0, -4)) else -2) else -1
theorem but_b : ∀ n : Fin 13, ∀ i : Fin 12, ∀ j : Fin 12, j.val < n.val → (j.val ≠ i.val ↔ ((((1 : Int32) <<< (nI n.val &&& 31) - 1) &&& ((1 : Int32) <<< (nI i.val &&& 31) ^^^ (-1))) >>> (nI j.val &&& 31)) &&& 1 = 1) := by decide +kernel
theorem RX.ot {M M1 : ZM} {L : ZL} {x : St} (h : RX M L x) (l1 : ∀ a, a < 31 ∨ (36 < a ∧ a < 40) ∨ 43 < a → M1 a = M a) : RX M1 L x ∧ (Xh M x → Xh M1 x) := by
  have e0 := l1 0 (by omega)
  have e1 := l1 1 (by omega)
  have e19 := l1 19 (by omega)
  have e20 := l1 20 (by omega)
  have e21 := l1 21 (by omega)
  have e22 := l1 22 (by omega)
  have e23 := l1 23 (by omega)
  have e24 := l1 24 (by omega)
  have e25 := l1 25 (by omega)
  have e37 := l1 37 (by omega)
  have e38 := l1 38 (by omega)
  have e39 := l1 39 (by omega)
  have e26 := l1 26 (by omega)
  have e28 := l1 28 (by omega)
  have e29 := l1 29 (by omega)
  have e30 := l1 30 (by omega)
  have hx : Xh M x → Xh M1 x := by
    unfold Xh
    rw [e25, e26, e28, e29, e30]
    exact id
  obtain ⟨r1, r2, r3, r4⟩ := h
  refine ⟨⟨?_, ?_, r3.to (fun a ha => l1 a (by omega)) rfl, ?_⟩, hx⟩
  · unfold Xs at r1 ⊢; rw [e0]; exact r1
  · unfold Xa at r2 ⊢; rw [e1, e19, e20, e21, e22, e23, e24, e37, e38, e39]; exact r2
  · rw [e0]
    rcases r4 with q | q
    · exact Or.inl q
    · exact Or.inr ⟨q.1, hx q.2⟩
def S_X0_spread : ma_Cs := fun as M L K => match as with
  | [.ref k, .int i, .int n, .int wh] => ∃ (x : St), (k = 0 ∧ J x ∧ RX M L x) ∧ (∀ (M' : ZM), RX M' L x → K (some (.int (oSpread i n wh x))) M' L)
  | _ => False
theorem ms_X0_spread : ma_ms S_X0_spread := by
  intro as M L K K' hk h
  unfold S_X0_spread at h ⊢
  split at h
  · obtain ⟨x, h⟩ := h
    exact ⟨x, h.1, fun x0 x1 => hk _ _ _ (h.2 x0 x1)⟩
  · exact h.elim
theorem un_X0_spread {k : Nat} {i : Int32} {n : Int32} {wh : Int32} {M : ZM} {L : ZL} {K : ma_Kt} : S_X0_spread [.ref k, .int i, .int n, .int wh] M L K = (∃ (x : St), (k = 0 ∧ J x ∧ RX M L x) ∧ (∀ (M' : ZM), RX M' L x → K (some (.int (oSpread i n wh x))) M' L)) := rfl
theorem pw_X0_spread {k : Nat} {i : Int32} {n : Int32} {wh : Int32} {x : St} {M : ZM} {L : ZL} {K : ma_Kt} (hp : k = 0 ∧ J x ∧ RX M L x) (h : (∀ (M' : ZM), RX M' L x → K (some (.int (oSpread i n wh x))) M' L)) : ma_rn (tb_X0_spread S_X0_isIn S_X0_refresh S_X3_begin S_X3_run S_X0_cells S_X3_at) 10 [.ref k, .int i, .int n, .int wh] M L K := by
  refine ⟨Nat.le_of_ble_eq_true rfl, fun V hV => ?_⟩
  obtain ⟨rfl, hJ, hR⟩ := hp
  obtain ⟨w, u, e, ns, ta, tb, h1, h2, h3, h6, h7, h8, hs, w2, w6, u2, u6, e3, n12, ta12, tb4, q0, q36, n1, n2, n3, n6⟩ := hJ.sky
  have b10 := hR.1.2.2.2.2.1
  rw [h6] at b10
  unfold oSpread at h
  rw [n1, n2, h6] at h
  refine ma_walk (mo_X0_spread ms_X0_isIn ms_X0_refresh ms_X3_begin ms_X3_run ms_X0_cells ms_X3_at) hV [71, 80, 92] (fun F hF => ?_)
  simp only [tb_X0_spread, hF, in_no, in_push, in_ild, in_lld, in_ald, in_ist, in_ast, in_lst, in_inc, in_iii, in_idv, in_ldv, in_lll, in_lli, in_lil, in_ii, in_il, in_li, in_ll, in_dup, in_dp2, q_if1, q_if2, in_go, in_sw, ma_sw, in_rv, in_ri, in_rz, in_rl, in_get, in_put, in_puz, in_iar, in_bar, in_lar, in_aar, in_iaw, in_baw, in_law, in_len, in_cpy, in_s1, in_s2, in_s3, in_v1, in_v2, in_v3, in_v4, in_v5, in_v6, ma_bk, ma_gl, ma_sl, ma_nl, ma_wc, ma_wd, ma_nn, ma_en, List.mem_cons, List.not_mem_nil, or_false, or_true, true_or, false_or, true_and, and_true, false_and, and_false, if_true, if_false, forall_const, true_implies, false_implies, not_true_eq_false, not_false_eq_true, Classical.not_not, implies_true, and_self, Nat.add_zero, Nat.zero_add, eq_self, ne_eq, reduceCtorEq, Nat.reduceLT, Nat.reduceLeDiff, Nat.reduceEqDiff, Nat.reduceSub, Nat.reduceAdd, i10, i01, im10, Int32.reduceLT, Int32.reduceLE, ↓reduceIte, reduceIte, up_r, uL_r, cp_r, Int32.toInt_toInt64, Int64.reduceToInt, Int32.reduceToInt, ↓b1_or, b1_0, b1_1, lc_lt, lc_le, lc_gt, lc_ge, lc_eq, yx_0, yx_1, yx_2, yx_3, yx_4, yx_5, yx_6, yx_7, yx_8, yx_9, yx_10, yx_11, yx_12, yx_13, yx_14, yx_15, yx_16, yx_17, yx_18, yx_19, yx_20, yx_21, yx_22, yx_23, yx_24, yx_25, yx_26, yx_27, yx_28, yx_29, yx_30, yx_31, yx_32, yx_33, yx_34, yx_35, yx_36, yx_37, yx_38, yx_39, yx_40, yx_41, yx_42, yx_43, yx_44, yx_45, yx_46, yx_47, yx_48, yx_49, yx_50, yx_51, yx_52, yx_53, yx_54, yx_55, yx_56, yx_57, yx_58, yx_59, yx_60, yx_61, yx_62, yx_63, yx_64, yx_65, yx_66, yx_67, yx_68, rx_0, rx_1, rx_2, rx_3, rx_4, rx_5, rx_6, rx_7, rx_8, rx_9, rx_10, rx_11, rx_12, rx_13, rx_14, rx_15, rx_16, rx_17, rx_18, rx_19, rx_20, rx_21, rx_22, rx_23, rx_24, rx_25, rx_26, rx_27, rx_28, rx_29, rx_30, rx_31, rx_32, rx_33, rp_0, rp_1, rp_2, rp_3, rp_4, rp_5, rp_6, rp_7, rp_8, rs_0, rs_1, rs_2, rs_3, rs_4, re_0, re_1, re_2, re_3, re_4, re_5, rr_0, rr_1, rr_2, rr_3, rr_4, rk_0, rk_1, isP3, isP11, isP46, isP58, isS25, isS28, isS31, un_X0_isIn, un_X0_refresh, un_X3_begin, un_X3_run, un_X0_cells, un_X3_at, b10]
  try simp only [iteP, Classical.not_not, b1_0, b1_1]
  clear hF
  refine sw_n (fun z => by have g := h M hR; rw [if_neg (fun y => y.1 z)] at g; exact g) (fun z => br_n (fun z2 => by have g := h M hR; rw [if_neg (fun y => z2 y.2.1)] at g; exact g) (fun z2 => br_n (fun z3 => by have g := h M hR; rw [if_neg (fun y => z3 y.2.2)] at g; exact g) (fun z3 => ?_)))
  rw [if_pos ⟨z, z2, z3⟩] at h
  refine sw_n (fun z4 => ?_) (fun z4 => by have g := h M hR; rw [if_neg z4] at g; exact g)
  rw [if_pos z4] at h
  have zi : 0 ≤ i.toInt := by rw [Int32.lt_iff_toInt_lt, show (0 : Int32).toInt = 0 from rfl] at z; omega
  obtain ⟨m, em, hm, bm⟩ := a_of zi
  obtain ⟨nn, en, hn', bn⟩ := a_of (show 0 ≤ n.toInt by omega)
  have nm' : nat i = m := by unfold nat; rw [em, a_cl bm]
  have nn' : nat n = nn := by unfold nat; rw [en, a_cl bn]
  rw [nm', nn'] at h
  rw [em, a_lt bm (by omega)] at z4
  rw [em, en]
  refine ⟨x, ⟨hJ, hR⟩, fun M1 g1 g2 => ?_⟩
  obtain ⟨⟨c0, c5, c6, c7, c10, c19, c20, c25, c33⟩, ⟨a19, a1, a20, a21, a22, a23, a24, a34, a37, a38, a39⟩, r3, r4⟩ := id g1
  have ja := hJ.2.1
  have jp := hJ.2.2.1
  refine ⟨w, u, e, ⟨Or.inr (Or.inr rfl), c5.trans h1, c6.trans h2, c7.trans h3, hs, by rw [a19, a20]; exact ja.2.1⟩, fun M2 p1 p2 p3 p4 => ?_⟩
  have q0' : M2 0 = M1 0 := p1 0 (by decide) (by decide) (by decide)
  have wo : ¬ nI m < (-4 : Int32) := fun y => by
    rw [Int32.lt_iff_toInt_lt, a_ti bm, show (-4 : Int32).toInt = -4 from rfl] at y; omega
  refine ⟨w, u, e, nn, ns, sBut m, (sp x).1, (sp x).2, f0v (M1 19) (M1 20) w u e, f0k (M1 20), ⟨Or.inr (Or.inr rfl), p2, p3, by rw [q0']; exact c7.trans h3, hs, rfl, by omega, by rw [q0']; exact c10.trans h6, n12, Or.inr ⟨wo, fun j hj => ?_⟩, r3.1.to (fun a y1 y2 => p1 a (by omega) (by omega) (by omega)), jp.1, fun c l y1 y2 => ⟨(p4 c l y1 y2).1, (p4 c l y1 y2).2, of_eq_true b1_or⟩⟩, fun M3 p5 p6 => ?_⟩
  · unfold sBut
    rw [a_eq (by omega) bm]
    exact decide_eq_true_iff
  have fr : ∀ a, a ≠ 31 → a ≠ 32 → a ≠ 33 → M3 a = M1 a := fun a y1 y2 y3 => (p5 a y2 y3).trans (p1 a y1 y2 y3)
  have hR3 := g1.ot (fun a ha => fr a (by omega) (by omega) (by omega))
  have hX3 := hR3.2 g2
  have e9 : val (M2 19) w u e (sp x).1 (sp x).2 (zX M2 (sBut m) ns) (f0v (M1 19) (M1 20) w u e) = hv x (sBut m) := by
    rw [hv_e h1 h2 h3 h6 (by omega) (by omega) (by omega) (by omega) (sBut m), zXY (N := sN x) ((p1 21 (by decide) (by decide) (by decide)).trans a21) ((p1 22 (by decide) (by decide) (by decide)).trans a22) ((p1 23 (by decide) (by decide) (by decide)).trans a23) ((p1 24 (by decide) (by decide) (by decide)).trans a24), p1 19 (by decide) (by decide) (by decide), a19, a20]
  have d5 := hR3.1.1.2.1.trans h1
  have d6 := hR3.1.1.2.2.1.trans h2
  have g := h M3 hR3.1
  have VF : ∀ s c l, s ≤ 12 → c < w * u → l < 4 → M3 29 (144 * s + 4 * c + l) = hv x sAll s c l := fun s c l y1 y2 y3 => (hX3.2.2.2.2 s c l y1 (by rw [n1, n2]; exact y2) y3).2.1
  have VG : ∀ s c l, s ≤ nn → c < w * u → l < 4 → M3 32 (144 * s + 4 * c + l) = hv x (sBut m) s c l := fun s c l y1 y2 y3 => by
    have := (p6 s c l y1 y2 y3).1
    rw [e9] at this; exact this
  generalize hv x sAll = F at *
  generalize hv x (sBut m) = G at *
  rw [en] at g
  clear h p4 p6 e9 hX3
  have lp : ∀ n s a, n + s = nn + 1 → 0 < s → K (some (.int (spo wh (nI nn) (spr F G (w * u) n s a)))) M3 L → ∀ o7 o8 o9, V 71 [some (.ref 0), some (.int (nI m)), some (.int (nI nn)), some (.int wh), some (.int a.1), some (.int a.2), some (.int (nI s)), o7, o8, o9] [] M3 L := by
    intro n
    induction n with
    | zero =>
      intro s a hj hs0 g o7 o8 o9
      have v1 : nI nn < nI s := by rw [a_lt bn (by omega)]; omega
      rw [spr] at g
      unfold spo at g
      refine ma_walk (mo_X0_spread ms_X0_isIn ms_X0_refresh ms_X3_begin ms_X3_run ms_X0_cells ms_X3_at) hV [71, 80, 92] (fun F hF => ?_)
      simp only [tb_X0_spread, hF, in_no, in_push, in_ild, in_lld, in_ald, in_ist, in_ast, in_lst, in_inc, in_iii, in_idv, in_ldv, in_lll, in_lli, in_lil, in_ii, in_il, in_li, in_ll, in_dup, in_dp2, q_if1, q_if2, in_go, in_sw, ma_sw, in_rv, in_ri, in_rz, in_rl, in_get, in_put, in_puz, in_iar, in_bar, in_lar, in_aar, in_iaw, in_baw, in_law, in_len, in_cpy, in_s1, in_s2, in_s3, in_v1, in_v2, in_v3, in_v4, in_v5, in_v6, ma_bk, ma_gl, ma_sl, ma_nl, ma_wc, ma_wd, ma_nn, ma_en, List.mem_cons, List.not_mem_nil, or_false, or_true, true_or, false_or, true_and, and_true, false_and, and_false, if_true, if_false, forall_const, true_implies, false_implies, not_true_eq_false, not_false_eq_true, Classical.not_not, implies_true, and_self, Nat.add_zero, Nat.zero_add, eq_self, ne_eq, reduceCtorEq, Nat.reduceLT, Nat.reduceLeDiff, Nat.reduceEqDiff, Nat.reduceSub, Nat.reduceAdd, i10, i01, im10, Int32.reduceLT, Int32.reduceLE, ↓reduceIte, reduceIte, up_r, uL_r, cp_r, Int32.toInt_toInt64, Int64.reduceToInt, Int32.reduceToInt, ↓b1_or, b1_0, b1_1, lc_lt, lc_le, lc_gt, lc_ge, lc_eq, yx_0, yx_1, yx_2, yx_3, yx_4, yx_5, yx_6, yx_7, yx_8, yx_9, yx_10, yx_11, yx_12, yx_13, yx_14, yx_15, yx_16, yx_17, yx_18, yx_19, yx_20, yx_21, yx_22, yx_23, yx_24, yx_25, yx_26, yx_27, yx_28, yx_29, yx_30, yx_31, yx_32, yx_33, yx_34, yx_35, yx_36, yx_37, yx_38, yx_39, yx_40, yx_41, yx_42, yx_43, yx_44, yx_45, yx_46, yx_47, yx_48, yx_49, yx_50, yx_51, yx_52, yx_53, yx_54, yx_55, yx_56, yx_57, yx_58, yx_59, yx_60, yx_61, yx_62, yx_63, yx_64, yx_65, yx_66, yx_67, yx_68, rx_0, rx_1, rx_2, rx_3, rx_4, rx_5, rx_6, rx_7, rx_8, rx_9, rx_10, rx_11, rx_12, rx_13, rx_14, rx_15, rx_16, rx_17, rx_18, rx_19, rx_20, rx_21, rx_22, rx_23, rx_24, rx_25, rx_26, rx_27, rx_28, rx_29, rx_30, rx_31, rx_32, rx_33, rp_0, rp_1, rp_2, rp_3, rp_4, rp_5, rp_6, rp_7, rp_8, rs_0, rs_1, rs_2, rs_3, rs_4, re_0, re_1, re_2, re_3, re_4, re_5, rr_0, rr_1, rr_2, rr_3, rr_4, rk_0, rk_1, isP3, isP11, isP46, isP58, isS25, isS28, isS31, un_X0_isIn, un_X0_refresh, un_X3_begin, un_X3_run, un_X0_cells, un_X3_at, v1]
      try simp only [iteP, Classical.not_not, b1_0, b1_1]
      exact ⟨fun y => by rw [if_pos y] at g; exact g, fun y => ⟨fun y1 => by rw [if_neg y, if_pos y1] at g; exact g, fun y1 => ⟨fun y2 => by rw [if_neg y, if_neg y1, if_pos y2] at g; exact g, fun y2 => by rw [if_neg y, if_neg y1, if_neg y2] at g; exact g⟩⟩⟩
    | succ n ih =>
      intro s a hj hs0 g o7 o8 o9
      have v1 : ¬ nI nn < nI s := by rw [a_lt bn (by omega)]; omega
      have v4 : nI s + 1 = nI (s + 1) := by rw [show (1 : Int32) = nI 1 from rfl, nI_add]
      rw [spr] at g
      have lp2 : ∀ q c a, q + c = w * u → K (some (.int (spo wh (nI nn) (spr F G (w * u) n (s + 1) (sps F G s (4 * q) (4 * c) a))))) M3 L → ∀ o8 o9, V 80 [some (.ref 0), some (.int (nI m)), some (.int (nI nn)), some (.int wh), some (.int a.1), some (.int a.2), some (.int (nI s)), some (.int (nI c)), o8, o9] [] M3 L := by
        intro q
        induction q with
        | zero =>
          intro c a hc g o8 o9
          have v5 : nI w * nI u ≤ nI c := by rw [pk_mul, a_le (by omega) (by omega)]; omega
          refine ma_walk (mo_X0_spread ms_X0_isIn ms_X0_refresh ms_X3_begin ms_X3_run ms_X0_cells ms_X3_at) hV [71, 80, 92] (fun F hF => ?_)
          simp only [tb_X0_spread, hF, in_no, in_push, in_ild, in_lld, in_ald, in_ist, in_ast, in_lst, in_inc, in_iii, in_idv, in_ldv, in_lll, in_lli, in_lil, in_ii, in_il, in_li, in_ll, in_dup, in_dp2, q_if1, q_if2, in_go, in_sw, ma_sw, in_rv, in_ri, in_rz, in_rl, in_get, in_put, in_puz, in_iar, in_bar, in_lar, in_aar, in_iaw, in_baw, in_law, in_len, in_cpy, in_s1, in_s2, in_s3, in_v1, in_v2, in_v3, in_v4, in_v5, in_v6, ma_bk, ma_gl, ma_sl, ma_nl, ma_wc, ma_wd, ma_nn, ma_en, List.mem_cons, List.not_mem_nil, or_false, or_true, true_or, false_or, true_and, and_true, false_and, and_false, if_true, if_false, forall_const, true_implies, false_implies, not_true_eq_false, not_false_eq_true, Classical.not_not, implies_true, and_self, Nat.add_zero, Nat.zero_add, eq_self, ne_eq, reduceCtorEq, Nat.reduceLT, Nat.reduceLeDiff, Nat.reduceEqDiff, Nat.reduceSub, Nat.reduceAdd, i10, i01, im10, Int32.reduceLT, Int32.reduceLE, ↓reduceIte, reduceIte, up_r, uL_r, cp_r, Int32.toInt_toInt64, Int64.reduceToInt, Int32.reduceToInt, ↓b1_or, b1_0, b1_1, lc_lt, lc_le, lc_gt, lc_ge, lc_eq, yx_0, yx_1, yx_2, yx_3, yx_4, yx_5, yx_6, yx_7, yx_8, yx_9, yx_10, yx_11, yx_12, yx_13, yx_14, yx_15, yx_16, yx_17, yx_18, yx_19, yx_20, yx_21, yx_22, yx_23, yx_24, yx_25, yx_26, yx_27, yx_28, yx_29, yx_30, yx_31, yx_32, yx_33, yx_34, yx_35, yx_36, yx_37, yx_38, yx_39, yx_40, yx_41, yx_42, yx_43, yx_44, yx_45, yx_46, yx_47, yx_48, yx_49, yx_50, yx_51, yx_52, yx_53, yx_54, yx_55, yx_56, yx_57, yx_58, yx_59, yx_60, yx_61, yx_62, yx_63, yx_64, yx_65, yx_66, yx_67, yx_68, rx_0, rx_1, rx_2, rx_3, rx_4, rx_5, rx_6, rx_7, rx_8, rx_9, rx_10, rx_11, rx_12, rx_13, rx_14, rx_15, rx_16, rx_17, rx_18, rx_19, rx_20, rx_21, rx_22, rx_23, rx_24, rx_25, rx_26, rx_27, rx_28, rx_29, rx_30, rx_31, rx_32, rx_33, rp_0, rp_1, rp_2, rp_3, rp_4, rp_5, rp_6, rp_7, rp_8, rs_0, rs_1, rs_2, rs_3, rs_4, re_0, re_1, re_2, re_3, re_4, re_5, rr_0, rr_1, rr_2, rr_3, rr_4, rk_0, rk_1, isP3, isP11, isP46, isP58, isS25, isS28, isS31, un_X0_isIn, un_X0_refresh, un_X3_begin, un_X3_run, un_X0_cells, un_X3_at, d5, d6, v5, v4]
          try simp only [iteP, Classical.not_not, b1_0, b1_1]
          exact ih (s + 1) a (by omega) (by omega) g _ _ _
        | succ q ih2 =>
          intro c a hc g o8 o9
          have v5 : ¬ nI w * nI u ≤ nI c := by rw [pk_mul, a_le (by omega) (by omega)]; omega
          have v6 : nI c + 1 = nI (c + 1) := by rw [show (1 : Int32) = nI 1 from rfl, nI_add]
          have lp3 : ∀ r l a, r + l = 4 → K (some (.int (spo wh (nI nn) (spr F G (w * u) n (s + 1) (sps F G s (4 * q + r) (4 * c + l) a))))) M3 L → ∀ o9, V 92 [some (.ref 0), some (.int (nI m)), some (.int (nI nn)), some (.int wh), some (.int a.1), some (.int a.2), some (.int (nI s)), some (.int (nI c)), some (.int (nI l)), o9] [] M3 L := by
            intro r
            induction r with
            | zero =>
              intro l a hl g o9
              have v7 : (4 : Int32) ≤ nI l := by rw [show l = 4 by omega]; decide
              refine ma_walk (mo_X0_spread ms_X0_isIn ms_X0_refresh ms_X3_begin ms_X3_run ms_X0_cells ms_X3_at) hV [71, 80, 92] (fun F hF => ?_)
              simp only [tb_X0_spread, hF, in_no, in_push, in_ild, in_lld, in_ald, in_ist, in_ast, in_lst, in_inc, in_iii, in_idv, in_ldv, in_lll, in_lli, in_lil, in_ii, in_il, in_li, in_ll, in_dup, in_dp2, q_if1, q_if2, in_go, in_sw, ma_sw, in_rv, in_ri, in_rz, in_rl, in_get, in_put, in_puz, in_iar, in_bar, in_lar, in_aar, in_iaw, in_baw, in_law, in_len, in_cpy, in_s1, in_s2, in_s3, in_v1, in_v2, in_v3, in_v4, in_v5, in_v6, ma_bk, ma_gl, ma_sl, ma_nl, ma_wc, ma_wd, ma_nn, ma_en, List.mem_cons, List.not_mem_nil, or_false, or_true, true_or, false_or, true_and, and_true, false_and, and_false, if_true, if_false, forall_const, true_implies, false_implies, not_true_eq_false, not_false_eq_true, Classical.not_not, implies_true, and_self, Nat.add_zero, Nat.zero_add, eq_self, ne_eq, reduceCtorEq, Nat.reduceLT, Nat.reduceLeDiff, Nat.reduceEqDiff, Nat.reduceSub, Nat.reduceAdd, i10, i01, im10, Int32.reduceLT, Int32.reduceLE, ↓reduceIte, reduceIte, up_r, uL_r, cp_r, Int32.toInt_toInt64, Int64.reduceToInt, Int32.reduceToInt, ↓b1_or, b1_0, b1_1, lc_lt, lc_le, lc_gt, lc_ge, lc_eq, yx_0, yx_1, yx_2, yx_3, yx_4, yx_5, yx_6, yx_7, yx_8, yx_9, yx_10, yx_11, yx_12, yx_13, yx_14, yx_15, yx_16, yx_17, yx_18, yx_19, yx_20, yx_21, yx_22, yx_23, yx_24, yx_25, yx_26, yx_27, yx_28, yx_29, yx_30, yx_31, yx_32, yx_33, yx_34, yx_35, yx_36, yx_37, yx_38, yx_39, yx_40, yx_41, yx_42, yx_43, yx_44, yx_45, yx_46, yx_47, yx_48, yx_49, yx_50, yx_51, yx_52, yx_53, yx_54, yx_55, yx_56, yx_57, yx_58, yx_59, yx_60, yx_61, yx_62, yx_63, yx_64, yx_65, yx_66, yx_67, yx_68, rx_0, rx_1, rx_2, rx_3, rx_4, rx_5, rx_6, rx_7, rx_8, rx_9, rx_10, rx_11, rx_12, rx_13, rx_14, rx_15, rx_16, rx_17, rx_18, rx_19, rx_20, rx_21, rx_22, rx_23, rx_24, rx_25, rx_26, rx_27, rx_28, rx_29, rx_30, rx_31, rx_32, rx_33, rp_0, rp_1, rp_2, rp_3, rp_4, rp_5, rp_6, rp_7, rp_8, rs_0, rs_1, rs_2, rs_3, rs_4, re_0, re_1, re_2, re_3, re_4, re_5, rr_0, rr_1, rr_2, rr_3, rr_4, rk_0, rk_1, isP3, isP11, isP46, isP58, isS25, isS28, isS31, un_X0_isIn, un_X0_refresh, un_X3_begin, un_X3_run, un_X0_cells, un_X3_at, v7, v6]
              try simp only [iteP, Classical.not_not, b1_0, b1_1]
              exact ih2 (c + 1) a (by omega) (by rw [show 4 * (c + 1) = 4 * c + l by omega]; exact g) _ _
            | succ r ih3 =>
              intro l a hl g o9
              have v7 : ¬ (4 : Int32) ≤ nI l := fun y => by rw [show (4 : Int32) = nI 4 from rfl, a_le (by omega) (by omega)] at y; omega
              have v8 : nI l + 1 = nI (l + 1) := by rw [show (1 : Int32) = nI 1 from rfl, nI_add]
              rw [show 4 * q + (r + 1) = (4 * q + r) + 1 from rfl, sps, show (4 * c + l) / 4 = c by omega, show (4 * c + l) % 4 = l by omega] at g
              refine ma_walk (mo_X0_spread ms_X0_isIn ms_X0_refresh ms_X3_begin ms_X3_run ms_X0_cells ms_X3_at) hV [71, 80, 92] (fun F hF => ?_)
              simp only [tb_X0_spread, hF, in_no, in_push, in_ild, in_lld, in_ald, in_ist, in_ast, in_lst, in_inc, in_iii, in_idv, in_ldv, in_lll, in_lli, in_lil, in_ii, in_il, in_li, in_ll, in_dup, in_dp2, q_if1, q_if2, in_go, in_sw, ma_sw, in_rv, in_ri, in_rz, in_rl, in_get, in_put, in_puz, in_iar, in_bar, in_lar, in_aar, in_iaw, in_baw, in_law, in_len, in_cpy, in_s1, in_s2, in_s3, in_v1, in_v2, in_v3, in_v4, in_v5, in_v6, ma_bk, ma_gl, ma_sl, ma_nl, ma_wc, ma_wd, ma_nn, ma_en, List.mem_cons, List.not_mem_nil, or_false, or_true, true_or, false_or, true_and, and_true, false_and, and_false, if_true, if_false, forall_const, true_implies, false_implies, not_true_eq_false, not_false_eq_true, Classical.not_not, implies_true, and_self, Nat.add_zero, Nat.zero_add, eq_self, ne_eq, reduceCtorEq, Nat.reduceLT, Nat.reduceLeDiff, Nat.reduceEqDiff, Nat.reduceSub, Nat.reduceAdd, i10, i01, im10, Int32.reduceLT, Int32.reduceLE, ↓reduceIte, reduceIte, up_r, uL_r, cp_r, Int32.toInt_toInt64, Int64.reduceToInt, Int32.reduceToInt, ↓b1_or, b1_0, b1_1, lc_lt, lc_le, lc_gt, lc_ge, lc_eq, yx_0, yx_1, yx_2, yx_3, yx_4, yx_5, yx_6, yx_7, yx_8, yx_9, yx_10, yx_11, yx_12, yx_13, yx_14, yx_15, yx_16, yx_17, yx_18, yx_19, yx_20, yx_21, yx_22, yx_23, yx_24, yx_25, yx_26, yx_27, yx_28, yx_29, yx_30, yx_31, yx_32, yx_33, yx_34, yx_35, yx_36, yx_37, yx_38, yx_39, yx_40, yx_41, yx_42, yx_43, yx_44, yx_45, yx_46, yx_47, yx_48, yx_49, yx_50, yx_51, yx_52, yx_53, yx_54, yx_55, yx_56, yx_57, yx_58, yx_59, yx_60, yx_61, yx_62, yx_63, yx_64, yx_65, yx_66, yx_67, yx_68, rx_0, rx_1, rx_2, rx_3, rx_4, rx_5, rx_6, rx_7, rx_8, rx_9, rx_10, rx_11, rx_12, rx_13, rx_14, rx_15, rx_16, rx_17, rx_18, rx_19, rx_20, rx_21, rx_22, rx_23, rx_24, rx_25, rx_26, rx_27, rx_28, rx_29, rx_30, rx_31, rx_32, rx_33, rp_0, rp_1, rp_2, rp_3, rp_4, rp_5, rp_6, rp_7, rp_8, rs_0, rs_1, rs_2, rs_3, rs_4, re_0, re_1, re_2, re_3, re_4, re_5, rr_0, rr_1, rr_2, rr_3, rr_4, rk_0, rk_1, isP3, isP11, isP46, isP58, isS25, isS28, isS31, un_X0_isIn, un_X0_refresh, un_X3_begin, un_X3_run, un_X0_cells, un_X3_at, v7, v8]
              try simp only [iteP, Classical.not_not, b1_0, b1_1]
              refine ⟨s, c, l, ⟨rfl, rfl, rfl, by omega, by omega, by omega⟩, s, c, l, ⟨rfl, rfl, rfl, by omega, by omega, by omega⟩, ?_⟩
              rw [VF s c l (by omega) (by omega) (by omega), VG s c l (by omega) (by omega) (by omega), show a.1 + 0 = a.1 from Int32.add_zero _]
              exact sw_n (fun y => by rw [if_pos y] at g; exact ih3 (l + 1) _ (by omega) g _) (fun y => by rw [if_neg y] at g; exact ih3 (l + 1) _ (by omega) g _)
          refine ma_walk (mo_X0_spread ms_X0_isIn ms_X0_refresh ms_X3_begin ms_X3_run ms_X0_cells ms_X3_at) hV [71, 80, 92] (fun F hF => ?_)
          simp only [tb_X0_spread, hF, in_no, in_push, in_ild, in_lld, in_ald, in_ist, in_ast, in_lst, in_inc, in_iii, in_idv, in_ldv, in_lll, in_lli, in_lil, in_ii, in_il, in_li, in_ll, in_dup, in_dp2, q_if1, q_if2, in_go, in_sw, ma_sw, in_rv, in_ri, in_rz, in_rl, in_get, in_put, in_puz, in_iar, in_bar, in_lar, in_aar, in_iaw, in_baw, in_law, in_len, in_cpy, in_s1, in_s2, in_s3, in_v1, in_v2, in_v3, in_v4, in_v5, in_v6, ma_bk, ma_gl, ma_sl, ma_nl, ma_wc, ma_wd, ma_nn, ma_en, List.mem_cons, List.not_mem_nil, or_false, or_true, true_or, false_or, true_and, and_true, false_and, and_false, if_true, if_false, forall_const, true_implies, false_implies, not_true_eq_false, not_false_eq_true, Classical.not_not, implies_true, and_self, Nat.add_zero, Nat.zero_add, eq_self, ne_eq, reduceCtorEq, Nat.reduceLT, Nat.reduceLeDiff, Nat.reduceEqDiff, Nat.reduceSub, Nat.reduceAdd, i10, i01, im10, Int32.reduceLT, Int32.reduceLE, ↓reduceIte, reduceIte, up_r, uL_r, cp_r, Int32.toInt_toInt64, Int64.reduceToInt, Int32.reduceToInt, ↓b1_or, b1_0, b1_1, lc_lt, lc_le, lc_gt, lc_ge, lc_eq, yx_0, yx_1, yx_2, yx_3, yx_4, yx_5, yx_6, yx_7, yx_8, yx_9, yx_10, yx_11, yx_12, yx_13, yx_14, yx_15, yx_16, yx_17, yx_18, yx_19, yx_20, yx_21, yx_22, yx_23, yx_24, yx_25, yx_26, yx_27, yx_28, yx_29, yx_30, yx_31, yx_32, yx_33, yx_34, yx_35, yx_36, yx_37, yx_38, yx_39, yx_40, yx_41, yx_42, yx_43, yx_44, yx_45, yx_46, yx_47, yx_48, yx_49, yx_50, yx_51, yx_52, yx_53, yx_54, yx_55, yx_56, yx_57, yx_58, yx_59, yx_60, yx_61, yx_62, yx_63, yx_64, yx_65, yx_66, yx_67, yx_68, rx_0, rx_1, rx_2, rx_3, rx_4, rx_5, rx_6, rx_7, rx_8, rx_9, rx_10, rx_11, rx_12, rx_13, rx_14, rx_15, rx_16, rx_17, rx_18, rx_19, rx_20, rx_21, rx_22, rx_23, rx_24, rx_25, rx_26, rx_27, rx_28, rx_29, rx_30, rx_31, rx_32, rx_33, rp_0, rp_1, rp_2, rp_3, rp_4, rp_5, rp_6, rp_7, rp_8, rs_0, rs_1, rs_2, rs_3, rs_4, re_0, re_1, re_2, re_3, re_4, re_5, rr_0, rr_1, rr_2, rr_3, rr_4, rk_0, rk_1, isP3, isP11, isP46, isP58, isS25, isS28, isS31, un_X0_isIn, un_X0_refresh, un_X3_begin, un_X3_run, un_X0_cells, un_X3_at, d5, d6, v5]
          try simp only [iteP, Classical.not_not, b1_0, b1_1]
          exact lp3 4 0 a rfl g _
      refine ma_walk (mo_X0_spread ms_X0_isIn ms_X0_refresh ms_X3_begin ms_X3_run ms_X0_cells ms_X3_at) hV [71, 80, 92] (fun F hF => ?_)
      simp only [tb_X0_spread, hF, in_no, in_push, in_ild, in_lld, in_ald, in_ist, in_ast, in_lst, in_inc, in_iii, in_idv, in_ldv, in_lll, in_lli, in_lil, in_ii, in_il, in_li, in_ll, in_dup, in_dp2, q_if1, q_if2, in_go, in_sw, ma_sw, in_rv, in_ri, in_rz, in_rl, in_get, in_put, in_puz, in_iar, in_bar, in_lar, in_aar, in_iaw, in_baw, in_law, in_len, in_cpy, in_s1, in_s2, in_s3, in_v1, in_v2, in_v3, in_v4, in_v5, in_v6, ma_bk, ma_gl, ma_sl, ma_nl, ma_wc, ma_wd, ma_nn, ma_en, List.mem_cons, List.not_mem_nil, or_false, or_true, true_or, false_or, true_and, and_true, false_and, and_false, if_true, if_false, forall_const, true_implies, false_implies, not_true_eq_false, not_false_eq_true, Classical.not_not, implies_true, and_self, Nat.add_zero, Nat.zero_add, eq_self, ne_eq, reduceCtorEq, Nat.reduceLT, Nat.reduceLeDiff, Nat.reduceEqDiff, Nat.reduceSub, Nat.reduceAdd, i10, i01, im10, Int32.reduceLT, Int32.reduceLE, ↓reduceIte, reduceIte, up_r, uL_r, cp_r, Int32.toInt_toInt64, Int64.reduceToInt, Int32.reduceToInt, ↓b1_or, b1_0, b1_1, lc_lt, lc_le, lc_gt, lc_ge, lc_eq, yx_0, yx_1, yx_2, yx_3, yx_4, yx_5, yx_6, yx_7, yx_8, yx_9, yx_10, yx_11, yx_12, yx_13, yx_14, yx_15, yx_16, yx_17, yx_18, yx_19, yx_20, yx_21, yx_22, yx_23, yx_24, yx_25, yx_26, yx_27, yx_28, yx_29, yx_30, yx_31, yx_32, yx_33, yx_34, yx_35, yx_36, yx_37, yx_38, yx_39, yx_40, yx_41, yx_42, yx_43, yx_44, yx_45, yx_46, yx_47, yx_48, yx_49, yx_50, yx_51, yx_52, yx_53, yx_54, yx_55, yx_56, yx_57, yx_58, yx_59, yx_60, yx_61, yx_62, yx_63, yx_64, yx_65, yx_66, yx_67, yx_68, rx_0, rx_1, rx_2, rx_3, rx_4, rx_5, rx_6, rx_7, rx_8, rx_9, rx_10, rx_11, rx_12, rx_13, rx_14, rx_15, rx_16, rx_17, rx_18, rx_19, rx_20, rx_21, rx_22, rx_23, rx_24, rx_25, rx_26, rx_27, rx_28, rx_29, rx_30, rx_31, rx_32, rx_33, rp_0, rp_1, rp_2, rp_3, rp_4, rp_5, rp_6, rp_7, rp_8, rs_0, rs_1, rs_2, rs_3, rs_4, re_0, re_1, re_2, re_3, re_4, re_5, rr_0, rr_1, rr_2, rr_3, rr_4, rk_0, rk_1, isP3, isP11, isP46, isP58, isS25, isS28, isS31, un_X0_isIn, un_X0_refresh, un_X3_begin, un_X3_run, un_X0_cells, un_X3_at, v1]
      try simp only [iteP, Classical.not_not, b1_0, b1_1]
      exact lp2 _ 0 a rfl g _ _
  exact lp nn 1 (0, -4) rfl (by omega) g _ _ _
theorem pv_X0_spread : ∀ as M L K, S_X0_spread as M L K → ma_rn (tb_X0_spread S_X0_isIn S_X0_refresh S_X3_begin S_X3_run S_X0_cells S_X3_at) 10 as M L K := by
  intro as M L K h
  unfold S_X0_spread at h
  split at h
  · obtain ⟨x, h⟩ := h; exact pw_X0_spread h.1 h.2
  · exact h.elim
def S_X5_spread : ma_Cs := fun as M L K => match as with
  | [.ref k, .int i, .int n, .int wh] => ∃ (x : St), (k = 0 ∧ J x ∧ RY M L x) ∧ (∀ (M' : ZM), RY M' L x → K (some (.int (oSpread i n wh x))) M' L)
  | _ => False
theorem ms_X5_spread : ma_ms S_X5_spread := by
  intro as M L K K' hk h
  unfold S_X5_spread at h ⊢
  split at h
  · obtain ⟨x, h⟩ := h
    exact ⟨x, h.1, fun x0 x1 => hk _ _ _ (h.2 x0 x1)⟩
  · exact h.elim
theorem un_X5_spread {k : Nat} {i : Int32} {n : Int32} {wh : Int32} {M : ZM} {L : ZL} {K : ma_Kt} : S_X5_spread [.ref k, .int i, .int n, .int wh] M L K = (∃ (x : St), (k = 0 ∧ J x ∧ RY M L x) ∧ (∀ (M' : ZM), RY M' L x → K (some (.int (oSpread i n wh x))) M' L)) := rfl
theorem pw_X5_spread {k : Nat} {i : Int32} {n : Int32} {wh : Int32} {x : St} {M : ZM} {L : ZL} {K : ma_Kt} (hp : k = 0 ∧ J x ∧ RY M L x) (h : (∀ (M' : ZM), RY M' L x → K (some (.int (oSpread i n wh x))) M' L)) : ma_rn (tb_X5_spread S_X5_in S_X5_all S_X5_hall S_X5_cells) 8 [.ref k, .int i, .int n, .int wh] M L K := by
  refine ⟨Nat.le_of_ble_eq_true rfl, fun V hV => ?_⟩
  obtain ⟨rfl, hJ, hR⟩ := hp
  obtain ⟨w, u, e, ns, ta, tb, h1, h2, h3, h6, h7, h8, hs, w2, w6, u2, u6, e3, n12, ta12, tb4, q0, q36, n1, n2, n3, n6⟩ := hJ.sky
  have c19 := hR.1.2.2.2.2.2.1
  rw [h6] at c19
  unfold oSpread at h
  rw [n1, n2, h6] at h
  refine ma_walk (mo_X5_spread ms_X5_in ms_X5_all ms_X5_hall ms_X5_cells) hV [81, 90] (fun F hF => ?_)
  simp only [tb_X5_spread, hF, in_no, in_push, in_ild, in_lld, in_ald, in_ist, in_ast, in_lst, in_inc, in_iii, in_idv, in_ldv, in_lll, in_lli, in_lil, in_ii, in_il, in_li, in_ll, in_dup, in_dp2, q_if1, q_if2, in_go, in_sw, ma_sw, in_rv, in_ri, in_rz, in_rl, in_get, in_put, in_puz, in_iar, in_bar, in_lar, in_aar, in_iaw, in_baw, in_law, in_len, in_cpy, in_s1, in_s2, in_s3, in_v1, in_v2, in_v3, in_v4, in_v5, in_v6, ma_bk, ma_gl, ma_sl, ma_nl, ma_wc, ma_wd, ma_nn, ma_en, List.mem_cons, List.not_mem_nil, or_false, or_true, true_or, false_or, true_and, and_true, false_and, and_false, if_true, if_false, forall_const, true_implies, false_implies, not_true_eq_false, not_false_eq_true, Classical.not_not, implies_true, and_self, Nat.add_zero, Nat.zero_add, eq_self, ne_eq, reduceCtorEq, Nat.reduceLT, Nat.reduceLeDiff, Nat.reduceEqDiff, Nat.reduceSub, Nat.reduceAdd, i10, i01, im10, Int32.reduceLT, Int32.reduceLE, ↓reduceIte, reduceIte, up_r, uL_r, cp_r, Int32.toInt_toInt64, Int64.reduceToInt, Int32.reduceToInt, ↓b1_or, b1_0, b1_1, lc_lt, lc_le, lc_gt, lc_ge, lc_eq, ym_0, ym_1, ym_2, ym_3, ym_4, ym_5, ym_6, ym_7, ym_8, ym_9, ym_10, ym_11, ym_12, ym_13, ym_14, ym_15, ym_16, ym_17, ym_18, ym_19, ym_20, ym_21, ym_22, ym_23, ym_24, ym_25, ym_26, ym_27, ym_28, ym_29, ym_30, rm__0, rm__1, rm__2, rm__3, rm__4, rm__5, rm__6, rm__7, rm__8, rm__9, rm__10, rm__11, rm__12, rm__13, rm__14, rm__15, rm__16, rm__17, rm__18, rm__19, rm__20, rm__21, rm__22, rm__23, rm__24, rm__25, rm__26, rm__27, rm__28, rm__29, rm__30, rm__31, rm__32, rm__33, rm__34, rm__35, rm__36, rm__37, rm__38, rm__39, rm__40, rm__41, rm__42, rm__43, rm__44, rm__45, un_X5_in, un_X5_all, un_X5_hall, un_X5_cells, c19]
  try simp only [iteP, Classical.not_not, b1_0, b1_1]
  clear hF
  refine sw_n (fun z => by have g := h M hR; rw [if_neg (fun y => y.1 z)] at g; exact g) (fun z => br_n (fun z2 => by have g := h M hR; rw [if_neg (fun y => z2 y.2.1)] at g; exact g) (fun z2 => br_n (fun z3 => by have g := h M hR; rw [if_neg (fun y => z3 y.2.2)] at g; exact g) (fun z3 => ?_)))
  rw [if_pos ⟨z, z2, z3⟩] at h
  refine sw_n (fun z4 => ?_) (fun z4 => by have g := h M hR; rw [if_neg z4] at g; exact g)
  rw [if_pos z4] at h
  have zi : 0 ≤ i.toInt := by rw [Int32.lt_iff_toInt_lt, show (0 : Int32).toInt = 0 from rfl] at z; omega
  obtain ⟨m, em, hm, bm⟩ := a_of zi
  obtain ⟨nn, en, hn', bn⟩ := a_of (show 0 ≤ n.toInt by omega)
  have nm' : nat i = m := by unfold nat; rw [em, a_cl bm]
  have nn' : nat n = nn := by unfold nat; rw [en, a_cl bn]
  rw [nm', nn'] at h
  rw [em, a_lt bm (by omega)] at z4
  rw [em, en]
  refine ⟨w, u, e, ns, sBut m, (sp x).1, (sp x).2, ⟨Or.inr rfl, ?_⟩, fun M1 p1 p2 p3 p4 p5 => ?_⟩
  · have q := hR.pre hJ h1 h2 h3 h6 hs n12 (set := ((1 : Int32) <<< (nI ns &&& 31) - 1) &&& ((1 : Int32) <<< (nI m &&& 31) ^^^ (-1))) (S := sBut m) (fun j hj => by
      unfold sBut
      exact decide_eq_true_iff.trans (but_b ⟨ns, by omega⟩ ⟨m, by omega⟩ ⟨j, by omega⟩ hj))
    rw [c19] at q
    exact q
  have hR1 := hR.behind (Or.inr rfl) p1 p2 p4
  have hv1 := hR.val h1 h2 h3 h6 (by omega) (by omega) (by omega) (by omega) p3
  have c19' := hR1.1.2.2.2.2.2.1
  rw [h6] at c19'
  rw [c19']
  refine ⟨w, u, e, ns, sAll, (sp x).1, (sp x).2, ⟨Or.inl rfl, ?_⟩, fun M2 p6 p7 p8 p9 p10 => ?_⟩
  · have q := hR1.pre hJ h1 h2 h3 h6 hs n12 (set := (1 : Int32) <<< (nI ns &&& 31) - 1) (S := sAll) (fun i hi => ⟨fun _ => all_b ⟨ns, by omega⟩ ⟨i, by omega⟩ hi, fun _ => rfl⟩)
    rw [c19'] at q
    exact q
  have hR2 := hR1.behind (Or.inl rfl) p6 p7 p9
  have hv2 := hR1.val h1 h2 h3 h6 (by omega) (by omega) (by omega) (by omega) p8
  have d0 := hR2.1.1.trans h1
  have d1 := hR2.1.2.1.trans h2
  have g := h M2 hR2
  have VF : ∀ s c l, s ≤ 12 → c < w * u → l < 4 → M2 22 (144 * s + 4 * c + l) = hv x sAll s c l := fun s c l y1 y2 y3 => (hv2 s c l y1 y2 y3).1
  have VG : ∀ s c l, s ≤ 12 → c < w * u → l < 4 → M2 23 (144 * s + 4 * c + l) = hv x (sBut m) s c l := fun s c l y1 y2 y3 => by
    rw [p6 23 (by decide) (by decide) (by decide)]; exact (hv1 s c l y1 y2 y3).1
  have V0 : ∀ c l, hv x sAll 0 c l = hv x (sBut m) 0 c l := fun c l => rfl
  generalize hv x sAll = F at *
  generalize hv x (sBut m) = G at *
  rw [en] at g
  clear h p3 p8 hv1 hv2
  have lp : ∀ n s a, n + s = nn + 1 → K (some (.int (spo wh (nI nn) (spr F G (w * u) n s a)))) M2 L → ∀ o7, V 81 [some (.ref 0), some (.int (nI m)), some (.int (nI nn)), some (.int wh), some (.int a.1), some (.int a.2), some (.int (nI s)), o7] [] M2 L := by
    intro n
    induction n with
    | zero =>
      intro s a hj g o7
      have v1 : nI nn < nI s := by rw [a_lt bn (by omega)]; omega
      rw [spr] at g
      unfold spo at g
      refine ma_walk (mo_X5_spread ms_X5_in ms_X5_all ms_X5_hall ms_X5_cells) hV [81, 90] (fun F hF => ?_)
      simp only [tb_X5_spread, hF, in_no, in_push, in_ild, in_lld, in_ald, in_ist, in_ast, in_lst, in_inc, in_iii, in_idv, in_ldv, in_lll, in_lli, in_lil, in_ii, in_il, in_li, in_ll, in_dup, in_dp2, q_if1, q_if2, in_go, in_sw, ma_sw, in_rv, in_ri, in_rz, in_rl, in_get, in_put, in_puz, in_iar, in_bar, in_lar, in_aar, in_iaw, in_baw, in_law, in_len, in_cpy, in_s1, in_s2, in_s3, in_v1, in_v2, in_v3, in_v4, in_v5, in_v6, ma_bk, ma_gl, ma_sl, ma_nl, ma_wc, ma_wd, ma_nn, ma_en, List.mem_cons, List.not_mem_nil, or_false, or_true, true_or, false_or, true_and, and_true, false_and, and_false, if_true, if_false, forall_const, true_implies, false_implies, not_true_eq_false, not_false_eq_true, Classical.not_not, implies_true, and_self, Nat.add_zero, Nat.zero_add, eq_self, ne_eq, reduceCtorEq, Nat.reduceLT, Nat.reduceLeDiff, Nat.reduceEqDiff, Nat.reduceSub, Nat.reduceAdd, i10, i01, im10, Int32.reduceLT, Int32.reduceLE, ↓reduceIte, reduceIte, up_r, uL_r, cp_r, Int32.toInt_toInt64, Int64.reduceToInt, Int32.reduceToInt, ↓b1_or, b1_0, b1_1, lc_lt, lc_le, lc_gt, lc_ge, lc_eq, ym_0, ym_1, ym_2, ym_3, ym_4, ym_5, ym_6, ym_7, ym_8, ym_9, ym_10, ym_11, ym_12, ym_13, ym_14, ym_15, ym_16, ym_17, ym_18, ym_19, ym_20, ym_21, ym_22, ym_23, ym_24, ym_25, ym_26, ym_27, ym_28, ym_29, ym_30, rm__0, rm__1, rm__2, rm__3, rm__4, rm__5, rm__6, rm__7, rm__8, rm__9, rm__10, rm__11, rm__12, rm__13, rm__14, rm__15, rm__16, rm__17, rm__18, rm__19, rm__20, rm__21, rm__22, rm__23, rm__24, rm__25, rm__26, rm__27, rm__28, rm__29, rm__30, rm__31, rm__32, rm__33, rm__34, rm__35, rm__36, rm__37, rm__38, rm__39, rm__40, rm__41, rm__42, rm__43, rm__44, rm__45, un_X5_in, un_X5_all, un_X5_hall, un_X5_cells, v1]
      try simp only [iteP, Classical.not_not, b1_0, b1_1]
      exact ⟨fun y => by rw [if_pos y] at g; exact g, fun y => ⟨fun y1 => by rw [if_neg y, if_pos y1] at g; exact g, fun y1 => ⟨fun y2 => by rw [if_neg y, if_neg y1, if_pos y2] at g; exact g, fun y2 => by rw [if_neg y, if_neg y1, if_neg y2] at g; exact g⟩⟩⟩
    | succ n ih =>
      intro s a hj g o7
      have v1 : ¬ nI nn < nI s := by rw [a_lt bn (by omega)]; omega
      have v4 : nI s + 1 = nI (s + 1) := by rw [show (1 : Int32) = nI 1 from rfl, nI_add]
      rw [spr] at g
      have lp2 : ∀ q k a, q + k = 4 * (w * u) → K (some (.int (spo wh (nI nn) (spr F G (w * u) n (s + 1) (sps F G s q k a))))) M2 L → V 90 [some (.ref 0), some (.int (nI m)), some (.int (nI nn)), some (.int wh), some (.int a.1), some (.int a.2), some (.int (nI s)), some (.int (nI k))] [] M2 L := by
        intro q
        induction q with
        | zero =>
          intro k a hc g
          have v5 : 4 * (nI w * nI u) ≤ nI k := by rw [show (4 : Int32) = nI 4 from rfl, pk_mul, pk_mul, a_le (by omega) (by omega)]; omega
          refine ma_walk (mo_X5_spread ms_X5_in ms_X5_all ms_X5_hall ms_X5_cells) hV [81, 90] (fun F hF => ?_)
          simp only [tb_X5_spread, hF, in_no, in_push, in_ild, in_lld, in_ald, in_ist, in_ast, in_lst, in_inc, in_iii, in_idv, in_ldv, in_lll, in_lli, in_lil, in_ii, in_il, in_li, in_ll, in_dup, in_dp2, q_if1, q_if2, in_go, in_sw, ma_sw, in_rv, in_ri, in_rz, in_rl, in_get, in_put, in_puz, in_iar, in_bar, in_lar, in_aar, in_iaw, in_baw, in_law, in_len, in_cpy, in_s1, in_s2, in_s3, in_v1, in_v2, in_v3, in_v4, in_v5, in_v6, ma_bk, ma_gl, ma_sl, ma_nl, ma_wc, ma_wd, ma_nn, ma_en, List.mem_cons, List.not_mem_nil, or_false, or_true, true_or, false_or, true_and, and_true, false_and, and_false, if_true, if_false, forall_const, true_implies, false_implies, not_true_eq_false, not_false_eq_true, Classical.not_not, implies_true, and_self, Nat.add_zero, Nat.zero_add, eq_self, ne_eq, reduceCtorEq, Nat.reduceLT, Nat.reduceLeDiff, Nat.reduceEqDiff, Nat.reduceSub, Nat.reduceAdd, i10, i01, im10, Int32.reduceLT, Int32.reduceLE, ↓reduceIte, reduceIte, up_r, uL_r, cp_r, Int32.toInt_toInt64, Int64.reduceToInt, Int32.reduceToInt, ↓b1_or, b1_0, b1_1, lc_lt, lc_le, lc_gt, lc_ge, lc_eq, ym_0, ym_1, ym_2, ym_3, ym_4, ym_5, ym_6, ym_7, ym_8, ym_9, ym_10, ym_11, ym_12, ym_13, ym_14, ym_15, ym_16, ym_17, ym_18, ym_19, ym_20, ym_21, ym_22, ym_23, ym_24, ym_25, ym_26, ym_27, ym_28, ym_29, ym_30, rm__0, rm__1, rm__2, rm__3, rm__4, rm__5, rm__6, rm__7, rm__8, rm__9, rm__10, rm__11, rm__12, rm__13, rm__14, rm__15, rm__16, rm__17, rm__18, rm__19, rm__20, rm__21, rm__22, rm__23, rm__24, rm__25, rm__26, rm__27, rm__28, rm__29, rm__30, rm__31, rm__32, rm__33, rm__34, rm__35, rm__36, rm__37, rm__38, rm__39, rm__40, rm__41, rm__42, rm__43, rm__44, rm__45, un_X5_in, un_X5_all, un_X5_hall, un_X5_cells, d0, d1, v5, v4]
          try simp only [iteP, Classical.not_not, b1_0, b1_1]
          exact ih (s + 1) a (by omega) g _
        | succ q ih2 =>
          intro k a hc g
          have v5 : ¬ 4 * (nI w * nI u) ≤ nI k := by rw [show (4 : Int32) = nI 4 from rfl, pk_mul, pk_mul, a_le (by omega) (by omega)]; omega
          have v6 : nI k + 1 = nI (k + 1) := by rw [show (1 : Int32) = nI 1 from rfl, nI_add]
          have ix : 144 * nI s + nI k = nI (144 * s + k) := by rw [show (144 : Int32) = nI 144 from rfl, pk_mul, nI_add]
          have v2 : vp_in (nI (144 * s + k)) 1872 := vp_in_nI (by omega) (by decide)
          have v3 := a_cl (show 144 * s + k < 2147483648 by omega)
          have f1 := VF s (k / 4) (k % 4) (by omega) (by omega) (by omega)
          have f2 := VG s (k / 4) (k % 4) (by omega) (by omega) (by omega)
          rw [show 144 * s + 4 * (k / 4) + k % 4 = 144 * s + k by omega] at f1 f2
          rw [sps] at g
          refine ma_walk (mo_X5_spread ms_X5_in ms_X5_all ms_X5_hall ms_X5_cells) hV [81, 90] (fun F hF => ?_)
          simp only [tb_X5_spread, hF, in_no, in_push, in_ild, in_lld, in_ald, in_ist, in_ast, in_lst, in_inc, in_iii, in_idv, in_ldv, in_lll, in_lli, in_lil, in_ii, in_il, in_li, in_ll, in_dup, in_dp2, q_if1, q_if2, in_go, in_sw, ma_sw, in_rv, in_ri, in_rz, in_rl, in_get, in_put, in_puz, in_iar, in_bar, in_lar, in_aar, in_iaw, in_baw, in_law, in_len, in_cpy, in_s1, in_s2, in_s3, in_v1, in_v2, in_v3, in_v4, in_v5, in_v6, ma_bk, ma_gl, ma_sl, ma_nl, ma_wc, ma_wd, ma_nn, ma_en, List.mem_cons, List.not_mem_nil, or_false, or_true, true_or, false_or, true_and, and_true, false_and, and_false, if_true, if_false, forall_const, true_implies, false_implies, not_true_eq_false, not_false_eq_true, Classical.not_not, implies_true, and_self, Nat.add_zero, Nat.zero_add, eq_self, ne_eq, reduceCtorEq, Nat.reduceLT, Nat.reduceLeDiff, Nat.reduceEqDiff, Nat.reduceSub, Nat.reduceAdd, i10, i01, im10, Int32.reduceLT, Int32.reduceLE, ↓reduceIte, reduceIte, up_r, uL_r, cp_r, Int32.toInt_toInt64, Int64.reduceToInt, Int32.reduceToInt, ↓b1_or, b1_0, b1_1, lc_lt, lc_le, lc_gt, lc_ge, lc_eq, ym_0, ym_1, ym_2, ym_3, ym_4, ym_5, ym_6, ym_7, ym_8, ym_9, ym_10, ym_11, ym_12, ym_13, ym_14, ym_15, ym_16, ym_17, ym_18, ym_19, ym_20, ym_21, ym_22, ym_23, ym_24, ym_25, ym_26, ym_27, ym_28, ym_29, ym_30, rm__0, rm__1, rm__2, rm__3, rm__4, rm__5, rm__6, rm__7, rm__8, rm__9, rm__10, rm__11, rm__12, rm__13, rm__14, rm__15, rm__16, rm__17, rm__18, rm__19, rm__20, rm__21, rm__22, rm__23, rm__24, rm__25, rm__26, rm__27, rm__28, rm__29, rm__30, rm__31, rm__32, rm__33, rm__34, rm__35, rm__36, rm__37, rm__38, rm__39, rm__40, rm__41, rm__42, rm__43, rm__44, rm__45, un_X5_in, un_X5_all, un_X5_hall, un_X5_cells, d0, d1, v5, v6, ix, v2, v3, f1, f2]
          try simp only [iteP, Classical.not_not, b1_0, b1_1]
          first
          | exact br_n (fun y => by rw [if_neg y] at g; exact ih2 (k + 1) _ (by omega) g) (fun y => by rw [if_pos y] at g; exact ih2 (k + 1) _ (by omega) g)
          | exact sw_n (fun y => by rw [if_pos y] at g; exact ih2 (k + 1) _ (by omega) g) (fun y => by rw [if_neg y] at g; exact ih2 (k + 1) _ (by omega) g)
      refine ma_walk (mo_X5_spread ms_X5_in ms_X5_all ms_X5_hall ms_X5_cells) hV [81, 90] (fun F hF => ?_)
      simp only [tb_X5_spread, hF, in_no, in_push, in_ild, in_lld, in_ald, in_ist, in_ast, in_lst, in_inc, in_iii, in_idv, in_ldv, in_lll, in_lli, in_lil, in_ii, in_il, in_li, in_ll, in_dup, in_dp2, q_if1, q_if2, in_go, in_sw, ma_sw, in_rv, in_ri, in_rz, in_rl, in_get, in_put, in_puz, in_iar, in_bar, in_lar, in_aar, in_iaw, in_baw, in_law, in_len, in_cpy, in_s1, in_s2, in_s3, in_v1, in_v2, in_v3, in_v4, in_v5, in_v6, ma_bk, ma_gl, ma_sl, ma_nl, ma_wc, ma_wd, ma_nn, ma_en, List.mem_cons, List.not_mem_nil, or_false, or_true, true_or, false_or, true_and, and_true, false_and, and_false, if_true, if_false, forall_const, true_implies, false_implies, not_true_eq_false, not_false_eq_true, Classical.not_not, implies_true, and_self, Nat.add_zero, Nat.zero_add, eq_self, ne_eq, reduceCtorEq, Nat.reduceLT, Nat.reduceLeDiff, Nat.reduceEqDiff, Nat.reduceSub, Nat.reduceAdd, i10, i01, im10, Int32.reduceLT, Int32.reduceLE, ↓reduceIte, reduceIte, up_r, uL_r, cp_r, Int32.toInt_toInt64, Int64.reduceToInt, Int32.reduceToInt, ↓b1_or, b1_0, b1_1, lc_lt, lc_le, lc_gt, lc_ge, lc_eq, ym_0, ym_1, ym_2, ym_3, ym_4, ym_5, ym_6, ym_7, ym_8, ym_9, ym_10, ym_11, ym_12, ym_13, ym_14, ym_15, ym_16, ym_17, ym_18, ym_19, ym_20, ym_21, ym_22, ym_23, ym_24, ym_25, ym_26, ym_27, ym_28, ym_29, ym_30, rm__0, rm__1, rm__2, rm__3, rm__4, rm__5, rm__6, rm__7, rm__8, rm__9, rm__10, rm__11, rm__12, rm__13, rm__14, rm__15, rm__16, rm__17, rm__18, rm__19, rm__20, rm__21, rm__22, rm__23, rm__24, rm__25, rm__26, rm__27, rm__28, rm__29, rm__30, rm__31, rm__32, rm__33, rm__34, rm__35, rm__36, rm__37, rm__38, rm__39, rm__40, rm__41, rm__42, rm__43, rm__44, rm__45, un_X5_in, un_X5_all, un_X5_hall, un_X5_cells, v1]
      try simp only [iteP, Classical.not_not, b1_0, b1_1]
      exact lp2 _ 0 a rfl g
  refine lp (nn + 1) 0 (0, -4) rfl ?_ _
  rw [spr, sps_e V0]; exact g
theorem pv_X5_spread : ∀ as M L K, S_X5_spread as M L K → ma_rn (tb_X5_spread S_X5_in S_X5_all S_X5_hall S_X5_cells) 8 as M L K := by
  intro as M L K h
  unfold S_X5_spread at h
  split at h
  · obtain ⟨x, h⟩ := h; exact pw_X5_spread h.1 h.2
  · exact h.elim
