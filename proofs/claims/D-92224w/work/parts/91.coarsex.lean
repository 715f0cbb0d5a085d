/-! op: coarse (the component) -/
set_option maxRecDepth 100000
set_option maxHeartbeats 4000000
def cr0 (x : St) (k l : Nat) : Int32 := mn4 (fun q => hv x sNo 0 (pos (nat (sN x 0 0)) (nat (sN x 0 0) / 2) k q) l) 4 0 0
def cvl (x : St) : Nat → Nat → Nat → Int32 := val (sN x 1) (nat (sN x 0 0) / 2) (nat (sN x 0 1) / 2) (nat (sN x 0 2)) (sp x).1 (sp x).2 (zY (sN x) sNo (nat (sN x 0 19))) (cr0 x)
def cst (f : Nat → Int32) (v e : Int32) : Int32 := if mn4 f 4 0 0 = 2000000000 ∨ v = 2000000000 ∨ e.toInt64 < abL ((mn4 f 4 0 0).toInt64 - v.toInt64) then 1 else 0
def crs (g : Nat → Int32) : Nat → Nat → Int32 → Int32
  | 0, _, a => a
  | n + 1, k, a => crs g n (k + 1) (a + g k)
def oCoarse (n l e : Int32) (x : St) : Int32 := if (1 ≤ n.toInt ∧ n.toInt ≤ 12) ∧ (0 ≤ l.toInt ∧ l.toInt ≤ 3) ∧ (0 ≤ e.toInt ∧ e.toInt ≤ 1000000) then (if nat (sN x 0 0) % 2 = 1 ∨ nat (sN x 0 1) % 2 = 1 then -2 else crs (fun k => cst (fun q => hv x sNo (nat n) (pos (nat (sN x 0 0)) (nat (sN x 0 0) / 2) k q) (nat l)) (cvl x (nat n) k (nat l)) e) (nat (sN x 0 0) / 2 * (nat (sN x 0 1) / 2)) 0 0) else -1
theorem cr0_e {x : St} {f : Nat → Int32} {w u W U : Nat} (n1 : nat (sN x 0 0) = w) (hW : 0 < W) (hw : w = 2 * W) (hu : u = 2 * U) (hf : ∀ c l, c < w * u → l < 4 → f (4 * c + l) = hv x sNo 0 c l) : ∀ k l, k < W * U → l < 4 → mn4 (fun q => f (4 * pos w W k q + l)) 4 0 0 = cr0 x k l := by
  intro k l hk hl
  unfold cr0
  rw [n1, show w / 2 = W by omega]
  have e : ∀ q, q < 4 → f (4 * pos w W k q + l) = hv x sNo 0 (pos w W k q) l := fun q hq => hf _ _ (pos_lt hW hw hu hk hq) hl
  simp only [mn4, e 0 (by omega), e 1 (by omega), e 2 (by omega), e 3 (by omega), Nat.zero_add, Nat.reduceAdd]
theorem cst_1 {f : Nat → Int32} {v e : Int32} (h : mn4 f 4 0 0 = 2000000000 ∨ v = 2000000000 ∨ e.toInt64 < abL ((mn4 f 4 0 0).toInt64 - v.toInt64)) : cst f v e = 1 := if_pos h
theorem cst_0 {f : Nat → Int32} {v e : Int32} (h : ¬ (mn4 f 4 0 0 = 2000000000 ∨ v = 2000000000 ∨ e.toInt64 < abL ((mn4 f 4 0 0).toInt64 - v.toInt64))) : cst f v e = 0 := if_neg h
theorem mn4_c {f g : Nat → Int32} (e : ∀ q, q < 4 → f q = g q) : mn4 f 4 0 0 = mn4 g 4 0 0 := by
  simp only [mn4, e 0 (by omega), e 1 (by omega), e 2 (by omega), e 3 (by omega), Nat.zero_add, Nat.reduceAdd]
def S_X0_coarse : ma_Cs := fun as M L K => match as with
  | [.ref k, .int ni, .int li, .int e] => ∃ (x : St), (k = 0 ∧ J x ∧ RX M L x) ∧ (∀ (M' : ZM), RX M' L x → K (some (.int (oCoarse ni li e x))) M' L)
  | _ => False
theorem ms_X0_coarse : ma_ms S_X0_coarse := by
  intro as M L K K' hk h
  unfold S_X0_coarse at h ⊢
  split at h
  · obtain ⟨x, h⟩ := h
    exact ⟨x, h.1, fun x0 x1 => hk _ _ _ (h.2 x0 x1)⟩
  · exact h.elim
theorem un_X0_coarse {k : Nat} {ni : Int32} {li : Int32} {e : Int32} {M : ZM} {L : ZL} {K : ma_Kt} : S_X0_coarse [.ref k, .int ni, .int li, .int e] M L K = (∃ (x : St), (k = 0 ∧ J x ∧ RX M L x) ∧ (∀ (M' : ZM), RX M' L x → K (some (.int (oCoarse ni li e x))) M' L)) := rfl
theorem pw_X0_coarse {k : Nat} {ni : Int32} {li : Int32} {e : Int32} {x : St} {M : ZM} {L : ZL} {K : ma_Kt} (hp : k = 0 ∧ J x ∧ RX M L x) (h : (∀ (M' : ZM), RX M' L x → K (some (.int (oCoarse ni li e x))) M' L)) : ma_rn (tb_X0_coarse S_X0_isIn S_X0_isLetter S_X0_refresh S_X3_beginCoarse S_X3_run S_X3_meanOf S_X3_at S_J0_abs) 8 [.ref k, .int ni, .int li, .int e] M L K := by
  refine ⟨Nat.le_of_ble_eq_true rfl, fun V hV => ?_⟩
  obtain ⟨rfl, hJ, hR⟩ := hp
  obtain ⟨w, u, eg, ns, ta, tb, h1, h2, h3, h6, h7, h8, hs, w2, w6, u2, u6, e3, n12, ta12, tb4, q0, q36, n1, n2, n3, n6⟩ := hJ.sky
  have b5 := hR.1.2.1
  have b6 := hR.1.2.2.1
  rw [h1] at b5
  rw [h2] at b6
  unfold oCoarse at h
  rw [n1, n2] at h
  have z2 : ¬ (2 : Int32) = 0 := by decide
  have rw' : nI w - nI w / 2 * 2 = nI (w % 2) := pk_rem (d := 2) (by omega) (by omega) (by omega)
  have ru' : nI u - nI u / 2 * 2 = nI (u % 2) := pk_rem (d := 2) (by omega) (by omega) (by omega)
  have rw1 : (nI (w % 2) = 1) = (w % 2 = 1) := a_eq (b := 1) (by omega) (by omega)
  have ru1 : (nI (u % 2) = 1) = (u % 2 = 1) := a_eq (b := 1) (by omega) (by omega)
  refine ma_walk (mo_X0_coarse ms_X0_isIn ms_X0_isLetter ms_X0_refresh ms_X3_beginCoarse ms_X3_run ms_X3_meanOf ms_X3_at ms_J0_abs) hV [87] (fun F hF => ?_)
  simp only [tb_X0_coarse, hF, in_no, in_push, in_ild, in_lld, in_ald, in_ist, in_ast, in_lst, in_inc, in_iii, in_idv, in_ldv, in_lll, in_lli, in_lil, in_ii, in_il, in_li, in_ll, in_dup, in_dp2, q_if1, q_if2, in_go, in_sw, ma_sw, in_rv, in_ri, in_rz, in_rl, in_get, in_put, in_puz, in_iar, in_bar, in_lar, in_aar, in_iaw, in_baw, in_law, in_len, in_cpy, in_s1, in_s2, in_s3, in_v1, in_v2, in_v3, in_v4, in_v5, in_v6, ma_bk, ma_gl, ma_sl, ma_nl, ma_wc, ma_wd, ma_nn, ma_en, List.mem_cons, List.not_mem_nil, or_false, or_true, true_or, false_or, true_and, and_true, false_and, and_false, if_true, if_false, forall_const, true_implies, false_implies, not_true_eq_false, not_false_eq_true, Classical.not_not, implies_true, and_self, Nat.add_zero, Nat.zero_add, eq_self, ne_eq, reduceCtorEq, Nat.reduceLT, Nat.reduceLeDiff, Nat.reduceEqDiff, Nat.reduceSub, Nat.reduceAdd, i10, i01, im10, Int32.reduceLT, Int32.reduceLE, ↓reduceIte, reduceIte, up_r, uL_r, cp_r, Int32.toInt_toInt64, Int64.reduceToInt, Int32.reduceToInt, ↓b1_or, b1_0, b1_1, lc_lt, lc_le, lc_gt, lc_ge, lc_eq, yx_0, yx_1, yx_2, yx_3, yx_4, yx_5, yx_6, yx_7, yx_8, yx_9, yx_10, yx_11, yx_12, yx_13, yx_14, yx_15, yx_16, yx_17, yx_18, yx_19, yx_20, yx_21, yx_22, yx_23, yx_24, yx_25, yx_26, yx_27, yx_28, yx_29, yx_30, yx_31, yx_32, yx_33, yx_34, yx_35, yx_36, yx_37, yx_38, yx_39, yx_40, yx_41, yx_42, yx_43, yx_44, yx_45, yx_46, yx_47, yx_48, yx_49, yx_50, yx_51, yx_52, yx_53, yx_54, yx_55, yx_56, yx_57, yx_58, yx_59, yx_60, yx_61, yx_62, yx_63, yx_64, yx_65, yx_66, yx_67, yx_68, rx_0, rx_1, rx_2, rx_3, rx_4, rx_5, rx_6, rx_7, rx_8, rx_9, rx_10, rx_11, rx_12, rx_13, rx_14, rx_15, rx_16, rx_17, rx_18, rx_19, rx_20, rx_21, rx_22, rx_23, rx_24, rx_25, rx_26, rx_27, rx_28, rx_29, rx_30, rx_31, rx_32, rx_33, rp_0, rp_1, rp_2, rp_3, rp_4, rp_5, rp_6, rp_7, rp_8, rs_0, rs_1, rs_2, rs_3, rs_4, re_0, re_1, re_2, re_3, re_4, re_5, rr_0, rr_1, rr_2, rr_3, rr_4, rk_0, rk_1, isP3, isP11, isP46, isP58, isS25, isS28, isS31, un_X0_isIn, un_X0_isLetter, un_X0_refresh, un_X3_beginCoarse, un_X3_run, un_X3_meanOf, un_X3_at, un_J0_abs, b5, b6, z2, rw', ru', rw1, ru1]
  try simp only [iteP, Classical.not_not, b1_0, b1_1]
  clear hF
  refine br_n (fun z => by have g := h M hR; rw [if_neg (fun y => z y.1)] at g; exact g) (fun z1 => br_n (fun z => by have g := h M hR; rw [if_neg (fun y => z y.2.1)] at g; exact g) (fun z2 => br_n (fun z => by have g := h M hR; rw [if_neg (fun y => z y.2.2)] at g; exact g) (fun z3 => ?_)))
  rw [if_pos ⟨z1, z2, z3⟩] at h
  refine sw_n (fun y => by have g := h M hR; rw [if_pos (Or.inl y)] at g; exact g) (fun y => sw_n (fun y1 => by have g := h M hR; rw [if_pos (Or.inr y1)] at g; exact g) (fun y1 => ?_))
  rw [if_neg (by omega)] at h
  obtain ⟨n, en, hn', bn⟩ := a_of (show 0 ≤ ni.toInt by omega)
  obtain ⟨l, el, hl', bl⟩ := a_of z2.1
  have nn' : nat ni = n := by unfold nat; rw [en, a_cl bn]
  have nl' : nat li = l := by unfold nat; rw [el, a_cl bl]
  rw [nn', nl'] at h
  obtain ⟨W, hW⟩ : ∃ W, w = 2 * W := ⟨w / 2, by omega⟩
  obtain ⟨U, hU⟩ : ∃ U, u = 2 * U := ⟨u / 2, by omega⟩
  rw [show w / 2 = W by omega, show u / 2 = U by omega] at h
  have hWU : W * U ≤ 9 := Nat.mul_le_mul (show W ≤ 3 by omega) (show U ≤ 3 by omega)
  have hsW : Sh W U eg 0 0 := ⟨by omega, by omega, by omega, by omega, e3, Nat.mul_pos (by omega) (by omega), by omega⟩
  rw [en, el]
  refine ⟨x, ⟨hJ, hR⟩, fun M1 g1 g2 => ?_⟩
  obtain ⟨⟨c0, c5, c6, c7, c10, c19, c20, c25, c33⟩, ⟨a19, a1, a20, a21, a22, a23, a24, a34, a37, a38, a39⟩, r3, r4⟩ := id g1
  have jp := hJ.2.2.1
  have VF : ∀ s c l, s ≤ 12 → c < w * u → l < 4 → M1 26 (144 * s + 4 * c + l) = hv x sNo s c l := fun s c l y1 y2 y3 => (g2.2.2.2.2 s c l y1 (by rw [n1, n2]; exact y2) y3).1
  refine ⟨w, W, u, U, ⟨g2.1.trans h1, g2.2.1.trans h2, by omega, by omega, hW, hU, w6, u6⟩, fun M2 p1 p2 p3 p4 => ?_⟩
  have q0' : M2 0 = M1 0 := p1 0 (by decide) (by decide) (by decide)
  have c4 := cr0_e (f := M1 26) (x := x) n1 (by omega) hW hU (fun c l y1 y2 => by have := VF 0 c l (by omega) y1 y2; rw [show 144 * 0 + 4 * c + l = 4 * c + l by omega] at this; exact this)
  refine ⟨W, U, eg, n, ns, sNo, (sp x).1, (sp x).2, cr0 x, fun _ _ => 0, ⟨Or.inr (Or.inr rfl), p2, p3, by rw [q0']; exact c7.trans h3, hsW, rfl, by omega, by rw [q0']; exact c10.trans h6, n12, fun _ => rfl, r3.1.to (fun a y1 y2 => p1 a (by omega) (by omega) (by omega)), jp.1, fun c l y1 y2 => ⟨(p4 c l y1 y2).1.trans (c4 c l y1 y2), (p4 c l y1 y2).2, Or.inl rfl⟩⟩, fun M3 p5 p6 => ?_⟩
  have fr : ∀ a, a ≠ 31 → a ≠ 32 → a ≠ 33 → M3 a = M1 a := fun a y1 y2 y3 => (p5 a y2 y3).trans (p1 a y1 y2 y3)
  have hR3 := (g1.ot (M1 := M3) (fun a ha => fr a (by omega) (by omega) (by omega))).1
  have e9 : val (M2 19) W U eg (sp x).1 (sp x).2 (zX M2 sNo ns) (cr0 x) = cvl x := by
    unfold cvl
    rw [n1, n2, n3, n6, show w / 2 = W by omega, show u / 2 = U by omega, zXY (N := sN x) ((p1 21 (by decide) (by decide) (by decide)).trans a21) ((p1 22 (by decide) (by decide) (by decide)).trans a22) ((p1 23 (by decide) (by decide) (by decide)).trans a23) ((p1 24 (by decide) (by decide) (by decide)).trans a24), p1 19 (by decide) (by decide) (by decide), a19]
  have g := h M3 hR3
  have e31 : M3 31 = M2 31 := p5 31 (by decide) (by decide)
  have m0 : M3 31 0 = nI W := by rw [e31]; exact p2
  have m1 : M3 31 1 = nI U := by rw [e31]; exact p3
  have m25 : M3 25 0 = nI w := by rw [fr 25 (by decide) (by decide) (by decide)]; exact g2.1.trans h1
  have VG : ∀ k, k < W * U → M3 32 (144 * n + 4 * k + l) = cvl x n k l := fun k hk => by
    rw [← e9]; exact (p6 n k l (Nat.le_refl _) hk (by omega)).1
  have VM : ∀ k, k < W * U → mn4 (fun q => M3 26 (144 * n + 4 * pos w W k q + l)) 4 0 0 = mn4 (fun q => hv x sNo n (pos w W k q) l) 4 0 0 := fun k hk => mn4_c (fun q hq => by
    rw [fr 26 (by decide) (by decide) (by decide)]; exact VF n _ l (by omega) (pos_lt (by omega) hW hU hk hq) (by omega))
  have lp : ∀ m k a (o6 o7 : Option Value), m + k = W * U → K (some (.int (crs (fun k => cst (fun q => hv x sNo n (pos w W k q) l) (cvl x n k l) e) m k a))) M3 L → V 87 [some (.ref 0), some (.int (nI n)), some (.int (nI l)), some (.int e), some (.int a), some (.int (nI k)), o6, o7] [] M3 L := by
    intro m
    induction m with
    | zero =>
      intro k a o6 o7 hk g
      have v1 : nI W * nI U ≤ nI k := by rw [pk_mul, a_le (by omega) (by omega)]; omega
      refine ma_walk (mo_X0_coarse ms_X0_isIn ms_X0_isLetter ms_X0_refresh ms_X3_beginCoarse ms_X3_run ms_X3_meanOf ms_X3_at ms_J0_abs) hV [87] (fun F hF => ?_)
      simp only [tb_X0_coarse, hF, in_no, in_push, in_ild, in_lld, in_ald, in_ist, in_ast, in_lst, in_inc, in_iii, in_idv, in_ldv, in_lll, in_lli, in_lil, in_ii, in_il, in_li, in_ll, in_dup, in_dp2, q_if1, q_if2, in_go, in_sw, ma_sw, in_rv, in_ri, in_rz, in_rl, in_get, in_put, in_puz, in_iar, in_bar, in_lar, in_aar, in_iaw, in_baw, in_law, in_len, in_cpy, in_s1, in_s2, in_s3, in_v1, in_v2, in_v3, in_v4, in_v5, in_v6, ma_bk, ma_gl, ma_sl, ma_nl, ma_wc, ma_wd, ma_nn, ma_en, List.mem_cons, List.not_mem_nil, or_false, or_true, true_or, false_or, true_and, and_true, false_and, and_false, if_true, if_false, forall_const, true_implies, false_implies, not_true_eq_false, not_false_eq_true, Classical.not_not, implies_true, and_self, Nat.add_zero, Nat.zero_add, eq_self, ne_eq, reduceCtorEq, Nat.reduceLT, Nat.reduceLeDiff, Nat.reduceEqDiff, Nat.reduceSub, Nat.reduceAdd, i10, i01, im10, Int32.reduceLT, Int32.reduceLE, ↓reduceIte, reduceIte, up_r, uL_r, cp_r, Int32.toInt_toInt64, Int64.reduceToInt, Int32.reduceToInt, ↓b1_or, b1_0, b1_1, lc_lt, lc_le, lc_gt, lc_ge, lc_eq, yx_0, yx_1, yx_2, yx_3, yx_4, yx_5, yx_6, yx_7, yx_8, yx_9, yx_10, yx_11, yx_12, yx_13, yx_14, yx_15, yx_16, yx_17, yx_18, yx_19, yx_20, yx_21, yx_22, yx_23, yx_24, yx_25, yx_26, yx_27, yx_28, yx_29, yx_30, yx_31, yx_32, yx_33, yx_34, yx_35, yx_36, yx_37, yx_38, yx_39, yx_40, yx_41, yx_42, yx_43, yx_44, yx_45, yx_46, yx_47, yx_48, yx_49, yx_50, yx_51, yx_52, yx_53, yx_54, yx_55, yx_56, yx_57, yx_58, yx_59, yx_60, yx_61, yx_62, yx_63, yx_64, yx_65, yx_66, yx_67, yx_68, rx_0, rx_1, rx_2, rx_3, rx_4, rx_5, rx_6, rx_7, rx_8, rx_9, rx_10, rx_11, rx_12, rx_13, rx_14, rx_15, rx_16, rx_17, rx_18, rx_19, rx_20, rx_21, rx_22, rx_23, rx_24, rx_25, rx_26, rx_27, rx_28, rx_29, rx_30, rx_31, rx_32, rx_33, rp_0, rp_1, rp_2, rp_3, rp_4, rp_5, rp_6, rp_7, rp_8, rs_0, rs_1, rs_2, rs_3, rs_4, re_0, re_1, re_2, re_3, re_4, re_5, rr_0, rr_1, rr_2, rr_3, rr_4, rk_0, rk_1, isP3, isP11, isP46, isP58, isS25, isS28, isS31, un_X0_isIn, un_X0_isLetter, un_X0_refresh, un_X3_beginCoarse, un_X3_run, un_X3_meanOf, un_X3_at, un_J0_abs, m0, m1, v1]
      try simp only [iteP, Classical.not_not, b1_0, b1_1]
      exact g
    | succ m ih =>
      intro k a o6 o7 hk g
      have v1 : ¬ nI W * nI U ≤ nI k := by rw [pk_mul, a_le (by omega) (by omega)]; omega
      have v4 : nI k + 1 = nI (k + 1) := by rw [show (1 : Int32) = nI 1 from rfl, nI_add]
      rw [crs] at g
      refine ma_walk (mo_X0_coarse ms_X0_isIn ms_X0_isLetter ms_X0_refresh ms_X3_beginCoarse ms_X3_run ms_X3_meanOf ms_X3_at ms_J0_abs) hV [87] (fun F hF => ?_)
      simp only [tb_X0_coarse, hF, in_no, in_push, in_ild, in_lld, in_ald, in_ist, in_ast, in_lst, in_inc, in_iii, in_idv, in_ldv, in_lll, in_lli, in_lil, in_ii, in_il, in_li, in_ll, in_dup, in_dp2, q_if1, q_if2, in_go, in_sw, ma_sw, in_rv, in_ri, in_rz, in_rl, in_get, in_put, in_puz, in_iar, in_bar, in_lar, in_aar, in_iaw, in_baw, in_law, in_len, in_cpy, in_s1, in_s2, in_s3, in_v1, in_v2, in_v3, in_v4, in_v5, in_v6, ma_bk, ma_gl, ma_sl, ma_nl, ma_wc, ma_wd, ma_nn, ma_en, List.mem_cons, List.not_mem_nil, or_false, or_true, true_or, false_or, true_and, and_true, false_and, and_false, if_true, if_false, forall_const, true_implies, false_implies, not_true_eq_false, not_false_eq_true, Classical.not_not, implies_true, and_self, Nat.add_zero, Nat.zero_add, eq_self, ne_eq, reduceCtorEq, Nat.reduceLT, Nat.reduceLeDiff, Nat.reduceEqDiff, Nat.reduceSub, Nat.reduceAdd, i10, i01, im10, Int32.reduceLT, Int32.reduceLE, ↓reduceIte, reduceIte, up_r, uL_r, cp_r, Int32.toInt_toInt64, Int64.reduceToInt, Int32.reduceToInt, ↓b1_or, b1_0, b1_1, lc_lt, lc_le, lc_gt, lc_ge, lc_eq, yx_0, yx_1, yx_2, yx_3, yx_4, yx_5, yx_6, yx_7, yx_8, yx_9, yx_10, yx_11, yx_12, yx_13, yx_14, yx_15, yx_16, yx_17, yx_18, yx_19, yx_20, yx_21, yx_22, yx_23, yx_24, yx_25, yx_26, yx_27, yx_28, yx_29, yx_30, yx_31, yx_32, yx_33, yx_34, yx_35, yx_36, yx_37, yx_38, yx_39, yx_40, yx_41, yx_42, yx_43, yx_44, yx_45, yx_46, yx_47, yx_48, yx_49, yx_50, yx_51, yx_52, yx_53, yx_54, yx_55, yx_56, yx_57, yx_58, yx_59, yx_60, yx_61, yx_62, yx_63, yx_64, yx_65, yx_66, yx_67, yx_68, rx_0, rx_1, rx_2, rx_3, rx_4, rx_5, rx_6, rx_7, rx_8, rx_9, rx_10, rx_11, rx_12, rx_13, rx_14, rx_15, rx_16, rx_17, rx_18, rx_19, rx_20, rx_21, rx_22, rx_23, rx_24, rx_25, rx_26, rx_27, rx_28, rx_29, rx_30, rx_31, rx_32, rx_33, rp_0, rp_1, rp_2, rp_3, rp_4, rp_5, rp_6, rp_7, rp_8, rs_0, rs_1, rs_2, rs_3, rs_4, re_0, re_1, re_2, re_3, re_4, re_5, rr_0, rr_1, rr_2, rr_3, rr_4, rk_0, rk_1, isP3, isP11, isP46, isP58, isS25, isS28, isS31, un_X0_isIn, un_X0_isLetter, un_X0_refresh, un_X3_beginCoarse, un_X3_run, un_X3_meanOf, un_X3_at, un_J0_abs, m0, m1, v1, v4]
      try simp only [iteP, Classical.not_not, b1_0, b1_1]
      refine ⟨w, W, u, U, n, k, l, ⟨rfl, m25, rfl, rfl, rfl, by omega, by omega, hW, hU, w6, u6, by omega, by omega⟩, n, k, l, ⟨rfl, rfl, rfl, by omega, by omega, by omega⟩, ?_⟩
      rw [VM k (by omega), VG k (by omega)]
      refine sw_n (fun y => ?_) (fun y => sw_n (fun y1 => ?_) (fun y1 => sw_n (fun y2 => ?_) (fun y2 => ?_)))
      · rw [cst_1 (Or.inl y)] at g; exact ih (k + 1) _ _ _ (by omega) g
      · rw [cst_1 (Or.inr (Or.inl y1))] at g; exact ih (k + 1) _ _ _ (by omega) g
      · rw [cst_0 (fun q => by
          rcases q with q | q | q
          · exact y q
          · exact y1 q
          · exact absurd y2 (Int64.not_le.mpr q))] at g
        exact ih (k + 1) _ _ _ (by omega) g
      · rw [cst_1 (Or.inr (Or.inr (Int64.not_le.mp y2)))] at g; exact ih (k + 1) _ _ _ (by omega) g
  exact lp _ 0 0 _ _ rfl g
theorem pv_X0_coarse : ∀ as M L K, S_X0_coarse as M L K → ma_rn (tb_X0_coarse S_X0_isIn S_X0_isLetter S_X0_refresh S_X3_beginCoarse S_X3_run S_X3_meanOf S_X3_at S_J0_abs) 8 as M L K := by
  intro as M L K h
  unfold S_X0_coarse at h
  split at h
  · obtain ⟨x, h⟩ := h; exact pw_X0_coarse h.1 h.2
  · exact h.elim
