/-! op: given -/
set_option maxRecDepth 100000
set_option maxHeartbeats 4000000
/-- the first least of n numbers -/
def amn (f : Nat → Nat) : Nat → Nat
  | 0 => 0
  | n + 1 => if f n < f (amn f n) then n else amn f n
theorem amn_lt (f : Nat → Nat) : ∀ n, amn f (n + 1) < n + 1
  | 0 => by rw [amn, amn, if_neg (Nat.lt_irrefl _)]; omega
  | n + 1 => by
    have := amn_lt f n
    rw [amn]; split <;> omega
/-- the last end of all cells, if people are given by a number -/
def gvl (x : St) (q n cd : Nat) : Nat := mxv (es (nat (sN x 0 0)) (nat (sN x 0 1)) (nat (sN x 0 2)) (nat (sN x 0 3)) (fg q (nat (sN x 0 0) * nat (sN x 0 1)) cd) (pcx x) n).1 (nat (sN x 0 0) * nat (sN x 0 1))
def oGiven (q n c : Int32) (x : St) : Int32 := if (1 ≤ q.toInt ∧ q.toInt ≤ 3) ∧ (1 ≤ n.toInt ∧ n.toInt ≤ 12) ∧ (-1 ≤ c.toInt ∧ c.toInt < (nat (sN x 0 0) * nat (sN x 0 1) : Nat)) then (if 9 < nat (sN x 0 0) * nat (sN x 0 1) then -2 else if c.toInt < 0 then nI (gvl x (nat q) (nat n) (amn (gvl x (nat q) (nat n)) (nat q ^ (nat (sN x 0 0) * nat (sN x 0 1))))) else nI (fg (nat q) (nat (sN x 0 0) * nat (sN x 0 1)) (amn (gvl x (nat q) (nat n)) (nat q ^ (nat (sN x 0 0) * nat (sN x 0 1)))) (nat c))) else -1
theorem J.pe {x : St} (h : J x) {w u e wk : Nat} (h1 : sN x 0 0 = nI w) (h2 : sN x 0 1 = nI u) (h3 : sN x 0 2 = nI e) (h4 : sN x 0 3 = nI wk) (b1 : w < 7) (b2 : u < 7) (b3 : e < 3) (hw : Pe (w * u) wk (bbx x) (pcx x)) {q : Nat} (hq0 : 0 < q) (hq : q < 4) (n cd : Nat) : gvl x q n cd = mxv (es w u e wk (fg q (w * u) cd) (pcx x) n).1 (w * u) ∧ Pe (w * u) wk (fg q (w * u) cd) (pcx x) := by
  have n1 : nat (sN x 0 0) = w := by unfold nat; rw [h1, a_cl (by omega)]
  have n2 : nat (sN x 0 1) = u := by unfold nat; rw [h2, a_cl (by omega)]
  have n3 : nat (sN x 0 2) = e := by unfold nat; rw [h3, a_cl (by omega)]
  have n4 : nat (sN x 0 3) = wk := by unfold nat; rw [h4, a_cl (by have := hw.1; omega)]
  refine ⟨by unfold gvl; rw [n1, n2, n3, n4], hw.1, fun c hc => ?_, hw.2.2⟩
  have : fg q (w * u) cd c < q := Nat.mod_lt _ hq0
  omega
theorem pow_b {q n : Nat} (hq0 : 0 < q) (hq : q < 4) (hn : n ≤ 9) : 0 < q ^ n ∧ q ^ n ≤ 19683 := by
  refine ⟨Nat.pow_pos hq0, ?_⟩
  have h1 : q ^ n ≤ 3 ^ n := Nat.pow_le_pow_left (by omega) n
  have h2 : 3 ^ n ≤ 3 ^ 9 := Nat.pow_le_pow_right (by omega) hn
  have : (3 : Nat) ^ 9 = 19683 := by decide
  omega
def S_X0_given : ma_Cs := fun as M L K => match as with
  | [.ref k, .int qq, .int nn, .int cc] => ∃ (x : St), (k = 0 ∧ J x ∧ RX M L x) ∧ (∀ (M' : ZM), RX M' L x → K (some (.int (oGiven qq nn cc x))) M' L)
  | _ => False
theorem ms_X0_given : ma_ms S_X0_given := by
  intro as M L K K' hk h
  unfold S_X0_given at h ⊢
  split at h
  · obtain ⟨x, h⟩ := h
    exact ⟨x, h.1, fun x0 x1 => hk _ _ _ (h.2 x0 x1)⟩
  · exact h.elim
theorem un_X0_given {k : Nat} {qq : Int32} {nn : Int32} {cc : Int32} {M : ZM} {L : ZL} {K : ma_Kt} : S_X0_given [.ref k, .int qq, .int nn, .int cc] M L K = (∃ (x : St), (k = 0 ∧ J x ∧ RX M L x) ∧ (∀ (M' : ZM), RX M' L x → K (some (.int (oGiven qq nn cc x))) M' L)) := rfl
theorem pw_X0_given {k : Nat} {qq : Int32} {nn : Int32} {cc : Int32} {x : St} {M : ZM} {L : ZL} {K : ma_Kt} (hp : k = 0 ∧ J x ∧ RX M L x) (h : (∀ (M' : ZM), RX M' L x → K (some (.int (oGiven qq nn cc x))) M' L)) : ma_rn (tb_X0_given S_X0_isIn S_X0_isCell S_X0_cells S_X0_layEnds S_X0_lastOf) 9 [.ref k, .int qq, .int nn, .int cc] M L K := by
  refine ⟨Nat.le_of_ble_eq_true rfl, fun V hV => ?_⟩
  obtain ⟨rfl, hJ, hR⟩ := hp
  obtain ⟨w, u, e, wk, h1, h2, h3, h4, hs, hPe, hb, hpc, he, hlt, q0, q36, hn⟩ := hJ.people
  obtain ⟨⟨c0, c5, c6, c7, c10, c19, c20, c25, c33⟩, ⟨a19, a1, a20, a21, a22, a23, a24, a34, a37, a38, a39⟩, r3, r4⟩ := id hR
  obtain ⟨s1, s2, s3, s4, s5, s6, s7⟩ := id hs
  rw [h1] at c5
  rw [h2] at c6
  unfold oGiven at h
  rw [hn] at h
  have kq : (nI w * nI u - 1).toInt = ((w * u : Nat) : Int) - 1 := by
    rw [pk_mul, show (1 : Int32) = nI 1 from rfl, pk_sub (by omega), a_ti (by omega)]; omega
  have main : (1 ≤ qq.toInt ∧ qq.toInt ≤ 3) → (1 ≤ nn.toInt ∧ nn.toInt ≤ 12) → (-1 ≤ cc.toInt ∧ cc.toInt < (w * u : Nat)) → V 39 [some (.ref 0), some (.int qq), some (.int nn), some (.int cc), none, none, none, none, none] [] M L := by
    intro z1 z2 z3
    rw [if_pos ⟨z1, z2, z3⟩] at h
    have v9 : (nI w * nI u ≤ 9) = (w * u ≤ 9) := by rw [pk_mul]; exact a_le (b := 9) (by omega) (by omega)
    by_cases z9 : w * u ≤ 9
    · rw [if_neg (by omega)] at h
      obtain ⟨q, eq', hq', bq⟩ := a_of (show 0 ≤ qq.toInt by omega)
      obtain ⟨n, en, hn', bn⟩ := a_of (show 0 ≤ nn.toInt by omega)
      have nq : nat qq = q := by unfold nat; rw [eq', a_cl bq]
      have nn' : nat nn = n := by unfold nat; rw [en, a_cl bn]
      rw [nq, nn'] at h
      rw [eq', en]
      have hq0 : 0 < q := by omega
      have hq4 : q < 4 := by omega
      have pb := pow_b hq0 hq4 z9
      have hP := fun cd => hJ.pe h1 h2 h3 h4 s2 s4 s5 hPe hq0 hq4 n cd
      have qz : (nI q = 0) = False := eq_false (nI_ne0 hq0 (by omega))
      obtain ⟨N1, hN1⟩ : ∃ N1, w * u = N1 + 1 := ⟨w * u - 1, by omega⟩
      have hgl : ∀ cd, gvl x q n cd < 100000 := fun cd => by
        have al := am_lt (es w u e wk (fg q (w * u) cd) (pcx x) n).1 N1
        have mx := mxv_am (es w u e wk (fg q (w * u) cd) (pcx x) n).1 N1
        rw [← hN1] at al mx
        have b := (es_b (e := e) (show w < 7 by omega) (show u < 7 by omega) (hP cd).2 n).1 _ al
        rw [(hP cd).1, mx]; omega
      have lp3 : ∀ d cd M1 (least : Int32) (o7 o8 : Option Value), d + cd = q ^ (w * u) → RX M1 L x → ((cd = 0 ∧ least = 2147483647) ∨ (0 < cd ∧ least = nI (gvl x q n (amn (gvl x q n) cd)) ∧ ∀ c, c < w * u → M1 43 c = nI (fg q (w * u) (amn (gvl x q n) cd) c))) → V 86 [some (.ref 0), some (.int (nI q)), some (.int (nI n)), some (.int cc), some (.int (nI (q ^ (w * u)))), some (.int least), some (.int (nI cd)), o7, o8] [] M1 L := by
        intro d
        induction d with
        | zero =>
          intro cd M1 least o7 o8 hd hR1 hI
          have v1 : nI (q ^ (w * u)) ≤ nI cd := by rw [a_le (by omega) (by omega)]; omega
          rcases hI with hI | ⟨hI0, hI1, hI2⟩
          · omega
          have hcd : cd = q ^ (w * u) := by omega
          rw [hcd] at hI1 hI2
          refine ma_walk (mo_X0_given ms_X0_isIn ms_X0_isCell ms_X0_cells ms_X0_layEnds ms_X0_lastOf) hV [39, 57, 86, 105] (fun F hF => ?_)
          simp only [tb_X0_given, hF, in_no, in_push, in_ild, in_lld, in_ald, in_ist, in_ast, in_lst, in_inc, in_iii, in_idv, in_ldv, in_lll, in_lli, in_lil, in_ii, in_il, in_li, in_ll, in_dup, in_dp2, q_if1, q_if2, in_go, in_sw, ma_sw, in_rv, in_ri, in_rz, in_rl, in_get, in_put, in_puz, in_iar, in_bar, in_lar, in_aar, in_iaw, in_baw, in_law, in_len, in_cpy, in_s1, in_s2, in_s3, in_v1, in_v2, in_v3, in_v4, in_v5, in_v6, ma_bk, ma_gl, ma_sl, ma_nl, ma_wc, ma_wd, ma_nn, ma_en, List.mem_cons, List.not_mem_nil, or_false, or_true, true_or, false_or, true_and, and_true, false_and, and_false, if_true, if_false, forall_const, true_implies, false_implies, not_true_eq_false, not_false_eq_true, Classical.not_not, implies_true, and_self, Nat.add_zero, Nat.zero_add, eq_self, ne_eq, reduceCtorEq, Nat.reduceLT, Nat.reduceLeDiff, Nat.reduceEqDiff, Nat.reduceSub, Nat.reduceAdd, i10, i01, im10, Int32.reduceLT, Int32.reduceLE, ↓reduceIte, reduceIte, up_r, uL_r, cp_r, Int32.toInt_toInt64, Int64.reduceToInt, Int32.reduceToInt, ↓b1_or, b1_0, b1_1, lc_lt, lc_le, lc_gt, lc_ge, lc_eq, yx_0, yx_1, yx_2, yx_3, yx_4, yx_5, yx_6, yx_7, yx_8, yx_9, yx_10, yx_11, yx_12, yx_13, yx_14, yx_15, yx_16, yx_17, yx_18, yx_19, yx_20, yx_21, yx_22, yx_23, yx_24, yx_25, yx_26, yx_27, yx_28, yx_29, yx_30, yx_31, yx_32, yx_33, yx_34, yx_35, yx_36, yx_37, yx_38, yx_39, yx_40, yx_41, yx_42, yx_43, yx_44, yx_45, yx_46, yx_47, yx_48, yx_49, yx_50, yx_51, yx_52, yx_53, yx_54, yx_55, yx_56, yx_57, yx_58, yx_59, yx_60, yx_61, yx_62, yx_63, yx_64, yx_65, yx_66, yx_67, yx_68, rx_0, rx_1, rx_2, rx_3, rx_4, rx_5, rx_6, rx_7, rx_8, rx_9, rx_10, rx_11, rx_12, rx_13, rx_14, rx_15, rx_16, rx_17, rx_18, rx_19, rx_20, rx_21, rx_22, rx_23, rx_24, rx_25, rx_26, rx_27, rx_28, rx_29, rx_30, rx_31, rx_32, rx_33, rp_0, rp_1, rp_2, rp_3, rp_4, rp_5, rp_6, rp_7, rp_8, rs_0, rs_1, rs_2, rs_3, rs_4, re_0, re_1, re_2, re_3, re_4, re_5, rr_0, rr_1, rr_2, rr_3, rr_4, rk_0, rk_1, isP3, isP11, isP46, isP58, isS25, isS28, isS31, un_X0_isIn, un_X0_isCell, un_X0_cells, un_X0_layEnds, un_X0_lastOf, v1]
          try simp only [iteP, Classical.not_not, b1_0, b1_1]
          have zc : (0 ≤ cc) = (0 ≤ cc.toInt) := by rw [Int32.le_iff_toInt_le]; rfl
          rw [zc]
          refine sw_n (fun y => ?_) (fun y => ?_)
          · obtain ⟨c, ec, hc', bc⟩ := a_of y
            have nc : nat cc = c := by unfold nat; rw [ec, a_cl bc]
            have g := h M1 hR1
            rw [if_neg (by omega), nc] at g
            rw [ec, a_cl bc]
            refine ⟨vp_in_nI (by omega) (by decide), ?_⟩
            rw [hI2 c (by omega)]; exact g
          · have g := h M1 hR1
            rw [if_pos (by omega)] at g
            rw [hI1]; exact g
        | succ d ih =>
          intro cd M1 least o7 o8 hd hR1 hI
          have v1 : ¬ nI (q ^ (w * u)) ≤ nI cd := by rw [a_le (by omega) (by omega)]; omega
          have d5 := hR1.1.2.1.trans h1
          have d6 := hR1.1.2.2.1.trans h2
          have lp4 : ∀ j, j ≤ w * u → ∀ M2 : ZM, (∀ a, a ≠ 40 → M2 a = M1 a) → (∀ c, j ≤ c → c < w * u → M2 40 c = nI (fg q (w * u) cd c)) → V 105 [some (.ref 0), some (.int (nI q)), some (.int (nI n)), some (.int cc), some (.int (nI (q ^ (w * u)))), some (.int least), some (.int (nI cd)), some (.int (nI (cd / q ^ (w * u - j)))), some (.int (nI j - 1))] [] M2 L := by
            intro j
            induction j with
            | zero =>
              intro _ M2 e1 e2
              have z : nI 0 - 1 < 0 := by decide
              have hR2 := (hR1.ot (M1 := M2) (fun a ha => e1 a (by omega))).1
              refine ma_walk (mo_X0_given ms_X0_isIn ms_X0_isCell ms_X0_cells ms_X0_layEnds ms_X0_lastOf) hV [39, 57, 86, 105] (fun F hF => ?_)
              simp only [tb_X0_given, hF, in_no, in_push, in_ild, in_lld, in_ald, in_ist, in_ast, in_lst, in_inc, in_iii, in_idv, in_ldv, in_lll, in_lli, in_lil, in_ii, in_il, in_li, in_ll, in_dup, in_dp2, q_if1, q_if2, in_go, in_sw, ma_sw, in_rv, in_ri, in_rz, in_rl, in_get, in_put, in_puz, in_iar, in_bar, in_lar, in_aar, in_iaw, in_baw, in_law, in_len, in_cpy, in_s1, in_s2, in_s3, in_v1, in_v2, in_v3, in_v4, in_v5, in_v6, ma_bk, ma_gl, ma_sl, ma_nl, ma_wc, ma_wd, ma_nn, ma_en, List.mem_cons, List.not_mem_nil, or_false, or_true, true_or, false_or, true_and, and_true, false_and, and_false, if_true, if_false, forall_const, true_implies, false_implies, not_true_eq_false, not_false_eq_true, Classical.not_not, implies_true, and_self, Nat.add_zero, Nat.zero_add, eq_self, ne_eq, reduceCtorEq, Nat.reduceLT, Nat.reduceLeDiff, Nat.reduceEqDiff, Nat.reduceSub, Nat.reduceAdd, i10, i01, im10, Int32.reduceLT, Int32.reduceLE, ↓reduceIte, reduceIte, up_r, uL_r, cp_r, Int32.toInt_toInt64, Int64.reduceToInt, Int32.reduceToInt, ↓b1_or, b1_0, b1_1, lc_lt, lc_le, lc_gt, lc_ge, lc_eq, yx_0, yx_1, yx_2, yx_3, yx_4, yx_5, yx_6, yx_7, yx_8, yx_9, yx_10, yx_11, yx_12, yx_13, yx_14, yx_15, yx_16, yx_17, yx_18, yx_19, yx_20, yx_21, yx_22, yx_23, yx_24, yx_25, yx_26, yx_27, yx_28, yx_29, yx_30, yx_31, yx_32, yx_33, yx_34, yx_35, yx_36, yx_37, yx_38, yx_39, yx_40, yx_41, yx_42, yx_43, yx_44, yx_45, yx_46, yx_47, yx_48, yx_49, yx_50, yx_51, yx_52, yx_53, yx_54, yx_55, yx_56, yx_57, yx_58, yx_59, yx_60, yx_61, yx_62, yx_63, yx_64, yx_65, yx_66, yx_67, yx_68, rx_0, rx_1, rx_2, rx_3, rx_4, rx_5, rx_6, rx_7, rx_8, rx_9, rx_10, rx_11, rx_12, rx_13, rx_14, rx_15, rx_16, rx_17, rx_18, rx_19, rx_20, rx_21, rx_22, rx_23, rx_24, rx_25, rx_26, rx_27, rx_28, rx_29, rx_30, rx_31, rx_32, rx_33, rp_0, rp_1, rp_2, rp_3, rp_4, rp_5, rp_6, rp_7, rp_8, rs_0, rs_1, rs_2, rs_3, rs_4, re_0, re_1, re_2, re_3, re_4, re_5, rr_0, rr_1, rr_2, rr_3, rr_4, rk_0, rk_1, isP3, isP11, isP46, isP58, isS25, isS28, isS31, un_X0_isIn, un_X0_isCell, un_X0_cells, un_X0_layEnds, un_X0_lastOf, z, Int32.reduceToNatClampNeg, Nat.sub_zero]
              try simp only [iteP, Classical.not_not, b1_0, b1_1]
              refine ⟨w, u, e, wk, fg q (w * u) cd, pcx x, n, ⟨hR2.1.2.1.trans h1, hR2.1.2.2.1.trans h2, hR2.1.2.2.2.1.trans h3, hs, hR2.1.2.2.2.2.2.2.2.1.trans h4, (hP cd).2, fun c hc => e2 c (Nat.zero_le _) hc, fun p hp => by rw [hR2.2.1.2.2.2.2.2.2.2.2.2.1]; exact hpc p hp, rfl, by omega⟩, fun M3 g1 g2 => ?_⟩
              have hR3 := hR2.lf g1 h1 h2
              have hb3 : ∀ c, c < w * u → (es w u e wk (fg q (w * u) cd) (pcx x) n).1 c < 100000 := fun c hc => by
                have := (es_b (e := e) (show w < 7 by omega) (show u < 7 by omega) (hP cd).2 n).1 c hc
                omega
              refine ⟨n, w * u, (es w u e wk (fg q (w * u) cd) (pcx x) n).1, ⟨rfl, by omega, by rw [hR3.1.2.1, hR3.1.2.2.1, h1, h2, pk_mul], q0, q36, fun c hc => ⟨g2 n c (Nat.le_refl _) hc, hb3 c hc⟩⟩, ?_⟩
              have al := am_lt (es w u e wk (fg q (w * u) cd) (pcx x) n).1 N1
              have mx := mxv_am (es w u e wk (fg q (w * u) cd) (pcx x) n).1 N1
              rw [← hN1] at al mx
              have e3 := (hP cd).1.trans mx
              have v2 := g2 n _ (Nat.le_refl _) al
              have hb4 := hb3 _ al
              rw [← e3] at v2 hb4
              have ix : nI n * 36 + nI (am (es w u e wk (fg q (w * u) cd) (pcx x) n).1 (w * u)) = nI (36 * n + am (es w u e wk (fg q (w * u) cd) (pcx x) n).1 (w * u)) := by
                rw [show (36 : Int32) = nI 36 from rfl, pk_mul, nI_add, Nat.mul_comm]
              rw [ix, a_cl (by omega), v2, show nI cd + 1 = nI (cd + 1) by rw [show (1 : Int32) = nI 1 from rfl, nI_add]]
              have e43 : M3 43 = M1 43 := (g1.1 43 (by decide) (by decide) (by decide)).trans (e1 43 (by decide))
              have e40 : M3 40 = M2 40 := g1.1 40 (by decide) (by decide) (by decide)
              refine ⟨vp_in_nI (by omega) (by decide), sw_n (fun y => ?_) (fun y => ?_)⟩
              · rcases hI with ⟨i0, i1⟩ | ⟨i0, i1, i2⟩
                · rw [i1, Int32.le_iff_toInt_le, a_ti (by omega), show (2147483647 : Int32).toInt = 2147483647 from rfl] at y
                  omega
                · have hbA := hgl (amn (gvl x q n) cd)
                  rw [i1, a_le (by omega) (by omega)] at y
                  have ea : amn (gvl x q n) (cd + 1) = amn (gvl x q n) cd := by rw [amn, if_neg (by omega)]
                  refine ih (cd + 1) M3 least _ _ (by omega) hR3 (Or.inr ⟨by omega, by rw [ea]; exact i1, fun c hc => ?_⟩)
                  rw [ea, e43]; exact i2 c hc
              · have ea : amn (gvl x q n) (cd + 1) = cd := by
                  rw [amn]
                  rcases hI with ⟨i0, i1⟩ | ⟨i0, i1, i2⟩
                  · subst i0
                    rw [amn, if_neg (Nat.lt_irrefl _)]
                  · have hbA := hgl (amn (gvl x q n) cd)
                    rw [i1, a_le (by omega) (by omega)] at y
                    rw [if_pos (by omega)]
                refine ih (cd + 1) _ _ _ _ (by omega) (hR3.ot (fun a ha => cp_c (by omega))).1 (Or.inr ⟨by omega, by rw [ea], fun c hc => ?_⟩)
                rw [ea, cp_in (by omega), e40]; exact e2 c (Nat.zero_le _) hc
            | succ j ih2 =>
              intro hj M2 e1 e2
              have z : ¬ nI j < 0 := nI_pos (by omega)
              have v36 : vp_in (nI j) 36 := vp_in_nI (by omega) (by decide)
              have cj := a_cl (show j < 2147483648 by omega)
              have hle : cd / q ^ (w * u - (j + 1)) < 100000 := Nat.lt_of_le_of_lt (Nat.div_le_self _ _) (by omega)
              have r1 : nI (cd / q ^ (w * u - (j + 1))) / nI q = nI (cd / q ^ (w * u - (j + 1)) / q) := pk_div (by omega) hq0 (by omega)
              have r2 : nI (cd / q ^ (w * u - (j + 1))) - nI (cd / q ^ (w * u - (j + 1)) / q) * nI q = nI (cd / q ^ (w * u - (j + 1)) % q) := by rw [← r1]; exact pk_rem (by omega) hq0 (by omega)
              have e0 : nI (j + 1) - 1 = nI j := nI_pred j
              have e9 : nI j + (-1) = nI j - 1 := (Int32.sub_eq_add_neg _ _).symm
              have hd2 : cd / q ^ (w * u - (j + 1)) / q = cd / q ^ (w * u - j) := by
                rw [Nat.div_div_eq_div_mul, ← Nat.pow_succ]; congr 2; omega
              refine ma_walk (mo_X0_given ms_X0_isIn ms_X0_isCell ms_X0_cells ms_X0_layEnds ms_X0_lastOf) hV [39, 57, 86, 105] (fun F hF => ?_)
              simp only [tb_X0_given, hF, in_no, in_push, in_ild, in_lld, in_ald, in_ist, in_ast, in_lst, in_inc, in_iii, in_idv, in_ldv, in_lll, in_lli, in_lil, in_ii, in_il, in_li, in_ll, in_dup, in_dp2, q_if1, q_if2, in_go, in_sw, ma_sw, in_rv, in_ri, in_rz, in_rl, in_get, in_put, in_puz, in_iar, in_bar, in_lar, in_aar, in_iaw, in_baw, in_law, in_len, in_cpy, in_s1, in_s2, in_s3, in_v1, in_v2, in_v3, in_v4, in_v5, in_v6, ma_bk, ma_gl, ma_sl, ma_nl, ma_wc, ma_wd, ma_nn, ma_en, List.mem_cons, List.not_mem_nil, or_false, or_true, true_or, false_or, true_and, and_true, false_and, and_false, if_true, if_false, forall_const, true_implies, false_implies, not_true_eq_false, not_false_eq_true, Classical.not_not, implies_true, and_self, Nat.add_zero, Nat.zero_add, eq_self, ne_eq, reduceCtorEq, Nat.reduceLT, Nat.reduceLeDiff, Nat.reduceEqDiff, Nat.reduceSub, Nat.reduceAdd, i10, i01, im10, Int32.reduceLT, Int32.reduceLE, ↓reduceIte, reduceIte, up_r, uL_r, cp_r, Int32.toInt_toInt64, Int64.reduceToInt, Int32.reduceToInt, ↓b1_or, b1_0, b1_1, lc_lt, lc_le, lc_gt, lc_ge, lc_eq, yx_0, yx_1, yx_2, yx_3, yx_4, yx_5, yx_6, yx_7, yx_8, yx_9, yx_10, yx_11, yx_12, yx_13, yx_14, yx_15, yx_16, yx_17, yx_18, yx_19, yx_20, yx_21, yx_22, yx_23, yx_24, yx_25, yx_26, yx_27, yx_28, yx_29, yx_30, yx_31, yx_32, yx_33, yx_34, yx_35, yx_36, yx_37, yx_38, yx_39, yx_40, yx_41, yx_42, yx_43, yx_44, yx_45, yx_46, yx_47, yx_48, yx_49, yx_50, yx_51, yx_52, yx_53, yx_54, yx_55, yx_56, yx_57, yx_58, yx_59, yx_60, yx_61, yx_62, yx_63, yx_64, yx_65, yx_66, yx_67, yx_68, rx_0, rx_1, rx_2, rx_3, rx_4, rx_5, rx_6, rx_7, rx_8, rx_9, rx_10, rx_11, rx_12, rx_13, rx_14, rx_15, rx_16, rx_17, rx_18, rx_19, rx_20, rx_21, rx_22, rx_23, rx_24, rx_25, rx_26, rx_27, rx_28, rx_29, rx_30, rx_31, rx_32, rx_33, rp_0, rp_1, rp_2, rp_3, rp_4, rp_5, rp_6, rp_7, rp_8, rs_0, rs_1, rs_2, rs_3, rs_4, re_0, re_1, re_2, re_3, re_4, re_5, rr_0, rr_1, rr_2, rr_3, rr_4, rk_0, rk_1, isP3, isP11, isP46, isP58, isS25, isS28, isS31, un_X0_isIn, un_X0_isCell, un_X0_cells, un_X0_layEnds, un_X0_lastOf, e0, z, v36, cj, qz, r1, r2, e9]
              try simp only [iteP, Classical.not_not, b1_0, b1_1]
              rw [hd2]
              refine ih2 (by omega) _ (fun x z1 => by rw [up_c z1]; exact e1 x z1) (fun c hc1 hc2 => ?_)
              by_cases y : c = j
              · rw [y, up_r, if_pos ⟨rfl, rfl⟩, fg, show w * u - 1 - j = w * u - (j + 1) by omega]
              · rw [up_r, if_neg (fun z => y z.2)]; exact e2 c (by omega) hc2
          refine ma_walk (mo_X0_given ms_X0_isIn ms_X0_isCell ms_X0_cells ms_X0_layEnds ms_X0_lastOf) hV [39, 57, 86, 105] (fun F hF => ?_)
          simp only [tb_X0_given, hF, in_no, in_push, in_ild, in_lld, in_ald, in_ist, in_ast, in_lst, in_inc, in_iii, in_idv, in_ldv, in_lll, in_lli, in_lil, in_ii, in_il, in_li, in_ll, in_dup, in_dp2, q_if1, q_if2, in_go, in_sw, ma_sw, in_rv, in_ri, in_rz, in_rl, in_get, in_put, in_puz, in_iar, in_bar, in_lar, in_aar, in_iaw, in_baw, in_law, in_len, in_cpy, in_s1, in_s2, in_s3, in_v1, in_v2, in_v3, in_v4, in_v5, in_v6, ma_bk, ma_gl, ma_sl, ma_nl, ma_wc, ma_wd, ma_nn, ma_en, List.mem_cons, List.not_mem_nil, or_false, or_true, true_or, false_or, true_and, and_true, false_and, and_false, if_true, if_false, forall_const, true_implies, false_implies, not_true_eq_false, not_false_eq_true, Classical.not_not, implies_true, and_self, Nat.add_zero, Nat.zero_add, eq_self, ne_eq, reduceCtorEq, Nat.reduceLT, Nat.reduceLeDiff, Nat.reduceEqDiff, Nat.reduceSub, Nat.reduceAdd, i10, i01, im10, Int32.reduceLT, Int32.reduceLE, ↓reduceIte, reduceIte, up_r, uL_r, cp_r, Int32.toInt_toInt64, Int64.reduceToInt, Int32.reduceToInt, ↓b1_or, b1_0, b1_1, lc_lt, lc_le, lc_gt, lc_ge, lc_eq, yx_0, yx_1, yx_2, yx_3, yx_4, yx_5, yx_6, yx_7, yx_8, yx_9, yx_10, yx_11, yx_12, yx_13, yx_14, yx_15, yx_16, yx_17, yx_18, yx_19, yx_20, yx_21, yx_22, yx_23, yx_24, yx_25, yx_26, yx_27, yx_28, yx_29, yx_30, yx_31, yx_32, yx_33, yx_34, yx_35, yx_36, yx_37, yx_38, yx_39, yx_40, yx_41, yx_42, yx_43, yx_44, yx_45, yx_46, yx_47, yx_48, yx_49, yx_50, yx_51, yx_52, yx_53, yx_54, yx_55, yx_56, yx_57, yx_58, yx_59, yx_60, yx_61, yx_62, yx_63, yx_64, yx_65, yx_66, yx_67, yx_68, rx_0, rx_1, rx_2, rx_3, rx_4, rx_5, rx_6, rx_7, rx_8, rx_9, rx_10, rx_11, rx_12, rx_13, rx_14, rx_15, rx_16, rx_17, rx_18, rx_19, rx_20, rx_21, rx_22, rx_23, rx_24, rx_25, rx_26, rx_27, rx_28, rx_29, rx_30, rx_31, rx_32, rx_33, rp_0, rp_1, rp_2, rp_3, rp_4, rp_5, rp_6, rp_7, rp_8, rs_0, rs_1, rs_2, rs_3, rs_4, re_0, re_1, re_2, re_3, re_4, re_5, rr_0, rr_1, rr_2, rr_3, rr_4, rk_0, rk_1, isP3, isP11, isP46, isP58, isS25, isS28, isS31, un_X0_isIn, un_X0_isCell, un_X0_cells, un_X0_layEnds, un_X0_lastOf, v1, d5, d6, pk_mul]
          try simp only [iteP, Classical.not_not, b1_0, b1_1]
          have q9 := lp4 (w * u) (Nat.le_refl _) M1 (fun _ _ => rfl) (fun c y1 y2 => by omega)
          rw [Nat.sub_self, Nat.pow_zero, Nat.div_one] at q9
          exact q9
      have lp2 : ∀ j, j ≤ w * u → V 57 [some (.ref 0), some (.int (nI q)), some (.int (nI n)), some (.int cc), some (.int (nI (q ^ j))), some (.int (nI j)), none, none, none] [] M L := by
        refine lp_up ?_ ?_
        · have v1 : nI w * nI u ≤ nI (w * u) := by rw [pk_mul, a_le (by omega) (by omega)]; omega
          refine ma_walk (mo_X0_given ms_X0_isIn ms_X0_isCell ms_X0_cells ms_X0_layEnds ms_X0_lastOf) hV [39, 57, 86, 105] (fun F hF => ?_)
          simp only [tb_X0_given, hF, in_no, in_push, in_ild, in_lld, in_ald, in_ist, in_ast, in_lst, in_inc, in_iii, in_idv, in_ldv, in_lll, in_lli, in_lil, in_ii, in_il, in_li, in_ll, in_dup, in_dp2, q_if1, q_if2, in_go, in_sw, ma_sw, in_rv, in_ri, in_rz, in_rl, in_get, in_put, in_puz, in_iar, in_bar, in_lar, in_aar, in_iaw, in_baw, in_law, in_len, in_cpy, in_s1, in_s2, in_s3, in_v1, in_v2, in_v3, in_v4, in_v5, in_v6, ma_bk, ma_gl, ma_sl, ma_nl, ma_wc, ma_wd, ma_nn, ma_en, List.mem_cons, List.not_mem_nil, or_false, or_true, true_or, false_or, true_and, and_true, false_and, and_false, if_true, if_false, forall_const, true_implies, false_implies, not_true_eq_false, not_false_eq_true, Classical.not_not, implies_true, and_self, Nat.add_zero, Nat.zero_add, eq_self, ne_eq, reduceCtorEq, Nat.reduceLT, Nat.reduceLeDiff, Nat.reduceEqDiff, Nat.reduceSub, Nat.reduceAdd, i10, i01, im10, Int32.reduceLT, Int32.reduceLE, ↓reduceIte, reduceIte, up_r, uL_r, cp_r, Int32.toInt_toInt64, Int64.reduceToInt, Int32.reduceToInt, ↓b1_or, b1_0, b1_1, lc_lt, lc_le, lc_gt, lc_ge, lc_eq, yx_0, yx_1, yx_2, yx_3, yx_4, yx_5, yx_6, yx_7, yx_8, yx_9, yx_10, yx_11, yx_12, yx_13, yx_14, yx_15, yx_16, yx_17, yx_18, yx_19, yx_20, yx_21, yx_22, yx_23, yx_24, yx_25, yx_26, yx_27, yx_28, yx_29, yx_30, yx_31, yx_32, yx_33, yx_34, yx_35, yx_36, yx_37, yx_38, yx_39, yx_40, yx_41, yx_42, yx_43, yx_44, yx_45, yx_46, yx_47, yx_48, yx_49, yx_50, yx_51, yx_52, yx_53, yx_54, yx_55, yx_56, yx_57, yx_58, yx_59, yx_60, yx_61, yx_62, yx_63, yx_64, yx_65, yx_66, yx_67, yx_68, rx_0, rx_1, rx_2, rx_3, rx_4, rx_5, rx_6, rx_7, rx_8, rx_9, rx_10, rx_11, rx_12, rx_13, rx_14, rx_15, rx_16, rx_17, rx_18, rx_19, rx_20, rx_21, rx_22, rx_23, rx_24, rx_25, rx_26, rx_27, rx_28, rx_29, rx_30, rx_31, rx_32, rx_33, rp_0, rp_1, rp_2, rp_3, rp_4, rp_5, rp_6, rp_7, rp_8, rs_0, rs_1, rs_2, rs_3, rs_4, re_0, re_1, re_2, re_3, re_4, re_5, rr_0, rr_1, rr_2, rr_3, rr_4, rk_0, rk_1, isP3, isP11, isP46, isP58, isS25, isS28, isS31, un_X0_isIn, un_X0_isCell, un_X0_cells, un_X0_layEnds, un_X0_lastOf, c5, c6, v1]
          try simp only [iteP, Classical.not_not, b1_0, b1_1]
          exact lp3 (q ^ (w * u)) 0 M 2147483647 _ _ rfl hR (Or.inl ⟨rfl, rfl⟩)
        · intro j hj ih
          have v1 : ¬ nI w * nI u ≤ nI j := by rw [pk_mul, a_le (by omega) (by omega)]; omega
          have v4 : nI j + 1 = nI (j + 1) := by rw [show (1 : Int32) = nI 1 from rfl, nI_add]
          have v5 : nI (q ^ j) * nI q = nI (q ^ (j + 1)) := by rw [pk_mul, Nat.pow_succ]
          refine ma_walk (mo_X0_given ms_X0_isIn ms_X0_isCell ms_X0_cells ms_X0_layEnds ms_X0_lastOf) hV [39, 57, 86, 105] (fun F hF => ?_)
          simp only [tb_X0_given, hF, in_no, in_push, in_ild, in_lld, in_ald, in_ist, in_ast, in_lst, in_inc, in_iii, in_idv, in_ldv, in_lll, in_lli, in_lil, in_ii, in_il, in_li, in_ll, in_dup, in_dp2, q_if1, q_if2, in_go, in_sw, ma_sw, in_rv, in_ri, in_rz, in_rl, in_get, in_put, in_puz, in_iar, in_bar, in_lar, in_aar, in_iaw, in_baw, in_law, in_len, in_cpy, in_s1, in_s2, in_s3, in_v1, in_v2, in_v3, in_v4, in_v5, in_v6, ma_bk, ma_gl, ma_sl, ma_nl, ma_wc, ma_wd, ma_nn, ma_en, List.mem_cons, List.not_mem_nil, or_false, or_true, true_or, false_or, true_and, and_true, false_and, and_false, if_true, if_false, forall_const, true_implies, false_implies, not_true_eq_false, not_false_eq_true, Classical.not_not, implies_true, and_self, Nat.add_zero, Nat.zero_add, eq_self, ne_eq, reduceCtorEq, Nat.reduceLT, Nat.reduceLeDiff, Nat.reduceEqDiff, Nat.reduceSub, Nat.reduceAdd, i10, i01, im10, Int32.reduceLT, Int32.reduceLE, ↓reduceIte, reduceIte, up_r, uL_r, cp_r, Int32.toInt_toInt64, Int64.reduceToInt, Int32.reduceToInt, ↓b1_or, b1_0, b1_1, lc_lt, lc_le, lc_gt, lc_ge, lc_eq, yx_0, yx_1, yx_2, yx_3, yx_4, yx_5, yx_6, yx_7, yx_8, yx_9, yx_10, yx_11, yx_12, yx_13, yx_14, yx_15, yx_16, yx_17, yx_18, yx_19, yx_20, yx_21, yx_22, yx_23, yx_24, yx_25, yx_26, yx_27, yx_28, yx_29, yx_30, yx_31, yx_32, yx_33, yx_34, yx_35, yx_36, yx_37, yx_38, yx_39, yx_40, yx_41, yx_42, yx_43, yx_44, yx_45, yx_46, yx_47, yx_48, yx_49, yx_50, yx_51, yx_52, yx_53, yx_54, yx_55, yx_56, yx_57, yx_58, yx_59, yx_60, yx_61, yx_62, yx_63, yx_64, yx_65, yx_66, yx_67, yx_68, rx_0, rx_1, rx_2, rx_3, rx_4, rx_5, rx_6, rx_7, rx_8, rx_9, rx_10, rx_11, rx_12, rx_13, rx_14, rx_15, rx_16, rx_17, rx_18, rx_19, rx_20, rx_21, rx_22, rx_23, rx_24, rx_25, rx_26, rx_27, rx_28, rx_29, rx_30, rx_31, rx_32, rx_33, rp_0, rp_1, rp_2, rp_3, rp_4, rp_5, rp_6, rp_7, rp_8, rs_0, rs_1, rs_2, rs_3, rs_4, re_0, re_1, re_2, re_3, re_4, re_5, rr_0, rr_1, rr_2, rr_3, rr_4, rk_0, rk_1, isP3, isP11, isP46, isP58, isS25, isS28, isS31, un_X0_isIn, un_X0_isCell, un_X0_cells, un_X0_layEnds, un_X0_lastOf, c5, c6, v1, v4, v5]
          try simp only [iteP, Classical.not_not, b1_0, b1_1]
          exact ih
      refine ma_walk (mo_X0_given ms_X0_isIn ms_X0_isCell ms_X0_cells ms_X0_layEnds ms_X0_lastOf) hV [39, 57, 86, 105] (fun F hF => ?_)
      simp only [tb_X0_given, hF, in_no, in_push, in_ild, in_lld, in_ald, in_ist, in_ast, in_lst, in_inc, in_iii, in_idv, in_ldv, in_lll, in_lli, in_lil, in_ii, in_il, in_li, in_ll, in_dup, in_dp2, q_if1, q_if2, in_go, in_sw, ma_sw, in_rv, in_ri, in_rz, in_rl, in_get, in_put, in_puz, in_iar, in_bar, in_lar, in_aar, in_iaw, in_baw, in_law, in_len, in_cpy, in_s1, in_s2, in_s3, in_v1, in_v2, in_v3, in_v4, in_v5, in_v6, ma_bk, ma_gl, ma_sl, ma_nl, ma_wc, ma_wd, ma_nn, ma_en, List.mem_cons, List.not_mem_nil, or_false, or_true, true_or, false_or, true_and, and_true, false_and, and_false, if_true, if_false, forall_const, true_implies, false_implies, not_true_eq_false, not_false_eq_true, Classical.not_not, implies_true, and_self, Nat.add_zero, Nat.zero_add, eq_self, ne_eq, reduceCtorEq, Nat.reduceLT, Nat.reduceLeDiff, Nat.reduceEqDiff, Nat.reduceSub, Nat.reduceAdd, i10, i01, im10, Int32.reduceLT, Int32.reduceLE, ↓reduceIte, reduceIte, up_r, uL_r, cp_r, Int32.toInt_toInt64, Int64.reduceToInt, Int32.reduceToInt, ↓b1_or, b1_0, b1_1, lc_lt, lc_le, lc_gt, lc_ge, lc_eq, yx_0, yx_1, yx_2, yx_3, yx_4, yx_5, yx_6, yx_7, yx_8, yx_9, yx_10, yx_11, yx_12, yx_13, yx_14, yx_15, yx_16, yx_17, yx_18, yx_19, yx_20, yx_21, yx_22, yx_23, yx_24, yx_25, yx_26, yx_27, yx_28, yx_29, yx_30, yx_31, yx_32, yx_33, yx_34, yx_35, yx_36, yx_37, yx_38, yx_39, yx_40, yx_41, yx_42, yx_43, yx_44, yx_45, yx_46, yx_47, yx_48, yx_49, yx_50, yx_51, yx_52, yx_53, yx_54, yx_55, yx_56, yx_57, yx_58, yx_59, yx_60, yx_61, yx_62, yx_63, yx_64, yx_65, yx_66, yx_67, yx_68, rx_0, rx_1, rx_2, rx_3, rx_4, rx_5, rx_6, rx_7, rx_8, rx_9, rx_10, rx_11, rx_12, rx_13, rx_14, rx_15, rx_16, rx_17, rx_18, rx_19, rx_20, rx_21, rx_22, rx_23, rx_24, rx_25, rx_26, rx_27, rx_28, rx_29, rx_30, rx_31, rx_32, rx_33, rp_0, rp_1, rp_2, rp_3, rp_4, rp_5, rp_6, rp_7, rp_8, rs_0, rs_1, rs_2, rs_3, rs_4, re_0, re_1, re_2, re_3, re_4, re_5, rr_0, rr_1, rr_2, rr_3, rr_4, rk_0, rk_1, isP3, isP11, isP46, isP58, isS25, isS28, isS31, un_X0_isIn, un_X0_isCell, un_X0_cells, un_X0_layEnds, un_X0_lastOf, c5, c6, v9, z9]
      try simp only [iteP, Classical.not_not, b1_0, b1_1]
      exact lp2 0 (Nat.zero_le _)
    · rw [if_pos (by omega)] at h
      refine ma_walk (mo_X0_given ms_X0_isIn ms_X0_isCell ms_X0_cells ms_X0_layEnds ms_X0_lastOf) hV [39, 57, 86, 105] (fun F hF => ?_)
      simp only [tb_X0_given, hF, in_no, in_push, in_ild, in_lld, in_ald, in_ist, in_ast, in_lst, in_inc, in_iii, in_idv, in_ldv, in_lll, in_lli, in_lil, in_ii, in_il, in_li, in_ll, in_dup, in_dp2, q_if1, q_if2, in_go, in_sw, ma_sw, in_rv, in_ri, in_rz, in_rl, in_get, in_put, in_puz, in_iar, in_bar, in_lar, in_aar, in_iaw, in_baw, in_law, in_len, in_cpy, in_s1, in_s2, in_s3, in_v1, in_v2, in_v3, in_v4, in_v5, in_v6, ma_bk, ma_gl, ma_sl, ma_nl, ma_wc, ma_wd, ma_nn, ma_en, List.mem_cons, List.not_mem_nil, or_false, or_true, true_or, false_or, true_and, and_true, false_and, and_false, if_true, if_false, forall_const, true_implies, false_implies, not_true_eq_false, not_false_eq_true, Classical.not_not, implies_true, and_self, Nat.add_zero, Nat.zero_add, eq_self, ne_eq, reduceCtorEq, Nat.reduceLT, Nat.reduceLeDiff, Nat.reduceEqDiff, Nat.reduceSub, Nat.reduceAdd, i10, i01, im10, Int32.reduceLT, Int32.reduceLE, ↓reduceIte, reduceIte, up_r, uL_r, cp_r, Int32.toInt_toInt64, Int64.reduceToInt, Int32.reduceToInt, ↓b1_or, b1_0, b1_1, lc_lt, lc_le, lc_gt, lc_ge, lc_eq, yx_0, yx_1, yx_2, yx_3, yx_4, yx_5, yx_6, yx_7, yx_8, yx_9, yx_10, yx_11, yx_12, yx_13, yx_14, yx_15, yx_16, yx_17, yx_18, yx_19, yx_20, yx_21, yx_22, yx_23, yx_24, yx_25, yx_26, yx_27, yx_28, yx_29, yx_30, yx_31, yx_32, yx_33, yx_34, yx_35, yx_36, yx_37, yx_38, yx_39, yx_40, yx_41, yx_42, yx_43, yx_44, yx_45, yx_46, yx_47, yx_48, yx_49, yx_50, yx_51, yx_52, yx_53, yx_54, yx_55, yx_56, yx_57, yx_58, yx_59, yx_60, yx_61, yx_62, yx_63, yx_64, yx_65, yx_66, yx_67, yx_68, rx_0, rx_1, rx_2, rx_3, rx_4, rx_5, rx_6, rx_7, rx_8, rx_9, rx_10, rx_11, rx_12, rx_13, rx_14, rx_15, rx_16, rx_17, rx_18, rx_19, rx_20, rx_21, rx_22, rx_23, rx_24, rx_25, rx_26, rx_27, rx_28, rx_29, rx_30, rx_31, rx_32, rx_33, rp_0, rp_1, rp_2, rp_3, rp_4, rp_5, rp_6, rp_7, rp_8, rs_0, rs_1, rs_2, rs_3, rs_4, re_0, re_1, re_2, re_3, re_4, re_5, rr_0, rr_1, rr_2, rr_3, rr_4, rk_0, rk_1, isP3, isP11, isP46, isP58, isS25, isS28, isS31, un_X0_isIn, un_X0_isCell, un_X0_cells, un_X0_layEnds, un_X0_lastOf, c5, c6, v9, z9]
      try simp only [iteP, Classical.not_not, b1_0, b1_1]
      exact h M hR
  refine ma_walk (mo_X0_given ms_X0_isIn ms_X0_isCell ms_X0_cells ms_X0_layEnds ms_X0_lastOf) hV [39] (fun F hF => ?_)
  simp only [tb_X0_given, hF, in_no, in_push, in_ild, in_lld, in_ald, in_ist, in_ast, in_lst, in_inc, in_iii, in_idv, in_ldv, in_lll, in_lli, in_lil, in_ii, in_il, in_li, in_ll, in_dup, in_dp2, q_if1, q_if2, in_go, in_sw, ma_sw, in_rv, in_ri, in_rz, in_rl, in_get, in_put, in_puz, in_iar, in_bar, in_lar, in_aar, in_iaw, in_baw, in_law, in_len, in_cpy, in_s1, in_s2, in_s3, in_v1, in_v2, in_v3, in_v4, in_v5, in_v6, ma_bk, ma_gl, ma_sl, ma_nl, ma_wc, ma_wd, ma_nn, ma_en, List.mem_cons, List.not_mem_nil, or_false, or_true, true_or, false_or, true_and, and_true, false_and, and_false, if_true, if_false, forall_const, true_implies, false_implies, not_true_eq_false, not_false_eq_true, Classical.not_not, implies_true, and_self, Nat.add_zero, Nat.zero_add, eq_self, ne_eq, reduceCtorEq, Nat.reduceLT, Nat.reduceLeDiff, Nat.reduceEqDiff, Nat.reduceSub, Nat.reduceAdd, i10, i01, im10, Int32.reduceLT, Int32.reduceLE, ↓reduceIte, reduceIte, up_r, uL_r, cp_r, Int32.toInt_toInt64, Int64.reduceToInt, Int32.reduceToInt, ↓b1_or, b1_0, b1_1, lc_lt, lc_le, lc_gt, lc_ge, lc_eq, yx_0, yx_1, yx_2, yx_3, yx_4, yx_5, yx_6, yx_7, yx_8, yx_9, yx_10, yx_11, yx_12, yx_13, yx_14, yx_15, yx_16, yx_17, yx_18, yx_19, yx_20, yx_21, yx_22, yx_23, yx_24, yx_25, yx_26, yx_27, yx_28, yx_29, yx_30, yx_31, yx_32, yx_33, yx_34, yx_35, yx_36, yx_37, yx_38, yx_39, yx_40, yx_41, yx_42, yx_43, yx_44, yx_45, yx_46, yx_47, yx_48, yx_49, yx_50, yx_51, yx_52, yx_53, yx_54, yx_55, yx_56, yx_57, yx_58, yx_59, yx_60, yx_61, yx_62, yx_63, yx_64, yx_65, yx_66, yx_67, yx_68, rx_0, rx_1, rx_2, rx_3, rx_4, rx_5, rx_6, rx_7, rx_8, rx_9, rx_10, rx_11, rx_12, rx_13, rx_14, rx_15, rx_16, rx_17, rx_18, rx_19, rx_20, rx_21, rx_22, rx_23, rx_24, rx_25, rx_26, rx_27, rx_28, rx_29, rx_30, rx_31, rx_32, rx_33, rp_0, rp_1, rp_2, rp_3, rp_4, rp_5, rp_6, rp_7, rp_8, rs_0, rs_1, rs_2, rs_3, rs_4, re_0, re_1, re_2, re_3, re_4, re_5, rr_0, rr_1, rr_2, rr_3, rr_4, rk_0, rk_1, isP3, isP11, isP46, isP58, isS25, isS28, isS31, un_X0_isIn, un_X0_isCell, un_X0_cells, un_X0_layEnds, un_X0_lastOf, c5, c6]
  try simp only [iteP, Classical.not_not, b1_0, b1_1]
  clear hF
  rw [kq]
  refine br_n (fun z => by have g := h M hR; rw [if_neg (fun y => z y.1)] at g; exact g) (fun z1 => br_n (fun z => by have g := h M hR; rw [if_neg (fun y => z y.2.1)] at g; exact g) (fun z2 => sw_n (fun y => ?_) (fun y => br_n (fun z => ?_) (fun z => main z1 z2 (by omega)))))
  · have e9 : cc.toInt = -1 := by rw [y]; rfl
    exact main z1 z2 (by omega)
  · have e9 : ¬ cc.toInt = -1 := fun q => y (i_ext (by rw [q]; rfl))
    have g := h M hR
    rw [if_neg (fun y => z (by omega))] at g
    exact g
theorem pv_X0_given : ∀ as M L K, S_X0_given as M L K → ma_rn (tb_X0_given S_X0_isIn S_X0_isCell S_X0_cells S_X0_layEnds S_X0_lastOf) 9 as M L K := by
  intro as M L K h
  unfold S_X0_given at h
  split at h
  · obtain ⟨x, h⟩ := h; exact pw_X0_given h.1 h.2
  · exact h.elim
def S_X5_given : ma_Cs := fun as M L K => match as with
  | [.ref k, .int qq, .int nn, .int cc] => ∃ (x : St), (k = 0 ∧ J x ∧ RY M L x) ∧ (∀ (M' : ZM), RY M' L x → K (some (.int (oGiven qq nn cc x))) M' L)
  | _ => False
theorem ms_X5_given : ma_ms S_X5_given := by
  intro as M L K K' hk h
  unfold S_X5_given at h ⊢
  split at h
  · obtain ⟨x, h⟩ := h
    exact ⟨x, h.1, fun x0 x1 => hk _ _ _ (h.2 x0 x1)⟩
  · exact h.elim
theorem un_X5_given {k : Nat} {qq : Int32} {nn : Int32} {cc : Int32} {M : ZM} {L : ZL} {K : ma_Kt} : S_X5_given [.ref k, .int qq, .int nn, .int cc] M L K = (∃ (x : St), (k = 0 ∧ J x ∧ RY M L x) ∧ (∀ (M' : ZM), RY M' L x → K (some (.int (oGiven qq nn cc x))) M' L)) := rfl
theorem pw_X5_given {k : Nat} {qq : Int32} {nn : Int32} {cc : Int32} {x : St} {M : ZM} {L : ZL} {K : ma_Kt} (hp : k = 0 ∧ J x ∧ RY M L x) (h : (∀ (M' : ZM), RY M' L x → K (some (.int (oGiven qq nn cc x))) M' L)) : ma_rn (tb_X5_given S_X5_in S_X5_cells S_X5_gives S_X5_ends S_X5_lastOf) 9 [.ref k, .int qq, .int nn, .int cc] M L K := by
  refine ⟨Nat.le_of_ble_eq_true rfl, fun V hV => ?_⟩
  obtain ⟨rfl, hJ, hR⟩ := hp
  obtain ⟨w, u, e, wk, h1, h2, h3, h4, hs, hPe, hb, hpc, he, hlt, q0, q36, hn⟩ := hJ.people
  obtain ⟨⟨c0, c1, c2, c3, c5, c19, c24, c25, c30⟩, ⟨a1, a2, a12, a13, a14, a15, a16, a17, a18, a19, a20⟩, r3, r4⟩ := id hR
  obtain ⟨s1, s2, s3, s4, s5, s6, s7⟩ := id hs
  rw [h1] at c0
  rw [h2] at c1
  unfold oGiven at h
  rw [hn] at h
  have kq : (nI w * nI u - 1).toInt = ((w * u : Nat) : Int) - 1 := by
    rw [pk_mul, show (1 : Int32) = nI 1 from rfl, pk_sub (by omega), a_ti (by omega)]; omega
  have v9 : (nI w * nI u ≤ 9) = (w * u ≤ 9) := by rw [pk_mul]; exact a_le (b := 9) (by omega) (by omega)
  refine ma_walk (mo_X5_given ms_X5_in ms_X5_cells ms_X5_gives ms_X5_ends ms_X5_lastOf) hV [62, 92] (fun F hF => ?_)
  simp only [tb_X5_given, hF, in_no, in_push, in_ild, in_lld, in_ald, in_ist, in_ast, in_lst, in_inc, in_iii, in_idv, in_ldv, in_lll, in_lli, in_lil, in_ii, in_il, in_li, in_ll, in_dup, in_dp2, q_if1, q_if2, in_go, in_sw, ma_sw, in_rv, in_ri, in_rz, in_rl, in_get, in_put, in_puz, in_iar, in_bar, in_lar, in_aar, in_iaw, in_baw, in_law, in_len, in_cpy, in_s1, in_s2, in_s3, in_v1, in_v2, in_v3, in_v4, in_v5, in_v6, ma_bk, ma_gl, ma_sl, ma_nl, ma_wc, ma_wd, ma_nn, ma_en, List.mem_cons, List.not_mem_nil, or_false, or_true, true_or, false_or, true_and, and_true, false_and, and_false, if_true, if_false, forall_const, true_implies, false_implies, not_true_eq_false, not_false_eq_true, Classical.not_not, implies_true, and_self, Nat.add_zero, Nat.zero_add, eq_self, ne_eq, reduceCtorEq, Nat.reduceLT, Nat.reduceLeDiff, Nat.reduceEqDiff, Nat.reduceSub, Nat.reduceAdd, i10, i01, im10, Int32.reduceLT, Int32.reduceLE, ↓reduceIte, reduceIte, up_r, uL_r, cp_r, Int32.toInt_toInt64, Int64.reduceToInt, Int32.reduceToInt, ↓b1_or, b1_0, b1_1, lc_lt, lc_le, lc_gt, lc_ge, lc_eq, ym_0, ym_1, ym_2, ym_3, ym_4, ym_5, ym_6, ym_7, ym_8, ym_9, ym_10, ym_11, ym_12, ym_13, ym_14, ym_15, ym_16, ym_17, ym_18, ym_19, ym_20, ym_21, ym_22, ym_23, ym_24, ym_25, ym_26, ym_27, ym_28, ym_29, ym_30, rm__0, rm__1, rm__2, rm__3, rm__4, rm__5, rm__6, rm__7, rm__8, rm__9, rm__10, rm__11, rm__12, rm__13, rm__14, rm__15, rm__16, rm__17, rm__18, rm__19, rm__20, rm__21, rm__22, rm__23, rm__24, rm__25, rm__26, rm__27, rm__28, rm__29, rm__30, rm__31, rm__32, rm__33, rm__34, rm__35, rm__36, rm__37, rm__38, rm__39, rm__40, rm__41, rm__42, rm__43, rm__44, rm__45, un_X5_in, un_X5_cells, un_X5_gives, un_X5_ends, un_X5_lastOf, c0, c1, v9]
  try simp only [iteP, Classical.not_not, b1_0, b1_1]
  clear hF
  rw [kq]
  refine br_n (fun z => by have g := h M hR; rw [if_neg (fun y => z y.1)] at g; exact g) (fun z1 => br_n (fun z => by have g := h M hR; rw [if_neg (fun y => z y.2.1)] at g; exact g) (fun z2 => br_n (fun z => by have g := h M hR; rw [if_neg (fun y => z (by omega))] at g; exact g) (fun z3 => ?_)))
  rw [if_pos ⟨z1, z2, by omega⟩] at h
  refine sw_n (fun z9 => ?_) (fun z9 => by have g := h M hR; rw [if_pos (by omega)] at g; exact g)
  rw [if_neg (by omega)] at h
  obtain ⟨q, eq', hq', bq⟩ := a_of (show 0 ≤ qq.toInt by omega)
  obtain ⟨n, en, hn', bn⟩ := a_of (show 0 ≤ nn.toInt by omega)
  have nq : nat qq = q := by unfold nat; rw [eq', a_cl bq]
  have nn' : nat nn = n := by unfold nat; rw [en, a_cl bn]
  rw [nq, nn'] at h
  rw [eq', en]
  have hq0 : 0 < q := by omega
  have hq4 : q < 4 := by omega
  have pb := pow_b hq0 hq4 z9
  have hP := fun cd => hJ.pe h1 h2 h3 h4 s2 s4 s5 hPe hq0 hq4 n cd
  obtain ⟨N1, hN1⟩ : ∃ N1, w * u = N1 + 1 := ⟨w * u - 1, by omega⟩
  have hgl : ∀ cd, gvl x q n cd < 100000 := fun cd => by
    have al := am_lt (es w u e wk (fg q (w * u) cd) (pcx x) n).1 N1
    have mx := mxv_am (es w u e wk (fg q (w * u) cd) (pcx x) n).1 N1
    rw [← hN1] at al mx
    have b := (es_b (e := e) (show w < 7 by omega) (show u < 7 by omega) (hP cd).2 n).1 _ al
    rw [(hP cd).1, mx]; omega
  have lp3 : ∀ d cd M1 (best : Nat) (least : Int32) (o8 : Option Value), d + cd = q ^ (w * u) → RY M1 L x → ((cd = 0 ∧ best = 0 ∧ least = -1) ∨ (0 < cd ∧ best = amn (gvl x q n) cd ∧ least = nI (gvl x q n (amn (gvl x q n) cd)))) → V 92 [some (.ref 0), some (.int (nI q)), some (.int (nI n)), some (.int cc), some (.int (nI (q ^ (w * u)))), some (.int (nI best)), some (.int least), some (.int (nI cd)), o8] [] M1 L := by
    intro d
    induction d with
    | zero =>
      intro cd M1 best least o8 hd hR1 hI
      have v1 : nI (q ^ (w * u)) ≤ nI cd := by rw [a_le (by omega) (by omega)]; omega
      rcases hI with hI | ⟨hI0, hI1, hI2⟩
      · omega
      have hcd : cd = q ^ (w * u) := by omega
      rw [hcd] at hI1 hI2
      have bl : best < 100000 := by
        obtain ⟨k, hk⟩ : ∃ k, q ^ (w * u) = k + 1 := ⟨q ^ (w * u) - 1, by omega⟩
        have := amn_lt (gvl x q n) k
        rw [← hk] at this; omega
      refine ma_walk (mo_X5_given ms_X5_in ms_X5_cells ms_X5_gives ms_X5_ends ms_X5_lastOf) hV [62, 92] (fun F hF => ?_)
      simp only [tb_X5_given, hF, in_no, in_push, in_ild, in_lld, in_ald, in_ist, in_ast, in_lst, in_inc, in_iii, in_idv, in_ldv, in_lll, in_lli, in_lil, in_ii, in_il, in_li, in_ll, in_dup, in_dp2, q_if1, q_if2, in_go, in_sw, ma_sw, in_rv, in_ri, in_rz, in_rl, in_get, in_put, in_puz, in_iar, in_bar, in_lar, in_aar, in_iaw, in_baw, in_law, in_len, in_cpy, in_s1, in_s2, in_s3, in_v1, in_v2, in_v3, in_v4, in_v5, in_v6, ma_bk, ma_gl, ma_sl, ma_nl, ma_wc, ma_wd, ma_nn, ma_en, List.mem_cons, List.not_mem_nil, or_false, or_true, true_or, false_or, true_and, and_true, false_and, and_false, if_true, if_false, forall_const, true_implies, false_implies, not_true_eq_false, not_false_eq_true, Classical.not_not, implies_true, and_self, Nat.add_zero, Nat.zero_add, eq_self, ne_eq, reduceCtorEq, Nat.reduceLT, Nat.reduceLeDiff, Nat.reduceEqDiff, Nat.reduceSub, Nat.reduceAdd, i10, i01, im10, Int32.reduceLT, Int32.reduceLE, ↓reduceIte, reduceIte, up_r, uL_r, cp_r, Int32.toInt_toInt64, Int64.reduceToInt, Int32.reduceToInt, ↓b1_or, b1_0, b1_1, lc_lt, lc_le, lc_gt, lc_ge, lc_eq, ym_0, ym_1, ym_2, ym_3, ym_4, ym_5, ym_6, ym_7, ym_8, ym_9, ym_10, ym_11, ym_12, ym_13, ym_14, ym_15, ym_16, ym_17, ym_18, ym_19, ym_20, ym_21, ym_22, ym_23, ym_24, ym_25, ym_26, ym_27, ym_28, ym_29, ym_30, rm__0, rm__1, rm__2, rm__3, rm__4, rm__5, rm__6, rm__7, rm__8, rm__9, rm__10, rm__11, rm__12, rm__13, rm__14, rm__15, rm__16, rm__17, rm__18, rm__19, rm__20, rm__21, rm__22, rm__23, rm__24, rm__25, rm__26, rm__27, rm__28, rm__29, rm__30, rm__31, rm__32, rm__33, rm__34, rm__35, rm__36, rm__37, rm__38, rm__39, rm__40, rm__41, rm__42, rm__43, rm__44, rm__45, un_X5_in, un_X5_cells, un_X5_gives, un_X5_ends, un_X5_lastOf, v1]
      try simp only [iteP, Classical.not_not, b1_0, b1_1]
      refine ⟨q, w * u, best, ⟨rfl, rfl, hq0, hq4, bl, by rw [hR1.1.1, hR1.1.2.1, h1, h2, pk_mul], by omega⟩, fun M2 e1 e2 => ?_⟩
      have hR2 := hR1.fr (M1 := M2) (fun a _ _ y _ => e1 a y) (fun j _ _ => by rw [e1 0 (by decide)])
      have zc : (0 ≤ cc) = (0 ≤ cc.toInt) := by rw [Int32.le_iff_toInt_le]; rfl
      rw [zc]
      refine sw_n (fun y => ?_) (fun y => ?_)
      · obtain ⟨c, ec, hc', bc⟩ := a_of y
        have nc : nat cc = c := by unfold nat; rw [ec, a_cl bc]
        have g := h M2 hR2
        rw [if_neg (by omega), nc] at g
        rw [ec, a_cl bc]
        refine ⟨vp_in_nI (by omega) (by decide), ?_⟩
        rw [e2 c (by omega), hI1]; exact g
      · have g := h M2 hR2
        rw [if_pos (by omega)] at g
        rw [hI2]; exact g
    | succ d ih =>
      intro cd M1 best least o8 hd hR1 hI
      have v1 : ¬ nI (q ^ (w * u)) ≤ nI cd := by rw [a_le (by omega) (by omega)]; omega
      have v4 : nI cd + 1 = nI (cd + 1) := by rw [show (1 : Int32) = nI 1 from rfl, nI_add]
      refine ma_walk (mo_X5_given ms_X5_in ms_X5_cells ms_X5_gives ms_X5_ends ms_X5_lastOf) hV [62, 92] (fun F hF => ?_)
      simp only [tb_X5_given, hF, in_no, in_push, in_ild, in_lld, in_ald, in_ist, in_ast, in_lst, in_inc, in_iii, in_idv, in_ldv, in_lll, in_lli, in_lil, in_ii, in_il, in_li, in_ll, in_dup, in_dp2, q_if1, q_if2, in_go, in_sw, ma_sw, in_rv, in_ri, in_rz, in_rl, in_get, in_put, in_puz, in_iar, in_bar, in_lar, in_aar, in_iaw, in_baw, in_law, in_len, in_cpy, in_s1, in_s2, in_s3, in_v1, in_v2, in_v3, in_v4, in_v5, in_v6, ma_bk, ma_gl, ma_sl, ma_nl, ma_wc, ma_wd, ma_nn, ma_en, List.mem_cons, List.not_mem_nil, or_false, or_true, true_or, false_or, true_and, and_true, false_and, and_false, if_true, if_false, forall_const, true_implies, false_implies, not_true_eq_false, not_false_eq_true, Classical.not_not, implies_true, and_self, Nat.add_zero, Nat.zero_add, eq_self, ne_eq, reduceCtorEq, Nat.reduceLT, Nat.reduceLeDiff, Nat.reduceEqDiff, Nat.reduceSub, Nat.reduceAdd, i10, i01, im10, Int32.reduceLT, Int32.reduceLE, ↓reduceIte, reduceIte, up_r, uL_r, cp_r, Int32.toInt_toInt64, Int64.reduceToInt, Int32.reduceToInt, ↓b1_or, b1_0, b1_1, lc_lt, lc_le, lc_gt, lc_ge, lc_eq, ym_0, ym_1, ym_2, ym_3, ym_4, ym_5, ym_6, ym_7, ym_8, ym_9, ym_10, ym_11, ym_12, ym_13, ym_14, ym_15, ym_16, ym_17, ym_18, ym_19, ym_20, ym_21, ym_22, ym_23, ym_24, ym_25, ym_26, ym_27, ym_28, ym_29, ym_30, rm__0, rm__1, rm__2, rm__3, rm__4, rm__5, rm__6, rm__7, rm__8, rm__9, rm__10, rm__11, rm__12, rm__13, rm__14, rm__15, rm__16, rm__17, rm__18, rm__19, rm__20, rm__21, rm__22, rm__23, rm__24, rm__25, rm__26, rm__27, rm__28, rm__29, rm__30, rm__31, rm__32, rm__33, rm__34, rm__35, rm__36, rm__37, rm__38, rm__39, rm__40, rm__41, rm__42, rm__43, rm__44, rm__45, un_X5_in, un_X5_cells, un_X5_gives, un_X5_ends, un_X5_lastOf, v1, v4]
      try simp only [iteP, Classical.not_not, b1_0, b1_1]
      refine ⟨q, w * u, cd, ⟨rfl, rfl, hq0, hq4, by omega, by rw [hR1.1.1, hR1.1.2.1, h1, h2, pk_mul], by omega⟩, fun M2 e1 e2 => ?_⟩
      have hR2 := hR1.fr (M1 := M2) (fun a _ _ y _ => e1 a y) (fun j _ _ => by rw [e1 0 (by decide)])
      refine ⟨w, u, e, wk, fg q (w * u) cd, pcx x, n, ⟨hR2.1.1.trans h1, hR2.1.2.1.trans h2, hR2.1.2.2.1.trans h3, hs, hR2.1.2.2.2.1.trans h4, (hP cd).2, e2, fun p hp => by rw [hR2.2.1.2.2.2.2.2.2.2.2.2.1]; exact hpc p hp, rfl, by omega⟩, fun M3 g1 g2 => ?_⟩
      have hR3 := hR2.fr (M1 := M3) (fun a y1 y2 y3 y4 => g1.1 a y1 y2 y4) g1.2.1
      have hb3 : ∀ c, c < w * u → (es w u e wk (fg q (w * u) cd) (pcx x) n).1 c < 100000 := fun c hc => by
        have := (es_b (e := e) (show w < 7 by omega) (show u < 7 by omega) (hP cd).2 n).1 c hc
        omega
      refine ⟨n, w * u, (es w u e wk (fg q (w * u) cd) (pcx x) n).1, ⟨rfl, by omega, by rw [hR3.1.1, hR3.1.2.1, h1, h2, pk_mul], q36, fun c hc => ⟨g2 n c (by omega) (Nat.le_refl _) hc, hb3 c hc⟩⟩, ?_⟩
      rw [← (hP cd).1]
      have hb4 := hgl cd
      rcases hI with ⟨i0, i1, i2⟩ | ⟨i0, i1, i2⟩
      · have ea : amn (gvl x q n) (cd + 1) = cd := by
          subst i0
          rw [amn, amn, if_neg (Nat.lt_irrefl _)]
        have T := ih (cd + 1) M3 cd (nI (gvl x q n cd)) (some (.int (nI (gvl x q n cd)))) (by omega) hR3 (Or.inr ⟨by omega, ea.symm, by rw [ea]⟩)
        have v0 : least < 0 := by rw [i2]; decide
        exact ⟨fun _ => ⟨fun _ => T, fun y => absurd v0 y⟩, fun y => absurd v0 y⟩
      · have hbA := hgl (amn (gvl x q n) cd)
        have v0 : ¬ least < 0 := by rw [i2]; exact nI_pos (by omega)
        have v7 : (least ≤ nI (gvl x q n cd)) = (gvl x q n (amn (gvl x q n) cd) ≤ gvl x q n cd) := by rw [i2]; exact a_le (by omega) (by omega)
        refine ⟨fun y => absurd y v0, fun _ => ⟨fun y => ⟨fun z => absurd z v0, fun _ => ⟨fun _ => ?_, fun z => absurd y z⟩⟩, fun y => ⟨fun z => absurd z v0, fun _ => ⟨fun z => absurd z y, fun _ => ?_⟩⟩⟩⟩
        · rw [v7] at y
          have ea : amn (gvl x q n) (cd + 1) = amn (gvl x q n) cd := by rw [amn, if_neg (by omega)]
          exact ih (cd + 1) M3 best least _ (by omega) hR3 (Or.inr ⟨by omega, by rw [ea]; exact i1, by rw [ea]; exact i2⟩)
        · rw [v7] at y
          have ea : amn (gvl x q n) (cd + 1) = cd := by rw [amn, if_pos (by omega)]
          exact ih (cd + 1) M3 cd _ _ (by omega) hR3 (Or.inr ⟨by omega, ea.symm, by rw [ea]⟩)
  have lp2 : ∀ j, j ≤ w * u → V 62 [some (.ref 0), some (.int (nI q)), some (.int (nI n)), some (.int cc), some (.int (nI (q ^ j))), some (.int (nI j)), none, none, none] [] M L := by
    refine lp_up ?_ ?_
    · have v1 : nI w * nI u ≤ nI (w * u) := by rw [pk_mul, a_le (by omega) (by omega)]; omega
      refine ma_walk (mo_X5_given ms_X5_in ms_X5_cells ms_X5_gives ms_X5_ends ms_X5_lastOf) hV [62, 92] (fun F hF => ?_)
      simp only [tb_X5_given, hF, in_no, in_push, in_ild, in_lld, in_ald, in_ist, in_ast, in_lst, in_inc, in_iii, in_idv, in_ldv, in_lll, in_lli, in_lil, in_ii, in_il, in_li, in_ll, in_dup, in_dp2, q_if1, q_if2, in_go, in_sw, ma_sw, in_rv, in_ri, in_rz, in_rl, in_get, in_put, in_puz, in_iar, in_bar, in_lar, in_aar, in_iaw, in_baw, in_law, in_len, in_cpy, in_s1, in_s2, in_s3, in_v1, in_v2, in_v3, in_v4, in_v5, in_v6, ma_bk, ma_gl, ma_sl, ma_nl, ma_wc, ma_wd, ma_nn, ma_en, List.mem_cons, List.not_mem_nil, or_false, or_true, true_or, false_or, true_and, and_true, false_and, and_false, if_true, if_false, forall_const, true_implies, false_implies, not_true_eq_false, not_false_eq_true, Classical.not_not, implies_true, and_self, Nat.add_zero, Nat.zero_add, eq_self, ne_eq, reduceCtorEq, Nat.reduceLT, Nat.reduceLeDiff, Nat.reduceEqDiff, Nat.reduceSub, Nat.reduceAdd, i10, i01, im10, Int32.reduceLT, Int32.reduceLE, ↓reduceIte, reduceIte, up_r, uL_r, cp_r, Int32.toInt_toInt64, Int64.reduceToInt, Int32.reduceToInt, ↓b1_or, b1_0, b1_1, lc_lt, lc_le, lc_gt, lc_ge, lc_eq, ym_0, ym_1, ym_2, ym_3, ym_4, ym_5, ym_6, ym_7, ym_8, ym_9, ym_10, ym_11, ym_12, ym_13, ym_14, ym_15, ym_16, ym_17, ym_18, ym_19, ym_20, ym_21, ym_22, ym_23, ym_24, ym_25, ym_26, ym_27, ym_28, ym_29, ym_30, rm__0, rm__1, rm__2, rm__3, rm__4, rm__5, rm__6, rm__7, rm__8, rm__9, rm__10, rm__11, rm__12, rm__13, rm__14, rm__15, rm__16, rm__17, rm__18, rm__19, rm__20, rm__21, rm__22, rm__23, rm__24, rm__25, rm__26, rm__27, rm__28, rm__29, rm__30, rm__31, rm__32, rm__33, rm__34, rm__35, rm__36, rm__37, rm__38, rm__39, rm__40, rm__41, rm__42, rm__43, rm__44, rm__45, un_X5_in, un_X5_cells, un_X5_gives, un_X5_ends, un_X5_lastOf, c0, c1, v1]
      try simp only [iteP, Classical.not_not, b1_0, b1_1]
      exact lp3 (q ^ (w * u)) 0 M 0 (-1) _ rfl hR (Or.inl ⟨rfl, rfl, rfl⟩)
    · intro j hj ih
      have v1 : ¬ nI w * nI u ≤ nI j := by rw [pk_mul, a_le (by omega) (by omega)]; omega
      have v4 : nI j + 1 = nI (j + 1) := by rw [show (1 : Int32) = nI 1 from rfl, nI_add]
      have v5 : nI (q ^ j) * nI q = nI (q ^ (j + 1)) := by rw [pk_mul, Nat.pow_succ]
      refine ma_walk (mo_X5_given ms_X5_in ms_X5_cells ms_X5_gives ms_X5_ends ms_X5_lastOf) hV [62, 92] (fun F hF => ?_)
      simp only [tb_X5_given, hF, in_no, in_push, in_ild, in_lld, in_ald, in_ist, in_ast, in_lst, in_inc, in_iii, in_idv, in_ldv, in_lll, in_lli, in_lil, in_ii, in_il, in_li, in_ll, in_dup, in_dp2, q_if1, q_if2, in_go, in_sw, ma_sw, in_rv, in_ri, in_rz, in_rl, in_get, in_put, in_puz, in_iar, in_bar, in_lar, in_aar, in_iaw, in_baw, in_law, in_len, in_cpy, in_s1, in_s2, in_s3, in_v1, in_v2, in_v3, in_v4, in_v5, in_v6, ma_bk, ma_gl, ma_sl, ma_nl, ma_wc, ma_wd, ma_nn, ma_en, List.mem_cons, List.not_mem_nil, or_false, or_true, true_or, false_or, true_and, and_true, false_and, and_false, if_true, if_false, forall_const, true_implies, false_implies, not_true_eq_false, not_false_eq_true, Classical.not_not, implies_true, and_self, Nat.add_zero, Nat.zero_add, eq_self, ne_eq, reduceCtorEq, Nat.reduceLT, Nat.reduceLeDiff, Nat.reduceEqDiff, Nat.reduceSub, Nat.reduceAdd, i10, i01, im10, Int32.reduceLT, Int32.reduceLE, ↓reduceIte, reduceIte, up_r, uL_r, cp_r, Int32.toInt_toInt64, Int64.reduceToInt, Int32.reduceToInt, ↓b1_or, b1_0, b1_1, lc_lt, lc_le, lc_gt, lc_ge, lc_eq, ym_0, ym_1, ym_2, ym_3, ym_4, ym_5, ym_6, ym_7, ym_8, ym_9, ym_10, ym_11, ym_12, ym_13, ym_14, ym_15, ym_16, ym_17, ym_18, ym_19, ym_20, ym_21, ym_22, ym_23, ym_24, ym_25, ym_26, ym_27, ym_28, ym_29, ym_30, rm__0, rm__1, rm__2, rm__3, rm__4, rm__5, rm__6, rm__7, rm__8, rm__9, rm__10, rm__11, rm__12, rm__13, rm__14, rm__15, rm__16, rm__17, rm__18, rm__19, rm__20, rm__21, rm__22, rm__23, rm__24, rm__25, rm__26, rm__27, rm__28, rm__29, rm__30, rm__31, rm__32, rm__33, rm__34, rm__35, rm__36, rm__37, rm__38, rm__39, rm__40, rm__41, rm__42, rm__43, rm__44, rm__45, un_X5_in, un_X5_cells, un_X5_gives, un_X5_ends, un_X5_lastOf, c0, c1, v1, v4, v5]
      try simp only [iteP, Classical.not_not, b1_0, b1_1]
      exact ih
  exact lp2 0 (Nat.zero_le _)
theorem pv_X5_given : ∀ as M L K, S_X5_given as M L K → ma_rn (tb_X5_given S_X5_in S_X5_cells S_X5_gives S_X5_ends S_X5_lastOf) 9 as M L K := by
  intro as M L K h
  unfold S_X5_given at h
  split at h
  · obtain ⟨x, h⟩ := h; exact pw_X5_given h.1 h.2
  · exact h.elim
