/-! op: when -/
set_option maxRecDepth 100000
set_option maxHeartbeats 4000000
def oWhen (s c : Int32) (x : St) : Int32 := if (0 ≤ s.toInt ∧ s.toInt ≤ 12) ∧ (-1 ≤ c.toInt ∧ c.toInt < (nat (sN x 0 0) * nat (sN x 0 1) : Nat)) then (if 0 ≤ c.toInt then nI (esx x (nat s) (nat c)) else nI (mxv (esx x (nat s)) (nat (sN x 0 0) * nat (sN x 0 1)))) else -1
def S_X0_when : ma_Cs := fun as M L K => match as with
  | [.ref k, .int s, .int c] => ∃ (x : St), (k = 0 ∧ J x ∧ RX M L x) ∧ (∀ (M' : ZM), RX M' L x → K (some (.int (oWhen s c x))) M' L)
  | _ => False
theorem ms_X0_when : ma_ms S_X0_when := by
  intro as M L K K' hk h
  unfold S_X0_when at h ⊢
  split at h
  · obtain ⟨x, h⟩ := h
    exact ⟨x, h.1, fun x0 x1 => hk _ _ _ (h.2 x0 x1)⟩
  · exact h.elim
theorem un_X0_when {k : Nat} {s : Int32} {c : Int32} {M : ZM} {L : ZL} {K : ma_Kt} : S_X0_when [.ref k, .int s, .int c] M L K = (∃ (x : St), (k = 0 ∧ J x ∧ RX M L x) ∧ (∀ (M' : ZM), RX M' L x → K (some (.int (oWhen s c x))) M' L)) := rfl
theorem pw_X0_when {k : Nat} {s : Int32} {c : Int32} {x : St} {M : ZM} {L : ZL} {K : ma_Kt} (hp : k = 0 ∧ J x ∧ RX M L x) (h : (∀ (M' : ZM), RX M' L x → K (some (.int (oWhen s c x))) M' L)) : ma_rn (tb_X0_when S_X0_isStep S_X0_isCell S_X0_layEnds S_X0_lastOf) 3 [.ref k, .int s, .int c] M L K := by
  refine ⟨Nat.le_of_ble_eq_true rfl, fun V hV => ?_⟩
  obtain ⟨rfl, hJ, hR⟩ := hp
  obtain ⟨w, u, e, wk, h1, h2, h3, h4, hs, hPe, hb, hpc, he, hlt, q0, q36, hn⟩ := hJ.people
  obtain ⟨⟨c0, c5, c6, c7, c10, c19, c20, c25, c33⟩, ⟨a19, a1, a20, a21, a22, a23, a24, a34, a37, a38, a39⟩, r3, r4⟩ := id hR
  rw [h1] at c5
  rw [h2] at c6
  unfold oWhen at h
  rw [hn] at h
  refine ma_walk (mo_X0_when ms_X0_isStep ms_X0_isCell ms_X0_layEnds ms_X0_lastOf) hV [] (fun F hF => ?_)
  simp only [tb_X0_when, hF, in_no, in_push, in_ild, in_lld, in_ald, in_ist, in_ast, in_lst, in_inc, in_iii, in_idv, in_ldv, in_lll, in_lli, in_lil, in_ii, in_il, in_li, in_ll, in_dup, in_dp2, q_if1, q_if2, in_go, in_sw, ma_sw, in_rv, in_ri, in_rz, in_rl, in_get, in_put, in_puz, in_iar, in_bar, in_lar, in_aar, in_iaw, in_baw, in_law, in_len, in_cpy, in_s1, in_s2, in_s3, in_v1, in_v2, in_v3, in_v4, in_v5, in_v6, ma_bk, ma_gl, ma_sl, ma_nl, ma_wc, ma_wd, ma_nn, ma_en, List.mem_cons, List.not_mem_nil, or_false, or_true, true_or, false_or, true_and, and_true, false_and, and_false, if_true, if_false, forall_const, true_implies, false_implies, not_true_eq_false, not_false_eq_true, Classical.not_not, implies_true, and_self, Nat.add_zero, Nat.zero_add, eq_self, ne_eq, reduceCtorEq, Nat.reduceLT, Nat.reduceLeDiff, Nat.reduceEqDiff, Nat.reduceSub, Nat.reduceAdd, i10, i01, im10, Int32.reduceLT, Int32.reduceLE, ↓reduceIte, reduceIte, up_r, uL_r, cp_r, Int32.toInt_toInt64, Int64.reduceToInt, Int32.reduceToInt, ↓b1_or, b1_0, b1_1, lc_lt, lc_le, lc_gt, lc_ge, lc_eq, yx_0, yx_1, yx_2, yx_3, yx_4, yx_5, yx_6, yx_7, yx_8, yx_9, yx_10, yx_11, yx_12, yx_13, yx_14, yx_15, yx_16, yx_17, yx_18, yx_19, yx_20, yx_21, yx_22, yx_23, yx_24, yx_25, yx_26, yx_27, yx_28, yx_29, yx_30, yx_31, yx_32, yx_33, yx_34, yx_35, yx_36, yx_37, yx_38, yx_39, yx_40, yx_41, yx_42, yx_43, yx_44, yx_45, yx_46, yx_47, yx_48, yx_49, yx_50, yx_51, yx_52, yx_53, yx_54, yx_55, yx_56, yx_57, yx_58, yx_59, yx_60, yx_61, yx_62, yx_63, yx_64, yx_65, yx_66, yx_67, yx_68, rx_0, rx_1, rx_2, rx_3, rx_4, rx_5, rx_6, rx_7, rx_8, rx_9, rx_10, rx_11, rx_12, rx_13, rx_14, rx_15, rx_16, rx_17, rx_18, rx_19, rx_20, rx_21, rx_22, rx_23, rx_24, rx_25, rx_26, rx_27, rx_28, rx_29, rx_30, rx_31, rx_32, rx_33, rp_0, rp_1, rp_2, rp_3, rp_4, rp_5, rp_6, rp_7, rp_8, rs_0, rs_1, rs_2, rs_3, rs_4, re_0, re_1, re_2, re_3, re_4, re_5, rr_0, rr_1, rr_2, rr_3, rr_4, rk_0, rk_1, isP3, isP11, isP46, isP58, isS25, isS28, isS31, un_X0_isStep, un_X0_isCell, un_X0_layEnds, un_X0_lastOf, c5, c6]
  try simp only [iteP, Classical.not_not, b1_0, b1_1]
  have kq : (nI w * nI u - 1).toInt = ((w * u : Nat) : Int) - 1 := by
    rw [pk_mul, show (1 : Int32) = nI 1 from rfl, pk_sub (by omega), a_ti (by omega)]; omega
  refine br_n (fun z => by have g := h M hR; rw [if_neg (fun t => z t.1)] at g; exact g) (fun z => ?_)
  obtain ⟨m, em, hm, bm⟩ := a_of z.1
  have nm' : nat s = m := by unfold nat; rw [em, a_cl bm]
  have m13 : m < 13 := by omega
  rw [nm'] at h
  refine sw_n (fun z2 => ?_) (fun z2 => br_n (fun z3 => ?_) (fun z3 => ?_))
  · refine ⟨w, u, e, wk, bbx x, pcx x, m, ⟨rfl, rfl, by rw [c7, h3], hs, by rw [c25, h4], hPe, fun c hc => by rw [a39]; exact hb c hc, fun p hp => by rw [a38]; exact hpc p hp, em, m13⟩, fun M' g1 g2 => ⟨fun y => absurd y (by rw [z2]; decide), fun _ => ?_⟩⟩
    have g0 : M' 0 = M 0 := g1.1 0 (by decide) (by decide) (by decide)
    refine ⟨m, w * u, esx x m, ⟨em, m13, by rw [g0, c5, c6, pk_mul], q0, q36, fun c hc => ⟨by rw [he]; exact g2 m c (Nat.le_refl _) hc, hlt m c m13 hc⟩⟩, ?_⟩
    have g := h M' (hR.lf g1 h1 h2)
    rw [if_pos ⟨z, by rw [z2, show (-1 : Int32).toInt = -1 from rfl]; omega⟩, if_neg (by rw [z2]; decide)] at g
    obtain ⟨q, hq⟩ : ∃ q, w * u = q + 1 := ⟨w * u - 1, by omega⟩
    rw [hq, mxv_am] at g
    rw [hq]
    have al := am_lt (esx x m) q
    have ix : s * 36 + nI (am (esx x m) (q + 1)) = nI (36 * m + am (esx x m) (q + 1)) := by
      rw [em, show (36 : Int32) = nI 36 from rfl, pk_mul, nI_add, Nat.mul_comm]
    rw [ix, a_cl (by omega), g2 m _ (Nat.le_refl _) (by omega), ← he]
    exact ⟨vp_in_nI (by omega) (by decide), g⟩
  · have g := h M hR
    have z4 : ¬ c.toInt = -1 := fun y => z2 (i_ext y)
    rw [if_neg (fun t => z3 (by rw [kq]; omega))] at g; exact g
  · obtain ⟨d, ed, hd, bd'⟩ := a_of z3.1
    have nd : nat c = d := by unfold nat; rw [ed, a_cl bd']
    rw [kq] at z3
    refine ⟨w, u, e, wk, bbx x, pcx x, m, ⟨rfl, rfl, by rw [c7, h3], hs, by rw [c25, h4], hPe, fun c hc => by rw [a39]; exact hb c hc, fun p hp => by rw [a38]; exact hpc p hp, em, m13⟩, fun M' g1 g2 => ⟨fun _ => ?_, fun y => absurd (by rw [ed]; exact nI_pos' (by omega)) y⟩⟩
    have g := h M' (hR.lf g1 h1 h2)
    rw [if_pos ⟨z, by omega⟩, if_pos z3.1, nd] at g
    have ix : s * 36 + c = nI (36 * m + d) := by
      rw [em, ed, show (36 : Int32) = nI 36 from rfl, pk_mul, nI_add, Nat.mul_comm]
    rw [ix, a_cl (by omega), g2 m _ (Nat.le_refl _) (by omega), ← he]
    exact ⟨vp_in_nI (by omega) (by decide), g⟩
theorem pv_X0_when : ∀ as M L K, S_X0_when as M L K → ma_rn (tb_X0_when S_X0_isStep S_X0_isCell S_X0_layEnds S_X0_lastOf) 3 as M L K := by
  intro as M L K h
  unfold S_X0_when at h
  split at h
  · obtain ⟨x, h⟩ := h; exact pw_X0_when h.1 h.2
  · exact h.elim
