/-! op: when (the model) -/
set_option maxRecDepth 100000
set_option maxHeartbeats 4000000
theorem RY.fr {M M1 : ZM} {L : ZL} {x : St} (h : RY M L x) (l1 : ∀ x, x ≠ 0 → x ≠ 28 → x ≠ 29 → x ≠ 30 → M1 x = M x) (l2 : ∀ j, j ≠ 35 → j ≠ 36 → M1 0 j = M 0 j) : RY M1 L x := by
  have e : ∀ a, 1 ≤ a → a ≤ 24 → M1 a = M a := fun a h1 h2 => l1 a (by omega) (by omega) (by omega) (by omega)
  obtain ⟨r1, r2, r3, r4, r5⟩ := h
  refine ⟨?_, ?_, r3.to (l2 7 (by decide) (by decide)) (fun a z1 z2 => e a (by omega) (by omega)), ?_, r5.to (e 21 (by omega) (by omega)) rfl⟩
  · unfold Ys at r1 ⊢
    rw [l2 0 (by decide) (by decide), l2 1 (by decide) (by decide), l2 2 (by decide) (by decide), l2 3 (by decide) (by decide), l2 5 (by decide) (by decide), l2 19 (by decide) (by decide), l2 24 (by decide) (by decide), l2 25 (by decide) (by decide), l2 30 (by decide) (by decide)]
    exact r1
  · unfold Ya at r2 ⊢
    rw [e 1 (by omega) (by omega), e 2 (by omega) (by omega), e 12 (by omega) (by omega), e 13 (by omega) (by omega), e 14 (by omega) (by omega), e 15 (by omega) (by omega), e 16 (by omega) (by omega), e 18 (by omega) (by omega), e 19 (by omega) (by omega), e 20 (by omega) (by omega)]
    exact r2
  · unfold B24 at r4 ⊢
    rw [e 24 (by omega) (by omega)]; exact r4
def S_X5_when : ma_Cs := fun as M L K => match as with
  | [.ref k, .int s, .int c] => ∃ (x : St), (k = 0 ∧ J x ∧ RY M L x) ∧ (∀ (M' : ZM), RY M' L x → K (some (.int (oWhen s c x))) M' L)
  | _ => False
theorem ms_X5_when : ma_ms S_X5_when := by
  intro as M L K K' hk h
  unfold S_X5_when at h ⊢
  split at h
  · obtain ⟨x, h⟩ := h
    exact ⟨x, h.1, fun x0 x1 => hk _ _ _ (h.2 x0 x1)⟩
  · exact h.elim
theorem un_X5_when {k : Nat} {s : Int32} {c : Int32} {M : ZM} {L : ZL} {K : ma_Kt} : S_X5_when [.ref k, .int s, .int c] M L K = (∃ (x : St), (k = 0 ∧ J x ∧ RY M L x) ∧ (∀ (M' : ZM), RY M' L x → K (some (.int (oWhen s c x))) M' L)) := rfl
theorem pw_X5_when {k : Nat} {s : Int32} {c : Int32} {x : St} {M : ZM} {L : ZL} {K : ma_Kt} (hp : k = 0 ∧ J x ∧ RY M L x) (h : (∀ (M' : ZM), RY M' L x → K (some (.int (oWhen s c x))) M' L)) : ma_rn (tb_X5_when S_X5_in S_X5_cells S_X5_ownEnds S_X5_lastOf) 3 [.ref k, .int s, .int c] M L K := by
  refine ⟨Nat.le_of_ble_eq_true rfl, fun V hV => ?_⟩
  obtain ⟨rfl, hJ, hR⟩ := hp
  obtain ⟨w, u, e, wk, h1, h2, h3, h4, hs, hPe, hb, hpc, he, hlt, q0, q36, hn⟩ := hJ.people
  obtain ⟨⟨c0, c1, c2, c3, c5, c19, c24, c25, c30⟩, ⟨a1, a2, a12, a13, a14, a15, a16, a17, a18, a19, a20⟩, r3, r4⟩ := id hR
  rw [h1] at c0
  rw [h2] at c1
  unfold oWhen at h
  rw [hn] at h
  refine ma_walk (mo_X5_when ms_X5_in ms_X5_cells ms_X5_ownEnds ms_X5_lastOf) hV [] (fun F hF => ?_)
  simp only [tb_X5_when, hF, in_no, in_push, in_ild, in_lld, in_ald, in_ist, in_ast, in_lst, in_inc, in_iii, in_idv, in_ldv, in_lll, in_lli, in_lil, in_ii, in_il, in_li, in_ll, in_dup, in_dp2, q_if1, q_if2, in_go, in_sw, ma_sw, in_rv, in_ri, in_rz, in_rl, in_get, in_put, in_puz, in_iar, in_bar, in_lar, in_aar, in_iaw, in_baw, in_law, in_len, in_cpy, in_s1, in_s2, in_s3, in_v1, in_v2, in_v3, in_v4, in_v5, in_v6, ma_bk, ma_gl, ma_sl, ma_nl, ma_wc, ma_wd, ma_nn, ma_en, List.mem_cons, List.not_mem_nil, or_false, or_true, true_or, false_or, true_and, and_true, false_and, and_false, if_true, if_false, forall_const, true_implies, false_implies, not_true_eq_false, not_false_eq_true, Classical.not_not, implies_true, and_self, Nat.add_zero, Nat.zero_add, eq_self, ne_eq, reduceCtorEq, Nat.reduceLT, Nat.reduceLeDiff, Nat.reduceEqDiff, Nat.reduceSub, Nat.reduceAdd, i10, i01, im10, Int32.reduceLT, Int32.reduceLE, ↓reduceIte, reduceIte, up_r, uL_r, cp_r, Int32.toInt_toInt64, Int64.reduceToInt, Int32.reduceToInt, ↓b1_or, b1_0, b1_1, lc_lt, lc_le, lc_gt, lc_ge, lc_eq, ym_0, ym_1, ym_2, ym_3, ym_4, ym_5, ym_6, ym_7, ym_8, ym_9, ym_10, ym_11, ym_12, ym_13, ym_14, ym_15, ym_16, ym_17, ym_18, ym_19, ym_20, ym_21, ym_22, ym_23, ym_24, ym_25, ym_26, ym_27, ym_28, ym_29, ym_30, rm__0, rm__1, rm__2, rm__3, rm__4, rm__5, rm__6, rm__7, rm__8, rm__9, rm__10, rm__11, rm__12, rm__13, rm__14, rm__15, rm__16, rm__17, rm__18, rm__19, rm__20, rm__21, rm__22, rm__23, rm__24, rm__25, rm__26, rm__27, rm__28, rm__29, rm__30, rm__31, rm__32, rm__33, rm__34, rm__35, rm__36, rm__37, rm__38, rm__39, rm__40, rm__41, rm__42, rm__43, rm__44, rm__45, un_X5_in, un_X5_cells, un_X5_ownEnds, un_X5_lastOf, c0, c1]
  try simp only [iteP, Classical.not_not, b1_0, b1_1]
  have kq : (nI w * nI u - 1).toInt = ((w * u : Nat) : Int) - 1 := by
    rw [pk_mul, show (1 : Int32) = nI 1 from rfl, pk_sub (by omega), a_ti (by omega)]; omega
  refine br_n (fun z => by have g := h M hR; rw [if_neg (fun t => z t.1)] at g; exact g) (fun z => ?_)
  obtain ⟨m, em, hm, bm⟩ := a_of z.1
  have nm' : nat s = m := by unfold nat; rw [em, a_cl bm]
  have m13 : m < 13 := by omega
  rw [nm'] at h
  rw [kq]
  refine br_n (fun z3 => ?_) (fun z3 => ?_)
  · have g := h M hR
    rw [if_neg (fun t => z3 (by omega))] at g; exact g
  · refine ⟨w, u, e, wk, bbx x, pcx x, ⟨rfl, rfl, by rw [c2, h3], hs, by rw [c3, h4], hPe, fun c hc => by rw [a20]; exact hb c hc, fun p hp => by rw [a19]; exact hpc p hp⟩, fun M' g1 g2 g3 => ?_⟩
    have g := h M' (hR.fr g1 g2)
    rw [if_pos ⟨z, by omega⟩] at g
    refine sw_n (fun y => ?_) (fun y => ?_)
    · have y' : 0 ≤ c.toInt := Int32.le_iff_toInt_le.1 y
      obtain ⟨d, ed, hd, bd'⟩ := a_of y'
      have nd : nat c = d := by unfold nat; rw [ed, a_cl bd']
      rw [if_pos y', nd] at g
      have ix : 36 * s + c = nI (36 * m + d) := by
        rw [em, ed, show (36 : Int32) = nI 36 from rfl, pk_mul, nI_add]
      rw [ix, a_cl (by omega), g3 m _ (by omega) (by omega), ← he]
      exact ⟨vp_in_nI (by omega) (by decide), g⟩
    · have y' : ¬ 0 ≤ c.toInt := fun t => y (Int32.le_iff_toInt_le.2 t)
      rw [if_neg y'] at g
      refine ⟨m, w * u, esx x m, ⟨em, m13, by rw [g2 0 (by decide) (by decide), g2 1 (by decide) (by decide), c0, c1, pk_mul], q36, fun c hc => ⟨by rw [he]; exact g3 m c (by omega) hc, hlt m c m13 hc⟩⟩, g⟩
theorem pv_X5_when : ∀ as M L K, S_X5_when as M L K → ma_rn (tb_X5_when S_X5_in S_X5_cells S_X5_ownEnds S_X5_lastOf) 3 as M L K := by
  intro as M L K h
  unfold S_X5_when at h
  split at h
  · obtain ⟨x, h⟩ := h; exact pw_X5_when h.1 h.2
  · exact h.elim
