/-! ops: fault, plan -/
set_option maxRecDepth 100000
set_option maxHeartbeats 4000000
def gT (x : St) : Nat → Nat := fun i => if i < nat (sN x 0 5) then nat (sN x 2 i) else 0
def rT (x : St) : Except Nat (List Tm × List Ln) := rd (gT x) (nat (sN x 0 5))
theorem gT_b {x : St} (hJ : J x) : (∀ i, gT x i < 256) ∧ (∀ i, nat (sN x 0 5) ≤ i → gT x i = 0) ∧ nat (sN x 0 5) ≤ 160 ∧ sN x 0 5 = nI (nat (sN x 0 5)) ∧ ∀ i, i < nat (sN x 0 5) → sN x 2 i = nI (gT x i) := by
  obtain ⟨⟨w, u, e, wk, n, ns, a', b', km, h1, h2, h3, h4, h5, h6, h7, h8, h9, g1, g2, g3, g4, g5, g6, g7, g8, g9, f1, f2⟩, ja, jp, jk⟩ := hJ
  have n1 : nat (sN x 0 5) = n := by unfold nat; rw [h5, a_cl (by omega)]
  refine ⟨fun i => ?_, fun i hi => if_neg (by omega), by omega, by rw [n1]; exact h5, fun i hi => ?_⟩
  · unfold gT
    split
    · obtain ⟨b, hb, e⟩ := ja.1 i
      unfold nat; rw [e, a_cl (by omega)]; exact hb
    · omega
  · obtain ⟨b, hb, e⟩ := ja.1 i
    unfold gT
    rw [if_pos hi]
    unfold nat; rw [e, a_cl (by omega)]
theorem RX.Tt {M : ZM} {L : ZL} {x : St} (hJ : J x) (hR : RX M L x) : Tt M (gT x) (nat (sN x 0 5)) := by
  obtain ⟨b1, b2, b3, b4, b5⟩ := gT_b hJ
  refine ⟨hR.1.1.trans b4, b3, fun i hi => ?_, b1, b2⟩
  rw [hR.2.1.2.1 i]; unfold gT; rw [if_pos hi]
theorem RY.Ty {M : ZM} {L : ZL} {x : St} (hJ : J x) (hR : RY M L x) : Ty M (gT x) (nat (sN x 0 5)) := by
  obtain ⟨b1, b2, b3, b4, b5⟩ := gT_b hJ
  refine ⟨hR.1.2.2.2.2.1.trans b4, b3, fun i hi => ?_, b1, b2⟩
  rw [hR.2.1.2.1]; exact b5 i hi
theorem RX.df {M M' : ZM} {L : ZL} {x : St} (hR : RX M L x) (e : Df M M') (hB : BF (M' 7)) : RX M' L x := by
  obtain ⟨⟨c0, c5, c6, c7, c10, c19, c20, c25, c33⟩, ⟨a19, a1, a20, a21, a22, a23, a24, a34, a37, a38, a39⟩, ⟨k1, k2, k3, k4⟩, r4⟩ := hR
  have q0 : M' 0 = M 0 := e 0 (by omega)
  refine ⟨?_, ⟨?_, ?_, ?_, ?_, ?_, ?_, ?_, a34, ?_, ?_, ?_⟩, ⟨k1.to (fun a z1 z2 => e a (by omega)), hB, by rw [e 15 (by omega)]; exact k3, fun k hk => (k4 k hk).to (fun a z1 z2 => e a (by omega)) rfl⟩, ?_⟩
  · unfold Xs; rw [q0]; exact ⟨c0, c5, c6, c7, c10, c19, c20, c25, c33⟩
  · rw [e 19 (by omega)]; exact a19
  · rw [e 1 (by omega)]; exact a1
  · rw [e 20 (by omega)]; exact a20
  · rw [e 21 (by omega)]; exact a21
  · rw [e 22 (by omega)]; exact a22
  · rw [e 23 (by omega)]; exact a23
  · rw [e 24 (by omega)]; exact a24
  · rw [e 37 (by omega)]; exact a37
  · rw [e 38 (by omega)]; exact a38
  · rw [e 39 (by omega)]; exact a39
  · rw [q0]
    unfold Xh
    rw [e 25 (by omega), e 26 (by omega), e 28 (by omega), e 29 (by omega), e 30 (by omega)]
    exact r4
theorem RY.rf {M M' : ZM} {L : ZL} {x : St} (hJ : J x) (hR : RY M L x) (e : Rf M M') : RY M' L x := by
  obtain ⟨⟨c0, c1, c2, c3, c5, c19, c24, c25, c30⟩, ⟨a1, a2, a12, a13, a14, a15, a16, a17, a18, a19, a20⟩, ⟨p1, p2, p3⟩, r4, r5⟩ := hR
  have g := e.1
  have f := e.2.1
  refine ⟨⟨?_, ?_, ?_, ?_, ?_, ?_, ?_, ?_, ?_⟩, ⟨?_, ?_, ?_, ?_, ?_, ?_, ?_, a17, ?_, ?_, ?_⟩, ⟨?_, ?_, ?_⟩, ?_, ?_⟩
  · rw [f 0 (by decide) (by decide) (by decide) (by decide)]; exact c0
  · rw [f 1 (by decide) (by decide) (by decide) (by decide)]; exact c1
  · rw [f 2 (by decide) (by decide) (by decide) (by decide)]; exact c2
  · rw [f 3 (by decide) (by decide) (by decide) (by decide)]; exact c3
  · rw [f 5 (by decide) (by decide) (by decide) (by decide)]; exact c5
  · rw [f 19 (by decide) (by decide) (by decide) (by decide)]; exact c19
  · rw [f 24 (by decide) (by decide) (by decide) (by decide)]; exact c24
  · rw [f 25 (by decide) (by decide) (by decide) (by decide)]; exact c25
  · rw [f 30 (by decide) (by decide) (by decide) (by decide)]; exact c30
  · rw [g 1 (by omega)]; exact a1
  · rw [g 2 (by omega)]; exact a2
  · rw [g 12 (by omega)]; exact a12
  · rw [g 13 (by omega)]; exact a13
  · rw [g 14 (by omega)]; exact a14
  · rw [g 15 (by omega)]; exact a15
  · rw [g 16 (by omega)]; exact a16
  · rw [g 18 (by omega)]; exact a18
  · rw [g 19 (by omega)]; exact a19
  · rw [g 20 (by omega)]; exact a20
  · rw [f 7 (by decide) (by decide) (by decide) (by decide)]; exact p1
  · have v := hJ.2.2.1.1.1
    refine ⟨fun i hi => ?_, fun l hl hm => ?_⟩
    · have v4 := (v.2.2.2 i hi).2.2.2.2
      have v2 := v.2.1
      have q1 := e.2.2.1 (0 + i) (by omega)
      have q2 := e.2.2.1 (0 + ((sp x).2.getD i (0, 0, 0, 0, 0)).1) (by omega)
      rw [q1.1, q2.2.1, q2.2.2.1, q2.2.2.2.1, q2.2.2.2.2.1, q2.2.2.2.2.2]
      exact p2.1 i hi
    · rw [(e.2.2.1 (0 + l) (by omega)).2.1]; exact p2.2 l hl hm
  · have v := hJ.2.2.1.1.1.1
    intro t ht
    have q := e.2.2.2 (0 + t) (by omega)
    rw [q.1, q.2.1, q.2.2]; exact p3 t ht
  · intro i; rw [g 24 (by omega)]; exact r4 i
  · exact r5.to (g 21 (by omega)) rfl
def oFault (x : St) : Int32 := match rT x with
  | .error e => nI e
  | .ok _ => -4
def S_X0_fault : ma_Cs := fun as M L K => match as with
  | [.ref k] => ∃ (x : St), (k = 0 ∧ J x ∧ RX M L x) ∧ (∀ (M' : ZM), RX M' L x → K (some (.int (oFault x))) M' L)
  | _ => False
theorem ms_X0_fault : ma_ms S_X0_fault := by
  intro as M L K K' hk h
  unfold S_X0_fault at h ⊢
  split at h
  · obtain ⟨x, h⟩ := h
    exact ⟨x, h.1, fun x0 x1 => hk _ _ _ (h.2 x0 x1)⟩
  · exact h.elim
theorem un_X0_fault {k : Nat} {M : ZM} {L : ZL} {K : ma_Kt} : S_X0_fault [.ref k] M L K = (∃ (x : St), (k = 0 ∧ J x ∧ RX M L x) ∧ (∀ (M' : ZM), RX M' L x → K (some (.int (oFault x))) M' L)) := rfl
theorem pw_X0_fault {k : Nat} {x : St} {M : ZM} {L : ZL} {K : ma_Kt} (hp : k = 0 ∧ J x ∧ RX M L x) (h : (∀ (M' : ZM), RX M' L x → K (some (.int (oFault x))) M' L)) : ma_rn (tb_X0_fault S_X1_reads) 1 [.ref k] M L K := by
  refine ⟨Nat.le_of_ble_eq_true rfl, fun V hV => ?_⟩
  obtain ⟨rfl, hJ, hR⟩ := hp
  unfold oFault at h
  refine ma_walk (mo_X0_fault ms_X1_reads) hV [] (fun F hF => ?_)
  simp only [tb_X0_fault, hF, in_no, in_push, in_ild, in_lld, in_ald, in_ist, in_ast, in_lst, in_inc, in_iii, in_idv, in_ldv, in_lll, in_lli, in_lil, in_ii, in_il, in_li, in_ll, in_dup, in_dp2, q_if1, q_if2, in_go, in_sw, ma_sw, in_rv, in_ri, in_rz, in_rl, in_get, in_put, in_puz, in_iar, in_bar, in_lar, in_aar, in_iaw, in_baw, in_law, in_len, in_cpy, in_s1, in_s2, in_s3, in_v1, in_v2, in_v3, in_v4, in_v5, in_v6, ma_bk, ma_gl, ma_sl, ma_nl, ma_wc, ma_wd, ma_nn, ma_en, List.mem_cons, List.not_mem_nil, or_false, or_true, true_or, false_or, true_and, and_true, false_and, and_false, if_true, if_false, forall_const, true_implies, false_implies, not_true_eq_false, not_false_eq_true, Classical.not_not, implies_true, and_self, Nat.add_zero, Nat.zero_add, eq_self, ne_eq, reduceCtorEq, Nat.reduceLT, Nat.reduceLeDiff, Nat.reduceEqDiff, Nat.reduceSub, Nat.reduceAdd, i10, i01, im10, Int32.reduceLT, Int32.reduceLE, ↓reduceIte, reduceIte, up_r, uL_r, cp_r, Int32.toInt_toInt64, Int64.reduceToInt, Int32.reduceToInt, ↓b1_or, b1_0, b1_1, lc_lt, lc_le, lc_gt, lc_ge, lc_eq, yx_0, yx_1, yx_2, yx_3, yx_4, yx_5, yx_6, yx_7, yx_8, yx_9, yx_10, yx_11, yx_12, yx_13, yx_14, yx_15, yx_16, yx_17, yx_18, yx_19, yx_20, yx_21, yx_22, yx_23, yx_24, yx_25, yx_26, yx_27, yx_28, yx_29, yx_30, yx_31, yx_32, yx_33, yx_34, yx_35, yx_36, yx_37, yx_38, yx_39, yx_40, yx_41, yx_42, yx_43, yx_44, yx_45, yx_46, yx_47, yx_48, yx_49, yx_50, yx_51, yx_52, yx_53, yx_54, yx_55, yx_56, yx_57, yx_58, yx_59, yx_60, yx_61, yx_62, yx_63, yx_64, yx_65, yx_66, yx_67, yx_68, rx_0, rx_1, rx_2, rx_3, rx_4, rx_5, rx_6, rx_7, rx_8, rx_9, rx_10, rx_11, rx_12, rx_13, rx_14, rx_15, rx_16, rx_17, rx_18, rx_19, rx_20, rx_21, rx_22, rx_23, rx_24, rx_25, rx_26, rx_27, rx_28, rx_29, rx_30, rx_31, rx_32, rx_33, rp_0, rp_1, rp_2, rp_3, rp_4, rp_5, rp_6, rp_7, rp_8, rs_0, rs_1, rs_2, rs_3, rs_4, re_0, re_1, re_2, re_3, re_4, re_5, rr_0, rr_1, rr_2, rr_3, rr_4, rk_0, rk_1, isP3, isP11, isP46, isP58, isS25, isS28, isS31, un_X1_reads]
  try simp only [iteP, Classical.not_not, b1_0, b1_1]
  refine ⟨gT x, nat (sN x 0 5), ⟨hR.Tt hJ, hR.2.2.1.2.1⟩, fun M2 ts ls e1 e2 e3 e4 => ?_, fun M2 e e1 e2 e3 => ?_⟩
  · have e1 : rT x = .ok (ts, ls) := e1
    rw [e1] at h; exact h M2 (hR.df e2 e4)
  · have e1 : rT x = .error e := e1
    rw [e1] at h; exact h M2 (hR.df e2 e3)
theorem pv_X0_fault : ∀ as M L K, S_X0_fault as M L K → ma_rn (tb_X0_fault S_X1_reads) 1 as M L K := by
  intro as M L K h
  unfold S_X0_fault at h
  split at h
  · obtain ⟨x, h⟩ := h; exact pw_X0_fault h.1 h.2
  · exact h.elim
def S_X5_fault : ma_Cs := fun as M L K => match as with
  | [.ref k] => ∃ (x : St), (k = 0 ∧ J x ∧ RY M L x) ∧ (∀ (M' : ZM), RY M' L x → K (some (.int (oFault x))) M' L)
  | _ => False
theorem ms_X5_fault : ma_ms S_X5_fault := by
  intro as M L K K' hk h
  unfold S_X5_fault at h ⊢
  split at h
  · obtain ⟨x, h⟩ := h
    exact ⟨x, h.1, fun x0 x1 => hk _ _ _ (h.2 x0 x1)⟩
  · exact h.elim
theorem un_X5_fault {k : Nat} {M : ZM} {L : ZL} {K : ma_Kt} : S_X5_fault [.ref k] M L K = (∃ (x : St), (k = 0 ∧ J x ∧ RY M L x) ∧ (∀ (M' : ZM), RY M' L x → K (some (.int (oFault x))) M' L)) := rfl
theorem pw_X5_fault {k : Nat} {x : St} {M : ZM} {L : ZL} {K : ma_Kt} (hp : k = 0 ∧ J x ∧ RY M L x) (h : (∀ (M' : ZM), RY M' L x → K (some (.int (oFault x))) M' L)) : ma_rn (tb_X5_fault S_X5_faultOf) 1 [.ref k] M L K := by
  refine ⟨Nat.le_of_ble_eq_true rfl, fun V hV => ?_⟩
  obtain ⟨rfl, hJ, hR⟩ := hp
  unfold oFault at h
  refine ma_walk (mo_X5_fault ms_X5_faultOf) hV [] (fun F hF => ?_)
  simp only [tb_X5_fault, hF, in_no, in_push, in_ild, in_lld, in_ald, in_ist, in_ast, in_lst, in_inc, in_iii, in_idv, in_ldv, in_lll, in_lli, in_lil, in_ii, in_il, in_li, in_ll, in_dup, in_dp2, q_if1, q_if2, in_go, in_sw, ma_sw, in_rv, in_ri, in_rz, in_rl, in_get, in_put, in_puz, in_iar, in_bar, in_lar, in_aar, in_iaw, in_baw, in_law, in_len, in_cpy, in_s1, in_s2, in_s3, in_v1, in_v2, in_v3, in_v4, in_v5, in_v6, ma_bk, ma_gl, ma_sl, ma_nl, ma_wc, ma_wd, ma_nn, ma_en, List.mem_cons, List.not_mem_nil, or_false, or_true, true_or, false_or, true_and, and_true, false_and, and_false, if_true, if_false, forall_const, true_implies, false_implies, not_true_eq_false, not_false_eq_true, Classical.not_not, implies_true, and_self, Nat.add_zero, Nat.zero_add, eq_self, ne_eq, reduceCtorEq, Nat.reduceLT, Nat.reduceLeDiff, Nat.reduceEqDiff, Nat.reduceSub, Nat.reduceAdd, i10, i01, im10, Int32.reduceLT, Int32.reduceLE, ↓reduceIte, reduceIte, up_r, uL_r, cp_r, Int32.toInt_toInt64, Int64.reduceToInt, Int32.reduceToInt, ↓b1_or, b1_0, b1_1, lc_lt, lc_le, lc_gt, lc_ge, lc_eq, ym_0, ym_1, ym_2, ym_3, ym_4, ym_5, ym_6, ym_7, ym_8, ym_9, ym_10, ym_11, ym_12, ym_13, ym_14, ym_15, ym_16, ym_17, ym_18, ym_19, ym_20, ym_21, ym_22, ym_23, ym_24, ym_25, ym_26, ym_27, ym_28, ym_29, ym_30, rm__0, rm__1, rm__2, rm__3, rm__4, rm__5, rm__6, rm__7, rm__8, rm__9, rm__10, rm__11, rm__12, rm__13, rm__14, rm__15, rm__16, rm__17, rm__18, rm__19, rm__20, rm__21, rm__22, rm__23, rm__24, rm__25, rm__26, rm__27, rm__28, rm__29, rm__30, rm__31, rm__32, rm__33, rm__34, rm__35, rm__36, rm__37, rm__38, rm__39, rm__40, rm__41, rm__42, rm__43, rm__44, rm__45, un_X5_faultOf]
  try simp only [iteP, Classical.not_not, b1_0, b1_1]
  refine ⟨gT x, nat (sN x 0 5), hR.Ty hJ, fun M2 ts ls e1 e2 e3 => ?_, fun M2 e e1 e2 => ?_⟩
  · have e1 : rT x = .ok (ts, ls) := e1
    rw [e1] at h; exact h M2 (RY.rf hJ hR e2)
  · have e1 : rT x = .error e := e1
    rw [e1] at h; exact h M2 (RY.rf hJ hR e2)
theorem pv_X5_fault : ∀ as M L K, S_X5_fault as M L K → ma_rn (tb_X5_fault S_X5_faultOf) 1 as M L K := by
  intro as M L K h
  unfold S_X5_fault at h
  split at h
  · obtain ⟨x, h⟩ := h; exact pw_X5_fault h.1 h.2
  · exact h.elim
theorem trs_er {g : Nat → Nat} {n : Nat} (h7 : ∀ i, n ≤ i → g i = 0) (hn : n ≤ 160) {ds : List Nat} : ∀ (f q : Nat) (ts : List Tm) (e : Nat), q ≤ n → trs g ds f q ts = .error e → e < 1000
  | 0, q, ts, e, _, h => by cases h
  | f + 1, q, ts, e, hq, h => by
    rw [trs] at h
    split at h
    · split at h
      · next e2 z => cases h; exact tr_er h7 hq hn z
      · next q2 tm z => exact trs_er h7 hn f q2 _ e (tr_le h7 hq z).2.1 h
    · cases h
theorem ln3_er {g : Nat → Nat} {q b e : Nat} (hq : q ≤ 160) (h : ln3 g q b = .error e) : e < 1000 := by
  unfold ln3 at h
  split at h
  · split at h
    · cases h
    · cases h; omega
  · split at h
    · cases h
    · cases h; omega
theorem ln2_er {g : Nat → Nat} {n : Nat} (h7 : ∀ i, n ≤ i → g i = 0) (hn : n ≤ 160) {q e : Nat} (hq : q ≤ n) (h : ln2 g q = .error e) : e < 1000 := by
  have pos : ∀ i, g i ≠ 0 → i < n := fun i hi => Nat.lt_of_not_le fun e => hi (h7 i e)
  unfold ln2 at h
  split at h
  · next c0 =>
    have h1 := pos q (by omega)
    have h2 := nu_le h7 200 (q + 1) 0 h1
    split at h
    · exact ln3_er (by omega) h
    · cases h; omega
  · exact ln3_er (by omega) h
theorem ln_er {g : Nat → Nat} {n : Nat} (h7 : ∀ i, n ≤ i → g i = 0) (hn : n ≤ 160) {ds : List Nat} {ts : List Tm} {p e : Nat} (hp : p ≤ n) (h2 : 2 * ts.length ≤ p) (h : ln g ds ts p = .error e) : e < 1000 := by
  have pos : ∀ i, g i ≠ 0 → i < n := fun i hi => Nat.lt_of_not_le fun e => hi (h7 i e)
  unfold ln at h
  split at h
  · split at h
    · next c1 =>
      have := pos (p + 1) (by omega)
      unfold ln1 at h
      split at h
      · next e2 z => cases h; exact tr_er h7 (by omega) hn z
      · next q2 tm z =>
        have h3 := tr_le h7 (by omega) z
        generalize e2 : trs g ds 200 q2 (ts ++ [tm]) = x at h
        match x, e2, h with
        | .error e3, e2, h => cases h; exact trs_er h7 hn _ _ _ _ h3.2.1 e2
        | .ok (q3, ts3), e2, h =>
          have h4 := trs_le h7 200 q2 _ q3 ts3 h3.2.1 (by rw [len_1]; omega) e2
          unfold lnD at h
          dsimp only at h
          cases e3 : ln2 g q3 with
          | error e4 => rw [e3] at h; cases h; exact ln2_er h7 hn h4.2.1 e3
          | ok y =>
            obtain ⟨q4, b, nr⟩ := y
            rw [e3] at h; cases h
    · cases h; omega
  · cases h; omega
theorem alr_er {g : Nat → Nat} {n : Nat} (h7 : ∀ i, n ≤ i → g i = 0) (hn : n ≤ 160) : ∀ (f p : Nat) (ts : List Tm) (ls : List Ln) (e : Nat), p ≤ n → 2 * ts.length ≤ p → alr g n f p ts ls = .error e → e < 1000
  | 0, p, ts, ls, e, _, _, h => by cases h
  | f + 1, p, ts, ls, e, hp, h2, h => by
    rw [alr] at h
    split at h
    · split at h
      · next e2 z => cases h; exact ln_er h7 hn hp h2 z
      · next q ts2 r z =>
        have k1 := ln_le h7 h2 z
        exact alr_er h7 hn f q ts2 _ e k1.2.1 k1.2.2.1 h
    · cases h
theorem rT_er {x : St} (hJ : J x) {e : Nat} (h : rT x = .error e) : e < 1000 := by
  obtain ⟨b1, b2, b3, b4, b5⟩ := gT_b hJ
  exact alr_er b2 b3 200 0 [] [] e (Nat.zero_le _) (Nat.le_refl _) h
/-! plan -/
def oPlan (x : St) : Int32 × St := match rT x with
  | .error _ => (-2, x)
  | .ok (ts, ls) => (nI ls.length, (sN x, sP x, (ts, ls), sk x))
theorem J_plan {x : St} (h : J x) : J (oPlan x).2 := by
  unfold oPlan
  split
  · exact h
  · next ts ls e =>
    obtain ⟨b1, b2, b3, b4, b5⟩ := gT_b h
    exact ⟨h.1, h.2.1, rd_ok b2 b3 e, h.2.2.2⟩
def S_X0_plan : ma_Cs := fun as M L K => match as with
  | [.ref k] => ∃ (x : St), (k = 0 ∧ J x ∧ RX M L x) ∧ (∀ (M' : ZM) (L' : ZL), RX M' L' (oPlan x).2 → K (some (.int (oPlan x).1)) M' L')
  | _ => False
theorem ms_X0_plan : ma_ms S_X0_plan := by
  intro as M L K K' hk h
  unfold S_X0_plan at h ⊢
  split at h
  · obtain ⟨x, h⟩ := h
    exact ⟨x, h.1, fun x0 x1 x2 => hk _ _ _ (h.2 x0 x1 x2)⟩
  · exact h.elim
theorem un_X0_plan {k : Nat} {M : ZM} {L : ZL} {K : ma_Kt} : S_X0_plan [.ref k] M L K = (∃ (x : St), (k = 0 ∧ J x ∧ RX M L x) ∧ (∀ (M' : ZM) (L' : ZL), RX M' L' (oPlan x).2 → K (some (.int (oPlan x).1)) M' L')) := rfl
theorem pw_X0_plan {k : Nat} {x : St} {M : ZM} {L : ZL} {K : ma_Kt} (hp : k = 0 ∧ J x ∧ RX M L x) (h : (∀ (M' : ZM) (L' : ZL), RX M' L' (oPlan x).2 → K (some (.int (oPlan x).1)) M' L')) : ma_rn (tb_X0_plan S_X1_reads S_X2_copy) 1 [.ref k] M L K := by
  refine ⟨Nat.le_of_ble_eq_true rfl, fun V hV => ?_⟩
  obtain ⟨rfl, hJ, hR⟩ := hp
  unfold oPlan at h
  refine ma_walk (mo_X0_plan ms_X1_reads ms_X2_copy) hV [] (fun F hF => ?_)
  simp only [tb_X0_plan, hF, in_no, in_push, in_ild, in_lld, in_ald, in_ist, in_ast, in_lst, in_inc, in_iii, in_idv, in_ldv, in_lll, in_lli, in_lil, in_ii, in_il, in_li, in_ll, in_dup, in_dp2, q_if1, q_if2, in_go, in_sw, ma_sw, in_rv, in_ri, in_rz, in_rl, in_get, in_put, in_puz, in_iar, in_bar, in_lar, in_aar, in_iaw, in_baw, in_law, in_len, in_cpy, in_s1, in_s2, in_s3, in_v1, in_v2, in_v3, in_v4, in_v5, in_v6, ma_bk, ma_gl, ma_sl, ma_nl, ma_wc, ma_wd, ma_nn, ma_en, List.mem_cons, List.not_mem_nil, or_false, or_true, true_or, false_or, true_and, and_true, false_and, and_false, if_true, if_false, forall_const, true_implies, false_implies, not_true_eq_false, not_false_eq_true, Classical.not_not, implies_true, and_self, Nat.add_zero, Nat.zero_add, eq_self, ne_eq, reduceCtorEq, Nat.reduceLT, Nat.reduceLeDiff, Nat.reduceEqDiff, Nat.reduceSub, Nat.reduceAdd, i10, i01, im10, Int32.reduceLT, Int32.reduceLE, ↓reduceIte, reduceIte, up_r, uL_r, cp_r, Int32.toInt_toInt64, Int64.reduceToInt, Int32.reduceToInt, ↓b1_or, b1_0, b1_1, lc_lt, lc_le, lc_gt, lc_ge, lc_eq, yx_0, yx_1, yx_2, yx_3, yx_4, yx_5, yx_6, yx_7, yx_8, yx_9, yx_10, yx_11, yx_12, yx_13, yx_14, yx_15, yx_16, yx_17, yx_18, yx_19, yx_20, yx_21, yx_22, yx_23, yx_24, yx_25, yx_26, yx_27, yx_28, yx_29, yx_30, yx_31, yx_32, yx_33, yx_34, yx_35, yx_36, yx_37, yx_38, yx_39, yx_40, yx_41, yx_42, yx_43, yx_44, yx_45, yx_46, yx_47, yx_48, yx_49, yx_50, yx_51, yx_52, yx_53, yx_54, yx_55, yx_56, yx_57, yx_58, yx_59, yx_60, yx_61, yx_62, yx_63, yx_64, yx_65, yx_66, yx_67, yx_68, rx_0, rx_1, rx_2, rx_3, rx_4, rx_5, rx_6, rx_7, rx_8, rx_9, rx_10, rx_11, rx_12, rx_13, rx_14, rx_15, rx_16, rx_17, rx_18, rx_19, rx_20, rx_21, rx_22, rx_23, rx_24, rx_25, rx_26, rx_27, rx_28, rx_29, rx_30, rx_31, rx_32, rx_33, rp_0, rp_1, rp_2, rp_3, rp_4, rp_5, rp_6, rp_7, rp_8, rs_0, rs_1, rs_2, rs_3, rs_4, re_0, re_1, re_2, re_3, re_4, re_5, rr_0, rr_1, rr_2, rr_3, rr_4, rk_0, rk_1, isP3, isP11, isP46, isP58, isS25, isS28, isS31, un_X1_reads, un_X2_copy]
  try simp only [iteP, Classical.not_not, b1_0, b1_1]
  refine ⟨gT x, nat (sN x 0 5), ⟨hR.Tt hJ, hR.2.2.1.2.1⟩, fun M2 ts ls e1 e2 e3 e4 => ?_, fun M2 e e1 e2 e3 => ?_⟩
  · have e1 : rT x = .ok (ts, ls) := e1
    rw [e1] at h
    obtain ⟨b1, b2, b3, b4, b5⟩ := gT_b hJ
    have hV := rd_ok b2 b3 e1
    refine ⟨ts, ls, ⟨Or.inl ⟨rfl, rfl⟩, e3, hV.1.1.1, hV.1.1.2.1, e4⟩, fun M3 p1 p2 p3 => ?_⟩
    obtain ⟨⟨c0, c5, c6, c7, c10, c19, c20, c25, c33⟩, ⟨a19, a1, a20, a21, a22, a23, a24, a34, a37, a38, a39⟩, ⟨k1, k2, k3, k4⟩, r4⟩ := hR.df e2 e4
    have g : ∀ a, a < 11 ∨ 18 < a → M3 a = M2 a := fun a ha => p1 a (by omega)
    have q0 : M3 0 = M2 0 := g 0 (by omega)
    refine kk (h (ma_up M3 0 15 0) L ⟨⟨?_, ?_, ?_, ?_, ?_, ?_, ?_, ?_, ?_⟩, ⟨?_, ?_, ?_, ?_, ?_, ?_, ?_, a34, ?_, ?_, ?_⟩, ⟨p2.to (fun a z1 z2 => up_c (by omega)), ?_, p3, fun k hk => (k4 k hk).to (fun a z1 z2 => ?_) rfl⟩, Or.inl rfl⟩) ?_ rfl rfl
    · show M3 0 0 = _; rw [q0]; exact c0
    · show M3 0 5 = _; rw [q0]; exact c5
    · show M3 0 6 = _; rw [q0]; exact c6
    · show M3 0 7 = _; rw [q0]; exact c7
    · show M3 0 10 = _; rw [q0]; exact c10
    · show M3 0 19 = _; rw [q0]; exact c19
    · show M3 0 20 = _; rw [q0]; exact c20
    · show M3 0 25 = _; rw [q0]; exact c25
    · show M3 0 33 = _; rw [q0]; exact c33
    · rw [up_c (by decide), g 19 (by omega)]; exact a19
    · intro i; rw [up_c (by decide), g 1 (by omega)]; exact a1 i
    · rw [up_c (by decide), g 20 (by omega)]; exact a20
    · rw [up_c (by decide), g 21 (by omega)]; exact a21
    · rw [up_c (by decide), g 22 (by omega)]; exact a22
    · rw [up_c (by decide), g 23 (by omega)]; exact a23
    · rw [up_c (by decide), g 24 (by omega)]; exact a24
    · rw [up_c (by decide), g 37 (by omega)]; exact a37
    · rw [up_c (by decide), g 38 (by omega)]; exact a38
    · rw [up_c (by decide), g 39 (by omega)]; exact a39
    · rw [up_c (by decide), g 7 (by omega)]; exact k2
    · rw [up_c (by omega)]; exact g a (by omega)
    · rw [p2.1]
  · have e0 := rT_er hJ e1
    have e1 : rT x = .error e := e1
    rw [e1] at h
    refine ⟨fun z => ?_, fun _ => h M2 L (hR.df e2 e3)⟩
    have z3 : (nI e).toInt = (-4 : Int32).toInt := by rw [z]
    rw [a_ti (by omega), show (-4 : Int32).toInt = -4 from rfl] at z3; omega
theorem pv_X0_plan : ∀ as M L K, S_X0_plan as M L K → ma_rn (tb_X0_plan S_X1_reads S_X2_copy) 1 as M L K := by
  intro as M L K h
  unfold S_X0_plan at h
  split at h
  · obtain ⟨x, h⟩ := h; exact pw_X0_plan h.1 h.2
  · exact h.elim
