/-! the model's hall asked: at, marked -/
set_option maxRecDepth 100000
set_option maxHeartbeats 4000000
theorem all_b : ∀ n : Fin 13, ∀ i : Fin 12, i.val < n.val → (((1 : Int32) <<< (nI n.val &&& 31) - 1) >>> (nI i.val &&& 31)) &&& 1 = 1 := by decide +kernel
theorem no_b : ∀ i : Fin 12, ¬ ((0 : Int32) >>> (nI i.val &&& 31)) &&& 1 = 1 := by decide +kernel
/-- what the model's hall asks for; that the state stands behind it -/
theorem RY.pre {M : ZM} {L : ZL} {x : St} (hJ : J x) (hR : RY M L x) {w u e n : Nat} (h1 : sN x 0 0 = nI w) (h2 : sN x 0 1 = nI u) (h3 : sN x 0 2 = nI e) (h6 : sN x 0 19 = nI n) (hs : Sh w u e 0 0) (hn : n ≤ 12) {set : Int32} {S : Nat → Bool} (hS : ∀ i, i < n → (S i = true ↔ (set >>> (nI i &&& 31)) &&& 1 = 1)) : M 0 0 = nI w ∧ M 0 1 = nI u ∧ M 0 2 = nI e ∧ Sh w u e 0 0 ∧ M 0 19 = nI n ∧ n ≤ 12 ∧ (∀ i, i < n → (S i = true ↔ (set >>> (nI i &&& 31)) &&& 1 = 1)) ∧ (∀ i, i < n → -1000000 ≤ (M 16 i).toInt ∧ (M 16 i).toInt ≤ 1000000) ∧ Pc M (sp x).1 (sp x).2 ∧ Vq (sp x).1 (sp x).2 ∧ Vf (sp x).1 ∧ B24 M ∧ Fb (M 1) (M 12) := by
  obtain ⟨⟨c0, c1, c2, c3, c5, c19, c24, c25, c30⟩, ⟨a1, a2, a12, a13, a14, a15, a16, a17, a18, a19, a20⟩, r3, r4⟩ := hR
  refine ⟨c0.trans h1, c1.trans h2, c2.trans h3, hs, c19.trans h6, hn, hS, fun i hi => ?_, r3, hJ.2.2.1.1, hJ.2.2.1.2, r4.1, ?_⟩
  · rw [a16]; exact hJ.2.1.2.2.1 i (by omega)
  · rw [a1, a12]; exact hJ.2.1.2.1
theorem RY.behind {M M' : ZM} {L : ZL} {x : St} (hR : RY M L x) {r : Nat} (hr : isR r) (e1 : ∀ a, a ≠ 0 → a ≠ r → a ≠ 24 → M' a = M a) (e2 : ∀ j, j ≠ 35 → j ≠ 36 → M' 0 j = M 0 j) (hB : B24 M') : RY M' L x := by
  obtain ⟨⟨c0, c1, c2, c3, c5, c19, c24, c25, c30⟩, ⟨a1, a2, a12, a13, a14, a15, a16, a17, a18, a19, a20⟩, r3, r4⟩ := hR
  have g : ∀ a, a ≠ 0 → a < 22 → M' a = M a := fun a h0 ha => e1 a h0 (by rcases hr with rfl | rfl <;> omega) (by omega)
  refine ⟨⟨?_, ?_, ?_, ?_, ?_, ?_, ?_, ?_, ?_⟩, ⟨?_, ?_, ?_, ?_, ?_, ?_, ?_, a17, ?_, ?_, ?_⟩, r3.to (e2 7 (by decide) (by decide)) (fun a z1 z2 => g a (by omega) (by omega)), hB, r4.2.to (g 21 (by decide) (by decide)) rfl⟩
  · rw [e2 0 (by decide) (by decide)]; exact c0
  · rw [e2 1 (by decide) (by decide)]; exact c1
  · rw [e2 2 (by decide) (by decide)]; exact c2
  · rw [e2 3 (by decide) (by decide)]; exact c3
  · rw [e2 5 (by decide) (by decide)]; exact c5
  · rw [e2 19 (by decide) (by decide)]; exact c19
  · rw [e2 24 (by decide) (by decide)]; exact c24
  · rw [e2 25 (by decide) (by decide)]; exact c25
  · rw [e2 30 (by decide) (by decide)]; exact c30
  · rw [g 1 (by decide) (by decide)]; exact a1
  · rw [g 2 (by decide) (by decide)]; exact a2
  · rw [g 12 (by decide) (by decide)]; exact a12
  · rw [g 13 (by decide) (by decide)]; exact a13
  · rw [g 14 (by decide) (by decide)]; exact a14
  · rw [g 15 (by decide) (by decide)]; exact a15
  · rw [g 16 (by decide) (by decide)]; exact a16
  · rw [g 18 (by decide) (by decide)]; exact a18
  · rw [g 19 (by decide) (by decide)]; exact a19
  · rw [g 20 (by decide) (by decide)]; exact a20
/-- the hall's numbers in the model are the state's -/
theorem RY.val {M M' : ZM} {L : ZL} {x : St} (hR : RY M L x) {w u e n : Nat} (h1 : sN x 0 0 = nI w) (h2 : sN x 0 1 = nI u) (h3 : sN x 0 2 = nI e) (h6 : sN x 0 19 = nI n) (b0 : w < 2147483648) (b1 : u < 2147483648) (b2 : e < 2147483648) (b3 : n < 2147483648) {S : Nat → Bool} {r : Nat} (hv9 : ∀ s c l, s ≤ 12 → c < w * u → l < 4 → M' r (144 * s + 4 * c + l) = val (M 1) w u e (sp x).1 (sp x).2 (zY M S n) (f0v (M 1) (M 12) w u e) s c l ∧ M' 24 (144 * s + 4 * c + l) = vak w u e (sp x).1 (sp x).2 (f0k (M 12)) s c l) : ∀ s c l, s ≤ 12 → c < w * u → l < 4 → M' r (144 * s + 4 * c + l) = hv x S s c l ∧ M' 24 (144 * s + 4 * c + l) = hk x s c l := by
  obtain ⟨r1, ⟨a1, a2, a12, a13, a14, a15, a16, a17, a18, a19, a20⟩, r3, r4⟩ := hR
  intro s c l z1 z2 z3
  have q := hv9 s c l z1 z2 z3
  have ez : zY M S n = zY (sN x) S n := by unfold zY; rw [a13, a14, a15, a16]
  rw [a1, a12, ez] at q
  rw [hv_e h1 h2 h3 h6 b0 b1 b2 b3 S, hk_e h1 h2 h3 b0 b1 b2]
  exact q
def S_X5_at : ma_Cs := fun as M L K => match as with
  | [.ref k, .int b, .int s, .int c, .int l] => ∃ (x : St), (k = 0 ∧ J x ∧ RY M L x) ∧ (∀ (M' : ZM), RY M' L x → K (some (.int (oAt b s c l x))) M' L)
  | _ => False
theorem ms_X5_at : ma_ms S_X5_at := by
  intro as M L K K' hk h
  unfold S_X5_at at h ⊢
  split at h
  · obtain ⟨x, h⟩ := h
    exact ⟨x, h.1, fun x0 x1 => hk _ _ _ (h.2 x0 x1)⟩
  · exact h.elim
theorem un_X5_at {k : Nat} {b : Int32} {s : Int32} {c : Int32} {l : Int32} {M : ZM} {L : ZL} {K : ma_Kt} : S_X5_at [.ref k, .int b, .int s, .int c, .int l] M L K = (∃ (x : St), (k = 0 ∧ J x ∧ RY M L x) ∧ (∀ (M' : ZM), RY M' L x → K (some (.int (oAt b s c l x))) M' L)) := rfl
theorem pw_X5_at {k : Nat} {b : Int32} {s : Int32} {c : Int32} {l : Int32} {x : St} {M : ZM} {L : ZL} {K : ma_Kt} (hp : k = 0 ∧ J x ∧ RY M L x) (h : (∀ (M' : ZM), RY M' L x → K (some (.int (oAt b s c l x))) M' L)) : ma_rn (tb_X5_at S_X5_isPlace S_X5_all S_X5_hall S_X5_place) 5 [.ref k, .int b, .int s, .int c, .int l] M L K := by
  refine ⟨Nat.le_of_ble_eq_true rfl, fun V hV => ?_⟩
  obtain ⟨rfl, hJ, hR⟩ := hp
  have c0 := hR.1.1
  have c1 := hR.1.2.1
  have c19 := hR.1.2.2.2.2.2.1
  obtain ⟨⟨w, u, e, wk, n, ns, a', b', km, h1, h2, h3, h4, h5, h6, h7, h8, h9, g1, g2, g3, g4, g5, g6, g7, g8, g9, f1, f2⟩, ja, jp, jk⟩ := id hJ
  have hq := wu_ti g1 g2 g3 g4
  have hs : Sh w u e 0 0 := ⟨by omega, by omega, by omega, by omega, g5, by omega, by omega⟩
  unfold oAt at h
  have go : cPl s c l x → ∀ S, (if b = 0 then sAll else sNo) = S → ∀ M2 : ZM, (∀ a, a ≠ 0 → a ≠ 22 → a ≠ 24 → M2 a = M a) → (∀ j, j ≠ 35 → j ≠ 36 → M2 0 j = M 0 j) → (∀ s c l, s ≤ 12 → c < w * u → l < 4 → M2 22 (144 * s + 4 * c + l) = val (M 1) w u e (sp x).1 (sp x).2 (zY M S ns) (f0v (M 1) (M 12) w u e) s c l ∧ M2 24 (144 * s + 4 * c + l) = vak w u e (sp x).1 (sp x).2 (f0k (M 12)) s c l) → B24 M2 → vp_in (144 * s + 4 * c + l) 1872 ∧ K (some (.int (M2 22 (144 * s + 4 * c + l).toNatClampNeg))) M2 L := by
    intro z S hS M2 p1 p2 p3 p4
    rw [if_pos z, hS] at h
    obtain ⟨e1, e2, e3, e4, e5, e6, e7⟩ := cPl.n hJ z
    have e5' : nat c < w * u := by
      unfold nat at e5 ⊢
      rw [h1, h2, a_cl (by omega), a_cl (by omega)] at e5; exact e5
    have q := hR.val h1 h2 h3 h6 (by omega) (by omega) (by omega) (by omega) p3 (nat s) (nat c) (nat l) e4 e5' e7
    have e0 : 144 * s + 4 * c + l = nI (144 * nat s + 4 * nat c + nat l) := by
      have := pl_e (nat s) (nat c) (nat l)
      rw [← e1, ← e2, ← e3] at this; exact this
    rw [e0, a_cl (by omega), a_vi (by omega), q.1]
    exact ⟨by omega, h M2 (hR.behind (Or.inl rfl) p1 p2 p4)⟩
  refine ma_walk (mo_X5_at ms_X5_isPlace ms_X5_all ms_X5_hall ms_X5_place) hV [] (fun F hF => ?_)
  simp only [tb_X5_at, hF, in_no, in_push, in_ild, in_lld, in_ald, in_ist, in_ast, in_lst, in_inc, in_iii, in_idv, in_ldv, in_lll, in_lli, in_lil, in_ii, in_il, in_li, in_ll, in_dup, in_dp2, q_if1, q_if2, in_go, in_sw, ma_sw, in_rv, in_ri, in_rz, in_rl, in_get, in_put, in_puz, in_iar, in_bar, in_lar, in_aar, in_iaw, in_baw, in_law, in_len, in_cpy, in_s1, in_s2, in_s3, in_v1, in_v2, in_v3, in_v4, in_v5, in_v6, ma_bk, ma_gl, ma_sl, ma_nl, ma_wc, ma_wd, ma_nn, ma_en, List.mem_cons, List.not_mem_nil, or_false, or_true, true_or, false_or, true_and, and_true, false_and, and_false, if_true, if_false, forall_const, true_implies, false_implies, not_true_eq_false, not_false_eq_true, Classical.not_not, implies_true, and_self, Nat.add_zero, Nat.zero_add, eq_self, ne_eq, reduceCtorEq, Nat.reduceLT, Nat.reduceLeDiff, Nat.reduceEqDiff, Nat.reduceSub, Nat.reduceAdd, i10, i01, im10, Int32.reduceLT, Int32.reduceLE, ↓reduceIte, reduceIte, up_r, uL_r, cp_r, Int32.toInt_toInt64, Int64.reduceToInt, Int32.reduceToInt, ↓b1_or, b1_0, b1_1, lc_lt, lc_le, lc_gt, lc_ge, lc_eq, ym_0, ym_1, ym_2, ym_3, ym_4, ym_5, ym_6, ym_7, ym_8, ym_9, ym_10, ym_11, ym_12, ym_13, ym_14, ym_15, ym_16, ym_17, ym_18, ym_19, ym_20, ym_21, ym_22, ym_23, ym_24, ym_25, ym_26, ym_27, ym_28, ym_29, ym_30, rm__0, rm__1, rm__2, rm__3, rm__4, rm__5, rm__6, rm__7, rm__8, rm__9, rm__10, rm__11, rm__12, rm__13, rm__14, rm__15, rm__16, rm__17, rm__18, rm__19, rm__20, rm__21, rm__22, rm__23, rm__24, rm__25, rm__26, rm__27, rm__28, rm__29, rm__30, rm__31, rm__32, rm__33, rm__34, rm__35, rm__36, rm__37, rm__38, rm__39, rm__40, rm__41, rm__42, rm__43, rm__44, rm__45, un_X5_isPlace, un_X5_all, un_X5_hall, un_X5_place, c0, c1, c19]
  try simp only [iteP, Classical.not_not, b1_0, b1_1]
  refine ⟨fun z => ?_, fun z => ⟨fun y => ?_, fun y => ?_⟩⟩
  · rw [if_neg z] at h; exact h M hR
  · refine ⟨w, u, e, ns, sAll, (sp x).1, (sp x).2, ⟨Or.inl rfl, ?_⟩, fun M2 p1 p2 p3 p4 p5 => go z sAll (if_pos y) M2 p1 p2 p3 p4⟩
    have q := hR.pre hJ h1 h2 h3 h6 hs g8 (set := (1 : Int32) <<< (sN x 0 19 &&& 31) - 1) (S := sAll) (fun i hi => ⟨fun _ => by rw [h6]; exact all_b ⟨ns, by omega⟩ ⟨i, by omega⟩ hi, fun _ => rfl⟩)
    rw [c0, c1, c19] at q
    exact q
  · refine ⟨w, u, e, ns, sNo, (sp x).1, (sp x).2, ⟨Or.inl rfl, ?_⟩, fun M2 p1 p2 p3 p4 p5 => go z sNo (if_neg y) M2 p1 p2 p3 p4⟩
    have q := hR.pre hJ h1 h2 h3 h6 hs g8 (set := 0) (S := sNo) (fun i hi => ⟨fun z => (by cases z), fun z => absurd z (no_b ⟨i, by omega⟩)⟩)
    rw [c0, c1, c19] at q
    exact q
theorem pv_X5_at : ∀ as M L K, S_X5_at as M L K → ma_rn (tb_X5_at S_X5_isPlace S_X5_all S_X5_hall S_X5_place) 5 as M L K := by
  intro as M L K h
  unfold S_X5_at at h
  split at h
  · obtain ⟨x, h⟩ := h; exact pw_X5_at h.1 h.2
  · exact h.elim
def S_X5_marked : ma_Cs := fun as M L K => match as with
  | [.ref k, .int s, .int c, .int l] => ∃ (x : St), (k = 0 ∧ J x ∧ RY M L x) ∧ (∀ (M' : ZM), RY M' L x → K (some (.int (oMarked s c l x))) M' L)
  | _ => False
theorem ms_X5_marked : ma_ms S_X5_marked := by
  intro as M L K K' hk h
  unfold S_X5_marked at h ⊢
  split at h
  · obtain ⟨x, h⟩ := h
    exact ⟨x, h.1, fun x0 x1 => hk _ _ _ (h.2 x0 x1)⟩
  · exact h.elim
theorem un_X5_marked {k : Nat} {s : Int32} {c : Int32} {l : Int32} {M : ZM} {L : ZL} {K : ma_Kt} : S_X5_marked [.ref k, .int s, .int c, .int l] M L K = (∃ (x : St), (k = 0 ∧ J x ∧ RY M L x) ∧ (∀ (M' : ZM), RY M' L x → K (some (.int (oMarked s c l x))) M' L)) := rfl
theorem pw_X5_marked {k : Nat} {s : Int32} {c : Int32} {l : Int32} {x : St} {M : ZM} {L : ZL} {K : ma_Kt} (hp : k = 0 ∧ J x ∧ RY M L x) (h : (∀ (M' : ZM), RY M' L x → K (some (.int (oMarked s c l x))) M' L)) : ma_rn (tb_X5_marked S_X5_isPlace S_X5_all S_X5_hall S_X5_place) 4 [.ref k, .int s, .int c, .int l] M L K := by
  refine ⟨Nat.le_of_ble_eq_true rfl, fun V hV => ?_⟩
  obtain ⟨rfl, hJ, hR⟩ := hp
  have c0 := hR.1.1
  have c1 := hR.1.2.1
  have c19 := hR.1.2.2.2.2.2.1
  obtain ⟨⟨w, u, e, wk, n, ns, a', b', km, h1, h2, h3, h4, h5, h6, h7, h8, h9, g1, g2, g3, g4, g5, g6, g7, g8, g9, f1, f2⟩, ja, jp, jk⟩ := id hJ
  have hq := wu_ti g1 g2 g3 g4
  have hs : Sh w u e 0 0 := ⟨by omega, by omega, by omega, by omega, g5, by omega, by omega⟩
  unfold oMarked at h
  refine ma_walk (mo_X5_marked ms_X5_isPlace ms_X5_all ms_X5_hall ms_X5_place) hV [] (fun F hF => ?_)
  simp only [tb_X5_marked, hF, in_no, in_push, in_ild, in_lld, in_ald, in_ist, in_ast, in_lst, in_inc, in_iii, in_idv, in_ldv, in_lll, in_lli, in_lil, in_ii, in_il, in_li, in_ll, in_dup, in_dp2, q_if1, q_if2, in_go, in_sw, ma_sw, in_rv, in_ri, in_rz, in_rl, in_get, in_put, in_puz, in_iar, in_bar, in_lar, in_aar, in_iaw, in_baw, in_law, in_len, in_cpy, in_s1, in_s2, in_s3, in_v1, in_v2, in_v3, in_v4, in_v5, in_v6, ma_bk, ma_gl, ma_sl, ma_nl, ma_wc, ma_wd, ma_nn, ma_en, List.mem_cons, List.not_mem_nil, or_false, or_true, true_or, false_or, true_and, and_true, false_and, and_false, if_true, if_false, forall_const, true_implies, false_implies, not_true_eq_false, not_false_eq_true, Classical.not_not, implies_true, and_self, Nat.add_zero, Nat.zero_add, eq_self, ne_eq, reduceCtorEq, Nat.reduceLT, Nat.reduceLeDiff, Nat.reduceEqDiff, Nat.reduceSub, Nat.reduceAdd, i10, i01, im10, Int32.reduceLT, Int32.reduceLE, ↓reduceIte, reduceIte, up_r, uL_r, cp_r, Int32.toInt_toInt64, Int64.reduceToInt, Int32.reduceToInt, ↓b1_or, b1_0, b1_1, lc_lt, lc_le, lc_gt, lc_ge, lc_eq, ym_0, ym_1, ym_2, ym_3, ym_4, ym_5, ym_6, ym_7, ym_8, ym_9, ym_10, ym_11, ym_12, ym_13, ym_14, ym_15, ym_16, ym_17, ym_18, ym_19, ym_20, ym_21, ym_22, ym_23, ym_24, ym_25, ym_26, ym_27, ym_28, ym_29, ym_30, rm__0, rm__1, rm__2, rm__3, rm__4, rm__5, rm__6, rm__7, rm__8, rm__9, rm__10, rm__11, rm__12, rm__13, rm__14, rm__15, rm__16, rm__17, rm__18, rm__19, rm__20, rm__21, rm__22, rm__23, rm__24, rm__25, rm__26, rm__27, rm__28, rm__29, rm__30, rm__31, rm__32, rm__33, rm__34, rm__35, rm__36, rm__37, rm__38, rm__39, rm__40, rm__41, rm__42, rm__43, rm__44, rm__45, un_X5_isPlace, un_X5_all, un_X5_hall, un_X5_place, c0, c1, c19]
  try simp only [iteP, Classical.not_not, b1_0, b1_1]
  refine ⟨fun z => ?_, fun z => ⟨w, u, e, ns, sAll, (sp x).1, (sp x).2, ⟨Or.inl rfl, ?_⟩, fun M2 p1 p2 p3 p4 p5 => ?_⟩⟩
  · rw [if_neg z] at h; exact h M hR
  · have q := hR.pre hJ h1 h2 h3 h6 hs g8 (set := (1 : Int32) <<< (sN x 0 19 &&& 31) - 1) (S := sAll) (fun i hi => ⟨fun _ => by rw [h6]; exact all_b ⟨ns, by omega⟩ ⟨i, by omega⟩ hi, fun _ => rfl⟩)
    rw [c0, c1, c19] at q
    exact q
  · rw [if_pos z] at h
    obtain ⟨e1, e2, e3, e4, e5, e6, e7⟩ := cPl.n hJ z
    have e5' : nat c < w * u := by
      unfold nat at e5 ⊢
      rw [h1, h2, a_cl (by omega), a_cl (by omega)] at e5; exact e5
    have q := hR.val h1 h2 h3 h6 (by omega) (by omega) (by omega) (by omega) p3 (nat s) (nat c) (nat l) e4 e5' e7
    have e0 : 144 * s + 4 * c + l = nI (144 * nat s + 4 * nat c + nat l) := by
      have := pl_e (nat s) (nat c) (nat l)
      rw [← e1, ← e2, ← e3] at this; exact this
    rw [e0, a_cl (by omega), a_vi (by omega), q.2]
    refine ⟨by omega, fun y => ?_, fun y => ?_⟩
    · rw [if_pos y] at h; exact h M2 (hR.behind (Or.inl rfl) p1 p2 p4)
    · rw [if_neg y] at h; exact h M2 (hR.behind (Or.inl rfl) p1 p2 p4)
theorem pv_X5_marked : ∀ as M L K, S_X5_marked as M L K → ma_rn (tb_X5_marked S_X5_isPlace S_X5_all S_X5_hall S_X5_place) 4 as M L K := by
  intro as M L K h
  unfold S_X5_marked at h
  split at h
  · obtain ⟨x, h⟩ := h; exact pw_X5_marked h.1 h.2
  · exact h.elim
