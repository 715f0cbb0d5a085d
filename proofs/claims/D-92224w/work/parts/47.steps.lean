/-! all steps of a sky (the model) -/
set_option maxRecDepth 100000
set_option maxHeartbeats 4000000
def zY (M : ZM) (S : Nat → Bool) (n : Nat) (s c l : Nat) (v : Int32) : Int32 := sl (M 13) (M 14) (M 15) (M 16) S s c l n 0 v
def S_X5_steps : ma_Cs := fun as M L K => match as with
  | [.ref k, .ref r, .int set] => ∃ (w : Nat) (u : Nat) (e : Nat) (n : Nat) (S : Nat → Bool) (ts : List Tm) (ls : List Ln) (r0 : Nat → Nat → Int32) (k0 : Nat → Nat → Int32), (k = 0 ∧ isR r ∧ M 0 35 = nI w ∧ M 0 36 = nI u ∧ M 0 2 = nI e ∧ Sh w u e 0 0 ∧ M 0 19 = nI n ∧ n ≤ 12 ∧ (∀ i, i < n → (S i = true ↔ (set >>> (nI i &&& 31)) &&& 1 = 1)) ∧ (∀ i, i < n → -1000000 ≤ (M 16 i).toInt ∧ (M 16 i).toInt ≤ 1000000) ∧ Pc M ts ls ∧ Vq ts ls ∧ Vf ts ∧ B24 M ∧ (∀ c l, c < w * u → l < 4 → M r (4 * c + l) = r0 c l ∧ M 24 (4 * c + l) = k0 c l ∧ bd (r0 c l))) ∧ (∀ (M' : ZM), (∀ a, a ≠ r → a ≠ 24 → M' a = M a) → (∀ s c l, s ≤ 12 → c < w * u → l < 4 → M' r (144 * s + 4 * c + l) = val (M 1) w u e ts ls (zY M S n) r0 s c l ∧ M' 24 (144 * s + 4 * c + l) = vak w u e ts ls k0 s c l) → B24 M' → K none M' L)
  | _ => False
theorem ms_X5_steps : ma_ms S_X5_steps := by
  intro as M L K K' hk h
  unfold S_X5_steps at h ⊢
  split at h
  · obtain ⟨w, u, e, n, S, ts, ls, r0, k0, h⟩ := h
    exact ⟨w, u, e, n, S, ts, ls, r0, k0, h.1, fun x0 x1 x2 x3 => hk _ _ _ (h.2 x0 x1 x2 x3)⟩
  · exact h.elim
theorem un_X5_steps {k : Nat} {r : Nat} {set : Int32} {M : ZM} {L : ZL} {K : ma_Kt} : S_X5_steps [.ref k, .ref r, .int set] M L K = (∃ (w : Nat) (u : Nat) (e : Nat) (n : Nat) (S : Nat → Bool) (ts : List Tm) (ls : List Ln) (r0 : Nat → Nat → Int32) (k0 : Nat → Nat → Int32), (k = 0 ∧ isR r ∧ M 0 35 = nI w ∧ M 0 36 = nI u ∧ M 0 2 = nI e ∧ Sh w u e 0 0 ∧ M 0 19 = nI n ∧ n ≤ 12 ∧ (∀ i, i < n → (S i = true ↔ (set >>> (nI i &&& 31)) &&& 1 = 1)) ∧ (∀ i, i < n → -1000000 ≤ (M 16 i).toInt ∧ (M 16 i).toInt ≤ 1000000) ∧ Pc M ts ls ∧ Vq ts ls ∧ Vf ts ∧ B24 M ∧ (∀ c l, c < w * u → l < 4 → M r (4 * c + l) = r0 c l ∧ M 24 (4 * c + l) = k0 c l ∧ bd (r0 c l))) ∧ (∀ (M' : ZM), (∀ a, a ≠ r → a ≠ 24 → M' a = M a) → (∀ s c l, s ≤ 12 → c < w * u → l < 4 → M' r (144 * s + 4 * c + l) = val (M 1) w u e ts ls (zY M S n) r0 s c l ∧ M' 24 (144 * s + 4 * c + l) = vak w u e ts ls k0 s c l) → B24 M' → K none M' L)) := rfl
theorem pw_X5_steps {k : Nat} {r : Nat} {set : Int32} {w : Nat} {u : Nat} {e : Nat} {n : Nat} {S : Nat → Bool} {ts : List Tm} {ls : List Ln} {r0 : Nat → Nat → Int32} {k0 : Nat → Nat → Int32} {M : ZM} {L : ZL} {K : ma_Kt} (hp : k = 0 ∧ isR r ∧ M 0 35 = nI w ∧ M 0 36 = nI u ∧ M 0 2 = nI e ∧ Sh w u e 0 0 ∧ M 0 19 = nI n ∧ n ≤ 12 ∧ (∀ i, i < n → (S i = true ↔ (set >>> (nI i &&& 31)) &&& 1 = 1)) ∧ (∀ i, i < n → -1000000 ≤ (M 16 i).toInt ∧ (M 16 i).toInt ≤ 1000000) ∧ Pc M ts ls ∧ Vq ts ls ∧ Vf ts ∧ B24 M ∧ (∀ c l, c < w * u → l < 4 → M r (4 * c + l) = r0 c l ∧ M 24 (4 * c + l) = k0 c l ∧ bd (r0 c l))) (h : (∀ (M' : ZM), (∀ a, a ≠ r → a ≠ 24 → M' a = M a) → (∀ s c l, s ≤ 12 → c < w * u → l < 4 → M' r (144 * s + 4 * c + l) = val (M 1) w u e ts ls (zY M S n) r0 s c l ∧ M' 24 (144 * s + 4 * c + l) = vak w u e ts ls k0 s c l) → B24 M' → K none M' L)) : ma_rn (tb_X5_steps S_X5_place S_X5_made S_X5_slipped S_X5_madeMarked) 8 [.ref k, .ref r, .int set] M L K := by
  refine ⟨Nat.le_of_ble_eq_true rfl, fun V hV => ?_⟩
  obtain ⟨rfl, hR, m0, m1, m2, hs, m3, hn, hw, ha, hP, hQ, hVf, hB, hr⟩ := hp
  have yr := hR.y
  obtain ⟨s1, s2, s3, s4, s5, s6, s7⟩ := id hs
  have h36 := Nat.mul_le_mul (Nat.le_of_lt_succ s2) (Nat.le_of_lt_succ s4)
  have hr24 : r ≠ 24 := by rcases hR with rfl | rfl <;> decide
  have hk1 : ∀ a, a < 22 → a ≠ r ∧ a ≠ 24 := fun a ha => by rcases hR with rfl | rfl <;> omega
  have l4 := hQ.1.2.1
  have hvb : ∀ s c l, c < w * u → l < 4 → bd (val (M 1) w u e ts ls (zY M S n) r0 s c l) := fun s c l h1 h2 => val_b hQ.1 hVf (fun s c l v h => sl_b _ _ _ h) (hr c l h1 h2).2.2 s
  generalize hvv : val (M 1) w u e ts ls (zY M S n) r0 = vv at *
  generalize hkk : vak w u e ts ls k0 = kk at *
  have hwu : nI w * nI u = nI (w * u) := pk_mul w u
  have fr : ∀ M1 : ZM, (∀ a, a ≠ r → a ≠ 24 → M1 a = M a) → Pc M1 ts ls ∧ M1 0 = M 0 ∧ M1 1 = M 1 ∧ M1 13 = M 13 ∧ M1 14 = M 14 ∧ M1 15 = M 15 ∧ M1 16 = M 16 := by
    intro M1 h1
    have g : ∀ a, a < 22 → M1 a = M a := fun a ha => h1 a (hk1 a ha).1 (hk1 a ha).2
    refine ⟨?_, g 0 (by decide), g 1 (by decide), g 13 (by decide), g 14 (by decide), g 15 (by decide), g 16 (by decide)⟩
    unfold Pc YL YT
    rw [g 0 (by decide), g 3 (by decide), g 4 (by decide), g 5 (by decide), g 6 (by decide), g 7 (by decide), g 8 (by decide), g 9 (by decide), g 10 (by decide), g 11 (by decide)]
    exact hP
  have hcl : ∀ (s c : Nat), s < 12 → c < w * u → ∀ (j l : Nat) (M1 : ZM) (D : Nat → Prop) (o6 o7 : Option Value), j < 8 → l < 4 → (∀ a, a ≠ r → a ≠ 24 → M1 a = M a) → B24 M1 → Gd vv kk (M1 r) (M1 24) (w * u) (s + 1) c D → (∀ i, i < ls.length → (lnA ls i).1 = l → ∀ i', i' < i → D (lnA ls i').1) →
      (∀ (M2 : ZM) (o6 o7 : Option Value), (∀ a, a ≠ r → a ≠ 24 → M2 a = M a) → B24 M2 → Gd vv kk (M2 r) (M2 24) (w * u) (s + 1) c (fun l' => D l' ∨ l' = l) → V 28 [some (.ref 0), some (.ref r), some (.int set), some (.int (nI (s + 1))), some (.int (nI c)), some (.int (nI (j + 1))), o6, o7] [] M2 L) →
      V 84 [some (.ref 0), some (.ref r), some (.int set), some (.int (nI (s + 1))), some (.int (nI c)), some (.int (nI j)), o6, o7] [.int (nI l)] M1 L := by
    intro s c e1 e2 j l M1 D o6 o7 hj hl e3 e5 e4 hD H
    obtain ⟨f0, f1, f2, f3, f4, f5, f6⟩ := fr M1 e3
    have nl : ¬ nI l < 0 := nI_pos (by omega)
    have hSy : Sy M1 w u e c (s + 1) := ⟨by rw [f1]; exact m0, by rw [f1]; exact m1, by rw [f1]; exact m2, ⟨s1, s2, s3, s4, s5, e2, by omega⟩, by omega⟩
    have a1 : ∀ c l, c < w * u → l < 4 → rwv (M1 r) (s + 1 - 1) c l = vv s c l ∧ rwv (M1 24) (s + 1 - 1) c l = kk s c l := fun c' l h1 h2 => e4 s c' l h2 h1 (Or.inl (by omega))
    have vp : vp_in (nI (144 * (s + 1) + 4 * c + l)) 1872 := vp_in_nI (by omega) (by decide)
    have cp := a_cl (show 144 * (s + 1) + 4 * c + l < 2147483648 by omega)
    have fin : ∀ x y, x = vv (s + 1) c l → y = kk (s + 1) c l → (y = 0 ∨ y = 1) → V 28 [some (.ref 0), some (.ref r), some (.int set), some (.int (nI (s + 1))), some (.int (nI c)), some (.int (nI (j + 1))), some (.int (nI l)), some (.int (nI (144 * (s + 1) + 4 * c + l)))] [] (ma_up (ma_up M1 r (144 * (s + 1) + 4 * c + l) x) 24 (144 * (s + 1) + 4 * c + l) y) L := by
      intro x y hx hy hk
      refine H _ _ _ (fun a z1 z2 => by rw [up_c z2, up_c z1]; exact e3 a z1 z2) (fun i => ?_) ?_
      · rw [ma_up_at, up_c hr24.symm]
        by_cases z : i = 144 * (s + 1) + 4 * c + l
        · rw [z, pk_us]; exact hk
        · rw [pk_un z]; exact e5 i
      · rw [up_c hr24, ma_up_at, ma_up_at, up_c hr24.symm]
        exact e4.put h36 e2 hl hx hy
    have f24 : ∀ x, ma_up M1 r (144 * (s + 1) + 4 * c + l) x 24 = M1 24 := fun x => up_c hr24.symm
    have fM2 : ∀ x, Sy (ma_up M1 r (144 * (s + 1) + 4 * c + l) x) w u e c (s + 1) ∧ Pc (ma_up M1 r (144 * (s + 1) + 4 * c + l) x) ts ls ∧ B24 (ma_up M1 r (144 * (s + 1) + 4 * c + l) x) := by
      intro x
      obtain ⟨g0, g1, g2, g3, g4, g5, g6⟩ := fr (ma_up M1 r (144 * (s + 1) + 4 * c + l) x) (fun a z1 z2 => by rw [up_c z1]; exact e3 a z1 z2)
      exact ⟨⟨by rw [g1]; exact m0, by rw [g1]; exact m1, by rw [g1]; exact m2, ⟨s1, s2, s3, s4, s5, e2, by omega⟩, by omega⟩, g0, fun i => by rw [f24]; exact e5 i⟩
    refine ma_walk (mo_X5_steps ms_X5_place ms_X5_made ms_X5_slipped ms_X5_madeMarked) hV [2, 11, 28] (fun F hF => ?_)
    simp only [tb_X5_steps, hF, in_no, in_push, in_ild, in_lld, in_ald, in_ist, in_ast, in_lst, in_inc, in_iii, in_idv, in_ldv, in_lll, in_lli, in_lil, in_ii, in_il, in_li, in_ll, in_dup, in_dp2, q_if1, q_if2, in_go, in_sw, ma_sw, in_rv, in_ri, in_rz, in_rl, in_get, in_put, in_puz, in_iar, in_bar, in_lar, in_aar, in_iaw, in_baw, in_law, in_len, in_cpy, in_s1, in_s2, in_s3, in_v1, in_v2, in_v3, in_v4, in_v5, in_v6, ma_bk, ma_gl, ma_sl, ma_nl, ma_wc, ma_wd, ma_nn, ma_en, List.mem_cons, List.not_mem_nil, or_false, or_true, true_or, false_or, true_and, and_true, false_and, and_false, if_true, if_false, forall_const, true_implies, false_implies, not_true_eq_false, not_false_eq_true, Classical.not_not, implies_true, and_self, Nat.add_zero, Nat.zero_add, eq_self, ne_eq, reduceCtorEq, Nat.reduceLT, Nat.reduceLeDiff, Nat.reduceEqDiff, Nat.reduceSub, Nat.reduceAdd, i10, i01, im10, Int32.reduceLT, Int32.reduceLE, ↓reduceIte, reduceIte, up_r, uL_r, cp_r, Int32.toInt_toInt64, Int64.reduceToInt, Int32.reduceToInt, ↓b1_or, b1_0, b1_1, lc_lt, lc_le, lc_gt, lc_ge, lc_eq, ym_0, ym_1, ym_2, ym_3, ym_4, ym_5, ym_6, ym_7, ym_8, ym_9, ym_10, ym_11, ym_12, ym_13, ym_14, ym_15, ym_16, ym_17, ym_18, ym_19, ym_20, ym_21, ym_22, ym_23, ym_24, ym_25, ym_26, ym_27, ym_28, ym_29, ym_30, rm__0, rm__1, rm__2, rm__3, rm__4, rm__5, rm__6, rm__7, rm__8, rm__9, rm__10, rm__11, rm__12, rm__13, rm__14, rm__15, rm__16, rm__17, rm__18, rm__19, rm__20, rm__21, rm__22, rm__23, rm__24, rm__25, rm__26, rm__27, rm__28, rm__29, rm__30, rm__31, rm__32, rm__33, rm__34, rm__35, rm__36, rm__37, rm__38, rm__39, rm__40, rm__41, rm__42, rm__43, rm__44, rm__45, un_X5_place, un_X5_made, un_X5_slipped, un_X5_madeMarked, yr, nl, pl_e, nI_1, vp, cp]
    try simp only [iteP, Classical.not_not, b1_0, b1_1]
    refine ⟨w, u, e, c, s + 1, l, ts, ls, ⟨hR, hSy, by omega, rfl, rfl, rfl, hl, f0, hQ.1, hVf⟩, fun hno => ?_, fun i hi hil => ?_⟩
    · refine ⟨s + 1, c, l, n, S, ⟨rfl, rfl, rfl, by rw [f1]; exact m3, hn, hw, by rw [f6]; exact ha, by rw [(a1 c l e2 hl).1]; exact hvb s c l e2 hl⟩, ?_⟩
      have x1 : sl (M1 13) (M1 14) (M1 15) (M1 16) S (s + 1) c l n 0 (rwv (M1 r) (s + 1 - 1) c l) = vv (s + 1) c l := by
        rw [(a1 c l e2 hl).1, f3, f4, f5, f6, ← hvv]
        exact (nwv_no (Z := zY M S n) ls.length (fun i hi q => hno ⟨i, hi, q⟩)).symm
      rw [x1]
      refine ⟨w, u, e, c, s + 1, l, ts, ls, ⟨(fM2 _).1, by omega, rfl, rfl, rfl, hl, (fM2 _).2.1, hQ.1, (fM2 _).2.2⟩, fun _ => ?_, fun i hi hil => absurd ⟨i, hi, hil⟩ hno⟩
      rw [f24]
      have x2 : rwv (M1 24) (s + 1 - 1) c l = kk (s + 1) c l := by
        rw [(a1 c l e2 hl).2, ← hkk]
        exact (nwk_no ls.length (fun i hi q => hno ⟨i, hi, q⟩)).symm
      exact ⟨e5 _, fin _ _ rfl x2 (e5 _)⟩
    · have a2 : ∀ i', i' < i → rwv (M1 r) (s + 1) c (lnA ls i').1 = vv (s + 1) c (lnA ls i').1 ∧ rwv (M1 24) (s + 1) c (lnA ls i').1 = kk (s + 1) c (lnA ls i').1 := fun i' hi' => e4 (s + 1) c _ (hQ.1.2.2.2 i' (by omega)).2.2.2.2 e2 (Or.inr (Or.inr ⟨rfl, rfl, hD i hi hil i' hi'⟩))
      have hq4 := hQ.1.2.2.2 i hi
      refine ⟨s + 1, c, l, n, S, ⟨rfl, rfl, rfl, by rw [f1]; exact m3, hn, hw, by rw [f6]; exact ha, mdv_b hVf hq4.1 hQ.1.1 hq4.2.1 hq4.2.2.1⟩, ?_⟩
      have x1 : sl (M1 13) (M1 14) (M1 15) (M1 16) S (s + 1) c l n 0 (mdv (nv (M1 1) w u e (rwv (M1 r) (s + 1 - 1)) (rwv (M1 r) (s + 1) c) c) ts (lnA ls i)) = vv (s + 1) c l := by
        rw [f2, f3, f4, f5, f6, ← hvv, ← hil]
        exact val_ln (Z := zY M S n) hQ s2 s4 e2 hi (fun c' l h1 h2 => by rw [hvv]; exact (a1 c' l h1 h2).1) (fun i' hi' => by rw [(a2 i' hi').1, ← hvv]; rfl)
      rw [x1]
      refine ⟨w, u, e, c, s + 1, l, ts, ls, ⟨(fM2 _).1, by omega, rfl, rfl, rfl, hl, (fM2 _).2.1, hQ.1, (fM2 _).2.2⟩, fun hno => absurd ⟨i, hi, hil⟩ hno, fun i2 hi2 hil2 => ?_⟩
      have hii : i2 = i := hQ.2.1 i2 i hi2 hi (by rw [hil, hil2])
      subst hii
      rw [f24]
      have x2 : b1 (mkl (nk w u e (rwv (M1 24) (s + 1 - 1)) (rwv (M1 24) (s + 1) c) c) ts (lnA ls i2).2.1 (lnA ls i2).2.2.1) = kk (s + 1) c l := by
        rw [← hkk, ← hil]
        exact vak_ln hQ s2 s4 e2 hi (fun c' l h1 h2 => by rw [hkk]; exact (a1 c' l h1 h2).2) (fun i' hi' => by rw [(a2 i' hi').2, ← hkk]; rfl)
      exact fin _ _ rfl x2 (of_eq_true b1_or)
  have v2 : ∀ (s c : Nat), s < 12 → c < w * u → (∀ (M1 : ZM) (o5 o6 o7 : Option Value), (∀ a, a ≠ r → a ≠ 24 → M1 a = M a) → B24 M1 → Gd vv kk (M1 r) (M1 24) (w * u) (s + 1) (c + 1) (fun _ => False) → V 11 [some (.ref 0), some (.ref r), some (.int set), some (.int (nI (s + 1))), some (.int (nI (c + 1))), o5, o6, o7] [] M1 L) →
      ∀ j, j ≤ 8 → ∀ (M1 : ZM) (o6 o7 : Option Value), (∀ a, a ≠ r → a ≠ 24 → M1 a = M a) → B24 M1 → Gd vv kk (M1 r) (M1 24) (w * u) (s + 1) c (fun l => (∃ i, i < j ∧ i < ls.length ∧ (lnA ls i).1 = l) ∨ (l + 4 < j ∧ ¬ ∃ i, i < ls.length ∧ (lnA ls i).1 = l)) → V 28 [some (.ref 0), some (.ref r), some (.int set), some (.int (nI (s + 1))), some (.int (nI c)), some (.int (nI j)), o6, o7] [] M1 L := by
    intro s c e1 e2 H
    refine lp_up ?_ ?_
    · intro M1 o6 o7 e3 e5 e4
      refine ma_walk (mo_X5_steps ms_X5_place ms_X5_made ms_X5_slipped ms_X5_madeMarked) hV [2, 11, 28, 84] (fun F hF => ?_)
      simp only [tb_X5_steps, hF, in_no, in_push, in_ild, in_lld, in_ald, in_ist, in_ast, in_lst, in_inc, in_iii, in_idv, in_ldv, in_lll, in_lli, in_lil, in_ii, in_il, in_li, in_ll, in_dup, in_dp2, q_if1, q_if2, in_go, in_sw, ma_sw, in_rv, in_ri, in_rz, in_rl, in_get, in_put, in_puz, in_iar, in_bar, in_lar, in_aar, in_iaw, in_baw, in_law, in_len, in_cpy, in_s1, in_s2, in_s3, in_v1, in_v2, in_v3, in_v4, in_v5, in_v6, ma_bk, ma_gl, ma_sl, ma_nl, ma_wc, ma_wd, ma_nn, ma_en, List.mem_cons, List.not_mem_nil, or_false, or_true, true_or, false_or, true_and, and_true, false_and, and_false, if_true, if_false, forall_const, true_implies, false_implies, not_true_eq_false, not_false_eq_true, Classical.not_not, implies_true, and_self, Nat.add_zero, Nat.zero_add, eq_self, ne_eq, reduceCtorEq, Nat.reduceLT, Nat.reduceLeDiff, Nat.reduceEqDiff, Nat.reduceSub, Nat.reduceAdd, i10, i01, im10, Int32.reduceLT, Int32.reduceLE, ↓reduceIte, reduceIte, up_r, uL_r, cp_r, Int32.toInt_toInt64, Int64.reduceToInt, Int32.reduceToInt, ↓b1_or, b1_0, b1_1, lc_lt, lc_le, lc_gt, lc_ge, lc_eq, ym_0, ym_1, ym_2, ym_3, ym_4, ym_5, ym_6, ym_7, ym_8, ym_9, ym_10, ym_11, ym_12, ym_13, ym_14, ym_15, ym_16, ym_17, ym_18, ym_19, ym_20, ym_21, ym_22, ym_23, ym_24, ym_25, ym_26, ym_27, ym_28, ym_29, ym_30, rm__0, rm__1, rm__2, rm__3, rm__4, rm__5, rm__6, rm__7, rm__8, rm__9, rm__10, rm__11, rm__12, rm__13, rm__14, rm__15, rm__16, rm__17, rm__18, rm__19, rm__20, rm__21, rm__22, rm__23, rm__24, rm__25, rm__26, rm__27, rm__28, rm__29, rm__30, rm__31, rm__32, rm__33, rm__34, rm__35, rm__36, rm__37, rm__38, rm__39, rm__40, rm__41, rm__42, rm__43, rm__44, rm__45, un_X5_place, un_X5_made, un_X5_slipped, un_X5_madeMarked, nI_1]
      try simp only [iteP, Classical.not_not, b1_0, b1_1]
      refine ⟨fun _ => H _ _ _ _ e3 e5 (e4.nextC (fun l hl => ?_) (fun _ z => z)), fun z => absurd (by decide) z⟩
      by_cases q : ∃ i, i < ls.length ∧ (lnA ls i).1 = l
      · obtain ⟨i, q1, q2⟩ := q
        exact Or.inl ⟨i, by omega, q1, q2⟩
      · exact Or.inr ⟨by omega, q⟩
    · intro j hj ih M1 o6 o7 e3 e5 e4
      obtain ⟨f0, f1, f2, f3, f4, f5, f6⟩ := fr M1 e3
      have f7 : M1 0 7 = nI ls.length := f0.1
      have j8 : vp_in (nI j) 8 := vp_in_nI hj (by decide)
      have cj := a_cl (show j < 2147483648 by omega)
      have skip : (∀ l, l < 4 → (((∃ i, i < j + 1 ∧ i < ls.length ∧ (lnA ls i).1 = l) ∨ (l + 4 < j + 1 ∧ ¬ ∃ i, i < ls.length ∧ (lnA ls i).1 = l)) → ((∃ i, i < j ∧ i < ls.length ∧ (lnA ls i).1 = l) ∨ (l + 4 < j ∧ ¬ ∃ i, i < ls.length ∧ (lnA ls i).1 = l)))) → V 84 [some (.ref 0), some (.ref r), some (.int set), some (.int (nI (s + 1))), some (.int (nI c)), some (.int (nI j)), o6, o7] [.int (-1)] M1 L := by
        intro z
        have g1 : (-1 : Int32) < 0 := by decide
        refine ma_walk (mo_X5_steps ms_X5_place ms_X5_made ms_X5_slipped ms_X5_madeMarked) hV [2, 11, 28] (fun F hF => ?_)
        simp only [tb_X5_steps, hF, in_no, in_push, in_ild, in_lld, in_ald, in_ist, in_ast, in_lst, in_inc, in_iii, in_idv, in_ldv, in_lll, in_lli, in_lil, in_ii, in_il, in_li, in_ll, in_dup, in_dp2, q_if1, q_if2, in_go, in_sw, ma_sw, in_rv, in_ri, in_rz, in_rl, in_get, in_put, in_puz, in_iar, in_bar, in_lar, in_aar, in_iaw, in_baw, in_law, in_len, in_cpy, in_s1, in_s2, in_s3, in_v1, in_v2, in_v3, in_v4, in_v5, in_v6, ma_bk, ma_gl, ma_sl, ma_nl, ma_wc, ma_wd, ma_nn, ma_en, List.mem_cons, List.not_mem_nil, or_false, or_true, true_or, false_or, true_and, and_true, false_and, and_false, if_true, if_false, forall_const, true_implies, false_implies, not_true_eq_false, not_false_eq_true, Classical.not_not, implies_true, and_self, Nat.add_zero, Nat.zero_add, eq_self, ne_eq, reduceCtorEq, Nat.reduceLT, Nat.reduceLeDiff, Nat.reduceEqDiff, Nat.reduceSub, Nat.reduceAdd, i10, i01, im10, Int32.reduceLT, Int32.reduceLE, ↓reduceIte, reduceIte, up_r, uL_r, cp_r, Int32.toInt_toInt64, Int64.reduceToInt, Int32.reduceToInt, ↓b1_or, b1_0, b1_1, lc_lt, lc_le, lc_gt, lc_ge, lc_eq, ym_0, ym_1, ym_2, ym_3, ym_4, ym_5, ym_6, ym_7, ym_8, ym_9, ym_10, ym_11, ym_12, ym_13, ym_14, ym_15, ym_16, ym_17, ym_18, ym_19, ym_20, ym_21, ym_22, ym_23, ym_24, ym_25, ym_26, ym_27, ym_28, ym_29, ym_30, rm__0, rm__1, rm__2, rm__3, rm__4, rm__5, rm__6, rm__7, rm__8, rm__9, rm__10, rm__11, rm__12, rm__13, rm__14, rm__15, rm__16, rm__17, rm__18, rm__19, rm__20, rm__21, rm__22, rm__23, rm__24, rm__25, rm__26, rm__27, rm__28, rm__29, rm__30, rm__31, rm__32, rm__33, rm__34, rm__35, rm__36, rm__37, rm__38, rm__39, rm__40, rm__41, rm__42, rm__43, rm__44, rm__45, un_X5_place, un_X5_made, un_X5_slipped, un_X5_madeMarked, nI_1, g1]
        try simp only [iteP, Classical.not_not, b1_0, b1_1]
        exact ih _ _ _ e3 e5 (e4.sub z)
      refine ma_walk (mo_X5_steps ms_X5_place ms_X5_made ms_X5_slipped ms_X5_madeMarked) hV [2, 11, 28, 84] (fun F hF => ?_)
      simp only [tb_X5_steps, hF, in_no, in_push, in_ild, in_lld, in_ald, in_ist, in_ast, in_lst, in_inc, in_iii, in_idv, in_ldv, in_lll, in_lli, in_lil, in_ii, in_il, in_li, in_ll, in_dup, in_dp2, q_if1, q_if2, in_go, in_sw, ma_sw, in_rv, in_ri, in_rz, in_rl, in_get, in_put, in_puz, in_iar, in_bar, in_lar, in_aar, in_iaw, in_baw, in_law, in_len, in_cpy, in_s1, in_s2, in_s3, in_v1, in_v2, in_v3, in_v4, in_v5, in_v6, ma_bk, ma_gl, ma_sl, ma_nl, ma_wc, ma_wd, ma_nn, ma_en, List.mem_cons, List.not_mem_nil, or_false, or_true, true_or, false_or, true_and, and_true, false_and, and_false, if_true, if_false, forall_const, true_implies, false_implies, not_true_eq_false, not_false_eq_true, Classical.not_not, implies_true, and_self, Nat.add_zero, Nat.zero_add, eq_self, ne_eq, reduceCtorEq, Nat.reduceLT, Nat.reduceLeDiff, Nat.reduceEqDiff, Nat.reduceSub, Nat.reduceAdd, i10, i01, im10, Int32.reduceLT, Int32.reduceLE, ↓reduceIte, reduceIte, up_r, uL_r, cp_r, Int32.toInt_toInt64, Int64.reduceToInt, Int32.reduceToInt, ↓b1_or, b1_0, b1_1, lc_lt, lc_le, lc_gt, lc_ge, lc_eq, ym_0, ym_1, ym_2, ym_3, ym_4, ym_5, ym_6, ym_7, ym_8, ym_9, ym_10, ym_11, ym_12, ym_13, ym_14, ym_15, ym_16, ym_17, ym_18, ym_19, ym_20, ym_21, ym_22, ym_23, ym_24, ym_25, ym_26, ym_27, ym_28, ym_29, ym_30, rm__0, rm__1, rm__2, rm__3, rm__4, rm__5, rm__6, rm__7, rm__8, rm__9, rm__10, rm__11, rm__12, rm__13, rm__14, rm__15, rm__16, rm__17, rm__18, rm__19, rm__20, rm__21, rm__22, rm__23, rm__24, rm__25, rm__26, rm__27, rm__28, rm__29, rm__30, rm__31, rm__32, rm__33, rm__34, rm__35, rm__36, rm__37, rm__38, rm__39, rm__40, rm__41, rm__42, rm__43, rm__44, rm__45, un_X5_place, un_X5_made, un_X5_slipped, un_X5_madeMarked, f7, j8, cj]
      try simp only [iteP, Classical.not_not, b1_0, b1_1]
      rw [show ((8 : Int32) ≤ nI j) = (8 ≤ j) from a_le (a := 8) (by omega) (by omega), show ((4 : Int32) ≤ nI j) = (4 ≤ j) from a_le (a := 4) (by omega) (by omega), a_le (by omega) (by omega)]
      refine ⟨fun z => absurd z (by omega), fun _ => ⟨fun z => ?_, fun z => ⟨fun z2 => ?_, fun z2 => ?_⟩⟩⟩
      · have e0 : nI j - 4 = nI (j - 4) := pk_sub (b := 4) z
        rw [e0, a_cl (by omega), a_vi (by omega)]
        by_cases hno : ∃ i, i < ls.length ∧ (lnA ls i).1 = j - 4
        · obtain ⟨i, hi, hil⟩ := hno
          have hL := (f0.ln hi).2.1
          rw [hil] at hL
          rw [hL]
          refine ⟨by omega, fun _ => skip (fun l hl q => ?_), fun q => absurd (nI_pos' (by omega)) q⟩
          rcases q with ⟨i', q1, q2, q3⟩ | ⟨q1, q2⟩
          · exact Or.inl ⟨i', by omega, q2, q3⟩
          · by_cases q5 : l = j - 4
            · exact absurd ⟨i, hi, by rw [hil, q5]⟩ q2
            · exact Or.inr ⟨by omega, q2⟩
        · have hL := f0.no (show j - 4 < 4 by omega) hno
          rw [hL]
          refine ⟨by omega, fun q => absurd q (by decide), fun _ => ?_⟩
          refine hcl s c e1 e2 j (j - 4) M1 _ _ _ hj (by omega) e3 e5 e4 (fun i hi hil => absurd ⟨i, hi, hil⟩ hno) (fun M2 o6 o7 g1 g2 g3 => ih M2 o6 o7 g1 g2 (g3.sub (fun l hl q => ?_)))
          rcases q with ⟨i', q1, q2, q3⟩ | ⟨q1, q2⟩
          · exact Or.inl (Or.inl ⟨i', by omega, q2, q3⟩)
          · by_cases q5 : l = j - 4
            · exact Or.inr q5
            · exact Or.inl (Or.inr ⟨by omega, q2⟩)
      · refine skip (fun l hl q => ?_)
        rcases q with ⟨i', q1, q2, q3⟩ | ⟨q1, q2⟩
        · exact Or.inl ⟨i', by omega, q2, q3⟩
        · omega
      · have hi : j < ls.length := by omega
        have hL := (f0.ln hi).1
        have hl4 : (lnA ls j).1 < 4 := (hQ.1.2.2.2 j hi).2.2.2.2
        rw [hL]
        refine hcl s c e1 e2 j (lnA ls j).1 M1 _ _ _ hj hl4 e3 e5 e4 (fun i hi2 hil i' hi' => ?_) (fun M2 o6 o7 g1 g2 g3 => ih M2 o6 o7 g1 g2 (g3.sub (fun l hl q => ?_)))
        · have : i = j := hQ.2.1 i j hi2 hi hil
          subst this
          exact Or.inl ⟨i', hi', by omega, rfl⟩
        · rcases q with ⟨i', q1, q2, q3⟩ | ⟨q1, q2⟩
          · by_cases q5 : i' = j
            · rw [q5] at q3; exact Or.inr q3.symm
            · exact Or.inl (Or.inl ⟨i', by omega, q2, q3⟩)
          · omega
  have v0 : ∀ (s : Nat), s < 12 → (∀ (M1 : ZM) (o4 o5 o6 o7 : Option Value), (∀ a, a ≠ r → a ≠ 24 → M1 a = M a) → B24 M1 → Gd vv kk (M1 r) (M1 24) (w * u) (s + 2) 0 (fun _ => False) → V 2 [some (.ref 0), some (.ref r), some (.int set), some (.int (nI (s + 2))), o4, o5, o6, o7] [] M1 L) →
      ∀ c, c ≤ w * u → ∀ (M1 : ZM) (o5 o6 o7 : Option Value), (∀ a, a ≠ r → a ≠ 24 → M1 a = M a) → B24 M1 → Gd vv kk (M1 r) (M1 24) (w * u) (s + 1) c (fun _ => False) → V 11 [some (.ref 0), some (.ref r), some (.int set), some (.int (nI (s + 1))), some (.int (nI c)), o5, o6, o7] [] M1 L := by
    intro s e1 H
    refine lp_up ?_ ?_
    · intro M1 o5 o6 o7 e3 e5 e4
      obtain ⟨f0, f1, f2, f3, f4, f5, f6⟩ := fr M1 e3
      have z0 : M1 0 35 = nI w := by rw [f1]; exact m0
      have z1 : M1 0 36 = nI u := by rw [f1]; exact m1
      refine ma_walk (mo_X5_steps ms_X5_place ms_X5_made ms_X5_slipped ms_X5_madeMarked) hV [2, 11, 28, 84] (fun F hF => ?_)
      simp only [tb_X5_steps, hF, in_no, in_push, in_ild, in_lld, in_ald, in_ist, in_ast, in_lst, in_inc, in_iii, in_idv, in_ldv, in_lll, in_lli, in_lil, in_ii, in_il, in_li, in_ll, in_dup, in_dp2, q_if1, q_if2, in_go, in_sw, ma_sw, in_rv, in_ri, in_rz, in_rl, in_get, in_put, in_puz, in_iar, in_bar, in_lar, in_aar, in_iaw, in_baw, in_law, in_len, in_cpy, in_s1, in_s2, in_s3, in_v1, in_v2, in_v3, in_v4, in_v5, in_v6, ma_bk, ma_gl, ma_sl, ma_nl, ma_wc, ma_wd, ma_nn, ma_en, List.mem_cons, List.not_mem_nil, or_false, or_true, true_or, false_or, true_and, and_true, false_and, and_false, if_true, if_false, forall_const, true_implies, false_implies, not_true_eq_false, not_false_eq_true, Classical.not_not, implies_true, and_self, Nat.add_zero, Nat.zero_add, eq_self, ne_eq, reduceCtorEq, Nat.reduceLT, Nat.reduceLeDiff, Nat.reduceEqDiff, Nat.reduceSub, Nat.reduceAdd, i10, i01, im10, Int32.reduceLT, Int32.reduceLE, ↓reduceIte, reduceIte, up_r, uL_r, cp_r, Int32.toInt_toInt64, Int64.reduceToInt, Int32.reduceToInt, ↓b1_or, b1_0, b1_1, lc_lt, lc_le, lc_gt, lc_ge, lc_eq, ym_0, ym_1, ym_2, ym_3, ym_4, ym_5, ym_6, ym_7, ym_8, ym_9, ym_10, ym_11, ym_12, ym_13, ym_14, ym_15, ym_16, ym_17, ym_18, ym_19, ym_20, ym_21, ym_22, ym_23, ym_24, ym_25, ym_26, ym_27, ym_28, ym_29, ym_30, rm__0, rm__1, rm__2, rm__3, rm__4, rm__5, rm__6, rm__7, rm__8, rm__9, rm__10, rm__11, rm__12, rm__13, rm__14, rm__15, rm__16, rm__17, rm__18, rm__19, rm__20, rm__21, rm__22, rm__23, rm__24, rm__25, rm__26, rm__27, rm__28, rm__29, rm__30, rm__31, rm__32, rm__33, rm__34, rm__35, rm__36, rm__37, rm__38, rm__39, rm__40, rm__41, rm__42, rm__43, rm__44, rm__45, un_X5_place, un_X5_made, un_X5_slipped, un_X5_madeMarked, z0, z1, hwu, nI_1]
      try simp only [iteP, Classical.not_not, b1_0, b1_1]
      exact ⟨fun _ => H _ _ _ _ _ e3 e5 (e4.nextS (Nat.le_refl _) (fun _ z => z)), fun z => absurd (nI_le (Nat.le_refl _) (by omega)) z⟩
    · intro c hc ih M1 o5 o6 o7 e3 e5 e4
      obtain ⟨f0, f1, f2, f3, f4, f5, f6⟩ := fr M1 e3
      have z0 : M1 0 35 = nI w := by rw [f1]; exact m0
      have z1 : M1 0 36 = nI u := by rw [f1]; exact m1
      refine ma_walk (mo_X5_steps ms_X5_place ms_X5_made ms_X5_slipped ms_X5_madeMarked) hV [2, 11, 28, 84] (fun F hF => ?_)
      simp only [tb_X5_steps, hF, in_no, in_push, in_ild, in_lld, in_ald, in_ist, in_ast, in_lst, in_inc, in_iii, in_idv, in_ldv, in_lll, in_lli, in_lil, in_ii, in_il, in_li, in_ll, in_dup, in_dp2, q_if1, q_if2, in_go, in_sw, ma_sw, in_rv, in_ri, in_rz, in_rl, in_get, in_put, in_puz, in_iar, in_bar, in_lar, in_aar, in_iaw, in_baw, in_law, in_len, in_cpy, in_s1, in_s2, in_s3, in_v1, in_v2, in_v3, in_v4, in_v5, in_v6, ma_bk, ma_gl, ma_sl, ma_nl, ma_wc, ma_wd, ma_nn, ma_en, List.mem_cons, List.not_mem_nil, or_false, or_true, true_or, false_or, true_and, and_true, false_and, and_false, if_true, if_false, forall_const, true_implies, false_implies, not_true_eq_false, not_false_eq_true, Classical.not_not, implies_true, and_self, Nat.add_zero, Nat.zero_add, eq_self, ne_eq, reduceCtorEq, Nat.reduceLT, Nat.reduceLeDiff, Nat.reduceEqDiff, Nat.reduceSub, Nat.reduceAdd, i10, i01, im10, Int32.reduceLT, Int32.reduceLE, ↓reduceIte, reduceIte, up_r, uL_r, cp_r, Int32.toInt_toInt64, Int64.reduceToInt, Int32.reduceToInt, ↓b1_or, b1_0, b1_1, lc_lt, lc_le, lc_gt, lc_ge, lc_eq, ym_0, ym_1, ym_2, ym_3, ym_4, ym_5, ym_6, ym_7, ym_8, ym_9, ym_10, ym_11, ym_12, ym_13, ym_14, ym_15, ym_16, ym_17, ym_18, ym_19, ym_20, ym_21, ym_22, ym_23, ym_24, ym_25, ym_26, ym_27, ym_28, ym_29, ym_30, rm__0, rm__1, rm__2, rm__3, rm__4, rm__5, rm__6, rm__7, rm__8, rm__9, rm__10, rm__11, rm__12, rm__13, rm__14, rm__15, rm__16, rm__17, rm__18, rm__19, rm__20, rm__21, rm__22, rm__23, rm__24, rm__25, rm__26, rm__27, rm__28, rm__29, rm__30, rm__31, rm__32, rm__33, rm__34, rm__35, rm__36, rm__37, rm__38, rm__39, rm__40, rm__41, rm__42, rm__43, rm__44, rm__45, un_X5_place, un_X5_made, un_X5_slipped, un_X5_madeMarked, z0, z1, hwu, nI_1]
      try simp only [iteP, Classical.not_not, b1_0, b1_1]
      rw [a_le (by omega) (by omega)]
      refine ⟨fun z => absurd z (by omega), fun _ => ?_⟩
      refine v2 s c e1 hc ih 0 (by omega) M1 _ _ e3 e5 (e4.sub (fun l hl q => ?_))
      rcases q with ⟨i, q, _⟩ | q
      · omega
      · omega
  have vS : ∀ s, s ≤ 12 → ∀ (M1 : ZM) (o4 o5 o6 o7 : Option Value), (∀ a, a ≠ r → a ≠ 24 → M1 a = M a) → B24 M1 → Gd vv kk (M1 r) (M1 24) (w * u) (s + 1) 0 (fun _ => False) → V 2 [some (.ref 0), some (.ref r), some (.int set), some (.int (nI (s + 1))), o4, o5, o6, o7] [] M1 L := by
    refine lp_up ?_ ?_
    · intro M1 o4 o5 o6 o7 e3 e5 e4
      refine ma_walk (mo_X5_steps ms_X5_place ms_X5_made ms_X5_slipped ms_X5_madeMarked) hV [2, 11, 28, 84] (fun F hF => ?_)
      simp only [tb_X5_steps, hF, in_no, in_push, in_ild, in_lld, in_ald, in_ist, in_ast, in_lst, in_inc, in_iii, in_idv, in_ldv, in_lll, in_lli, in_lil, in_ii, in_il, in_li, in_ll, in_dup, in_dp2, q_if1, q_if2, in_go, in_sw, ma_sw, in_rv, in_ri, in_rz, in_rl, in_get, in_put, in_puz, in_iar, in_bar, in_lar, in_aar, in_iaw, in_baw, in_law, in_len, in_cpy, in_s1, in_s2, in_s3, in_v1, in_v2, in_v3, in_v4, in_v5, in_v6, ma_bk, ma_gl, ma_sl, ma_nl, ma_wc, ma_wd, ma_nn, ma_en, List.mem_cons, List.not_mem_nil, or_false, or_true, true_or, false_or, true_and, and_true, false_and, and_false, if_true, if_false, forall_const, true_implies, false_implies, not_true_eq_false, not_false_eq_true, Classical.not_not, implies_true, and_self, Nat.add_zero, Nat.zero_add, eq_self, ne_eq, reduceCtorEq, Nat.reduceLT, Nat.reduceLeDiff, Nat.reduceEqDiff, Nat.reduceSub, Nat.reduceAdd, i10, i01, im10, Int32.reduceLT, Int32.reduceLE, ↓reduceIte, reduceIte, up_r, uL_r, cp_r, Int32.toInt_toInt64, Int64.reduceToInt, Int32.reduceToInt, ↓b1_or, b1_0, b1_1, lc_lt, lc_le, lc_gt, lc_ge, lc_eq, ym_0, ym_1, ym_2, ym_3, ym_4, ym_5, ym_6, ym_7, ym_8, ym_9, ym_10, ym_11, ym_12, ym_13, ym_14, ym_15, ym_16, ym_17, ym_18, ym_19, ym_20, ym_21, ym_22, ym_23, ym_24, ym_25, ym_26, ym_27, ym_28, ym_29, ym_30, rm__0, rm__1, rm__2, rm__3, rm__4, rm__5, rm__6, rm__7, rm__8, rm__9, rm__10, rm__11, rm__12, rm__13, rm__14, rm__15, rm__16, rm__17, rm__18, rm__19, rm__20, rm__21, rm__22, rm__23, rm__24, rm__25, rm__26, rm__27, rm__28, rm__29, rm__30, rm__31, rm__32, rm__33, rm__34, rm__35, rm__36, rm__37, rm__38, rm__39, rm__40, rm__41, rm__42, rm__43, rm__44, rm__45, un_X5_place, un_X5_made, un_X5_slipped, un_X5_madeMarked]
      try simp only [iteP, Classical.not_not, b1_0, b1_1]
      refine ⟨fun _ => h M1 e3 (fun s c l h1 h2 h3 => e4 s c l h3 h2 (Or.inl (by omega))) e5, fun z => absurd (by decide) z⟩
    · intro s hs ih M1 o4 o5 o6 o7 e3 e5 e4
      refine ma_walk (mo_X5_steps ms_X5_place ms_X5_made ms_X5_slipped ms_X5_madeMarked) hV [2, 11, 28, 84] (fun F hF => ?_)
      simp only [tb_X5_steps, hF, in_no, in_push, in_ild, in_lld, in_ald, in_ist, in_ast, in_lst, in_inc, in_iii, in_idv, in_ldv, in_lll, in_lli, in_lil, in_ii, in_il, in_li, in_ll, in_dup, in_dp2, q_if1, q_if2, in_go, in_sw, ma_sw, in_rv, in_ri, in_rz, in_rl, in_get, in_put, in_puz, in_iar, in_bar, in_lar, in_aar, in_iaw, in_baw, in_law, in_len, in_cpy, in_s1, in_s2, in_s3, in_v1, in_v2, in_v3, in_v4, in_v5, in_v6, ma_bk, ma_gl, ma_sl, ma_nl, ma_wc, ma_wd, ma_nn, ma_en, List.mem_cons, List.not_mem_nil, or_false, or_true, true_or, false_or, true_and, and_true, false_and, and_false, if_true, if_false, forall_const, true_implies, false_implies, not_true_eq_false, not_false_eq_true, Classical.not_not, implies_true, and_self, Nat.add_zero, Nat.zero_add, eq_self, ne_eq, reduceCtorEq, Nat.reduceLT, Nat.reduceLeDiff, Nat.reduceEqDiff, Nat.reduceSub, Nat.reduceAdd, i10, i01, im10, Int32.reduceLT, Int32.reduceLE, ↓reduceIte, reduceIte, up_r, uL_r, cp_r, Int32.toInt_toInt64, Int64.reduceToInt, Int32.reduceToInt, ↓b1_or, b1_0, b1_1, lc_lt, lc_le, lc_gt, lc_ge, lc_eq, ym_0, ym_1, ym_2, ym_3, ym_4, ym_5, ym_6, ym_7, ym_8, ym_9, ym_10, ym_11, ym_12, ym_13, ym_14, ym_15, ym_16, ym_17, ym_18, ym_19, ym_20, ym_21, ym_22, ym_23, ym_24, ym_25, ym_26, ym_27, ym_28, ym_29, ym_30, rm__0, rm__1, rm__2, rm__3, rm__4, rm__5, rm__6, rm__7, rm__8, rm__9, rm__10, rm__11, rm__12, rm__13, rm__14, rm__15, rm__16, rm__17, rm__18, rm__19, rm__20, rm__21, rm__22, rm__23, rm__24, rm__25, rm__26, rm__27, rm__28, rm__29, rm__30, rm__31, rm__32, rm__33, rm__34, rm__35, rm__36, rm__37, rm__38, rm__39, rm__40, rm__41, rm__42, rm__43, rm__44, rm__45, un_X5_place, un_X5_made, un_X5_slipped, un_X5_madeMarked]
      try simp only [iteP, Classical.not_not, b1_0, b1_1]
      rw [show ((13 : Int32) ≤ nI (s + 1)) = (13 ≤ s + 1) from a_le (a := 13) (by omega) (by omega)]
      refine ⟨fun z => absurd z (by omega), fun _ => ?_⟩
      exact v0 s hs ih 0 (Nat.zero_le _) M1 _ _ _ e3 e5 e4
  refine ma_walk (mo_X5_steps ms_X5_place ms_X5_made ms_X5_slipped ms_X5_madeMarked) hV [2] (fun F hF => ?_)
  simp only [tb_X5_steps, hF, in_no, in_push, in_ild, in_lld, in_ald, in_ist, in_ast, in_lst, in_inc, in_iii, in_idv, in_ldv, in_lll, in_lli, in_lil, in_ii, in_il, in_li, in_ll, in_dup, in_dp2, q_if1, q_if2, in_go, in_sw, ma_sw, in_rv, in_ri, in_rz, in_rl, in_get, in_put, in_puz, in_iar, in_bar, in_lar, in_aar, in_iaw, in_baw, in_law, in_len, in_cpy, in_s1, in_s2, in_s3, in_v1, in_v2, in_v3, in_v4, in_v5, in_v6, ma_bk, ma_gl, ma_sl, ma_nl, ma_wc, ma_wd, ma_nn, ma_en, List.mem_cons, List.not_mem_nil, or_false, or_true, true_or, false_or, true_and, and_true, false_and, and_false, if_true, if_false, forall_const, true_implies, false_implies, not_true_eq_false, not_false_eq_true, Classical.not_not, implies_true, and_self, Nat.add_zero, Nat.zero_add, eq_self, ne_eq, reduceCtorEq, Nat.reduceLT, Nat.reduceLeDiff, Nat.reduceEqDiff, Nat.reduceSub, Nat.reduceAdd, i10, i01, im10, Int32.reduceLT, Int32.reduceLE, ↓reduceIte, reduceIte, up_r, uL_r, cp_r, Int32.toInt_toInt64, Int64.reduceToInt, Int32.reduceToInt, ↓b1_or, b1_0, b1_1, lc_lt, lc_le, lc_gt, lc_ge, lc_eq, ym_0, ym_1, ym_2, ym_3, ym_4, ym_5, ym_6, ym_7, ym_8, ym_9, ym_10, ym_11, ym_12, ym_13, ym_14, ym_15, ym_16, ym_17, ym_18, ym_19, ym_20, ym_21, ym_22, ym_23, ym_24, ym_25, ym_26, ym_27, ym_28, ym_29, ym_30, rm__0, rm__1, rm__2, rm__3, rm__4, rm__5, rm__6, rm__7, rm__8, rm__9, rm__10, rm__11, rm__12, rm__13, rm__14, rm__15, rm__16, rm__17, rm__18, rm__19, rm__20, rm__21, rm__22, rm__23, rm__24, rm__25, rm__26, rm__27, rm__28, rm__29, rm__30, rm__31, rm__32, rm__33, rm__34, rm__35, rm__36, rm__37, rm__38, rm__39, rm__40, rm__41, rm__42, rm__43, rm__44, rm__45, un_X5_place, un_X5_made, un_X5_slipped, un_X5_madeMarked]
  try simp only [iteP, Classical.not_not, b1_0, b1_1]
  refine vS 0 (Nat.zero_le _) M _ _ _ _ (fun _ _ _ => rfl) hB (fun s' c' l h1 h2 h3 => ?_)
  have h4 : s' = 0 := by
    rcases h3 with h3 | h3 | h3
    · omega
    · omega
    · exact absurd h3.2.2 (fun z => z)
  subst h4
  rw [show 144 * 0 + 4 * c' + l = 4 * c' + l by omega, ← hvv, ← hkk]
  exact ⟨(hr c' l h2 h1).1, (hr c' l h2 h1).2.1⟩
theorem pv_X5_steps : ∀ as M L K, S_X5_steps as M L K → ma_rn (tb_X5_steps S_X5_place S_X5_made S_X5_slipped S_X5_madeMarked) 8 as M L K := by
  intro as M L K h
  unfold S_X5_steps at h
  split at h
  · obtain ⟨w, u, e, n, S, ts, ls, r0, k0, h⟩ := h; exact pw_X5_steps h.1 h.2
  · exact h.elim
