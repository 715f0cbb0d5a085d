/-! all steps of a sky (the component) -/
set_option maxRecDepth 100000
set_option maxHeartbeats 4000000
def isK (k : Nat) : Prop := k = 25 ∨ k = 28 ∨ k = 31
theorem isK.S {k : Nat} (h : isK k) : isS k := by
  rcases h with rfl | rfl | rfl
  · exact isS25
  · exact isS28
  · exact isS31
/-- numbers and marks stand up to a place: steps ahead of s, cells ahead of c, letters of D -/
def Gd (vv kk : Nat → Nat → Nat → Int32) (N1 N2 : Nat → Int32) (q s c : Nat) (D : Nat → Prop) : Prop := ∀ s' c' l, l < 4 → c' < q → (s' < s ∨ (s' = s ∧ c' < c) ∨ (s' = s ∧ c' = c ∧ D l)) → N1 (144 * s' + 4 * c' + l) = vv s' c' l ∧ N2 (144 * s' + 4 * c' + l) = kk s' c' l
theorem Gd.put {vv kk : Nat → Nat → Nat → Int32} {N1 N2 : Nat → Int32} {q s c l : Nat} {D : Nat → Prop} {x y : Int32} (h : Gd vv kk N1 N2 q s c D) (hq : q ≤ 36) (hc : c < q) (hl : l < 4) (hx : x = vv s c l) (hy : y = kk s c l) : Gd vv kk (upd N1 (144 * s + 4 * c + l) x) (upd N2 (144 * s + 4 * c + l) y) q s c (fun l' => D l' ∨ l' = l) := by
  intro s' c' l' h1 h2 h3
  by_cases e : 144 * s' + 4 * c' + l' = 144 * s + 4 * c + l
  · have e1 : s' = s := by omega
    have e2 : c' = c := by omega
    have e3 : l' = l := by omega
    subst e1 e2 e3
    exact ⟨by rw [pk_us]; exact hx, by rw [pk_us]; exact hy⟩
  · rw [pk_un e, pk_un e]
    refine h s' c' l' h1 h2 ?_
    rcases h3 with h3 | h3 | ⟨h3, h4, h5⟩
    · exact Or.inl h3
    · exact Or.inr (Or.inl h3)
    · rcases h5 with h5 | h5
      · exact Or.inr (Or.inr ⟨h3, h4, h5⟩)
      · subst h3 h4 h5; exact absurd rfl e
theorem Gd.sub {vv kk : Nat → Nat → Nat → Int32} {N1 N2 : Nat → Int32} {q s c : Nat} {D D' : Nat → Prop} (h : Gd vv kk N1 N2 q s c D) (hD : ∀ l, l < 4 → D' l → D l) : Gd vv kk N1 N2 q s c D' := by
  intro s' c' l h1 h2 h3
  refine h s' c' l h1 h2 ?_
  rcases h3 with h3 | h3 | ⟨h3, h4, h5⟩
  · exact Or.inl h3
  · exact Or.inr (Or.inl h3)
  · exact Or.inr (Or.inr ⟨h3, h4, hD l h1 h5⟩)
theorem Gd.nextC {vv kk : Nat → Nat → Nat → Int32} {N1 N2 : Nat → Int32} {q s c : Nat} {D D' : Nat → Prop} (h : Gd vv kk N1 N2 q s c D) (hD : ∀ l, l < 4 → D l) (hD' : ∀ l, ¬ D' l) : Gd vv kk N1 N2 q s (c + 1) D' := by
  intro s' c' l h1 h2 h3
  refine h s' c' l h1 h2 ?_
  rcases h3 with h3 | h3 | ⟨h3, h4, h5⟩
  · exact Or.inl h3
  · by_cases e : c' = c
    · exact Or.inr (Or.inr ⟨h3.1, e, hD l h1⟩)
    · exact Or.inr (Or.inl ⟨h3.1, by omega⟩)
  · exact absurd h5 (hD' l)
theorem Gd.nextS {vv kk : Nat → Nat → Nat → Int32} {N1 N2 : Nat → Int32} {q s c : Nat} {D D' : Nat → Prop} (h : Gd vv kk N1 N2 q s c D) (hc : q ≤ c) (hD' : ∀ l, ¬ D' l) : Gd vv kk N1 N2 q (s + 1) 0 D' := by
  intro s' c' l h1 h2 h3
  refine h s' c' l h1 h2 ?_
  rcases h3 with h3 | h3 | ⟨h3, h4, h5⟩
  · by_cases e : s' = s
    · exact Or.inr (Or.inl ⟨e, by omega⟩)
    · exact Or.inl (by omega)
  · omega
  · exact absurd h5 (hD' l)
def zX (M : ZM) (S : Nat → Bool) (n : Nat) (s c l : Nat) (v : Int32) : Int32 := sl (M 21) (M 22) (M 23) (M 24) S s c l n 0 v
def S_X3_run : ma_Cs := fun as M L K => match as with
  | [.ref k, .int st', .int wo] => ∃ (w : Nat) (u : Nat) (e : Nat) (st : Nat) (n : Nat) (S : Nat → Bool) (ts : List Tm) (ls : List Ln) (r0 : Nat → Nat → Int32) (k0 : Nat → Nat → Int32), (isK k ∧ M k 0 = nI w ∧ M k 1 = nI u ∧ M 0 7 = nI e ∧ Sh w u e 0 0 ∧ st' = nI st ∧ st < 13 ∧ M 0 10 = nI n ∧ n ≤ 12 ∧ ((wo < -4 ∧ ∀ i, S i = false) ∨ (¬ wo < -4 ∧ ∀ i, i < n → (S i = true ↔ ¬ nI i = wo))) ∧ PX M 11 ts ls ∧ Vq ts ls ∧ (∀ c l, c < w * u → l < 4 → M (k + 1) (4 * c + l) = r0 c l ∧ M (k + 2) (4 * c + l) = k0 c l ∧ (k0 c l = 0 ∨ k0 c l = 1))) ∧ (∀ (M' : ZM), (∀ a, a ≠ k + 1 → a ≠ k + 2 → M' a = M a) → (∀ s c l, s ≤ st → c < w * u → l < 4 → M' (k + 1) (144 * s + 4 * c + l) = val (M 19) w u e ts ls (zX M S n) r0 s c l ∧ M' (k + 2) (144 * s + 4 * c + l) = vak w u e ts ls k0 s c l) → K none M' L)
  | _ => False
theorem ms_X3_run : ma_ms S_X3_run := by
  intro as M L K K' hk h
  unfold S_X3_run at h ⊢
  split at h
  · obtain ⟨w, u, e, st, n, S, ts, ls, r0, k0, h⟩ := h
    exact ⟨w, u, e, st, n, S, ts, ls, r0, k0, h.1, fun x0 x1 x2 => hk _ _ _ (h.2 x0 x1 x2)⟩
  · exact h.elim
theorem un_X3_run {k : Nat} {st' : Int32} {wo : Int32} {M : ZM} {L : ZL} {K : ma_Kt} : S_X3_run [.ref k, .int st', .int wo] M L K = (∃ (w : Nat) (u : Nat) (e : Nat) (st : Nat) (n : Nat) (S : Nat → Bool) (ts : List Tm) (ls : List Ln) (r0 : Nat → Nat → Int32) (k0 : Nat → Nat → Int32), (isK k ∧ M k 0 = nI w ∧ M k 1 = nI u ∧ M 0 7 = nI e ∧ Sh w u e 0 0 ∧ st' = nI st ∧ st < 13 ∧ M 0 10 = nI n ∧ n ≤ 12 ∧ ((wo < -4 ∧ ∀ i, S i = false) ∨ (¬ wo < -4 ∧ ∀ i, i < n → (S i = true ↔ ¬ nI i = wo))) ∧ PX M 11 ts ls ∧ Vq ts ls ∧ (∀ c l, c < w * u → l < 4 → M (k + 1) (4 * c + l) = r0 c l ∧ M (k + 2) (4 * c + l) = k0 c l ∧ (k0 c l = 0 ∨ k0 c l = 1))) ∧ (∀ (M' : ZM), (∀ a, a ≠ k + 1 → a ≠ k + 2 → M' a = M a) → (∀ s c l, s ≤ st → c < w * u → l < 4 → M' (k + 1) (144 * s + 4 * c + l) = val (M 19) w u e ts ls (zX M S n) r0 s c l ∧ M' (k + 2) (144 * s + 4 * c + l) = vak w u e ts ls k0 s c l) → K none M' L)) := rfl
theorem pw_X3_run {k : Nat} {st' : Int32} {wo : Int32} {w : Nat} {u : Nat} {e : Nat} {st : Nat} {n : Nat} {S : Nat → Bool} {ts : List Tm} {ls : List Ln} {r0 : Nat → Nat → Int32} {k0 : Nat → Nat → Int32} {M : ZM} {L : ZL} {K : ma_Kt} (hp : isK k ∧ M k 0 = nI w ∧ M k 1 = nI u ∧ M 0 7 = nI e ∧ Sh w u e 0 0 ∧ st' = nI st ∧ st < 13 ∧ M 0 10 = nI n ∧ n ≤ 12 ∧ ((wo < -4 ∧ ∀ i, S i = false) ∨ (¬ wo < -4 ∧ ∀ i, i < n → (S i = true ↔ ¬ nI i = wo))) ∧ PX M 11 ts ls ∧ Vq ts ls ∧ (∀ c l, c < w * u → l < 4 → M (k + 1) (4 * c + l) = r0 c l ∧ M (k + 2) (4 * c + l) = k0 c l ∧ (k0 c l = 0 ∨ k0 c l = 1))) (h : (∀ (M' : ZM), (∀ a, a ≠ k + 1 → a ≠ k + 2 → M' a = M a) → (∀ s c l, s ≤ st → c < w * u → l < 4 → M' (k + 1) (144 * s + 4 * c + l) = val (M 19) w u e ts ls (zX M S n) r0 s c l ∧ M' (k + 2) (144 * s + 4 * c + l) = vak w u e ts ls k0 s c l) → K none M' L)) : ma_rn (tb_X3_run S_X2_lineOf S_X3_at S_X3_slipped S_X3_place S_X3_put S_X3_marksOf S_X3_made) 8 [.ref k, .int st', .int wo] M L K := by
  refine ⟨Nat.le_of_ble_eq_true rfl, fun V hV => ?_⟩
  obtain ⟨hk, m0, m1, m2, hs, rfl, hst, m3, hn, hw, hP, hQ, hr⟩ := hp
  have hS := hk.S
  obtain ⟨y0, y1, y2⟩ := id hS
  obtain ⟨s1, s2, s3, s4, s5, s6, s7⟩ := id hs
  have h36 := Nat.mul_le_mul (Nat.le_of_lt_succ s2) (Nat.le_of_lt_succ s4)
  have hk1 : ∀ a, a < 25 → a ≠ k + 1 ∧ a ≠ k + 2 ∧ a ≠ k := fun a ha => by rcases hk with rfl | rfl | rfl <;> omega
  generalize hvv : val (M 19) w u e ts ls (zX M S n) r0 = vv at *
  generalize hkk : vak w u e ts ls k0 = kk at *
  have hwu : nI w * nI u = nI (w * u) := pk_mul w u
  have fr : ∀ M1 : ZM, (∀ a, a ≠ k + 1 → a ≠ k + 2 → M1 a = M a) → PX M1 11 ts ls ∧ M1 k = M k ∧ M1 0 = M 0 ∧ M1 19 = M 19 ∧ M1 21 = M 21 ∧ M1 22 = M 22 ∧ M1 23 = M 23 ∧ M1 24 = M 24 ∧ M1 11 = M 11 ∧ M1 12 = M 12 := by
    intro M1 h1
    have g : ∀ a, a < 25 → M1 a = M a := fun a ha => h1 a (hk1 a ha).1 (hk1 a ha).2.1
    refine ⟨?_, h1 k (by omega) (by omega), g 0 (by decide), g 19 (by decide), g 21 (by decide), g 22 (by decide), g 23 (by decide), g 24 (by decide), g 11 (by decide), g 12 (by decide)⟩
    unfold PX LE TE
    rw [g 11 (by decide), g (11 + 1) (by decide), g (11 + 2) (by decide), g (11 + 3) (by decide), g (11 + 4) (by decide), g (11 + 5) (by decide), g (11 + 6) (by decide), g (11 + 7) (by decide)]
    exact hP
  have hP9 : ∀ {P : Prop}, P → P := fun h => h
  have v2 : ∀ (s c : Nat), s < st → c < w * u → (∀ (M1 : ZM) (o5 o6 o7 : Option Value), (∀ a, a ≠ k + 1 → a ≠ k + 2 → M1 a = M a) → Gd vv kk (M1 (k + 1)) (M1 (k + 2)) (w * u) (s + 1) (c + 1) (fun _ => False) → V 10 [some (.ref k), some (.int (nI st)), some (.int wo), some (.int (nI (s + 1))), some (.int (nI (c + 1))), o5, o6, o7] [] M1 L) →
      ∀ j, j ≤ ls.length → ∀ (M1 : ZM) (o6 o7 : Option Value), (∀ a, a ≠ k + 1 → a ≠ k + 2 → M1 a = M a) → Gd vv kk (M1 (k + 1)) (M1 (k + 2)) (w * u) (s + 1) c (fun l => (¬ ∃ i, i < ls.length ∧ (lnA ls i).1 = l) ∨ ∃ i, i < j ∧ (lnA ls i).1 = l) → V 105 [some (.ref k), some (.int (nI st)), some (.int wo), some (.int (nI (s + 1))), some (.int (nI c)), some (.int (nI j)), o6, o7] [] M1 L := by
    intro s c e1 e2 H
    have l4 := hQ.1.2.1
    refine lp_up ?_ ?_
    · intro M1 o6 o7 e3 e4
      obtain ⟨f0, f1, f2, f3, f4, f5, f6, f7, f8, f9⟩ := fr M1 e3
      refine ma_walk (mo_X3_run ms_X2_lineOf ms_X3_at ms_X3_slipped ms_X3_place ms_X3_put ms_X3_marksOf ms_X3_made) hV [2, 10, 27, 105] (fun F hF => ?_)
      simp only [tb_X3_run, hF, in_no, in_push, in_ild, in_lld, in_ald, in_ist, in_ast, in_lst, in_inc, in_iii, in_idv, in_ldv, in_lll, in_lli, in_lil, in_ii, in_il, in_li, in_ll, in_dup, in_dp2, q_if1, q_if2, in_go, in_sw, ma_sw, in_rv, in_ri, in_rz, in_rl, in_get, in_put, in_puz, in_iar, in_bar, in_lar, in_aar, in_iaw, in_baw, in_law, in_len, in_cpy, in_s1, in_s2, in_s3, in_v1, in_v2, in_v3, in_v4, in_v5, in_v6, ma_bk, ma_gl, ma_sl, ma_nl, ma_wc, ma_wd, ma_nn, ma_en, List.mem_cons, List.not_mem_nil, or_false, or_true, true_or, false_or, true_and, and_true, false_and, and_false, if_true, if_false, forall_const, true_implies, false_implies, not_true_eq_false, not_false_eq_true, Classical.not_not, implies_true, and_self, Nat.add_zero, Nat.zero_add, eq_self, ne_eq, reduceCtorEq, Nat.reduceLT, Nat.reduceLeDiff, Nat.reduceEqDiff, Nat.reduceSub, Nat.reduceAdd, i10, i01, im10, Int32.reduceLT, Int32.reduceLE, ↓reduceIte, reduceIte, up_r, uL_r, cp_r, Int32.toInt_toInt64, Int64.reduceToInt, Int32.reduceToInt, ↓b1_or, b1_0, b1_1, lc_lt, lc_le, lc_gt, lc_ge, lc_eq, yx_0, yx_1, yx_2, yx_3, yx_4, yx_5, yx_6, yx_7, yx_8, yx_9, yx_10, yx_11, yx_12, yx_13, yx_14, yx_15, yx_16, yx_17, yx_18, yx_19, yx_20, yx_21, yx_22, yx_23, yx_24, yx_25, yx_26, yx_27, yx_28, yx_29, yx_30, yx_31, yx_32, yx_33, yx_34, yx_35, yx_36, yx_37, yx_38, yx_39, yx_40, yx_41, yx_42, yx_43, yx_44, yx_45, yx_46, yx_47, yx_48, yx_49, yx_50, yx_51, yx_52, yx_53, yx_54, yx_55, yx_56, yx_57, yx_58, yx_59, yx_60, yx_61, yx_62, yx_63, yx_64, yx_65, yx_66, yx_67, yx_68, rx_0, rx_1, rx_2, rx_3, rx_4, rx_5, rx_6, rx_7, rx_8, rx_9, rx_10, rx_11, rx_12, rx_13, rx_14, rx_15, rx_16, rx_17, rx_18, rx_19, rx_20, rx_21, rx_22, rx_23, rx_24, rx_25, rx_26, rx_27, rx_28, rx_29, rx_30, rx_31, rx_32, rx_33, rp_0, rp_1, rp_2, rp_3, rp_4, rp_5, rp_6, rp_7, rp_8, rs_0, rs_1, rs_2, rs_3, rs_4, re_0, re_1, re_2, re_3, re_4, re_5, rr_0, rr_1, rr_2, rr_3, rr_4, rk_0, rk_1, isP3, isP11, isP46, isP58, isS25, isS28, isS31, un_X2_lineOf, un_X3_at, un_X3_slipped, un_X3_place, un_X3_put, un_X3_marksOf, un_X3_made, y0, f0.1, nI_1]
      try simp only [iteP, Classical.not_not, b1_0, b1_1]
      refine ⟨fun _ => H _ _ _ _ e3 (e4.nextC (fun l hl => ?_) (fun _ z => z)), fun z => absurd (nI_le (Nat.le_refl _) (by omega)) z⟩
      exact Classical.byCases (fun q => Or.inr q) (fun q => Or.inl q)
    · intro j hj ih M1 o6 o7 e3 e4
      obtain ⟨f0, f1, f2, f3, f4, f5, f6, f7, f8, f9⟩ := fr M1 e3
      have hL := f0.2.2.1 j hj
      have hl4 : (lnA ls j).1 < 4 := (hQ.1.2.2.2 j hj).2.2.2.2
      have hlt : M1 12 j = nI (lnA ls j).1 := hL.1
      have j4 : vp_in (nI j) 4 := vp_in_nI (by omega) (by decide)
      have cj := a_cl (show j < 2147483648 by omega)
      have hSk : Sk M1 k w u e c (s + 1) := ⟨hS, by rw [f1]; exact m0, by rw [f1]; exact m1, by rw [f2]; exact m2, ⟨s1, s2, s3, s4, s5, e2, by omega⟩, by omega⟩
      refine ma_walk (mo_X3_run ms_X2_lineOf ms_X3_at ms_X3_slipped ms_X3_place ms_X3_put ms_X3_marksOf ms_X3_made) hV [2, 10, 27, 105] (fun F hF => ?_)
      simp only [tb_X3_run, hF, in_no, in_push, in_ild, in_lld, in_ald, in_ist, in_ast, in_lst, in_inc, in_iii, in_idv, in_ldv, in_lll, in_lli, in_lil, in_ii, in_il, in_li, in_ll, in_dup, in_dp2, q_if1, q_if2, in_go, in_sw, ma_sw, in_rv, in_ri, in_rz, in_rl, in_get, in_put, in_puz, in_iar, in_bar, in_lar, in_aar, in_iaw, in_baw, in_law, in_len, in_cpy, in_s1, in_s2, in_s3, in_v1, in_v2, in_v3, in_v4, in_v5, in_v6, ma_bk, ma_gl, ma_sl, ma_nl, ma_wc, ma_wd, ma_nn, ma_en, List.mem_cons, List.not_mem_nil, or_false, or_true, true_or, false_or, true_and, and_true, false_and, and_false, if_true, if_false, forall_const, true_implies, false_implies, not_true_eq_false, not_false_eq_true, Classical.not_not, implies_true, and_self, Nat.add_zero, Nat.zero_add, eq_self, ne_eq, reduceCtorEq, Nat.reduceLT, Nat.reduceLeDiff, Nat.reduceEqDiff, Nat.reduceSub, Nat.reduceAdd, i10, i01, im10, Int32.reduceLT, Int32.reduceLE, ↓reduceIte, reduceIte, up_r, uL_r, cp_r, Int32.toInt_toInt64, Int64.reduceToInt, Int32.reduceToInt, ↓b1_or, b1_0, b1_1, lc_lt, lc_le, lc_gt, lc_ge, lc_eq, yx_0, yx_1, yx_2, yx_3, yx_4, yx_5, yx_6, yx_7, yx_8, yx_9, yx_10, yx_11, yx_12, yx_13, yx_14, yx_15, yx_16, yx_17, yx_18, yx_19, yx_20, yx_21, yx_22, yx_23, yx_24, yx_25, yx_26, yx_27, yx_28, yx_29, yx_30, yx_31, yx_32, yx_33, yx_34, yx_35, yx_36, yx_37, yx_38, yx_39, yx_40, yx_41, yx_42, yx_43, yx_44, yx_45, yx_46, yx_47, yx_48, yx_49, yx_50, yx_51, yx_52, yx_53, yx_54, yx_55, yx_56, yx_57, yx_58, yx_59, yx_60, yx_61, yx_62, yx_63, yx_64, yx_65, yx_66, yx_67, yx_68, rx_0, rx_1, rx_2, rx_3, rx_4, rx_5, rx_6, rx_7, rx_8, rx_9, rx_10, rx_11, rx_12, rx_13, rx_14, rx_15, rx_16, rx_17, rx_18, rx_19, rx_20, rx_21, rx_22, rx_23, rx_24, rx_25, rx_26, rx_27, rx_28, rx_29, rx_30, rx_31, rx_32, rx_33, rp_0, rp_1, rp_2, rp_3, rp_4, rp_5, rp_6, rp_7, rp_8, rs_0, rs_1, rs_2, rs_3, rs_4, re_0, re_1, re_2, re_3, re_4, re_5, rr_0, rr_1, rr_2, rr_3, rr_4, rk_0, rk_1, isP3, isP11, isP46, isP58, isS25, isS28, isS31, un_X2_lineOf, un_X3_at, un_X3_slipped, un_X3_place, un_X3_put, un_X3_marksOf, un_X3_made, y0, f0.1, nI_1, j4, cj, hlt]
      try simp only [iteP, Classical.not_not, b1_0, b1_1]
      rw [a_le (by omega) (by omega)]
      refine ⟨fun z => absurd z (by omega), fun _ => ⟨w, u, e, c, s + 1, j, ts, ls, ⟨hSk, by omega, rfl, rfl, rfl, hj, f0, hQ.1⟩, w, u, e, c, s + 1, j, ts, ls, ⟨hSk, by omega, rfl, rfl, rfl, hj, f0, hQ.1⟩, s + 1, c, (lnA ls j).1, n, S, ⟨hS, rfl, rfl, rfl, by rw [f2]; exact m3, hn, hw⟩, s + 1, c, (lnA ls j).1, ⟨hS, rfl, rfl, rfl, by omega, by omega, hl4⟩, ?_⟩⟩
      have a1 : ∀ c l, c < w * u → l < 4 → rwv (M1 (k + 1)) (s + 1 - 1) c l = vv s c l ∧ rwv (M1 (k + 2)) (s + 1 - 1) c l = kk s c l := fun c' l h1 h2 => e4 s c' l h2 h1 (Or.inl (by omega))
      have a2 : ∀ i, i < j → rwv (M1 (k + 1)) (s + 1) c (lnA ls i).1 = vv (s + 1) c (lnA ls i).1 ∧ rwv (M1 (k + 2)) (s + 1) c (lnA ls i).1 = kk (s + 1) c (lnA ls i).1 := fun i hi => e4 (s + 1) c _ (hQ.1.2.2.2 i (by omega)).2.2.2.2 e2 (Or.inr (Or.inr ⟨rfl, rfl, Or.inr ⟨i, hi, rfl⟩⟩))
      have x1 : sl (M1 21) (M1 22) (M1 23) (M1 24) S (s + 1) c (lnA ls j).1 n 0 (mdv (nv (M1 19) w u e (rwv (M1 (k + 1)) (s + 1 - 1)) (rwv (M1 (k + 1)) (s + 1) c) c) ts (ls.getD j (0, 0, 0, 0, 0))) = vv (s + 1) c (lnA ls j).1 := by
        rw [f3, f4, f5, f6, f7, ← hvv]
        exact val_ln (Z := zX M S n) hQ s2 s4 e2 hj (fun c' l h1 h2 => by rw [hvv]; exact (a1 c' l h1 h2).1) (fun i hi => by rw [(a2 i hi).1, ← hvv]; rfl)
      have x2 : b1 (mkl (nk w u e (rwv (M1 (k + 2)) (s + 1 - 1)) (rwv (M1 (k + 2)) (s + 1) c) c) ts (ls.getD j (0, 0, 0, 0, 0)).2.1 (ls.getD j (0, 0, 0, 0, 0)).2.2.1) = kk (s + 1) c (lnA ls j).1 := by
        rw [← hkk]
        exact vak_ln hQ s2 s4 e2 hj (fun c' l h1 h2 => by rw [hkk]; exact (a1 c' l h1 h2).2) (fun i hi => by rw [(a2 i hi).2, ← hkk]; rfl)
      refine ih _ _ _ (fun a z1 z2 => by rw [up_c z2, up_c z1]; exact e3 a z1 z2) ?_
      rw [up_c (show k + 1 ≠ k + 2 by omega), ma_up_at, ma_up_at, up_c (show k + 2 ≠ k + 1 by omega)]
      refine (e4.put h36 e2 hl4 x1 x2).sub (fun l hl q => ?_)
      rcases q with q | ⟨i, q1, q2⟩
      · exact Or.inl (Or.inl q)
      · by_cases q3 : i = j
        · rw [q3] at q2; exact Or.inr q2.symm
        · exact Or.inl (Or.inr ⟨i, by omega, q2⟩)
  have v1 : ∀ (s c : Nat), s < st → c < w * u → (∀ (M1 : ZM) (o5 o6 o7 : Option Value), (∀ a, a ≠ k + 1 → a ≠ k + 2 → M1 a = M a) → Gd vv kk (M1 (k + 1)) (M1 (k + 2)) (w * u) (s + 1) (c + 1) (fun _ => False) → V 10 [some (.ref k), some (.int (nI st)), some (.int wo), some (.int (nI (s + 1))), some (.int (nI (c + 1))), o5, o6, o7] [] M1 L) →
      ∀ j, j ≤ 4 → ∀ (M1 : ZM) (o6 o7 : Option Value), (∀ a, a ≠ k + 1 → a ≠ k + 2 → M1 a = M a) → Gd vv kk (M1 (k + 1)) (M1 (k + 2)) (w * u) (s + 1) c (fun l => l < j ∧ ¬ ∃ i, i < ls.length ∧ (lnA ls i).1 = l) → V 27 [some (.ref k), some (.int (nI st)), some (.int wo), some (.int (nI (s + 1))), some (.int (nI c)), some (.int (nI j)), o6, o7] [] M1 L := by
    intro s c e1 e2 H
    refine lp_up ?_ ?_
    · intro M1 o6 o7 e3 e4
      refine ma_walk (mo_X3_run ms_X2_lineOf ms_X3_at ms_X3_slipped ms_X3_place ms_X3_put ms_X3_marksOf ms_X3_made) hV [2, 10, 27, 105] (fun F hF => ?_)
      simp only [tb_X3_run, hF, in_no, in_push, in_ild, in_lld, in_ald, in_ist, in_ast, in_lst, in_inc, in_iii, in_idv, in_ldv, in_lll, in_lli, in_lil, in_ii, in_il, in_li, in_ll, in_dup, in_dp2, q_if1, q_if2, in_go, in_sw, ma_sw, in_rv, in_ri, in_rz, in_rl, in_get, in_put, in_puz, in_iar, in_bar, in_lar, in_aar, in_iaw, in_baw, in_law, in_len, in_cpy, in_s1, in_s2, in_s3, in_v1, in_v2, in_v3, in_v4, in_v5, in_v6, ma_bk, ma_gl, ma_sl, ma_nl, ma_wc, ma_wd, ma_nn, ma_en, List.mem_cons, List.not_mem_nil, or_false, or_true, true_or, false_or, true_and, and_true, false_and, and_false, if_true, if_false, forall_const, true_implies, false_implies, not_true_eq_false, not_false_eq_true, Classical.not_not, implies_true, and_self, Nat.add_zero, Nat.zero_add, eq_self, ne_eq, reduceCtorEq, Nat.reduceLT, Nat.reduceLeDiff, Nat.reduceEqDiff, Nat.reduceSub, Nat.reduceAdd, i10, i01, im10, Int32.reduceLT, Int32.reduceLE, ↓reduceIte, reduceIte, up_r, uL_r, cp_r, Int32.toInt_toInt64, Int64.reduceToInt, Int32.reduceToInt, ↓b1_or, b1_0, b1_1, lc_lt, lc_le, lc_gt, lc_ge, lc_eq, yx_0, yx_1, yx_2, yx_3, yx_4, yx_5, yx_6, yx_7, yx_8, yx_9, yx_10, yx_11, yx_12, yx_13, yx_14, yx_15, yx_16, yx_17, yx_18, yx_19, yx_20, yx_21, yx_22, yx_23, yx_24, yx_25, yx_26, yx_27, yx_28, yx_29, yx_30, yx_31, yx_32, yx_33, yx_34, yx_35, yx_36, yx_37, yx_38, yx_39, yx_40, yx_41, yx_42, yx_43, yx_44, yx_45, yx_46, yx_47, yx_48, yx_49, yx_50, yx_51, yx_52, yx_53, yx_54, yx_55, yx_56, yx_57, yx_58, yx_59, yx_60, yx_61, yx_62, yx_63, yx_64, yx_65, yx_66, yx_67, yx_68, rx_0, rx_1, rx_2, rx_3, rx_4, rx_5, rx_6, rx_7, rx_8, rx_9, rx_10, rx_11, rx_12, rx_13, rx_14, rx_15, rx_16, rx_17, rx_18, rx_19, rx_20, rx_21, rx_22, rx_23, rx_24, rx_25, rx_26, rx_27, rx_28, rx_29, rx_30, rx_31, rx_32, rx_33, rp_0, rp_1, rp_2, rp_3, rp_4, rp_5, rp_6, rp_7, rp_8, rs_0, rs_1, rs_2, rs_3, rs_4, re_0, re_1, re_2, re_3, re_4, re_5, rr_0, rr_1, rr_2, rr_3, rr_4, rk_0, rk_1, isP3, isP11, isP46, isP58, isS25, isS28, isS31, un_X2_lineOf, un_X3_at, un_X3_slipped, un_X3_place, un_X3_put, un_X3_marksOf, un_X3_made, y0]
      try simp only [iteP, Classical.not_not, b1_0, b1_1]
      refine ⟨fun _ => v2 s c e1 e2 H 0 (Nat.zero_le _) M1 _ _ e3 (e4.sub (fun l hl q => ?_)), fun z => absurd (by decide) z⟩
      rcases q with q | ⟨i, q, _⟩
      · exact ⟨hl, q⟩
      · omega
    · intro j hj ih M1 o6 o7 e3 e4
      obtain ⟨f0, f1, f2, f3, f4, f5, f6, f7, f8, f9⟩ := fr M1 e3
      have l4 := hQ.1.2.1
      have v5 : vp_in (M1 11 0) 5 := by rw [f0.1]; exact vp_in_nI (by omega) (by decide)
      have q1 := PX_fd f0 hQ.1 hj
      have s11 : nI (s + 1) - 1 = nI s := nI_pred s
      have e0 : (nI s * 36 + nI c) * 4 + nI j = nI (144 * s + 4 * c + j) := by
        rw [show (36 : Int32) = nI 36 from rfl, show (4 : Int32) = nI 4 from rfl, pk_mul, nI_add, pk_mul, nI_add]; congr 1; omega
      refine ma_walk (mo_X3_run ms_X2_lineOf ms_X3_at ms_X3_slipped ms_X3_place ms_X3_put ms_X3_marksOf ms_X3_made) hV [2, 10, 27, 105] (fun F hF => ?_)
      simp only [tb_X3_run, hF, in_no, in_push, in_ild, in_lld, in_ald, in_ist, in_ast, in_lst, in_inc, in_iii, in_idv, in_ldv, in_lll, in_lli, in_lil, in_ii, in_il, in_li, in_ll, in_dup, in_dp2, q_if1, q_if2, in_go, in_sw, ma_sw, in_rv, in_ri, in_rz, in_rl, in_get, in_put, in_puz, in_iar, in_bar, in_lar, in_aar, in_iaw, in_baw, in_law, in_len, in_cpy, in_s1, in_s2, in_s3, in_v1, in_v2, in_v3, in_v4, in_v5, in_v6, ma_bk, ma_gl, ma_sl, ma_nl, ma_wc, ma_wd, ma_nn, ma_en, List.mem_cons, List.not_mem_nil, or_false, or_true, true_or, false_or, true_and, and_true, false_and, and_false, if_true, if_false, forall_const, true_implies, false_implies, not_true_eq_false, not_false_eq_true, Classical.not_not, implies_true, and_self, Nat.add_zero, Nat.zero_add, eq_self, ne_eq, reduceCtorEq, Nat.reduceLT, Nat.reduceLeDiff, Nat.reduceEqDiff, Nat.reduceSub, Nat.reduceAdd, i10, i01, im10, Int32.reduceLT, Int32.reduceLE, ↓reduceIte, reduceIte, up_r, uL_r, cp_r, Int32.toInt_toInt64, Int64.reduceToInt, Int32.reduceToInt, ↓b1_or, b1_0, b1_1, lc_lt, lc_le, lc_gt, lc_ge, lc_eq, yx_0, yx_1, yx_2, yx_3, yx_4, yx_5, yx_6, yx_7, yx_8, yx_9, yx_10, yx_11, yx_12, yx_13, yx_14, yx_15, yx_16, yx_17, yx_18, yx_19, yx_20, yx_21, yx_22, yx_23, yx_24, yx_25, yx_26, yx_27, yx_28, yx_29, yx_30, yx_31, yx_32, yx_33, yx_34, yx_35, yx_36, yx_37, yx_38, yx_39, yx_40, yx_41, yx_42, yx_43, yx_44, yx_45, yx_46, yx_47, yx_48, yx_49, yx_50, yx_51, yx_52, yx_53, yx_54, yx_55, yx_56, yx_57, yx_58, yx_59, yx_60, yx_61, yx_62, yx_63, yx_64, yx_65, yx_66, yx_67, yx_68, rx_0, rx_1, rx_2, rx_3, rx_4, rx_5, rx_6, rx_7, rx_8, rx_9, rx_10, rx_11, rx_12, rx_13, rx_14, rx_15, rx_16, rx_17, rx_18, rx_19, rx_20, rx_21, rx_22, rx_23, rx_24, rx_25, rx_26, rx_27, rx_28, rx_29, rx_30, rx_31, rx_32, rx_33, rp_0, rp_1, rp_2, rp_3, rp_4, rp_5, rp_6, rp_7, rp_8, rs_0, rs_1, rs_2, rs_3, rs_4, re_0, re_1, re_2, re_3, re_4, re_5, rr_0, rr_1, rr_2, rr_3, rr_4, rk_0, rk_1, isP3, isP11, isP46, isP58, isS25, isS28, isS31, un_X2_lineOf, un_X3_at, un_X3_slipped, un_X3_place, un_X3_put, un_X3_marksOf, un_X3_made, y0, y2, nI_1, v5, hS, s11, e0]
      try simp only [iteP, Classical.not_not, b1_0, b1_1]
      rw [show ((4 : Int32) ≤ nI j) = (4 ≤ j) from a_le (a := 4) (by omega) (by omega)]
      refine ⟨fun z => absurd z (by omega), fun _ => ?_⟩
      rw [q1]
      refine ⟨fun z => ?_, fun z => ?_⟩
      · rw [a_cl (by omega), a_vi (by omega)]
        have a0 := e4 s c j hj e2 (Or.inl (by omega))
        have hk9 : kk s c j = 0 ∨ kk s c j = 1 := by rw [← hkk]; exact vak_01 (hr c j e2 hj).2.2 s
        refine ⟨s, c, j, ⟨rfl, rfl, rfl, by omega, by omega, hj⟩, s + 1, c, j, n, S, ⟨rfl, rfl, rfl, by rw [f2]; exact m3, hn, hw⟩, by omega, s + 1, c, j, ⟨rfl, rfl, rfl, by omega, by omega, hj, by rw [a0.2]; exact hk9⟩, ?_⟩
        refine ih _ _ _ (fun a z1 z2 => by rw [up_c z2, up_c z1]; exact e3 a z1 z2) ?_
        rw [up_c (show k + 1 ≠ k + 2 by omega), ma_up_at, ma_up_at, up_c (show k + 2 ≠ k + 1 by omega)]
        refine (e4.put h36 e2 hj ?_ ?_).sub (fun l hl q => ?_)
        · rw [a0.1, f4, f5, f6, f7, ← hvv]
          exact (nwv_no (Z := zX M S n) ls.length (fun i hi q => z ⟨i, hi, q⟩)).symm
        · rw [a0.2, ← hkk]
          exact (nwk_no ls.length (fun i hi q => z ⟨i, hi, q⟩)).symm
        · by_cases q3 : l = j
          · exact Or.inr q3
          · exact Or.inl ⟨by omega, q.2⟩
      · refine ih _ _ _ e3 (e4.sub (fun l hl q => ⟨?_, q.2⟩))
        by_cases q3 : l = j
        · exact absurd (by rw [q3]; exact Classical.not_not.1 z) q.2
        · omega
  have v0 : ∀ (s : Nat), s < st → (∀ (M1 : ZM) (o4 o5 o6 o7 : Option Value), (∀ a, a ≠ k + 1 → a ≠ k + 2 → M1 a = M a) → Gd vv kk (M1 (k + 1)) (M1 (k + 2)) (w * u) (s + 2) 0 (fun _ => False) → V 2 [some (.ref k), some (.int (nI st)), some (.int wo), some (.int (nI (s + 2))), o4, o5, o6, o7] [] M1 L) →
      ∀ c, c ≤ w * u → ∀ (M1 : ZM) (o5 o6 o7 : Option Value), (∀ a, a ≠ k + 1 → a ≠ k + 2 → M1 a = M a) → Gd vv kk (M1 (k + 1)) (M1 (k + 2)) (w * u) (s + 1) c (fun _ => False) → V 10 [some (.ref k), some (.int (nI st)), some (.int wo), some (.int (nI (s + 1))), some (.int (nI c)), o5, o6, o7] [] M1 L := by
    intro s e1 H
    refine lp_up ?_ ?_
    · intro M1 o5 o6 o7 e3 e4
      obtain ⟨f0, f1, f2, f3, f4, f5, f6, f7, f8, f9⟩ := fr M1 e3
      have z0 : M1 k 0 = nI w := by rw [f1]; exact m0
      have z1 : M1 k 1 = nI u := by rw [f1]; exact m1
      refine ma_walk (mo_X3_run ms_X2_lineOf ms_X3_at ms_X3_slipped ms_X3_place ms_X3_put ms_X3_marksOf ms_X3_made) hV [2, 10, 27, 105] (fun F hF => ?_)
      simp only [tb_X3_run, hF, in_no, in_push, in_ild, in_lld, in_ald, in_ist, in_ast, in_lst, in_inc, in_iii, in_idv, in_ldv, in_lll, in_lli, in_lil, in_ii, in_il, in_li, in_ll, in_dup, in_dp2, q_if1, q_if2, in_go, in_sw, ma_sw, in_rv, in_ri, in_rz, in_rl, in_get, in_put, in_puz, in_iar, in_bar, in_lar, in_aar, in_iaw, in_baw, in_law, in_len, in_cpy, in_s1, in_s2, in_s3, in_v1, in_v2, in_v3, in_v4, in_v5, in_v6, ma_bk, ma_gl, ma_sl, ma_nl, ma_wc, ma_wd, ma_nn, ma_en, List.mem_cons, List.not_mem_nil, or_false, or_true, true_or, false_or, true_and, and_true, false_and, and_false, if_true, if_false, forall_const, true_implies, false_implies, not_true_eq_false, not_false_eq_true, Classical.not_not, implies_true, and_self, Nat.add_zero, Nat.zero_add, eq_self, ne_eq, reduceCtorEq, Nat.reduceLT, Nat.reduceLeDiff, Nat.reduceEqDiff, Nat.reduceSub, Nat.reduceAdd, i10, i01, im10, Int32.reduceLT, Int32.reduceLE, ↓reduceIte, reduceIte, up_r, uL_r, cp_r, Int32.toInt_toInt64, Int64.reduceToInt, Int32.reduceToInt, ↓b1_or, b1_0, b1_1, lc_lt, lc_le, lc_gt, lc_ge, lc_eq, yx_0, yx_1, yx_2, yx_3, yx_4, yx_5, yx_6, yx_7, yx_8, yx_9, yx_10, yx_11, yx_12, yx_13, yx_14, yx_15, yx_16, yx_17, yx_18, yx_19, yx_20, yx_21, yx_22, yx_23, yx_24, yx_25, yx_26, yx_27, yx_28, yx_29, yx_30, yx_31, yx_32, yx_33, yx_34, yx_35, yx_36, yx_37, yx_38, yx_39, yx_40, yx_41, yx_42, yx_43, yx_44, yx_45, yx_46, yx_47, yx_48, yx_49, yx_50, yx_51, yx_52, yx_53, yx_54, yx_55, yx_56, yx_57, yx_58, yx_59, yx_60, yx_61, yx_62, yx_63, yx_64, yx_65, yx_66, yx_67, yx_68, rx_0, rx_1, rx_2, rx_3, rx_4, rx_5, rx_6, rx_7, rx_8, rx_9, rx_10, rx_11, rx_12, rx_13, rx_14, rx_15, rx_16, rx_17, rx_18, rx_19, rx_20, rx_21, rx_22, rx_23, rx_24, rx_25, rx_26, rx_27, rx_28, rx_29, rx_30, rx_31, rx_32, rx_33, rp_0, rp_1, rp_2, rp_3, rp_4, rp_5, rp_6, rp_7, rp_8, rs_0, rs_1, rs_2, rs_3, rs_4, re_0, re_1, re_2, re_3, re_4, re_5, rr_0, rr_1, rr_2, rr_3, rr_4, rk_0, rk_1, isP3, isP11, isP46, isP58, isS25, isS28, isS31, un_X2_lineOf, un_X3_at, un_X3_slipped, un_X3_place, un_X3_put, un_X3_marksOf, un_X3_made, y0, z0, z1, hwu, nI_1]
      try simp only [iteP, Classical.not_not, b1_0, b1_1]
      exact ⟨fun _ => H _ _ _ _ _ e3 (e4.nextS (Nat.le_refl _) (fun _ z => z)), fun z => absurd (nI_le (Nat.le_refl _) (by omega)) z⟩
    · intro c hc ih M1 o5 o6 o7 e3 e4
      obtain ⟨f0, f1, f2, f3, f4, f5, f6, f7, f8, f9⟩ := fr M1 e3
      have z0 : M1 k 0 = nI w := by rw [f1]; exact m0
      have z1 : M1 k 1 = nI u := by rw [f1]; exact m1
      refine ma_walk (mo_X3_run ms_X2_lineOf ms_X3_at ms_X3_slipped ms_X3_place ms_X3_put ms_X3_marksOf ms_X3_made) hV [2, 10, 27, 105] (fun F hF => ?_)
      simp only [tb_X3_run, hF, in_no, in_push, in_ild, in_lld, in_ald, in_ist, in_ast, in_lst, in_inc, in_iii, in_idv, in_ldv, in_lll, in_lli, in_lil, in_ii, in_il, in_li, in_ll, in_dup, in_dp2, q_if1, q_if2, in_go, in_sw, ma_sw, in_rv, in_ri, in_rz, in_rl, in_get, in_put, in_puz, in_iar, in_bar, in_lar, in_aar, in_iaw, in_baw, in_law, in_len, in_cpy, in_s1, in_s2, in_s3, in_v1, in_v2, in_v3, in_v4, in_v5, in_v6, ma_bk, ma_gl, ma_sl, ma_nl, ma_wc, ma_wd, ma_nn, ma_en, List.mem_cons, List.not_mem_nil, or_false, or_true, true_or, false_or, true_and, and_true, false_and, and_false, if_true, if_false, forall_const, true_implies, false_implies, not_true_eq_false, not_false_eq_true, Classical.not_not, implies_true, and_self, Nat.add_zero, Nat.zero_add, eq_self, ne_eq, reduceCtorEq, Nat.reduceLT, Nat.reduceLeDiff, Nat.reduceEqDiff, Nat.reduceSub, Nat.reduceAdd, i10, i01, im10, Int32.reduceLT, Int32.reduceLE, ↓reduceIte, reduceIte, up_r, uL_r, cp_r, Int32.toInt_toInt64, Int64.reduceToInt, Int32.reduceToInt, ↓b1_or, b1_0, b1_1, lc_lt, lc_le, lc_gt, lc_ge, lc_eq, yx_0, yx_1, yx_2, yx_3, yx_4, yx_5, yx_6, yx_7, yx_8, yx_9, yx_10, yx_11, yx_12, yx_13, yx_14, yx_15, yx_16, yx_17, yx_18, yx_19, yx_20, yx_21, yx_22, yx_23, yx_24, yx_25, yx_26, yx_27, yx_28, yx_29, yx_30, yx_31, yx_32, yx_33, yx_34, yx_35, yx_36, yx_37, yx_38, yx_39, yx_40, yx_41, yx_42, yx_43, yx_44, yx_45, yx_46, yx_47, yx_48, yx_49, yx_50, yx_51, yx_52, yx_53, yx_54, yx_55, yx_56, yx_57, yx_58, yx_59, yx_60, yx_61, yx_62, yx_63, yx_64, yx_65, yx_66, yx_67, yx_68, rx_0, rx_1, rx_2, rx_3, rx_4, rx_5, rx_6, rx_7, rx_8, rx_9, rx_10, rx_11, rx_12, rx_13, rx_14, rx_15, rx_16, rx_17, rx_18, rx_19, rx_20, rx_21, rx_22, rx_23, rx_24, rx_25, rx_26, rx_27, rx_28, rx_29, rx_30, rx_31, rx_32, rx_33, rp_0, rp_1, rp_2, rp_3, rp_4, rp_5, rp_6, rp_7, rp_8, rs_0, rs_1, rs_2, rs_3, rs_4, re_0, re_1, re_2, re_3, re_4, re_5, rr_0, rr_1, rr_2, rr_3, rr_4, rk_0, rk_1, isP3, isP11, isP46, isP58, isS25, isS28, isS31, un_X2_lineOf, un_X3_at, un_X3_slipped, un_X3_place, un_X3_put, un_X3_marksOf, un_X3_made, y0, z0, z1, hwu, nI_1]
      try simp only [iteP, Classical.not_not, b1_0, b1_1]
      rw [a_le (by omega) (by omega)]
      refine ⟨fun z => absurd z (by omega), fun _ => ?_⟩
      exact v1 s c e1 hc ih 0 (by omega) M1 _ _ e3 (e4.sub (fun l hl q => absurd q.1 (Nat.not_lt_zero l)))
  have vS : ∀ s, s ≤ st → ∀ (M1 : ZM) (o4 o5 o6 o7 : Option Value), (∀ a, a ≠ k + 1 → a ≠ k + 2 → M1 a = M a) → Gd vv kk (M1 (k + 1)) (M1 (k + 2)) (w * u) (s + 1) 0 (fun _ => False) → V 2 [some (.ref k), some (.int (nI st)), some (.int wo), some (.int (nI (s + 1))), o4, o5, o6, o7] [] M1 L := by
    refine lp_up ?_ ?_
    · intro M1 o4 o5 o6 o7 e3 e4
      refine ma_walk (mo_X3_run ms_X2_lineOf ms_X3_at ms_X3_slipped ms_X3_place ms_X3_put ms_X3_marksOf ms_X3_made) hV [2, 10, 27, 105] (fun F hF => ?_)
      simp only [tb_X3_run, hF, in_no, in_push, in_ild, in_lld, in_ald, in_ist, in_ast, in_lst, in_inc, in_iii, in_idv, in_ldv, in_lll, in_lli, in_lil, in_ii, in_il, in_li, in_ll, in_dup, in_dp2, q_if1, q_if2, in_go, in_sw, ma_sw, in_rv, in_ri, in_rz, in_rl, in_get, in_put, in_puz, in_iar, in_bar, in_lar, in_aar, in_iaw, in_baw, in_law, in_len, in_cpy, in_s1, in_s2, in_s3, in_v1, in_v2, in_v3, in_v4, in_v5, in_v6, ma_bk, ma_gl, ma_sl, ma_nl, ma_wc, ma_wd, ma_nn, ma_en, List.mem_cons, List.not_mem_nil, or_false, or_true, true_or, false_or, true_and, and_true, false_and, and_false, if_true, if_false, forall_const, true_implies, false_implies, not_true_eq_false, not_false_eq_true, Classical.not_not, implies_true, and_self, Nat.add_zero, Nat.zero_add, eq_self, ne_eq, reduceCtorEq, Nat.reduceLT, Nat.reduceLeDiff, Nat.reduceEqDiff, Nat.reduceSub, Nat.reduceAdd, i10, i01, im10, Int32.reduceLT, Int32.reduceLE, ↓reduceIte, reduceIte, up_r, uL_r, cp_r, Int32.toInt_toInt64, Int64.reduceToInt, Int32.reduceToInt, ↓b1_or, b1_0, b1_1, lc_lt, lc_le, lc_gt, lc_ge, lc_eq, yx_0, yx_1, yx_2, yx_3, yx_4, yx_5, yx_6, yx_7, yx_8, yx_9, yx_10, yx_11, yx_12, yx_13, yx_14, yx_15, yx_16, yx_17, yx_18, yx_19, yx_20, yx_21, yx_22, yx_23, yx_24, yx_25, yx_26, yx_27, yx_28, yx_29, yx_30, yx_31, yx_32, yx_33, yx_34, yx_35, yx_36, yx_37, yx_38, yx_39, yx_40, yx_41, yx_42, yx_43, yx_44, yx_45, yx_46, yx_47, yx_48, yx_49, yx_50, yx_51, yx_52, yx_53, yx_54, yx_55, yx_56, yx_57, yx_58, yx_59, yx_60, yx_61, yx_62, yx_63, yx_64, yx_65, yx_66, yx_67, yx_68, rx_0, rx_1, rx_2, rx_3, rx_4, rx_5, rx_6, rx_7, rx_8, rx_9, rx_10, rx_11, rx_12, rx_13, rx_14, rx_15, rx_16, rx_17, rx_18, rx_19, rx_20, rx_21, rx_22, rx_23, rx_24, rx_25, rx_26, rx_27, rx_28, rx_29, rx_30, rx_31, rx_32, rx_33, rp_0, rp_1, rp_2, rp_3, rp_4, rp_5, rp_6, rp_7, rp_8, rs_0, rs_1, rs_2, rs_3, rs_4, re_0, re_1, re_2, re_3, re_4, re_5, rr_0, rr_1, rr_2, rr_3, rr_4, rk_0, rk_1, isP3, isP11, isP46, isP58, isS25, isS28, isS31, un_X2_lineOf, un_X3_at, un_X3_slipped, un_X3_place, un_X3_put, un_X3_marksOf, un_X3_made]
      try simp only [iteP, Classical.not_not, b1_0, b1_1]
      rw [a_lt (by omega) (by omega)]
      refine ⟨fun _ => h M1 e3 (fun s c l h1 h2 h3 => e4 s c l h3 h2 (Or.inl (by omega))), fun z => absurd (by omega) z⟩
    · intro s hs ih M1 o4 o5 o6 o7 e3 e4
      refine ma_walk (mo_X3_run ms_X2_lineOf ms_X3_at ms_X3_slipped ms_X3_place ms_X3_put ms_X3_marksOf ms_X3_made) hV [2, 10, 27, 105] (fun F hF => ?_)
      simp only [tb_X3_run, hF, in_no, in_push, in_ild, in_lld, in_ald, in_ist, in_ast, in_lst, in_inc, in_iii, in_idv, in_ldv, in_lll, in_lli, in_lil, in_ii, in_il, in_li, in_ll, in_dup, in_dp2, q_if1, q_if2, in_go, in_sw, ma_sw, in_rv, in_ri, in_rz, in_rl, in_get, in_put, in_puz, in_iar, in_bar, in_lar, in_aar, in_iaw, in_baw, in_law, in_len, in_cpy, in_s1, in_s2, in_s3, in_v1, in_v2, in_v3, in_v4, in_v5, in_v6, ma_bk, ma_gl, ma_sl, ma_nl, ma_wc, ma_wd, ma_nn, ma_en, List.mem_cons, List.not_mem_nil, or_false, or_true, true_or, false_or, true_and, and_true, false_and, and_false, if_true, if_false, forall_const, true_implies, false_implies, not_true_eq_false, not_false_eq_true, Classical.not_not, implies_true, and_self, Nat.add_zero, Nat.zero_add, eq_self, ne_eq, reduceCtorEq, Nat.reduceLT, Nat.reduceLeDiff, Nat.reduceEqDiff, Nat.reduceSub, Nat.reduceAdd, i10, i01, im10, Int32.reduceLT, Int32.reduceLE, ↓reduceIte, reduceIte, up_r, uL_r, cp_r, Int32.toInt_toInt64, Int64.reduceToInt, Int32.reduceToInt, ↓b1_or, b1_0, b1_1, lc_lt, lc_le, lc_gt, lc_ge, lc_eq, yx_0, yx_1, yx_2, yx_3, yx_4, yx_5, yx_6, yx_7, yx_8, yx_9, yx_10, yx_11, yx_12, yx_13, yx_14, yx_15, yx_16, yx_17, yx_18, yx_19, yx_20, yx_21, yx_22, yx_23, yx_24, yx_25, yx_26, yx_27, yx_28, yx_29, yx_30, yx_31, yx_32, yx_33, yx_34, yx_35, yx_36, yx_37, yx_38, yx_39, yx_40, yx_41, yx_42, yx_43, yx_44, yx_45, yx_46, yx_47, yx_48, yx_49, yx_50, yx_51, yx_52, yx_53, yx_54, yx_55, yx_56, yx_57, yx_58, yx_59, yx_60, yx_61, yx_62, yx_63, yx_64, yx_65, yx_66, yx_67, yx_68, rx_0, rx_1, rx_2, rx_3, rx_4, rx_5, rx_6, rx_7, rx_8, rx_9, rx_10, rx_11, rx_12, rx_13, rx_14, rx_15, rx_16, rx_17, rx_18, rx_19, rx_20, rx_21, rx_22, rx_23, rx_24, rx_25, rx_26, rx_27, rx_28, rx_29, rx_30, rx_31, rx_32, rx_33, rp_0, rp_1, rp_2, rp_3, rp_4, rp_5, rp_6, rp_7, rp_8, rs_0, rs_1, rs_2, rs_3, rs_4, re_0, re_1, re_2, re_3, re_4, re_5, rr_0, rr_1, rr_2, rr_3, rr_4, rk_0, rk_1, isP3, isP11, isP46, isP58, isS25, isS28, isS31, un_X2_lineOf, un_X3_at, un_X3_slipped, un_X3_place, un_X3_put, un_X3_marksOf, un_X3_made]
      try simp only [iteP, Classical.not_not, b1_0, b1_1]
      rw [a_lt (by omega) (by omega)]
      refine ⟨fun z => absurd z (by omega), fun _ => ?_⟩
      exact v0 s hs ih 0 (Nat.zero_le _) M1 _ _ _ e3 e4
  refine ma_walk (mo_X3_run ms_X2_lineOf ms_X3_at ms_X3_slipped ms_X3_place ms_X3_put ms_X3_marksOf ms_X3_made) hV [2] (fun F hF => ?_)
  simp only [tb_X3_run, hF, in_no, in_push, in_ild, in_lld, in_ald, in_ist, in_ast, in_lst, in_inc, in_iii, in_idv, in_ldv, in_lll, in_lli, in_lil, in_ii, in_il, in_li, in_ll, in_dup, in_dp2, q_if1, q_if2, in_go, in_sw, ma_sw, in_rv, in_ri, in_rz, in_rl, in_get, in_put, in_puz, in_iar, in_bar, in_lar, in_aar, in_iaw, in_baw, in_law, in_len, in_cpy, in_s1, in_s2, in_s3, in_v1, in_v2, in_v3, in_v4, in_v5, in_v6, ma_bk, ma_gl, ma_sl, ma_nl, ma_wc, ma_wd, ma_nn, ma_en, List.mem_cons, List.not_mem_nil, or_false, or_true, true_or, false_or, true_and, and_true, false_and, and_false, if_true, if_false, forall_const, true_implies, false_implies, not_true_eq_false, not_false_eq_true, Classical.not_not, implies_true, and_self, Nat.add_zero, Nat.zero_add, eq_self, ne_eq, reduceCtorEq, Nat.reduceLT, Nat.reduceLeDiff, Nat.reduceEqDiff, Nat.reduceSub, Nat.reduceAdd, i10, i01, im10, Int32.reduceLT, Int32.reduceLE, ↓reduceIte, reduceIte, up_r, uL_r, cp_r, Int32.toInt_toInt64, Int64.reduceToInt, Int32.reduceToInt, ↓b1_or, b1_0, b1_1, lc_lt, lc_le, lc_gt, lc_ge, lc_eq, yx_0, yx_1, yx_2, yx_3, yx_4, yx_5, yx_6, yx_7, yx_8, yx_9, yx_10, yx_11, yx_12, yx_13, yx_14, yx_15, yx_16, yx_17, yx_18, yx_19, yx_20, yx_21, yx_22, yx_23, yx_24, yx_25, yx_26, yx_27, yx_28, yx_29, yx_30, yx_31, yx_32, yx_33, yx_34, yx_35, yx_36, yx_37, yx_38, yx_39, yx_40, yx_41, yx_42, yx_43, yx_44, yx_45, yx_46, yx_47, yx_48, yx_49, yx_50, yx_51, yx_52, yx_53, yx_54, yx_55, yx_56, yx_57, yx_58, yx_59, yx_60, yx_61, yx_62, yx_63, yx_64, yx_65, yx_66, yx_67, yx_68, rx_0, rx_1, rx_2, rx_3, rx_4, rx_5, rx_6, rx_7, rx_8, rx_9, rx_10, rx_11, rx_12, rx_13, rx_14, rx_15, rx_16, rx_17, rx_18, rx_19, rx_20, rx_21, rx_22, rx_23, rx_24, rx_25, rx_26, rx_27, rx_28, rx_29, rx_30, rx_31, rx_32, rx_33, rp_0, rp_1, rp_2, rp_3, rp_4, rp_5, rp_6, rp_7, rp_8, rs_0, rs_1, rs_2, rs_3, rs_4, re_0, re_1, re_2, re_3, re_4, re_5, rr_0, rr_1, rr_2, rr_3, rr_4, rk_0, rk_1, isP3, isP11, isP46, isP58, isS25, isS28, isS31, un_X2_lineOf, un_X3_at, un_X3_slipped, un_X3_place, un_X3_put, un_X3_marksOf, un_X3_made]
  try simp only [iteP, Classical.not_not, b1_0, b1_1]
  refine vS 0 (Nat.zero_le _) M _ _ _ _ (fun _ _ _ => rfl) (fun s' c' l h1 h2 h3 => ?_)
  have h4 : s' = 0 := by
    rcases h3 with h3 | h3 | h3
    · omega
    · omega
    · exact absurd h3.2.2 (fun z => z)
  subst h4
  rw [show 144 * 0 + 4 * c' + l = 4 * c' + l by omega, ← hvv, ← hkk]
  exact ⟨(hr c' l h2 h1).1, (hr c' l h2 h1).2.1⟩
theorem pv_X3_run : ∀ as M L K, S_X3_run as M L K → ma_rn (tb_X3_run S_X2_lineOf S_X3_at S_X3_slipped S_X3_place S_X3_put S_X3_marksOf S_X3_made) 8 as M L K := by
  intro as M L K h
  unfold S_X3_run at h
  split at h
  · obtain ⟨w, u, e, st, n, S, ts, ls, r0, k0, h⟩ := h; exact pw_X3_run h.1 h.2
  · exact h.elim
