/-! a term, a line, the whole text -/
set_option maxRecDepth 100000
set_option maxHeartbeats 4000000
/-- a term: factor, a name, perhaps another -/
abbrev Tm : Type := Int32 × Nat × Option Nat
def tr2 (g : Nat → Nat) (ds : List Nat) (p : Nat) (f : Int32) : Except Nat (Nat × Tm) :=
  match nm g ds p with
  | none => .error p
  | some (q, c) => if g q = 46 then (match nm g ds (q + 1) with
    | none => .error (q + 1)
    | some (r, d) => .ok (r, f, c, some d)) else .ok (q, f, c, none)
def tr1 (g : Nat → Nat) (ds : List Nat) (p : Nat) (s : Int32) : Except Nat (Nat × Tm) :=
  if 48 ≤ g p ∧ g p ≤ 57 then (if ¬ g p = 48 ∧ (nu g 200 p 0).2 ≤ 999 then tr2 g ds (nu g 200 p 0).1 (s * nI (nu g 200 p 0).2) else .error p) else tr2 g ds p (s * 1)
def tr (g : Nat → Nat) (ds : List Nat) (p : Nat) : Except Nat (Nat × Tm) :=
  if g p = 45 then tr1 g ds (p + 1) (-1) else if g p = 43 then tr1 g ds (p + 1) 1 else tr1 g ds p 1
def s2 (o : Option Nat) : Int32 := match o with
  | none => -4
  | some c => nI (ex c)
def Tf (M M' : ZM) : Prop := ∀ a, a ≠ 2 → a ≠ 3 → a ≠ 8 → a ≠ 9 → a ≠ 10 → M' a = M a
def Tx (M M' : ZM) (q t : Nat) (tm : Tm) : Prop := Tf M M' ∧ M' 2 0 = nI q ∧ (∀ j, j ≠ 5 → M' 3 j = M 3 j) ∧ M' 3 5 = nI (t + 1) ∧ M' 8 = upd (M 8) t tm.1 ∧ M' 9 = upd (M 9) t (nI (ex tm.2.1)) ∧ M' 10 = upd (M 10) t (s2 tm.2.2)
theorem nu_le {g : Nat → Nat} {n : Nat} (h7 : ∀ i, n ≤ i → g i = 0) : ∀ (f p v : Nat), p ≤ n → p ≤ (nu g f p v).1 ∧ (nu g f p v).1 ≤ n
  | 0, p, v, h => ⟨Nat.le_refl p, h⟩
  | f + 1, p, v, h => by
    rw [nu]
    split
    · next c =>
      have e : p < n := by
        apply Nat.lt_of_not_le
        intro e; have := h7 p e; omega
      have := nu_le h7 f (p + 1) (min 100000 (10 * v + g p - 48)) (by omega)
      omega
    · exact ⟨Nat.le_refl p, h⟩
theorem nm_le {g : Nat → Nat} {n : Nat} (h7 : ∀ i, n ≤ i → g i = 0) {ds : List Nat} {p q c : Nat} (h : nm g ds p = some (q, c)) : p < q ∧ q ≤ n := by
  have pos : ∀ i, g i ≠ 0 → i < n := fun i hi => Nat.lt_of_not_le fun e => hi (h7 i e)
  unfold nm at h
  split at h
  · next c1 =>
    have h1 := pos p (by omega)
    have h2 : p < nq g p ∧ nq g p ≤ n := by
      unfold nq; split
      · omega
      · next e4 =>
        have := pos (p + 1) (fun e5 => e4 (by rw [e5]; rfl))
        omega
    split at h
    · next c2 =>
      have h3 := pos (nq g p) (by omega)
      split at h
      · cases h; omega
      · cases h
    · cases h; omega
  · cases h
def S_X1_term : ma_Cs := fun as M L K => match as with
  | [.ref k, .int f] => ∃ (g : Nat → Nat) (n : Nat) (p : Nat) (ds : List Nat) (t : Nat), (k = 2 ∧ Rd M g n p ∧ Dl M ds ∧ M 3 5 = nI t ∧ t < 80 ∧ (f = 0 → g p = 43 ∨ g p = 45)) ∧ (∀ (M' : ZM) (q : Nat) (tm : Tm), tr g ds p = .ok (q, tm) → Tx M M' q t tm → K (some (.int 1)) M' L) ∧ (∀ (M' : ZM) (e : Nat), tr g ds p = .error e → Tf M M' → M' 2 1 = nI e → K (some (.int 0)) M' L)
  | _ => False
theorem ms_X1_term : ma_ms S_X1_term := by
  intro as M L K K' hk h
  unfold S_X1_term at h ⊢
  split at h
  · obtain ⟨g, n, p, ds, t, h⟩ := h
    exact ⟨g, n, p, ds, t, h.1, fun x0 x1 x2 x3 x4 => hk _ _ _ (h.2.1 x0 x1 x2 x3 x4), fun x0 x1 x2 x3 x4 => hk _ _ _ (h.2.2 x0 x1 x2 x3 x4)⟩
  · exact h.elim
theorem un_X1_term {k : Nat} {f : Int32} {M : ZM} {L : ZL} {K : ma_Kt} : S_X1_term [.ref k, .int f] M L K = (∃ (g : Nat → Nat) (n : Nat) (p : Nat) (ds : List Nat) (t : Nat), (k = 2 ∧ Rd M g n p ∧ Dl M ds ∧ M 3 5 = nI t ∧ t < 80 ∧ (f = 0 → g p = 43 ∨ g p = 45)) ∧ (∀ (M' : ZM) (q : Nat) (tm : Tm), tr g ds p = .ok (q, tm) → Tx M M' q t tm → K (some (.int 1)) M' L) ∧ (∀ (M' : ZM) (e : Nat), tr g ds p = .error e → Tf M M' → M' 2 1 = nI e → K (some (.int 0)) M' L)) := rfl
theorem pw_X1_term {k : Nat} {f : Int32} {g : Nat → Nat} {n : Nat} {p : Nat} {ds : List Nat} {t : Nat} {M : ZM} {L : ZL} {K : ma_Kt} (hp : k = 2 ∧ Rd M g n p ∧ Dl M ds ∧ M 3 5 = nI t ∧ t < 80 ∧ (f = 0 → g p = 43 ∨ g p = 45)) (h : (∀ (M' : ZM) (q : Nat) (tm : Tm), tr g ds p = .ok (q, tm) → Tx M M' q t tm → K (some (.int 1)) M' L) ∧ (∀ (M' : ZM) (e : Nat), tr g ds p = .error e → Tf M M' → M' 2 1 = nI e → K (some (.int 0)) M' L)) : ma_rn (tb_X1_term S_X1_eats S_X1_fails S_X1_isFigure S_X1_number S_X1_name) 5 [.ref k, .int f] M L K := by
  refine ⟨Nat.le_of_ble_eq_true rfl, fun V hV => ?_⟩
  obtain ⟨rfl, h1, h2, h3, h4, h5⟩ := hp
  obtain ⟨k1, k2, k3, k4, k5, k6, k7⟩ := id h1
  have h71 : ∀ M1 r s fa, (∀ a, ¬ a = 2 → M1 a = M a) → Rd M1 g n r → tr g ds p = tr2 g ds r (s * fa) → V 71 [some (.ref 2), some (.int f), some (.int s), some (.int fa), none] [] M1 L := by
    intro M1 r s fa e1 e2 e3
    have hD : Dl M1 ds := by unfold Dl; rw [e1 3 (by decide), e1 4 (by decide)]; exact h2
    have e4 : M1 3 5 = nI t := by rw [e1 3 (by decide)]; exact h3
    have e8 := e1 8 (by decide)
    have e9 := e1 9 (by decide)
    have e10 := e1 10 (by decide)
    have hv : vp_in (nI t) 80 := vp_in_nI h4 (by decide)
    refine ma_walk (mo_X1_term ms_X1_eats ms_X1_fails ms_X1_isFigure ms_X1_number ms_X1_name) hV [] (fun F hF => ?_)
    simp only [tb_X1_term, hF, in_no, in_push, in_ild, in_lld, in_ald, in_ist, in_ast, in_lst, in_inc, in_iii, in_idv, in_ldv, in_lll, in_lli, in_lil, in_ii, in_il, in_li, in_ll, in_dup, in_dp2, q_if1, q_if2, in_go, in_sw, ma_sw, in_rv, in_ri, in_rz, in_rl, in_get, in_put, in_puz, in_iar, in_bar, in_lar, in_aar, in_iaw, in_baw, in_law, in_len, in_cpy, in_s1, in_s2, in_s3, in_v1, in_v2, in_v3, in_v4, in_v5, in_v6, ma_bk, ma_gl, ma_sl, ma_nl, ma_wc, ma_wd, ma_nn, ma_en, List.mem_cons, List.not_mem_nil, or_false, or_true, true_or, false_or, true_and, and_true, false_and, and_false, if_true, if_false, forall_const, true_implies, false_implies, not_true_eq_false, not_false_eq_true, Classical.not_not, implies_true, and_self, Nat.add_zero, Nat.zero_add, eq_self, ne_eq, reduceCtorEq, Nat.reduceLT, Nat.reduceLeDiff, Nat.reduceEqDiff, Nat.reduceSub, Nat.reduceAdd, i10, i01, im10, Int32.reduceLT, Int32.reduceLE, ↓reduceIte, reduceIte, up_r, uL_r, cp_r, Int32.toInt_toInt64, Int64.reduceToInt, Int32.reduceToInt, ↓b1_or, b1_0, b1_1, lc_lt, lc_le, lc_gt, lc_ge, lc_eq, yx_0, yx_1, yx_2, yx_3, yx_4, yx_5, yx_6, yx_7, yx_8, yx_9, yx_10, yx_11, yx_12, yx_13, yx_14, yx_15, yx_16, yx_17, yx_18, yx_19, yx_20, yx_21, yx_22, yx_23, yx_24, yx_25, yx_26, yx_27, yx_28, yx_29, yx_30, yx_31, yx_32, yx_33, yx_34, yx_35, yx_36, yx_37, yx_38, yx_39, yx_40, yx_41, yx_42, yx_43, yx_44, yx_45, yx_46, yx_47, yx_48, yx_49, yx_50, yx_51, yx_52, yx_53, yx_54, yx_55, yx_56, yx_57, yx_58, yx_59, yx_60, yx_61, yx_62, yx_63, yx_64, yx_65, yx_66, yx_67, yx_68, rx_0, rx_1, rx_2, rx_3, rx_4, rx_5, rx_6, rx_7, rx_8, rx_9, rx_10, rx_11, rx_12, rx_13, rx_14, rx_15, rx_16, rx_17, rx_18, rx_19, rx_20, rx_21, rx_22, rx_23, rx_24, rx_25, rx_26, rx_27, rx_28, rx_29, rx_30, rx_31, rx_32, rx_33, rp_0, rp_1, rp_2, rp_3, rp_4, rp_5, rp_6, rp_7, rp_8, rs_0, rs_1, rs_2, rs_3, rs_4, re_0, re_1, re_2, re_3, re_4, re_5, rr_0, rr_1, rr_2, rr_3, rr_4, rk_0, rk_1, isP3, isP11, isP46, isP58, isS25, isS28, isS31, un_X1_eats, un_X1_fails, un_X1_isFigure, un_X1_number, un_X1_name, e4, a_cl (show t < 2147483648 by omega), hv]
    try simp only [iteP, Classical.not_not]
    refine ⟨g, n, r, ds, ⟨e2, hD⟩, fun q c e5 => ?_, fun M2 e5 e6 e7 => ?_⟩
    · have hq := nm_le k7 e5
      refine ⟨g, n, q, 46, ⟨e2.to rfl rfl rfl hq.2, rfl, by omega, by omega⟩, fun c1 => ?_, fun c1 => ?_⟩
      · have hq2 : q < n := Nat.lt_of_not_le fun z => by have := k7 q z; omega
        refine ⟨g, n, q + 1, ds, ⟨e2.to rfl rfl rfl hq2, hD⟩, fun q2 c2 ea => ?_, fun M2 ea eb ec => ?_⟩
        · refine h.1 _ q2 (s * fa, c, some c2) (by rw [e3]; unfold tr2; rw [e5]; dsimp only; rw [if_pos c1, ea]) ⟨fun a z2 z3 z8 z9 z10 => ?_, rfl, fun j hj => ?_, nI_1 t, ?_, ?_, ?_⟩
          · simp only [up_c z2, up_c z3, up_c z8, up_c z9, up_c z10]; exact e1 a z2
          · rw [← e1 3 (by decide)]; exact if_neg (fun z => hj z.2)
          · rw [← e8]; funext j; simp only [up_r, upd]; grind
          · rw [← e9]; funext j; simp only [up_r, upd]; grind
          · rw [← e10]; funext j; simp only [up_r, upd, s2]; grind
        · refine h.2 M2 (q + 1) (by rw [e3]; unfold tr2; rw [e5]; dsimp only; rw [if_pos c1, ea]) (fun a z2 z3 z8 z9 z10 => ?_) ec
          rw [eb a z2]; simp only [up_c z2, up_c z8, up_c z9, up_c z10]; exact e1 a z2
      · refine h.1 _ q (s * fa, c, none) (by rw [e3]; unfold tr2; rw [e5]; dsimp only; rw [if_neg c1]) ⟨fun a z2 z3 z8 z9 z10 => ?_, rfl, fun j hj => ?_, nI_1 t, ?_, ?_, ?_⟩
        · simp only [up_c z2, up_c z3, up_c z8, up_c z9, up_c z10]; exact e1 a z2
        · rw [← e1 3 (by decide)]; exact if_neg (fun z => hj z.2)
        · rw [← e8]; funext j; simp only [up_r, upd]; grind
        · rw [← e9]; funext j; simp only [up_r, upd]; grind
        · rw [← e10]; funext j; simp only [up_r, upd, s2]; grind
    · exact h.2 M2 r (by rw [e3]; unfold tr2; rw [e5]) (fun a z2 z3 z8 z9 z10 => (e6 a z2).trans (e1 a z2)) e7
  have h31 : ∀ r s, ¬ s = 0 → r ≤ n → tr g ds p = tr1 g ds r s → V 31 [some (.ref 2), some (.int f), none, none, none] [.int s] (ma_up M 2 0 (nI r)) L := by
    intro r s e1 e2 e3
    have hR := h1.up (q := r) e2
    unfold tr1 at e3
    have hn := nu_le k7 200 r 0 e2
    refine ma_walk (mo_X1_term ms_X1_eats ms_X1_fails ms_X1_isFigure ms_X1_number ms_X1_name) hV [71] (fun F hF => ?_)
    simp only [tb_X1_term, hF, in_no, in_push, in_ild, in_lld, in_ald, in_ist, in_ast, in_lst, in_inc, in_iii, in_idv, in_ldv, in_lll, in_lli, in_lil, in_ii, in_il, in_li, in_ll, in_dup, in_dp2, q_if1, q_if2, in_go, in_sw, ma_sw, in_rv, in_ri, in_rz, in_rl, in_get, in_put, in_puz, in_iar, in_bar, in_lar, in_aar, in_iaw, in_baw, in_law, in_len, in_cpy, in_s1, in_s2, in_s3, in_v1, in_v2, in_v3, in_v4, in_v5, in_v6, ma_bk, ma_gl, ma_sl, ma_nl, ma_wc, ma_wd, ma_nn, ma_en, List.mem_cons, List.not_mem_nil, or_false, or_true, true_or, false_or, true_and, and_true, false_and, and_false, if_true, if_false, forall_const, true_implies, false_implies, not_true_eq_false, not_false_eq_true, Classical.not_not, implies_true, and_self, Nat.add_zero, Nat.zero_add, eq_self, ne_eq, reduceCtorEq, Nat.reduceLT, Nat.reduceLeDiff, Nat.reduceEqDiff, Nat.reduceSub, Nat.reduceAdd, i10, i01, im10, Int32.reduceLT, Int32.reduceLE, ↓reduceIte, reduceIte, up_r, uL_r, cp_r, Int32.toInt_toInt64, Int64.reduceToInt, Int32.reduceToInt, ↓b1_or, b1_0, b1_1, lc_lt, lc_le, lc_gt, lc_ge, lc_eq, yx_0, yx_1, yx_2, yx_3, yx_4, yx_5, yx_6, yx_7, yx_8, yx_9, yx_10, yx_11, yx_12, yx_13, yx_14, yx_15, yx_16, yx_17, yx_18, yx_19, yx_20, yx_21, yx_22, yx_23, yx_24, yx_25, yx_26, yx_27, yx_28, yx_29, yx_30, yx_31, yx_32, yx_33, yx_34, yx_35, yx_36, yx_37, yx_38, yx_39, yx_40, yx_41, yx_42, yx_43, yx_44, yx_45, yx_46, yx_47, yx_48, yx_49, yx_50, yx_51, yx_52, yx_53, yx_54, yx_55, yx_56, yx_57, yx_58, yx_59, yx_60, yx_61, yx_62, yx_63, yx_64, yx_65, yx_66, yx_67, yx_68, rx_0, rx_1, rx_2, rx_3, rx_4, rx_5, rx_6, rx_7, rx_8, rx_9, rx_10, rx_11, rx_12, rx_13, rx_14, rx_15, rx_16, rx_17, rx_18, rx_19, rx_20, rx_21, rx_22, rx_23, rx_24, rx_25, rx_26, rx_27, rx_28, rx_29, rx_30, rx_31, rx_32, rx_33, rp_0, rp_1, rp_2, rp_3, rp_4, rp_5, rp_6, rp_7, rp_8, rs_0, rs_1, rs_2, rs_3, rs_4, re_0, re_1, re_2, re_3, re_4, re_5, rr_0, rr_1, rr_2, rr_3, rr_4, rk_0, rk_1, isP3, isP11, isP46, isP58, isS25, isS28, isS31, un_X1_eats, un_X1_fails, un_X1_isFigure, un_X1_number, un_X1_name, e1]
    try simp only [iteP, Classical.not_not]
    refine ⟨g, n, r, hR, fun c => ?_, fun c => ?_⟩
    · rw [if_neg c] at e3
      exact h71 _ r s 1 (fun a ha => up_c ha) hR e3
    · rw [if_pos c] at e3
      refine ⟨g, n, r, 999, ⟨hR, rfl, by omega⟩, fun c1 => ?_, fun c1 => ?_⟩
      · rw [if_pos c1.2] at e3
        exact h71 _ _ s _ (fun a ha => by simp only [up_c ha]) (h1.to rfl rfl rfl hn.2) e3
      · rw [if_neg (fun z => c1 ⟨c, z⟩)] at e3
        exact h.2 _ r e3 (fun a z2 z3 z8 z9 z10 => by simp only [up_c z2]) rfl
  refine ma_walk (mo_X1_term ms_X1_eats ms_X1_fails ms_X1_isFigure ms_X1_number ms_X1_name) hV [31] (fun F hF => ?_)
  simp only [tb_X1_term, hF, in_no, in_push, in_ild, in_lld, in_ald, in_ist, in_ast, in_lst, in_inc, in_iii, in_idv, in_ldv, in_lll, in_lli, in_lil, in_ii, in_il, in_li, in_ll, in_dup, in_dp2, q_if1, q_if2, in_go, in_sw, ma_sw, in_rv, in_ri, in_rz, in_rl, in_get, in_put, in_puz, in_iar, in_bar, in_lar, in_aar, in_iaw, in_baw, in_law, in_len, in_cpy, in_s1, in_s2, in_s3, in_v1, in_v2, in_v3, in_v4, in_v5, in_v6, ma_bk, ma_gl, ma_sl, ma_nl, ma_wc, ma_wd, ma_nn, ma_en, List.mem_cons, List.not_mem_nil, or_false, or_true, true_or, false_or, true_and, and_true, false_and, and_false, if_true, if_false, forall_const, true_implies, false_implies, not_true_eq_false, not_false_eq_true, Classical.not_not, implies_true, and_self, Nat.add_zero, Nat.zero_add, eq_self, ne_eq, reduceCtorEq, Nat.reduceLT, Nat.reduceLeDiff, Nat.reduceEqDiff, Nat.reduceSub, Nat.reduceAdd, i10, i01, im10, Int32.reduceLT, Int32.reduceLE, ↓reduceIte, reduceIte, up_r, uL_r, cp_r, Int32.toInt_toInt64, Int64.reduceToInt, Int32.reduceToInt, ↓b1_or, b1_0, b1_1, lc_lt, lc_le, lc_gt, lc_ge, lc_eq, yx_0, yx_1, yx_2, yx_3, yx_4, yx_5, yx_6, yx_7, yx_8, yx_9, yx_10, yx_11, yx_12, yx_13, yx_14, yx_15, yx_16, yx_17, yx_18, yx_19, yx_20, yx_21, yx_22, yx_23, yx_24, yx_25, yx_26, yx_27, yx_28, yx_29, yx_30, yx_31, yx_32, yx_33, yx_34, yx_35, yx_36, yx_37, yx_38, yx_39, yx_40, yx_41, yx_42, yx_43, yx_44, yx_45, yx_46, yx_47, yx_48, yx_49, yx_50, yx_51, yx_52, yx_53, yx_54, yx_55, yx_56, yx_57, yx_58, yx_59, yx_60, yx_61, yx_62, yx_63, yx_64, yx_65, yx_66, yx_67, yx_68, rx_0, rx_1, rx_2, rx_3, rx_4, rx_5, rx_6, rx_7, rx_8, rx_9, rx_10, rx_11, rx_12, rx_13, rx_14, rx_15, rx_16, rx_17, rx_18, rx_19, rx_20, rx_21, rx_22, rx_23, rx_24, rx_25, rx_26, rx_27, rx_28, rx_29, rx_30, rx_31, rx_32, rx_33, rp_0, rp_1, rp_2, rp_3, rp_4, rp_5, rp_6, rp_7, rp_8, rs_0, rs_1, rs_2, rs_3, rs_4, re_0, re_1, re_2, re_3, re_4, re_5, rr_0, rr_1, rr_2, rr_3, rr_4, rk_0, rk_1, isP3, isP11, isP46, isP58, isS25, isS28, isS31, un_X1_eats, un_X1_fails, un_X1_isFigure, un_X1_number, un_X1_name]
  try simp only [iteP, Classical.not_not]
  unfold tr at h31
  refine ⟨g, n, p, 45, ⟨h1, rfl, by omega, by omega⟩, fun c => ?_, fun c => ?_⟩
  · exact h31 (p + 1) (-1) (by decide) (h1.lt (by omega)) (by rw [if_pos c])
  refine ⟨g, n, p, 43, ⟨h1, rfl, by omega, by omega⟩, fun c1 => ?_, fun c1 => ⟨fun c2 => ?_, fun c2 => ?_⟩⟩
  · exact h31 (p + 1) 1 (by decide) (h1.lt (by omega)) (by rw [if_neg c, if_pos c1])
  · have := h5 c2; omega
  · have q := h31 p 1 (by decide) k3 (by rw [if_neg c, if_neg c1])
    rw [up_s k2] at q; exact q
theorem pv_X1_term : ∀ as M L K, S_X1_term as M L K → ma_rn (tb_X1_term S_X1_eats S_X1_fails S_X1_isFigure S_X1_number S_X1_name) 5 as M L K := by
  intro as M L K h
  unfold S_X1_term at h
  split at h
  · obtain ⟨g, n, p, ds, t, h⟩ := h; exact pw_X1_term h.1 h.2
  · exact h.elim
