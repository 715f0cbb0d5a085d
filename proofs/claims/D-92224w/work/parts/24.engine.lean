/-! the walk of a table by rewriting: rows for it; the layouts' rows; small arithmetic -/
set_option maxRecDepth 100000
set_option maxHeartbeats 4000000
theorem ma_walk {tb : Nat → ma_In} {V : ma_Pr} {K : ma_Kt} (hm : ∀ pc, ma_mo (tb pc)) (hV : ma_cl tb K V) (cut : List Nat) {pc : Nat} {ls : ma_Ls} {st : List Value} {M : ZM} {L : ZL}
    (h : ∀ F : ma_Pr, (∀ pc ls st M L, F pc ls st M L = if pc ∈ cut then V pc ls st M L else tb pc F K ls st M L) → tb pc F K ls st M L) : V pc ls st M L :=
  ma_go hm hV cut (h (ma_fx tb cut V K) (fun _ _ _ _ _ => ma_fx_eq hm))
theorem q_if1 {c : Int32 → Prop} {t n : Nat} {F : ma_Pr} {K : ma_Kt} {ls : ma_Ls} {x : Int32} {st : List Value} {M : ZM} {L : ZL} : in_if1 c t n F K ls (.int x :: st) M L = @ite Prop (c x) (Classical.propDecidable _) (F t ls st M L) (F n ls st M L) := by
  refine propext ⟨fun h => ?_, fun h => ?_⟩
  · by_cases q : c x
    · rw [if_pos q]; exact h.1 q
    · rw [if_neg q]; exact h.2 q
  · exact ⟨fun q => by rw [if_pos q] at h; exact h, fun q => by rw [if_neg q] at h; exact h⟩
theorem q_if2 {c : Int32 → Int32 → Prop} {t n : Nat} {F : ma_Pr} {K : ma_Kt} {ls : ma_Ls} {x y : Int32} {st : List Value} {M : ZM} {L : ZL} : in_if2 c t n F K ls (.int y :: .int x :: st) M L = @ite Prop (c x y) (Classical.propDecidable _) (F t ls st M L) (F n ls st M L) := by
  refine propext ⟨fun h => ?_, fun h => ?_⟩
  · by_cases q : c x y
    · rw [if_pos q]; exact h.1 q
    · rw [if_neg q]; exact h.2 q
  · exact ⟨fun q => by rw [if_pos q] at h; exact h, fun q => by rw [if_neg q] at h; exact h⟩
theorem iteP {c : Prop} {i : Decidable c} {A B : Prop} : @ite Prop c i A B = ((c → A) ∧ (¬ c → B)) := by
  refine propext ⟨fun h => ?_, fun h => ?_⟩
  · exact ⟨fun q => by rw [if_pos q] at h; exact h, fun q => by rw [if_neg q] at h; exact h⟩
  · by_cases q : c
    · rw [if_pos q]; exact h.1 q
    · rw [if_neg q]; exact h.2 q
theorem kk {K : ma_Kt} {v v' : Option Value} {M M' : ZM} {L L' : ZL} (h : K v M L) (e1 : v' = v) (e2 : M' = M) (e3 : L' = L) : K v' M' L' := by
  subst e1 e2 e3; exact h
theorem ki {K : ma_Kt} {x x' : Int32} {M M' : ZM} {L L' : ZL} (h : K (some (.int x)) M L) (e1 : x' = x) (e2 : M' = M) (e3 : L' = L) : K (some (.int x')) M' L' := by
  subst e1 e2 e3; exact h
theorem kl {K : ma_Kt} {x x' : Int64} {M M' : ZM} {L L' : ZL} (h : K (some (.long x)) M L) (e1 : x' = x) (e2 : M' = M) (e3 : L' = L) : K (some (.long x')) M' L' := by
  subst e1 e2 e3; exact h
theorem kv {V : ma_Pr} {pc : Nat} {ls ls' : ma_Ls} {st st' : List Value} {M M' : ZM} {L L' : ZL} (h : V pc ls st M L) (e1 : ls' = ls) (e2 : st' = st) (e3 : M' = M) (e4 : L' = L) : V pc ls' st' M' L' := by
  subst e1 e2 e3 e4; exact h
theorem lp_up {P : Nat → Prop} {e : Nat} (hx : P e) (hs : ∀ j, j < e → P (j + 1) → P j) : ∀ i, i ≤ e → P i := by
  intro i hi
  have w : ∀ n i, i + n = e → P i := by
    intro n
    induction n with
    | zero => intro i h; have e2 : i = e := by omega
              rw [e2]; exact hx
    | succ n ih => intro i h; exact hs i (by omega) (ih (i + 1) (by omega))
  exact w (e - i) i (by omega)
theorem up_r {M : ZM} {k j : Nat} {v : Int32} {a b : Nat} : ma_up M k j v a b = if a = k ∧ b = j then v else M a b := rfl
theorem uL_r {M : ZL} {k j : Nat} {v : Int64} {a b : Nat} : ma_uL M k j v a b = if a = k ∧ b = j then v else M a b := rfl
theorem cp_r {M : ZM} {x y sp dp n : Nat} {k j : Nat} : ma_cp M x y sp dp n k j = if k = y ∧ dp ≤ j ∧ j < dp + n then M x (sp + (j - dp)) else M k j := rfl
theorem up_c {M : ZM} {k j : Nat} {v : Int32} {a : Nat} (h : a ≠ k) : ma_up M k j v a = M a := by
  funext b; rw [up_r, if_neg (fun q => h q.1)]
theorem uL_c {M : ZL} {k j : Nat} {v : Int64} {a : Nat} (h : a ≠ k) : ma_uL M k j v a = M a := by
  funext b; rw [uL_r, if_neg (fun q => h q.1)]
theorem cp_c {M : ZM} {x y sp dp n : Nat} {a : Nat} (h : a ≠ y) : ma_cp M x y sp dp n a = M a := by
  funext b; rw [cp_r, if_neg (fun q => h q.1)]
theorem up_s {M : ZM} {k j : Nat} {v : Int32} (h : M k j = v) : ma_up M k j v = M := by
  funext a b; rw [up_r]; split
  · next q => rw [q.1, q.2, h]
  · rfl
/-- a truth as an int -/
noncomputable def b1 (c : Prop) : Int32 := @ite _ c (Classical.propDecidable c) 1 0
theorem b1_t {c : Prop} (h : c) : b1 c = 1 := by unfold b1; exact if_pos h
theorem b1_f {c : Prop} (h : ¬ c) : b1 c = 0 := by unfold b1; exact if_neg h
theorem b1_0 {c : Prop} : (b1 c = 0) = ¬ c := by
  by_cases h : c
  · rw [b1_t h]; exact propext ⟨fun q => absurd q (by decide), fun q => absurd h q⟩
  · rw [b1_f h]; exact propext ⟨fun _ => h, fun _ => rfl⟩
theorem b1_1 {c : Prop} : (b1 c = 1) = c := by
  by_cases h : c
  · rw [b1_t h]; exact propext ⟨fun _ => h, fun _ => rfl⟩
  · rw [b1_f h]; exact propext ⟨fun q => absurd q (by decide), fun q => absurd q h⟩
theorem b1_or {c : Prop} : (b1 c = 0 ∨ b1 c = 1) = True := by
  by_cases h : c
  · exact eq_true (Or.inr (b1_t h))
  · exact eq_true (Or.inl (b1_f h))
theorem b1_c {c d : Prop} (h : c ↔ d) : b1 c = b1 d := by rw [propext h]
theorem b1_bor {c d : Prop} : b1 c ||| b1 d = b1 (c ∨ d) := by
  by_cases h : c <;> by_cases h2 : d <;> simp only [h, h2, b1_t, b1_f, or_self, or_true, true_or, not_false_eq_true] <;> rfl
theorem b1_band {c d : Prop} : b1 c &&& b1 d = b1 (c ∧ d) := by
  by_cases h : c <;> by_cases h2 : d <;> simp only [h, h2, b1_t, b1_f, and_self, and_true, true_and, and_false, false_and, not_false_eq_true] <;> rfl
theorem lc_3 (x y : Int64) : (x < y ∧ lg_cmp x y = -1) ∨ (x = y ∧ lg_cmp x y = 0) ∨ (y < x ∧ lg_cmp x y = 1) := by
  unfold lg_cmp
  rcases Int.lt_trichotomy x.toInt y.toInt with h | h | h
  · have h1 : x < y := Int64.lt_iff_toInt_lt.2 h
    have h2 : ¬ x > y := fun g => by have := Int64.lt_iff_toInt_lt.1 g; omega
    have h3 : ¬ x = y := fun g => by rw [g] at h; omega
    exact Or.inl ⟨h1, by rw [if_neg h2, if_neg h3]⟩
  · have h1 : x = y := Int64.toInt_inj.1 h
    have h2 : ¬ x > y := fun g => by have := Int64.lt_iff_toInt_lt.1 g; omega
    exact Or.inr (Or.inl ⟨h1, by rw [if_neg h2, if_pos h1]⟩)
  · have h1 : y < x := Int64.lt_iff_toInt_lt.2 h
    exact Or.inr (Or.inr ⟨h1, by rw [if_pos h1]⟩)
theorem lc_lt {x y : Int64} : (lg_cmp x y < 0) = (x < y) := by
  rcases lc_3 x y with ⟨h, e⟩ | ⟨h, e⟩ | ⟨h, e⟩ <;> rw [e]
  · exact propext ⟨fun _ => h, fun _ => by decide⟩
  · exact propext ⟨fun g => absurd g (by decide), fun g => by rw [h] at g; exact absurd (Int64.lt_iff_toInt_lt.1 g) (by omega)⟩
  · exact propext ⟨fun g => absurd g (by decide), fun g => by have := Int64.lt_iff_toInt_lt.1 g; have := Int64.lt_iff_toInt_lt.1 h; omega⟩
theorem lc_gt {x y : Int64} : (0 < lg_cmp x y) = (y < x) := by
  rcases lc_3 x y with ⟨h, e⟩ | ⟨h, e⟩ | ⟨h, e⟩ <;> rw [e]
  · exact propext ⟨fun g => absurd g (by decide), fun g => by have := Int64.lt_iff_toInt_lt.1 g; have := Int64.lt_iff_toInt_lt.1 h; omega⟩
  · exact propext ⟨fun g => absurd g (by decide), fun g => by rw [h] at g; exact absurd (Int64.lt_iff_toInt_lt.1 g) (by omega)⟩
  · exact propext ⟨fun _ => h, fun _ => by decide⟩
theorem lc_eq {x y : Int64} : (lg_cmp x y = 0) = (x = y) := by
  rcases lc_3 x y with ⟨h, e⟩ | ⟨h, e⟩ | ⟨h, e⟩ <;> rw [e]
  · exact propext ⟨fun g => absurd g (by decide), fun g => by rw [g] at h; exact absurd (Int64.lt_iff_toInt_lt.1 h) (by omega)⟩
  · exact propext ⟨fun _ => h, fun _ => rfl⟩
  · exact propext ⟨fun g => absurd g (by decide), fun g => by rw [g] at h; exact absurd (Int64.lt_iff_toInt_lt.1 h) (by omega)⟩
theorem lc_ge {x y : Int64} : (0 ≤ lg_cmp x y) = (y ≤ x) := by
  rcases lc_3 x y with ⟨h, e⟩ | ⟨h, e⟩ | ⟨h, e⟩ <;> rw [e]
  · exact propext ⟨fun g => absurd g (by decide), fun g => by have := Int64.le_iff_toInt_le.1 g; have := Int64.lt_iff_toInt_lt.1 h; omega⟩
  · exact propext ⟨fun _ => Int64.le_iff_toInt_le.2 (by rw [h]; omega), fun _ => by decide⟩
  · exact propext ⟨fun _ => Int64.le_iff_toInt_le.2 (by have := Int64.lt_iff_toInt_lt.1 h; omega), fun _ => by decide⟩
theorem lc_le {x y : Int64} : (lg_cmp x y ≤ 0) = (x ≤ y) := by
  rcases lc_3 x y with ⟨h, e⟩ | ⟨h, e⟩ | ⟨h, e⟩ <;> rw [e]
  · exact propext ⟨fun _ => Int64.le_iff_toInt_le.2 (by have := Int64.lt_iff_toInt_lt.1 h; omega), fun _ => by decide⟩
  · exact propext ⟨fun _ => Int64.le_iff_toInt_le.2 (by rw [h]; omega), fun _ => by decide⟩
  · exact propext ⟨fun g => absurd g (by decide), fun g => by have := Int64.le_iff_toInt_le.1 g; have := Int64.lt_iff_toInt_lt.1 h; omega⟩
/-! small numbers -/
theorem a_le {a b : Nat} (ha : a < 2147483648) (hb : b < 2147483648) : (nI a ≤ nI b) = (a ≤ b) := propext (nI_leI ha hb)
theorem a_lt {a b : Nat} (ha : a < 2147483648) (hb : b < 2147483648) : (nI a < nI b) = (a < b) := propext (nI_ltI ha hb)
theorem a_eq {a b : Nat} (ha : a < 2147483648) (hb : b < 2147483648) : (nI a = nI b) = (a = b) := propext (nI_eq ha hb)
theorem a_cl {a : Nat} (ha : a < 2147483648) : (nI a).toNatClampNeg = a := nI_clamp ha
theorem a_ti {a : Nat} (ha : a < 2147483648) : (nI a).toInt = (a : Int) := nI_toInt ha
theorem a_vi {a n : Nat} (ha : a < 2147483648) : vp_in (nI a) n = (a < n) := by
  refine propext ?_
  rw [vp_in_iff, a_ti ha]
  omega
theorem a_0le {a : Nat} (ha : a < 2147483648) : (0 ≤ nI a) = True := eq_true (nI_pos' ha)
theorem a_lt0 {a : Nat} (ha : a < 2147483648) : (nI a < 0) = False := eq_false (nI_pos ha)
theorem a_0lt {a : Nat} (ha : a < 2147483648) : (0 < nI a) = (0 < a) := by
  rw [← nI_0]; exact a_lt (by omega) ha
theorem a_le0 {a : Nat} (ha : a < 2147483648) : (nI a ≤ 0) = (a = 0) := by
  rw [← nI_0, a_le ha (by omega)]; exact propext (by omega)
theorem a_eq0 {a : Nat} (ha : a < 2147483648) : (nI a = 0) = (a = 0) := by
  rw [← nI_0, a_eq ha (by omega)]
theorem a_lit (n : Nat) : (OfNat.ofNat n : Int32) = nI n := rfl
theorem a_of {x : Int32} (h : 0 ≤ x.toInt) : ∃ n : Nat, x = nI n ∧ (n : Int) = x.toInt ∧ n < 2147483648 := by
  have h1 : ¬ x < 0 := fun g => by
    have := Int32.lt_iff_toInt_lt.1 g
    have e : (0 : Int32).toInt = 0 := rfl
    omega
  obtain ⟨j, h2, h3⟩ := nI_of h1
  exact ⟨j, h3, by rw [h3, a_ti h2], h2⟩
theorem i_ext {x y : Int32} (h : x.toInt = y.toInt) : x = y := Int32.toInt_inj.1 h
theorem i_ne {x y : Int32} (h : ¬ x.toInt = y.toInt) : ¬ x = y := fun g => h (by rw [g])
theorem i_rng (x : Int32) : -2147483648 ≤ x.toInt ∧ x.toInt < 2147483648 := ⟨Int32.le_toInt x, Int32.toInt_lt x⟩
theorem l_rng (x : Int64) : -9223372036854775808 ≤ x.toInt ∧ x.toInt < 9223372036854775808 := ⟨Int64.le_toInt x, Int64.toInt_lt x⟩
/-- a plan at cell p; a sky at cell k -/
def isP (p : Nat) : Prop := YX p = (0, 2, 9, rPl p) ∧ YX (p + 1) = (1, 4, 0, fun _ => none) ∧ YX (p + 2) = (1, 5, 0, fun _ => none) ∧ YX (p + 3) = (1, 4, 0, fun _ => none) ∧ YX (p + 4) = (2, 4, 0, fun _ => none) ∧ YX (p + 5) = (1, 80, 0, fun _ => none) ∧ YX (p + 6) = (1, 80, 0, fun _ => none) ∧ YX (p + 7) = (1, 80, 0, fun _ => none)
theorem isP3 : isP 3 := ⟨rfl, rfl, rfl, rfl, rfl, rfl, rfl, rfl⟩
theorem isP11 : isP 11 := ⟨rfl, rfl, rfl, rfl, rfl, rfl, rfl, rfl⟩
theorem isP46 : isP 46 := ⟨rfl, rfl, rfl, rfl, rfl, rfl, rfl, rfl⟩
theorem isP58 : isP 58 := ⟨rfl, rfl, rfl, rfl, rfl, rfl, rfl, rfl⟩
def isS (k : Nat) : Prop := YX k = (0, 3, 5, rSk k) ∧ YX (k + 1) = (1, 1872, 0, fun _ => none) ∧ YX (k + 2) = (2, 1872, 0, fun _ => none)
theorem isS25 : isS 25 := ⟨rfl, rfl, rfl⟩
theorem isS28 : isS 28 := ⟨rfl, rfl, rfl⟩
theorem isS31 : isS 31 := ⟨rfl, rfl, rfl⟩
theorem yx_0 : YX 0 = (0, 0, 34, rX0) := rfl
theorem yx_1 : YX 1 = (3, 160, 0, fun _ => none) := rfl
theorem yx_2 : YX 2 = (0, 1, 5, rRd) := rfl
theorem yx_3 : YX 3 = (0, 2, 9, rPl 3) := rfl
theorem yx_4 : YX 4 = (1, 4, 0, fun _ => none) := rfl
theorem yx_5 : YX 5 = (1, 5, 0, fun _ => none) := rfl
theorem yx_6 : YX 6 = (1, 4, 0, fun _ => none) := rfl
theorem yx_7 : YX 7 = (2, 4, 0, fun _ => none) := rfl
theorem yx_8 : YX 8 = (1, 80, 0, fun _ => none) := rfl
theorem yx_9 : YX 9 = (1, 80, 0, fun _ => none) := rfl
theorem yx_10 : YX 10 = (1, 80, 0, fun _ => none) := rfl
theorem yx_11 : YX 11 = (0, 2, 9, rPl 11) := rfl
theorem yx_12 : YX 12 = (1, 4, 0, fun _ => none) := rfl
theorem yx_13 : YX 13 = (1, 5, 0, fun _ => none) := rfl
theorem yx_14 : YX 14 = (1, 4, 0, fun _ => none) := rfl
theorem yx_15 : YX 15 = (2, 4, 0, fun _ => none) := rfl
theorem yx_16 : YX 16 = (1, 80, 0, fun _ => none) := rfl
theorem yx_17 : YX 17 = (1, 80, 0, fun _ => none) := rfl
theorem yx_18 : YX 18 = (1, 80, 0, fun _ => none) := rfl
theorem yx_19 : YX 19 = (1, 4, 0, fun _ => none) := rfl
theorem yx_20 : YX 20 = (1, 144, 0, fun _ => none) := rfl
theorem yx_21 : YX 21 = (1, 12, 0, fun _ => none) := rfl
theorem yx_22 : YX 22 = (1, 12, 0, fun _ => none) := rfl
theorem yx_23 : YX 23 = (1, 12, 0, fun _ => none) := rfl
theorem yx_24 : YX 24 = (1, 12, 0, fun _ => none) := rfl
theorem yx_25 : YX 25 = (0, 3, 5, rSk 25) := rfl
theorem yx_26 : YX 26 = (1, 1872, 0, fun _ => none) := rfl
theorem yx_27 : YX 27 = (2, 1872, 0, fun _ => none) := rfl
theorem yx_28 : YX 28 = (0, 3, 5, rSk 28) := rfl
theorem yx_29 : YX 29 = (1, 1872, 0, fun _ => none) := rfl
theorem yx_30 : YX 30 = (2, 1872, 0, fun _ => none) := rfl
theorem yx_31 : YX 31 = (0, 3, 5, rSk 31) := rfl
theorem yx_32 : YX 32 = (1, 1872, 0, fun _ => none) := rfl
theorem yx_33 : YX 33 = (2, 1872, 0, fun _ => none) := rfl
theorem yx_34 : YX 34 = (4, 12, 0, fun _ => none) := rfl
theorem yx_35 : YX 35 = (4, 12, 0, fun _ => none) := rfl
theorem yx_36 : YX 36 = (1, 4096, 0, fun _ => none) := rfl
theorem yx_37 : YX 37 = (1, 36, 0, fun _ => none) := rfl
theorem yx_38 : YX 38 = (1, 6, 0, fun _ => none) := rfl
theorem yx_39 : YX 39 = (1, 36, 0, fun _ => none) := rfl
theorem yx_40 : YX 40 = (1, 36, 0, fun _ => none) := rfl
theorem yx_41 : YX 41 = (1, 468, 0, fun _ => none) := rfl
theorem yx_42 : YX 42 = (1, 6, 0, fun _ => none) := rfl
theorem yx_43 : YX 43 = (1, 36, 0, fun _ => none) := rfl
theorem yx_44 : YX 44 = (5, 2, 0, rKp) := rfl
theorem yx_45 : YX 45 = (0, 4, 6, rKe 45) := rfl
theorem yx_46 : YX 46 = (0, 2, 9, rPl 46) := rfl
theorem yx_47 : YX 47 = (1, 4, 0, fun _ => none) := rfl
theorem yx_48 : YX 48 = (1, 5, 0, fun _ => none) := rfl
theorem yx_49 : YX 49 = (1, 4, 0, fun _ => none) := rfl
theorem yx_50 : YX 50 = (2, 4, 0, fun _ => none) := rfl
theorem yx_51 : YX 51 = (1, 80, 0, fun _ => none) := rfl
theorem yx_52 : YX 52 = (1, 80, 0, fun _ => none) := rfl
theorem yx_53 : YX 53 = (1, 80, 0, fun _ => none) := rfl
theorem yx_54 : YX 54 = (1, 144, 0, fun _ => none) := rfl
theorem yx_55 : YX 55 = (1, 48, 0, fun _ => none) := rfl
theorem yx_56 : YX 56 = (1, 4, 0, fun _ => none) := rfl
theorem yx_57 : YX 57 = (0, 4, 6, rKe 57) := rfl
theorem yx_58 : YX 58 = (0, 2, 9, rPl 58) := rfl
theorem yx_59 : YX 59 = (1, 4, 0, fun _ => none) := rfl
theorem yx_60 : YX 60 = (1, 5, 0, fun _ => none) := rfl
theorem yx_61 : YX 61 = (1, 4, 0, fun _ => none) := rfl
theorem yx_62 : YX 62 = (2, 4, 0, fun _ => none) := rfl
theorem yx_63 : YX 63 = (1, 80, 0, fun _ => none) := rfl
theorem yx_64 : YX 64 = (1, 80, 0, fun _ => none) := rfl
theorem yx_65 : YX 65 = (1, 80, 0, fun _ => none) := rfl
theorem yx_66 : YX 66 = (1, 144, 0, fun _ => none) := rfl
theorem yx_67 : YX 67 = (1, 48, 0, fun _ => none) := rfl
theorem yx_68 : YX 68 = (1, 4, 0, fun _ => none) := rfl
theorem ym_0 : YM 0 = (0, 5, 46, rM) := rfl
theorem ym_1 : YM 1 = (1, 4, 0, fun _ => none) := rfl
theorem ym_2 : YM 2 = (1, 160, 0, fun _ => none) := rfl
theorem ym_3 : YM 3 = (1, 8, 0, fun _ => none) := rfl
theorem ym_4 : YM 4 = (1, 8, 0, fun _ => none) := rfl
theorem ym_5 : YM 5 = (1, 8, 0, fun _ => none) := rfl
theorem ym_6 : YM 6 = (1, 8, 0, fun _ => none) := rfl
theorem ym_7 : YM 7 = (1, 8, 0, fun _ => none) := rfl
theorem ym_8 : YM 8 = (1, 8, 0, fun _ => none) := rfl
theorem ym_9 : YM 9 = (1, 160, 0, fun _ => none) := rfl
theorem ym_10 : YM 10 = (1, 160, 0, fun _ => none) := rfl
theorem ym_11 : YM 11 = (1, 160, 0, fun _ => none) := rfl
theorem ym_12 : YM 12 = (1, 144, 0, fun _ => none) := rfl
theorem ym_13 : YM 13 = (1, 12, 0, fun _ => none) := rfl
theorem ym_14 : YM 14 = (1, 12, 0, fun _ => none) := rfl
theorem ym_15 : YM 15 = (1, 12, 0, fun _ => none) := rfl
theorem ym_16 : YM 16 = (1, 12, 0, fun _ => none) := rfl
theorem ym_17 : YM 17 = (4, 12, 0, fun _ => none) := rfl
theorem ym_18 : YM 18 = (1, 36, 0, fun _ => none) := rfl
theorem ym_19 : YM 19 = (1, 6, 0, fun _ => none) := rfl
theorem ym_20 : YM 20 = (1, 36, 0, fun _ => none) := rfl
theorem ym_21 : YM 21 = (1, 1400, 0, fun _ => none) := rfl
theorem ym_22 : YM 22 = (1, 1872, 0, fun _ => none) := rfl
theorem ym_23 : YM 23 = (1, 1872, 0, fun _ => none) := rfl
theorem ym_24 : YM 24 = (2, 1872, 0, fun _ => none) := rfl
theorem ym_25 : YM 25 = (4, 12, 0, fun _ => none) := rfl
theorem ym_26 : YM 26 = (4, 12, 0, fun _ => none) := rfl
theorem ym_27 : YM 27 = (1, 4096, 0, fun _ => none) := rfl
theorem ym_28 : YM 28 = (1, 468, 0, fun _ => none) := rfl
theorem ym_29 : YM 29 = (1, 36, 0, fun _ => none) := rfl
theorem ym_30 : YM 30 = (1, 6, 0, fun _ => none) := rfl
theorem rx_0 : rX0 0 = none := rfl
theorem rx_1 : rX0 1 = some 1 := rfl
theorem rx_2 : rX0 2 = some 2 := rfl
theorem rx_3 : rX0 3 = some 3 := rfl
theorem rx_4 : rX0 4 = some 11 := rfl
theorem rx_5 : rX0 5 = none := rfl
theorem rx_6 : rX0 6 = none := rfl
theorem rx_7 : rX0 7 = none := rfl
theorem rx_8 : rX0 8 = some 19 := rfl
theorem rx_9 : rX0 9 = some 20 := rfl
theorem rx_10 : rX0 10 = none := rfl
theorem rx_11 : rX0 11 = some 21 := rfl
theorem rx_12 : rX0 12 = some 22 := rfl
theorem rx_13 : rX0 13 = some 23 := rfl
theorem rx_14 : rX0 14 = some 24 := rfl
theorem rx_15 : rX0 15 = none := rfl
theorem rx_16 : rX0 16 = some 25 := rfl
theorem rx_17 : rX0 17 = some 28 := rfl
theorem rx_18 : rX0 18 = some 31 := rfl
theorem rx_19 : rX0 19 = none := rfl
theorem rx_20 : rX0 20 = none := rfl
theorem rx_21 : rX0 21 = some 34 := rfl
theorem rx_22 : rX0 22 = some 35 := rfl
theorem rx_23 : rX0 23 = some 36 := rfl
theorem rx_24 : rX0 24 = some 37 := rfl
theorem rx_25 : rX0 25 = none := rfl
theorem rx_26 : rX0 26 = some 38 := rfl
theorem rx_27 : rX0 27 = some 39 := rfl
theorem rx_28 : rX0 28 = some 40 := rfl
theorem rx_29 : rX0 29 = some 41 := rfl
theorem rx_30 : rX0 30 = some 42 := rfl
theorem rx_31 : rX0 31 = some 43 := rfl
theorem rx_32 : rX0 32 = some 44 := rfl
theorem rx_33 : rX0 33 = none := rfl
theorem rm__0 : rM 0 = none := rfl
theorem rm__1 : rM 1 = none := rfl
theorem rm__2 : rM 2 = none := rfl
theorem rm__3 : rM 3 = none := rfl
theorem rm__4 : rM 4 = some 1 := rfl
theorem rm__5 : rM 5 = none := rfl
theorem rm__6 : rM 6 = some 2 := rfl
theorem rm__7 : rM 7 = none := rfl
theorem rm__8 : rM 8 = none := rfl
theorem rm__9 : rM 9 = some 3 := rfl
theorem rm__10 : rM 10 = some 4 := rfl
theorem rm__11 : rM 11 = some 5 := rfl
theorem rm__12 : rM 12 = some 6 := rfl
theorem rm__13 : rM 13 = some 7 := rfl
theorem rm__14 : rM 14 = some 8 := rfl
theorem rm__15 : rM 15 = some 9 := rfl
theorem rm__16 : rM 16 = some 10 := rfl
theorem rm__17 : rM 17 = some 11 := rfl
theorem rm__18 : rM 18 = some 12 := rfl
theorem rm__19 : rM 19 = none := rfl
theorem rm__20 : rM 20 = some 13 := rfl
theorem rm__21 : rM 21 = some 14 := rfl
theorem rm__22 : rM 22 = some 15 := rfl
theorem rm__23 : rM 23 = some 16 := rfl
theorem rm__24 : rM 24 = none := rfl
theorem rm__25 : rM 25 = none := rfl
theorem rm__26 : rM 26 = some 17 := rfl
theorem rm__27 : rM 27 = some 18 := rfl
theorem rm__28 : rM 28 = some 19 := rfl
theorem rm__29 : rM 29 = some 20 := rfl
theorem rm__30 : rM 30 = none := rfl
theorem rm__31 : rM 31 = some 21 := rfl
theorem rm__32 : rM 32 = none := rfl
theorem rm__33 : rM 33 = none := rfl
theorem rm__34 : rM 34 = none := rfl
theorem rm__35 : rM 35 = none := rfl
theorem rm__36 : rM 36 = none := rfl
theorem rm__37 : rM 37 = some 22 := rfl
theorem rm__38 : rM 38 = some 23 := rfl
theorem rm__39 : rM 39 = some 24 := rfl
theorem rm__40 : rM 40 = some 25 := rfl
theorem rm__41 : rM 41 = some 26 := rfl
theorem rm__42 : rM 42 = some 27 := rfl
theorem rm__43 : rM 43 = some 28 := rfl
theorem rm__44 : rM 44 = some 29 := rfl
theorem rm__45 : rM 45 = some 30 := rfl
theorem rp_0 (k : Nat) : rPl k 0 = none := rfl
theorem rp_1 (k : Nat) : rPl k 1 = some (k + 1) := rfl
theorem rp_2 (k : Nat) : rPl k 2 = some (k + 2) := rfl
theorem rp_3 (k : Nat) : rPl k 3 = some (k + 3) := rfl
theorem rp_4 (k : Nat) : rPl k 4 = some (k + 4) := rfl
theorem rp_5 (k : Nat) : rPl k 5 = none := rfl
theorem rp_6 (k : Nat) : rPl k 6 = some (k + 5) := rfl
theorem rp_7 (k : Nat) : rPl k 7 = some (k + 6) := rfl
theorem rp_8 (k : Nat) : rPl k 8 = some (k + 7) := rfl
theorem rs_0 (k : Nat) : rSk k 0 = none := rfl
theorem rs_1 (k : Nat) : rSk k 1 = none := rfl
theorem rs_2 (k : Nat) : rSk k 2 = some (k + 1) := rfl
theorem rs_3 (k : Nat) : rSk k 3 = some (k + 2) := rfl
theorem rs_4 (k : Nat) : rSk k 4 = some 0 := rfl
theorem re_0 (k : Nat) : rKe k 0 = some (k + 1) := rfl
theorem re_1 (k : Nat) : rKe k 1 = some (k + 9) := rfl
theorem re_2 (k : Nat) : rKe k 2 = none := rfl
theorem re_3 (k : Nat) : rKe k 3 = some (k + 10) := rfl
theorem re_4 (k : Nat) : rKe k 4 = none := rfl
theorem re_5 (k : Nat) : rKe k 5 = some (k + 11) := rfl
theorem rr_0 : rRd 0 = none := rfl
theorem rr_1 : rRd 1 = none := rfl
theorem rr_2 : rRd 2 = none := rfl
theorem rr_3 : rRd 3 = none := rfl
theorem rr_4 : rRd 4 = some 0 := rfl
theorem rk_0 : rKp 0 = some 45 := rfl
theorem rk_1 : rKp 1 = some 57 := rfl
