/-! sets as masks; the most groups that lie apart, two ways -/
set_option maxRecDepth 100000
set_option maxHeartbeats 4000000
def ss (a b : Nat) : Prop := ∀ i, a.testBit i = true → b.testBit i = true
def df (a b : Nat) : Nat := a ^^^ (a &&& b)
theorem df_t (a b i : Nat) : (df a b).testBit i = (a.testBit i && !b.testBit i) := by
  unfold df; rw [Nat.testBit_xor, Nat.testBit_and]; cases a.testBit i <;> cases b.testBit i <;> rfl
theorem ss_and {a b : Nat} (h : ss a b) : a &&& b = a := Nat.eq_of_testBit_eq fun i => by
  rw [Nat.testBit_and]
  cases e : a.testBit i
  · rfl
  · rw [h i e]; rfl
theorem ss_le {a b : Nat} (h : ss a b) : a ≤ b := by
  have q : a &&& b ≤ b := Nat.and_le_right
  rw [ss_and h] at q; exact q
theorem ss_tr {a b c : Nat} (h : ss a b) (g : ss b c) : ss a c := fun i q => g i (h i q)
theorem df_ss (a b : Nat) : ss (df a b) a := fun i h => by
  rw [df_t] at h
  exact (Bool.and_eq_true_iff.mp h).1
theorem df_mono {a c : Nat} (b : Nat) (h : ss a c) : ss (df a b) (df c b) := fun i q => by
  rw [df_t] at q ⊢
  have q := Bool.and_eq_true_iff.mp q
  rw [h i q.1, q.2]; rfl
theorem df_comm (t a b : Nat) : df (df t a) b = df (df t b) a := Nat.eq_of_testBit_eq fun i => by
  rw [df_t, df_t, df_t, df_t]; cases t.testBit i <;> cases a.testBit i <;> cases b.testBit i <;> rfl
theorem nz_t {a : Nat} (h : a ≠ 0) : ∃ i, a.testBit i = true := Classical.byContradiction fun q => h (Nat.eq_of_testBit_eq fun i => by
  rw [Nat.zero_testBit]
  cases e : a.testBit i
  · rfl
  · exact absurd ⟨i, e⟩ q)
theorem t_nz {a i : Nat} (h : a.testBit i = true) : a ≠ 0 := fun e => by
  rw [e, Nat.zero_testBit] at h; cases h
theorem df_lt {a b : Nat} (hb : ss b a) (h0 : b ≠ 0) : df a b < a := by
  have h1 := ss_le (df_ss a b)
  have h2 : df a b ≠ a := fun e => by
    obtain ⟨i, hi⟩ := nz_t h0
    have q := df_t a b i
    rw [e, hb i hi, hi] at q; cases q
  omega
def Dp (V G : Nat → Prop) (g : Nat → Nat) : Prop := g 0 = 0 ∧ (∀ S U, V S → ss U S → U ≠ 0 → G U → g (df S U) + 1 ≤ g S) ∧ ∀ S, V S → S ≠ 0 → (∃ S', ss S' S ∧ S' ≠ S ∧ g S = g S') ∨ ∃ U, ss U S ∧ U ≠ 0 ∧ G U ∧ g S = g (df S U) + 1
theorem Dp.mono {V G : Nat → Prop} {g : Nat → Nat} (hV : ∀ S S', V S → ss S' S → V S') (h : Dp V G g) : ∀ S, V S → ∀ S', ss S' S → g S' ≤ g S := by
  intro S
  induction S using Nat.strongRecOn with
  | _ S ih =>
    intro vS S'
    induction S' using Nat.strongRecOn with
    | _ S' ih2 =>
      intro hs
      by_cases e0 : S' = 0
      · rw [e0, h.1]; exact Nat.zero_le _
      · rcases h.2.2 S' (hV S S' vS hs) e0 with ⟨S2, a1, a2, a3⟩ | ⟨U, a1, a2, a3, a4⟩
        · have l := ss_le a1
          rw [a3]; exact ih2 S2 (by omega) (ss_tr a1 hs)
        · rw [a4]
          have b1 := ss_tr a1 hs
          have b2 := ih (df S U) (df_lt b1 a2) (hV S _ vS (df_ss S U)) (df S' U) (df_mono U hs)
          have b3 := h.2.1 S U vS b1 a2 a3
          omega
/-- the same by a map of sets -/
theorem Dp_iso {V W G E : Nat → Prop} {g hh : Nat → Nat} (hV : ∀ S S', V S → ss S' S → V S') (hW : ∀ S S', W S → ss S' S → W S') (A : Dp V G g) (B : Dp W E hh) (e : Nat → Nat) (e0 : e 0 = 0) (e1 : ∀ T, W T → V (e T)) (e2 : ∀ T U, W T → ss U T → ss (e U) (e T) ∧ e (df T U) = df (e T) (e U) ∧ (U ≠ 0 → e U ≠ 0) ∧ (G (e U) ↔ E U)) (e3 : ∀ T S, W T → ss S (e T) → ∃ U, ss U T ∧ e U = S) : ∀ T, W T → g (e T) = hh T := by
  intro T
  induction T using Nat.strongRecOn with
  | _ T ih =>
    intro wT
    by_cases t0 : T = 0
    · rw [t0, e0, A.1, B.1]
    have sT : ss T T := fun _ q => q
    have f0 := (e2 T T wT sT).2.2.1 t0
    refine Nat.le_antisymm ?_ ?_
    · rcases A.2.2 (e T) (e1 T wT) f0 with ⟨S2, a1, a2, a3⟩ | ⟨U, a1, a2, a3, a4⟩
      · obtain ⟨U, u1, u2⟩ := e3 T S2 wT a1
        have l := ss_le u1
        have n : U ≠ T := fun q => a2 (by rw [← u2, q])
        rw [a3, ← u2, ih U (by omega) (hW T U wT u1)]
        exact B.mono hW T wT U u1
      · obtain ⟨Z, u1, u2⟩ := e3 T U wT a1
        have n : Z ≠ 0 := fun q => a2 (by rw [← u2, q, e0])
        have q := e2 T Z wT u1
        rw [a4, ← u2, ← q.2.1, ih (df T Z) (df_lt u1 n) (hW T _ wT (df_ss T Z))]
        exact B.2.1 T Z wT u1 n (q.2.2.2.mp (by rw [u2]; exact a3))
    · rcases B.2.2 T wT t0 with ⟨S2, a1, a2, a3⟩ | ⟨U, a1, a2, a3, a4⟩
      · have l := ss_le a1
        rw [a3, ← ih S2 (by omega) (hW T S2 wT a1)]
        exact A.mono hV (e T) (e1 T wT) (e S2) (e2 T S2 wT a1).1
      · have q := e2 T U wT a1
        rw [a4, ← ih (df T U) (df_lt a1 a2) (hW T _ wT (df_ss T U)), q.2.1]
        exact A.2.1 (e T) (e U) (e1 T wT) q.1 (q.2.2.1 a2) (q.2.2.2.mpr a3)
/-- the lowest one -/
def lw (n : Nat) : Nat := df n (n - 1)
theorem lw_p (n : Nat) (h : n ≠ 0) : ∃ p, (∀ i, (lw n).testBit i = decide (i = p)) ∧ n.testBit p = true ∧ ∀ j, j < p → n.testBit j = false := by
  induction n using Nat.strongRecOn with
  | _ n ih =>
    by_cases c : n % 2 = 1
    · refine ⟨0, fun i => ?_, by rw [Nat.testBit_zero]; exact decide_eq_true c, fun j hj => by omega⟩
      unfold lw
      rw [df_t]
      cases i with
      | zero => rw [Nat.testBit_zero, Nat.testBit_zero, decide_eq_true c, decide_eq_false (by omega)]; rfl
      | succ i =>
        rw [Nat.testBit_succ, Nat.testBit_succ, show (n - 1) / 2 = n / 2 by omega, decide_eq_false (by omega)]
        cases (n / 2).testBit i <;> rfl
    · obtain ⟨p, h1, h2, h3⟩ := ih (n / 2) (by omega) (by omega)
      refine ⟨p + 1, fun i => ?_, by rw [Nat.testBit_succ]; exact h2, fun j hj => ?_⟩
      · unfold lw at h1 ⊢
        rw [df_t]
        cases i with
        | zero => rw [Nat.testBit_zero, decide_eq_false c, decide_eq_false (by omega)]; rfl
        | succ i =>
          have q := h1 i
          rw [df_t] at q
          rw [Nat.testBit_succ, Nat.testBit_succ, show (n - 1) / 2 = n / 2 - 1 by omega, q]
          by_cases e : i = p
          · rw [decide_eq_true e, decide_eq_true (by omega)]
          · rw [decide_eq_false e, decide_eq_false (by omega)]
      · cases j with
        | zero => rw [Nat.testBit_zero]; exact decide_eq_false c
        | succ j => rw [Nat.testBit_succ]; exact h3 j (by omega)
theorem lw_eq {a t : Nat} (h : ss a t) (h0 : t ≠ 0) (hl : ss (lw t) a) : lw a = lw t := by
  obtain ⟨p, h1, h2, h3⟩ := lw_p t h0
  have ap : a.testBit p = true := hl p (by rw [h1]; exact decide_eq_true rfl)
  obtain ⟨q, g1, g2, g3⟩ := lw_p a (t_nz ap)
  have e1 : ¬ p < q := fun z => by rw [g3 p z] at ap; cases ap
  have e2 : ¬ q < p := fun z => by have := h q g2; rw [h3 q z] at this; cases this
  have e : p = q := by omega
  exact Nat.eq_of_testBit_eq fun i => by rw [h1, g1, e]
theorem lw_ss {t : Nat} (_ : t ≠ 0) : ss (lw t) t := df_ss _ _
theorem lw_nz {t : Nat} (h0 : t ≠ 0) : lw t ≠ 0 := by
  obtain ⟨p, h1, h2, h3⟩ := lw_p t h0
  exact t_nz (i := p) (by rw [h1]; exact decide_eq_true rfl)
/-- groups with the lowest one are enough -/
theorem Dp_lw {W E : Nat → Prop} {hh : Nat → Nat} (hW : ∀ S S', W S → ss S' S → W S') (Y0 : hh 0 = 0) (Ya : ∀ T, W T → T ≠ 0 → hh (df T (lw T)) ≤ hh T) (Yb : ∀ T U, W T → T ≠ 0 → ss U T → ss (lw T) U → E U → hh (df T U) + 1 ≤ hh T) (Yc : ∀ T, W T → T ≠ 0 → hh T = hh (df T (lw T)) ∨ ∃ U, ss U T ∧ ss (lw T) U ∧ E U ∧ hh T = hh (df T U) + 1) : Dp W E hh := by
  have full : ∀ T, W T → ∀ U, ss U T → U ≠ 0 → E U → hh (df T U) + 1 ≤ hh T := by
    intro T
    induction T using Nat.strongRecOn with
    | _ T ih =>
      intro vT U hU u0 gU
      have t0 : T ≠ 0 := by
        obtain ⟨i, hi⟩ := nz_t u0
        exact t_nz (hU i hi)
      obtain ⟨p, l1, l2, l3⟩ := lw_p T t0
      have lp : ∀ a : Nat, a.testBit p = true → ss (lw T) a := fun a ha i hi => by
        rw [l1] at hi; rw [of_decide_eq_true hi]; exact ha
      by_cases c : U.testBit p = true
      · exact Yb T U vT t0 hU (lp U c) gU
      · have aT : ss (df T U) T := df_ss T U
        have ap : (df T U).testBit p = true := by rw [df_t, l2, Bool.eq_false_iff.mpr c]; rfl
        have la : lw (df T U) = lw T := lw_eq aT t0 (lp _ ap)
        rcases Yc (df T U) (hW T _ vT aT) (t_nz ap) with e | ⟨g, g1, g2, g3, g4⟩
        · rw [la] at e
          have i1 : ss U (df T (lw T)) := fun i hi => by
            rw [df_t, hU i hi, l1, decide_eq_false (fun q => c (by rw [← q]; exact hi))]; rfl
          have i2 := ih (df T (lw T)) (df_lt (lw_ss t0) (lw_nz t0)) (hW T _ vT (df_ss _ _)) U i1 u0 gU
          rw [df_comm] at i2
          have := Ya T vT t0
          omega
        · rw [la] at g2
          have gT := ss_tr g1 aT
          have gp : g.testBit p = true := g2 p (by rw [l1]; exact decide_eq_true rfl)
          have i1 : ss U (df T g) := fun i hi => by
            rw [df_t, hU i hi]
            cases eg : g.testBit i
            · rfl
            · have q := g1 i eg
              rw [df_t, hi] at q
              have q := (Bool.and_eq_true_iff.mp q).2
              cases q
          have i2 := ih (df T g) (df_lt gT (t_nz gp)) (hW T _ vT (df_ss _ _)) U i1 u0 gU
          rw [df_comm] at i2
          have := Yb T g vT t0 gT g2 g3
          omega
  refine ⟨Y0, fun S U vS h1 h2 h3 => full S vS U h1 h2 h3, fun S vS s0 => ?_⟩
  rcases Yc S vS s0 with q | ⟨U, u1, u2, u3, u4⟩
  · have l := df_lt (lw_ss s0) (lw_nz s0)
    exact Or.inl ⟨_, df_ss _ _, by omega, q⟩
  · obtain ⟨i, hi⟩ := nz_t (lw_nz s0)
    exact Or.inr ⟨U, u1, t_nz (u2 i hi), u3, u4⟩
/-! a mask by its bits; the map of sets -/
def mkm (f : Nat → Bool) : Nat → Nat
  | 0 => 0
  | n + 1 => mkm f n + (if f n = true then 2 ^ n else 0)
theorem mkm_lt (f : Nat → Bool) : ∀ n, mkm f n < 2 ^ n
  | 0 => Nat.one_pos
  | n + 1 => by
    have := mkm_lt f n
    rw [mkm, Nat.pow_succ]; split <;> omega
theorem mkm_t (f : Nat → Bool) (i : Nat) : ∀ n, (mkm f n).testBit i = (decide (i < n) && f i)
  | 0 => by rw [mkm, Nat.zero_testBit, decide_eq_false (by omega)]; rfl
  | n + 1 => by
    have ih := mkm_t f i n
    have hl := mkm_lt f n
    rw [mkm]
    by_cases c : f n = true
    · rw [if_pos c, Nat.add_comm]
      by_cases e : i = n
      · rw [e, Nat.testBit_two_pow_add_eq, Nat.testBit_lt_two_pow hl, decide_eq_true (by omega), c]; rfl
      · by_cases e2 : i < n
        · rw [Nat.testBit_two_pow_add_gt e2, ih, decide_eq_true e2, decide_eq_true (by omega)]
        · rw [Nat.testBit_lt_two_pow (Nat.lt_of_lt_of_le (show 2 ^ n + mkm f n < 2 ^ (n + 1) by rw [Nat.pow_succ]; omega) (Nat.pow_le_pow_right (by omega) (by omega))), decide_eq_false (by omega)]; rfl
    · rw [if_neg c, Nat.add_zero, ih]
      by_cases e : i = n
      · rw [e, decide_eq_false (by omega), decide_eq_true (by omega), Bool.eq_false_iff.mpr c]; rfl
      · by_cases e2 : i < n
        · rw [decide_eq_true e2, decide_eq_true (by omega)]
        · rw [decide_eq_false e2, decide_eq_false (by omega)]
def rk (z : Nat → Bool) : Nat → Nat
  | 0 => 0
  | k + 1 => rk z k + (if z k = true then 1 else 0)
theorem rk_le {z : Nat → Bool} {a : Nat} : ∀ {b}, a ≤ b → rk z a ≤ rk z b
  | 0, h => by rw [show a = 0 by omega]; exact Nat.le_refl _
  | b + 1, h => by
    by_cases e : a = b + 1
    · rw [e]; exact Nat.le_refl _
    · have := rk_le (z := z) (b := b) (show a ≤ b by omega)
      rw [rk]; omega
theorem rk_lt {z : Nat → Bool} {a b : Nat} (h : a < b) (hz : z a = true) : rk z a < rk z b := by
  have := rk_le (z := z) (show a + 1 ≤ b by omega)
  rw [rk, if_pos hz] at this; omega
theorem rk_inj {z : Nat → Bool} {a b : Nat} (ha : z a = true) (hb : z b = true) (e : rk z a = rk z b) : a = b := by
  by_cases h : a < b
  · have := rk_lt h ha; omega
  · by_cases g : b < a
    · have := rk_lt g hb; omega
    · omega
theorem rk_ex {z : Nat → Bool} {i : Nat} : ∀ {n}, i < rk z n → ∃ k, k < n ∧ z k = true ∧ rk z k = i
  | 0, h => by rw [rk] at h; omega
  | n + 1, h => by
    rw [rk] at h
    by_cases c : z n = true
    · rw [if_pos c] at h
      by_cases e : i = rk z n
      · exact ⟨n, by omega, c, e.symm⟩
      · obtain ⟨k, h1, h2⟩ := rk_ex (z := z) (n := n) (show i < rk z n by omega)
        exact ⟨k, by omega, h2⟩
    · rw [if_neg c] at h
      obtain ⟨k, h1, h2⟩ := rk_ex (z := z) (n := n) h
      exact ⟨k, by omega, h2⟩
def emk (z : Nat → Bool) (T : Nat) : Nat := mkm (fun k => z k && T.testBit (rk z k)) 12
theorem emk_t (z : Nat → Bool) (T k : Nat) : (emk z T).testBit k = (decide (k < 12) && (z k && T.testBit (rk z k))) := mkm_t _ k 12
def sX (so : Nat → Int64) (S : Nat) : Nat → Int64
  | 0 => 0
  | k + 1 => sX so S k + (if S.testBit k = true then so k else 0)
theorem sX_e {z : Nat → Bool} {so of : Nat → Int64} {T : Nat} : ∀ n, n ≤ 12 → (∀ k, k < n → z k = true → of (rk z k) = so k) → sX so (emk z T) n = sX of T (rk z n)
  | 0, _, _ => rfl
  | n + 1, hn, h => by
    have ih := sX_e (z := z) (so := so) (of := of) (T := T) n (by omega) (fun k hk => h k (by omega))
    rw [sX, ih, emk_t, decide_eq_true (by omega), rk]
    by_cases c : z n = true
    · rw [if_pos c, sX, h n (by omega) c, c]; rfl
    · rw [if_neg c, Bool.eq_false_iff.mpr c, Nat.add_zero]
      show _ + 0 = _
      exact Int64.add_zero _
theorem sX_hi {of : Nat → Int64} {T m : Nat} (hT : T < 2 ^ m) : ∀ n, sX of T (m + n) = sX of T m
  | 0 => rfl
  | n + 1 => by
    rw [← Nat.add_assoc, sX, sX_hi hT n, Nat.testBit_lt_two_pow (Nat.lt_of_lt_of_le hT (Nat.pow_le_pow_right (by omega) (by omega)))]
    exact Int64.add_zero _
/-- a group: rows and columns that come out alike -/
def grX (so : Nat → Int64) (S : Nat) : Prop := sX so S 12 = 0 ∧ (∃ k, k < 6 ∧ S.testBit k = true) ∧ ∃ k, 6 ≤ k ∧ k < 12 ∧ S.testBit k = true
def grY (of : Nat → Int64) (r : Nat) (T : Nat) : Prop := sX of T 12 = 0 ∧ (∃ k, k < r ∧ T.testBit k = true) ∧ ∃ k, r ≤ k ∧ T.testBit k = true
theorem ss_lt {a b m : Nat} (h : ss a b) (hb : b < 2 ^ m) : a < 2 ^ m := Nat.lt_of_le_of_lt (ss_le h) hb
theorem lt_t {a m i : Nat} (h : a < 2 ^ m) (hi : a.testBit i = true) : i < m := Classical.byContradiction fun q => by
  rw [Nat.testBit_lt_two_pow (Nat.lt_of_lt_of_le h (Nat.pow_le_pow_right (by omega) (by omega)))] at hi; cases hi
theorem least_eq {z : Nat → Bool} {so of : Nat → Int64} (hof : ∀ k, k < 12 → z k = true → of (rk z k) = so k) {g hh : Nat → Nat} (A : Dp (fun S => ss S (mkm z 12)) (grX so) g) (B : Dp (fun T => T < 2 ^ rk z 12) (grY of (rk z 6)) hh) : g (mkm z 12) = hh (2 ^ rk z 12 - 1) := by
  have r12 : rk z 12 ≤ 12 := by
    have : ∀ n, rk z n ≤ n := fun n => by
      induction n with
      | zero => exact Nat.le_refl _
      | succ n ih => rw [rk]; split <;> omega
    exact this 12
  have p0 : 0 < 2 ^ rk z 12 := Nat.pow_pos (by omega)
  have q := Dp_iso (V := fun S => ss S (mkm z 12)) (W := fun T => T < 2 ^ rk z 12) (fun S S' h1 h2 => ss_tr h2 h1) (fun S S' h1 h2 => ss_lt h2 h1) A B (emk z) ?_ ?_ ?_ ?_ (2 ^ rk z 12 - 1) (by omega)
  · rw [← q]
    congr 1
    refine Nat.eq_of_testBit_eq fun i => ?_
    rw [mkm_t, emk_t, Nat.testBit_two_pow_sub_one]
    by_cases c : i < 12
    · by_cases c2 : z i = true
      · rw [decide_eq_true c, c2, decide_eq_true (rk_lt c c2)]; rfl
      · rw [Bool.eq_false_iff.mpr c2]; rfl
    · rw [decide_eq_false c]; rfl
  · refine Nat.eq_of_testBit_eq fun i => ?_
    rw [emk_t, Nat.zero_testBit, Nat.zero_testBit]
    cases z i <;> cases decide (i < 12) <;> rfl
  · intro T hT i hi
    rw [emk_t] at hi
    rw [mkm_t]
    have a := Bool.and_eq_true_iff.mp hi
    have b := Bool.and_eq_true_iff.mp a.2
    rw [a.1, b.1]; rfl
  · intro T U hT hU
    have lU := ss_lt hU hT
    refine ⟨fun i hi => ?_, Nat.eq_of_testBit_eq fun i => ?_, fun u0 => ?_, ?_⟩
    · rw [emk_t] at hi ⊢
      have a := Bool.and_eq_true_iff.mp hi
      have b := Bool.and_eq_true_iff.mp a.2
      rw [a.1, b.1, hU _ b.2]; rfl
    · rw [df_t, emk_t, emk_t, emk_t, df_t]
      cases decide (i < 12) <;> cases z i <;> cases T.testBit (rk z i) <;> cases U.testBit (rk z i) <;> rfl
    · obtain ⟨i, hi⟩ := nz_t u0
      obtain ⟨k, k1, k2, k3⟩ := rk_ex (lt_t lU hi)
      exact t_nz (i := k) (by rw [emk_t, decide_eq_true k1, k2, k3, hi]; rfl)
    · have e1 := sX_e (z := z) (so := so) (of := of) (T := U) 12 (Nat.le_refl _) hof
      have e2 := sX_hi (of := of) lU (12 - rk z 12)
      rw [show rk z 12 + (12 - rk z 12) = 12 by omega] at e2
      unfold grX grY
      rw [e1, e2]
      refine and_congr_right fun _ => and_congr ⟨fun ⟨k, h1, h2⟩ => ?_, fun ⟨i, h1, h2⟩ => ?_⟩ ⟨fun ⟨k, h1, h3, h2⟩ => ?_, fun ⟨i, h1, h2⟩ => ?_⟩
      · rw [emk_t] at h2
        have a := Bool.and_eq_true_iff.mp h2
        have b := Bool.and_eq_true_iff.mp a.2
        exact ⟨rk z k, rk_lt h1 b.1, b.2⟩
      · obtain ⟨k, k1, k2, k3⟩ := rk_ex h1
        exact ⟨k, k1, by rw [emk_t, decide_eq_true (by omega), k2, k3, h2]; rfl⟩
      · rw [emk_t] at h2
        have a := Bool.and_eq_true_iff.mp h2
        have b := Bool.and_eq_true_iff.mp a.2
        exact ⟨rk z k, rk_le h1, b.2⟩
      · obtain ⟨k, k1, k2, k3⟩ := rk_ex (lt_t lU h2)
        refine ⟨k, Classical.byContradiction fun q => ?_, k1, by rw [emk_t, decide_eq_true k1, k2, k3, h2]; rfl⟩
        have := rk_lt (z := z) (show k < 6 by omega) k2
        omega
  · intro T S hT hS
    have key : ∀ k, S.testBit k = true → k < 12 ∧ z k = true ∧ T.testBit (rk z k) = true := fun k hk => by
      have a := hS k hk
      rw [emk_t] at a
      have a := Bool.and_eq_true_iff.mp a
      have b := Bool.and_eq_true_iff.mp a.2
      exact ⟨of_decide_eq_true a.1, b.1, b.2⟩
    refine ⟨mkm (fun i => @decide (∃ k, z k = true ∧ rk z k = i ∧ S.testBit k = true) (Classical.propDecidable _)) (rk z 12), fun i hi => ?_, Nat.eq_of_testBit_eq fun i => ?_⟩
    · rw [mkm_t] at hi
      have a := Bool.and_eq_true_iff.mp hi
      obtain ⟨k, k1, k2, k3⟩ := @of_decide_eq_true _ (Classical.propDecidable _) a.2
      rw [← k2]; exact (key k k3).2.2
    · rw [emk_t]
      cases e : S.testBit i
      · by_cases c : i < 12 ∧ z i = true
        · rw [mkm_t, @decide_eq_false (∃ k, z k = true ∧ rk z k = rk z i ∧ S.testBit k = true) (Classical.propDecidable _) (fun ⟨k, k1, k2, k3⟩ => by
            rw [rk_inj k1 c.2 k2, e] at k3; cases k3)]
          cases decide (i < 12) <;> cases z i <;> cases decide (rk z i < rk z 12) <;> rfl
        · cases ez : z i
          · cases decide (i < 12) <;> rfl
          · rw [decide_eq_false (fun q => c ⟨q, ez⟩)]; rfl
      · obtain ⟨k1, k2, k3⟩ := key i e
        rw [mkm_t, decide_eq_true k1, k2, decide_eq_true (rk_lt k1 k2), @decide_eq_true (∃ k, z k = true ∧ rk z k = rk z i ∧ S.testBit k = true) (Classical.propDecidable _) ⟨i, k2, rfl, e⟩]; rfl
/-! there is such a number; there is one alone -/
def sup (f : Nat → Nat) : Nat → Nat
  | 0 => 0
  | n + 1 => max (sup f n) (f n)
theorem sup_le {f : Nat → Nat} {i : Nat} : ∀ {n}, i < n → f i ≤ sup f n
  | 0, h => by omega
  | n + 1, h => by
    rw [sup]
    by_cases e : i = n
    · rw [e]; exact Nat.le_max_right _ _
    · exact Nat.le_trans (sup_le (show i < n by omega)) (Nat.le_max_left _ _)
theorem sup_ex (f : Nat → Nat) : ∀ n, sup f n = 0 ∨ ∃ i, i < n ∧ sup f n = f i
  | 0 => Or.inl rfl
  | n + 1 => by
    rw [sup]
    by_cases c : f n ≤ sup f n
    · rw [Nat.max_eq_left c]
      rcases sup_ex f n with h | ⟨i, h1, h2⟩
      · exact Or.inl h
      · exact Or.inr ⟨i, by omega, h2⟩
    · rw [Nat.max_eq_right (by omega)]
      exact Or.inr ⟨n, by omega, rfl⟩
theorem sup_c {f g : Nat → Nat} : ∀ n, (∀ i, i < n → f i = g i) → sup f n = sup g n
  | 0, _ => rfl
  | n + 1, h => by rw [sup, sup, sup_c n (fun i hi => h i (by omega)), h n (by omega)]
noncomputable def gq (G : Nat → Prop) : Nat → Nat → Nat
  | 0, _ => 0
  | n + 1, S => sup (fun U => @ite _ (ss U S ∧ U ≠ 0 ∧ G U) (Classical.propDecidable _) (gq G n (df S U) + 1) 0) (S + 1)
theorem gq_st (G : Nat → Prop) : ∀ n m S, S ≤ n → S ≤ m → gq G n S = gq G m S := by
  have z : ∀ m, gq G m 0 = 0 := fun m => by
    cases m with
    | zero => rfl
    | succ m =>
      rw [gq, sup, sup]
      show max 0 _ = 0
      rw [if_neg (fun q => q.2.1 rfl)]; rfl
  intro n
  induction n with
  | zero => intro m S h1 _; rw [show S = 0 by omega, z, z]
  | succ n ih =>
    intro m S h1 h2
    by_cases e : S = 0
    · rw [e, z, z]
    · obtain ⟨m, rfl⟩ : ∃ k, m = k + 1 := ⟨m - 1, by omega⟩
      rw [gq, gq]
      refine sup_c _ fun U _ => ?_
      by_cases c : ss U S ∧ U ≠ 0 ∧ G U
      · have := df_lt c.1 c.2.1
        rw [if_pos c, if_pos c, ih m (df S U) (by omega) (by omega)]
      · rw [if_neg c, if_neg c]
theorem gq_dp (V G : Nat → Prop) : Dp V G (fun S => gq G S S) := by
  refine ⟨rfl, fun S U _ h1 h2 h3 => ?_, fun S _ h0 => ?_⟩
  · have l := df_lt h1 h2
    have l2 := ss_le h1
    obtain ⟨n, rfl⟩ : ∃ k, S = k + 1 := ⟨S - 1, by omega⟩
    have q := sup_le (f := fun U => @ite _ (ss U (n + 1) ∧ U ≠ 0 ∧ G U) (Classical.propDecidable _) (gq G n (df (n + 1) U) + 1) 0) (i := U) (n := n + 1 + 1) (by omega)
    try dsimp only at q
    rw [if_pos ⟨h1, h2, h3⟩, gq_st G n (df (n + 1) U) (df (n + 1) U) (by omega) (Nat.le_refl _)] at q
    show _ ≤ gq G (n + 1) (n + 1)
    rw [gq]; exact q
  · obtain ⟨n, rfl⟩ : ∃ k, S = k + 1 := ⟨S - 1, by omega⟩
    have z : (∃ S', ss S' (n + 1) ∧ S' ≠ n + 1 ∧ (0 : Nat) = gq G S' S') := ⟨0, (fun i hi => by rw [Nat.zero_testBit] at hi; cases hi), by omega, rfl⟩
    dsimp only
    rw [gq]
    rcases sup_ex (fun U => @ite _ (ss U (n + 1) ∧ U ≠ 0 ∧ G U) (Classical.propDecidable _) (gq G n (df (n + 1) U) + 1) 0) (n + 1 + 1) with h | ⟨U, h1, h2⟩
    · rw [h]; exact Or.inl z
    · rw [h2]
      by_cases c : ss U (n + 1) ∧ U ≠ 0 ∧ G U
      · have l := df_lt c.1 c.2.1
        rw [if_pos c]
        exact Or.inr ⟨U, c.1, c.2.1, c.2.2, by rw [gq_st G n (df (n + 1) U) (df (n + 1) U) (by omega) (Nat.le_refl _)]⟩
      · rw [if_neg c]; exact Or.inl z
theorem Dp_uq {V G : Nat → Prop} {g hh : Nat → Nat} (hV : ∀ S S', V S → ss S' S → V S') (A : Dp V G g) (B : Dp V G hh) : ∀ T, V T → g T = hh T :=
  Dp_iso hV hV A B id rfl (fun _ h => h) (fun _ _ _ h => ⟨h, rfl, fun h => h, Iff.rfl⟩) (fun _ S _ h => ⟨S, h, rfl⟩)
/-! the next lesser subset -/
theorem nx_le : ∀ (n s b u : Nat), s ≤ n → ss s b → 0 < s → ss u b → u < s → u ≤ (s - 1) &&& b := by
  intro n
  induction n with
  | zero => intro s b u h1 h2 h3; omega
  | succ n ih =>
    intro s b u h1 h2 h3 h4 h5
    have hs2 : ss (s / 2) (b / 2) := fun i hi => by rw [← Nat.testBit_succ] at hi ⊢; exact h2 _ hi
    have hu2 : ss (u / 2) (b / 2) := fun i hi => by rw [← Nat.testBit_succ] at hi ⊢; exact h4 _ hi
    have b0 : u % 2 = 1 → b % 2 = 1 := fun q => by
      have := h4 0 (by rw [Nat.testBit_zero]; exact decide_eq_true q)
      rw [Nat.testBit_zero] at this; exact of_decide_eq_true this
    have e1 : ((s - 1) &&& b) / 2 = ((s - 1) / 2) &&& (b / 2) := Nat.and_div_two
    have e2 : ((s - 1) &&& b) % 2 = 1 ↔ ((s - 1) % 2 = 1 ∧ b % 2 = 1) := by
      have q := Nat.testBit_and (s - 1) b 0
      rw [Nat.testBit_zero, Nat.testBit_zero, Nat.testBit_zero] at q
      rw [← decide_eq_true_iff (p := ((s - 1) &&& b) % 2 = 1), q, Bool.and_eq_true_iff, decide_eq_true_iff, decide_eq_true_iff]
    by_cases c : s % 2 = 1
    · have e3 : (s - 1) / 2 = s / 2 := by omega
      rw [e3, ss_and hs2] at e1
      omega
    · have e3 : (s - 1) / 2 = s / 2 - 1 := by omega
      have q := ih (s / 2) (b / 2) (u / 2) (by omega) hs2 (by omega) hu2 (by omega)
      rw [e3] at e1
      have e4 : (s - 1) % 2 = 1 := by omega
      by_cases c2 : b % 2 = 1
      · have := e2.mpr ⟨e4, c2⟩
        omega
      · have : u % 2 ≠ 1 := fun z => c2 (b0 z)
        omega
theorem and_ss (a b : Nat) : ss (a &&& b) b := fun i h => by
  rw [Nat.testBit_and] at h; exact (Bool.and_eq_true_iff.mp h).2
/-! the same of 32-bit numbers -/
theorem o_and (a b : Nat) : Int32.ofNat a &&& Int32.ofNat b = Int32.ofNat (a &&& b) := by
  apply Int32.toBitVec_inj.mp
  apply BitVec.eq_of_getLsbD_eq
  intro i hi
  simp [Int32.toBitVec_ofNat', hi]
theorem o_or (a b : Nat) : Int32.ofNat a ||| Int32.ofNat b = Int32.ofNat (a ||| b) := by
  apply Int32.toBitVec_inj.mp
  apply BitVec.eq_of_getLsbD_eq
  intro i hi
  simp [Int32.toBitVec_ofNat', hi]
theorem bv_t (a : Nat) {i : Nat} (hi : i < 32) : (BitVec.ofNat 32 a).getLsbD i = a.testBit i := by
  rw [BitVec.getLsbD_ofNat, decide_eq_true hi]; rfl
theorem o_df {a : Nat} (b : Nat) : Int32.ofNat a &&& (Int32.ofNat b ^^^ (-1)) = Int32.ofNat (df a b) := by
  apply Int32.toBitVec_inj.mp
  apply BitVec.eq_of_getLsbD_eq
  intro i hi
  have e : (Int32.ofNat a &&& (Int32.ofNat b ^^^ (-1))).toBitVec = BitVec.ofNat 32 a &&& (BitVec.ofNat 32 b ^^^ BitVec.allOnes 32) := rfl
  have e2 : (Int32.ofNat (df a b)).toBitVec = BitVec.ofNat 32 (df a b) := rfl
  rw [e, e2, BitVec.getLsbD_and, BitVec.getLsbD_xor, bv_t a hi, bv_t b hi, bv_t _ hi, df_t, BitVec.getLsbD_allOnes, decide_eq_true hi]
  cases a.testBit i <;> cases b.testBit i <;> rfl
theorem gq_c (G : Nat → Prop) (S : Nat) : gq G S S = 0 ∨ ∃ U, ss U S ∧ U ≠ 0 ∧ G U ∧ gq G S S = gq G (df S U) (df S U) + 1 := by
  cases S with
  | zero => exact Or.inl rfl
  | succ n =>
    rw [gq]
    rcases sup_ex (fun U => @ite _ (ss U (n + 1) ∧ U ≠ 0 ∧ G U) (Classical.propDecidable _) (gq G n (df (n + 1) U) + 1) 0) (n + 1 + 1) with h | ⟨U, h1, h2⟩
    · exact Or.inl h
    · rw [h2]
      by_cases c : ss U (n + 1) ∧ U ≠ 0 ∧ G U
      · have l := df_lt c.1 c.2.1
        rw [if_pos c]
        exact Or.inr ⟨U, c.1, c.2.1, c.2.2, by rw [gq_st G n (df (n + 1) U) (df (n + 1) U) (by omega) (Nat.le_refl _)]⟩
      · rw [if_neg c]; exact Or.inl rfl
theorem gq_b {G : Nat → Prop} {S U : Nat} (h1 : ss U S) (h2 : U ≠ 0) (h3 : G U) : gq G (df S U) (df S U) + 1 ≤ gq G S S := (gq_dp (fun _ => True) G).2.1 S U trivial h1 h2 h3
theorem gq_m {G : Nat → Prop} {S U : Nat} (h : ss U S) : gq G U U ≤ gq G S S := (gq_dp (fun _ => True) G).mono (fun _ _ _ _ => trivial) S trivial U h
theorem gq_le (G : Nat → Prop) : ∀ S, gq G S S ≤ S := by
  intro S
  induction S using Nat.strongRecOn with
  | _ S ih =>
    rcases gq_c G S with h | ⟨U, h1, h2, h3, h4⟩
    · omega
    · have l := df_lt h1 h2
      have := ih _ l
      omega
theorem gq_lw (G : Nat → Prop) : ∀ T, T ≠ 0 → gq G T T = gq G (df T (lw T)) (df T (lw T)) ∨ ∃ U, ss U T ∧ ss (lw T) U ∧ G U ∧ gq G T T = gq G (df T U) (df T U) + 1 := by
  intro T
  induction T using Nat.strongRecOn with
  | _ T ih =>
    intro t0
    have m1 : gq G (df T (lw T)) (df T (lw T)) ≤ gq G T T := gq_m (df_ss T (lw T))
    rcases gq_c G T with h | ⟨U, h1, h2, h3, h4⟩
    · exact Or.inl (by omega)
    · obtain ⟨p, l1, l2, l3⟩ := lw_p T t0
      have lp : ∀ a : Nat, a.testBit p = true → ss (lw T) a := fun a ha i hi => by
        rw [l1] at hi; rw [of_decide_eq_true hi]; exact ha
      by_cases c : U.testBit p = true
      · exact Or.inr ⟨U, h1, lp U c, h3, h4⟩
      · have aT : ss (df T U) T := df_ss T U
        have ap : (df T U).testBit p = true := by rw [df_t, l2, Bool.eq_false_iff.mpr c]; rfl
        have la : lw (df T U) = lw T := lw_eq aT t0 (lp _ ap)
        rcases ih (df T U) (df_lt h1 h2) (t_nz ap) with e | ⟨g, g1, g2, g3, g4⟩
        · rw [la] at e
          have i1 : ss U (df T (lw T)) := fun i hi => by
            rw [df_t, h1 i hi, l1, decide_eq_false (fun q => c (by rw [← q]; exact hi))]; rfl
          have i2 := gq_b (G := G) i1 h2 h3
          rw [df_comm] at i2
          exact Or.inl (by omega)
        · rw [la] at g2
          have gT := ss_tr g1 aT
          have gp : g.testBit p = true := g2 p (by rw [l1]; exact decide_eq_true rfl)
          have i1 : ss U (df T g) := fun i hi => by
            rw [df_t, h1 i hi]
            cases eg : g.testBit i
            · rfl
            · have q := g1 i eg
              rw [df_t, hi] at q
              have q := (Bool.and_eq_true_iff.mp q).2
              cases q
          have i2 := gq_b (G := G) i1 h2 h3
          rw [df_comm] at i2
          have i3 := gq_b (G := G) gT (t_nz gp) g3
          exact Or.inr ⟨g, gT, g2, g3, by omega⟩
theorem df_0 {a b : Nat} : df a b = 0 ↔ ss a b := by
  refine ⟨fun h i hi => ?_, fun h => Nat.eq_of_testBit_eq fun i => ?_⟩
  · have q := df_t a b i
    rw [h, Nat.zero_testBit, hi] at q
    cases e : b.testBit i
    · rw [e] at q; cases q
    · rfl
  · rw [df_t, Nat.zero_testBit]
    cases e : a.testBit i
    · rfl
    · rw [h i e]; rfl
theorem lw_and {t u : Nat} (h0 : t ≠ 0) : u &&& lw t ≠ 0 ↔ ss (lw t) u := by
  obtain ⟨p, l1, l2, l3⟩ := lw_p t h0
  refine ⟨fun h i hi => ?_, fun h => ?_⟩
  · obtain ⟨j, hj⟩ := nz_t h
    rw [Nat.testBit_and, l1] at hj
    have q := Bool.and_eq_true_iff.mp hj
    rw [l1] at hi
    rw [of_decide_eq_true hi, ← of_decide_eq_true q.2]; exact q.1
  · have q := h p (by rw [l1]; exact decide_eq_true rfl)
    exact t_nz (i := p) (by rw [Nat.testBit_and, q, l1, decide_eq_true rfl]; rfl)
theorem gr_e {so : Nat → Int64} {S : Nat} (hS : S < 4096) : grX so S ↔ sX so S 12 = 0 ∧ ¬ S % 64 = 0 ∧ ¬ S / 64 = 0 := by
  unfold grX
  refine and_congr_right fun _ => and_congr ⟨fun ⟨k, h1, h2⟩ h => ?_, fun h => ?_⟩ ⟨fun ⟨k, h1, h3, h2⟩ h => ?_, fun h => ?_⟩
  · have q := Nat.testBit_mod_two_pow S 6 k
    rw [show S % 2 ^ 6 = 0 from h, Nat.zero_testBit, h2, decide_eq_true h1] at q; cases q
  · obtain ⟨k, hk⟩ := nz_t h
    have q := Nat.testBit_mod_two_pow S 6 k
    rw [show S % 2 ^ 6 = S % 64 from rfl, hk] at q
    have q := Bool.and_eq_true_iff.mp q.symm
    exact ⟨k, of_decide_eq_true q.1, q.2⟩
  · have q := Nat.testBit_div_two_pow (n := 6) S (k - 6)
    rw [show S / 2 ^ 6 = 0 from h, Nat.zero_testBit, show k - 6 + 6 = k by omega, h2] at q; cases q
  · obtain ⟨k, hk⟩ := nz_t h
    have q := Nat.testBit_div_two_pow (n := 6) S k
    rw [show S / 2 ^ 6 = S / 64 from rfl, hk] at q
    exact ⟨k + 6, by omega, lt_t (m := 12) hS q.symm, q.symm⟩
theorem ge_e {so : Nat → Int64} {S r : Nat} : grY so r S ↔ sX so S 12 = 0 ∧ ¬ S % 2 ^ r = 0 ∧ ¬ S % 2 ^ r = S := by
  unfold grY
  refine and_congr_right fun _ => and_congr ⟨fun ⟨k, h1, h2⟩ h => ?_, fun h => ?_⟩ ⟨fun ⟨k, h1, h2⟩ h => ?_, fun h => ?_⟩
  · have q := Nat.testBit_mod_two_pow S r k
    rw [h, Nat.zero_testBit, h2, decide_eq_true h1] at q; cases q
  · obtain ⟨k, hk⟩ := nz_t h
    have q := Nat.testBit_mod_two_pow S r k
    rw [hk] at q
    have q := Bool.and_eq_true_iff.mp q.symm
    exact ⟨k, of_decide_eq_true q.1, q.2⟩
  · have q := Nat.testBit_mod_two_pow S r k
    rw [h, h2, decide_eq_false (by omega)] at q; cases q
  · refine Classical.byContradiction fun q => h (Nat.eq_of_testBit_eq fun i => ?_)
    rw [Nat.testBit_mod_two_pow]
    by_cases c : i < r
    · rw [decide_eq_true c]; rfl
    · cases e : S.testBit i
      · cases decide (i < r) <;> rfl
      · exact absurd ⟨i, by omega, e⟩ q
def pc (n : Nat) : Nat → Nat
  | 0 => 0
  | k + 1 => pc n k + (if n.testBit k = true then 1 else 0)
theorem pc_rk (z : Nat → Bool) : ∀ n, n ≤ 12 → pc (mkm z 12) n = rk z n
  | 0, _ => rfl
  | n + 1, h => by rw [pc, rk, pc_rk z n (by omega), mkm_t, decide_eq_true (by omega)]; rfl
theorem gq_xy {z : Nat → Bool} {so of : Nat → Int64} (hof : ∀ k, k < 12 → z k = true → of (rk z k) = so k) : gq (grX so) (mkm z 12) (mkm z 12) = gq (grY of (rk z 6)) (2 ^ rk z 12 - 1) (2 ^ rk z 12 - 1) :=
  least_eq (g := fun S => gq (grX so) S S) (hh := fun S => gq (grY of (rk z 6)) S S) hof (gq_dp _ _) (gq_dp _ _)
