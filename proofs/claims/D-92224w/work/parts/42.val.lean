/-! the numbers and marks of all steps, plainly -/
set_option maxRecDepth 100000
set_option maxHeartbeats 4000000
def lnA (ls : List Ln) (i : Nat) : Ln := ls.getD i (0, 0, 0, 0, 0)
def nwv (r : Nat → Int32) (w u e : Nat) (ts : List Tm) (ls : List Ln) (Z : Nat → Nat → Nat → Int32 → Int32) (pr : Nat → Nat → Int32) (s c : Nat) : Nat → Nat → Int32
  | 0, l => Z s c l (pr c l)
  | j + 1, l => if l = (lnA ls j).1 then Z s c l (mdv (nv r w u e pr (nwv r w u e ts ls Z pr s c j) c) ts (lnA ls j)) else nwv r w u e ts ls Z pr s c j l
def val (r : Nat → Int32) (w u e : Nat) (ts : List Tm) (ls : List Ln) (Z : Nat → Nat → Nat → Int32 → Int32) (r0 : Nat → Nat → Int32) : Nat → Nat → Nat → Int32
  | 0, c, l => r0 c l
  | s + 1, c, l => nwv r w u e ts ls Z (val r w u e ts ls Z r0 s) (s + 1) c ls.length l
noncomputable def nwk (w u e : Nat) (ts : List Tm) (ls : List Ln) (pr : Nat → Nat → Int32) (c : Nat) : Nat → Nat → Int32
  | 0, l => pr c l
  | j + 1, l => if l = (lnA ls j).1 then b1 (mkl (nk w u e pr (nwk w u e ts ls pr c j) c) ts (lnA ls j).2.1 (lnA ls j).2.2.1) else nwk w u e ts ls pr c j l
noncomputable def vak (w u e : Nat) (ts : List Tm) (ls : List Ln) (r0 : Nat → Nat → Int32) : Nat → Nat → Nat → Int32
  | 0, c, l => r0 c l
  | s + 1, c, l => nwk w u e ts ls (vak w u e ts ls r0 s) c ls.length l
/-- a plan whose lines are of different letters, and whose names 'at this step' are of lines ahead -/
def Vq (ts : List Tm) (ls : List Ln) : Prop := Vp ts ls ∧ (∀ i j, i < ls.length → j < ls.length → (lnA ls i).1 = (lnA ls j).1 → i = j) ∧ ∀ i t q, i < ls.length → (lnA ls i).2.1 ≤ t → t < (lnA ls i).2.1 + (lnA ls i).2.2.1 → ((ts.getD t (0, 0, none)).2.1 = q ∨ (ts.getD t (0, 0, none)).2.2 = some q) → q / 4 = 5 → ∃ j, j < i ∧ (lnA ls j).1 = q % 4
theorem tmv_c {f g : Nat → Int32} {tm : Tm} (h : ∀ q, (tm.2.1 = q ∨ tm.2.2 = some q) → f q = g q) : tmv f tm = tmv g tm := by
  have e1 : f tm.2.1 = g tm.2.1 := h _ (Or.inl rfl)
  have e2 : tb_ f tm.2.2 = tb_ g tm.2.2 := by
    unfold tb_
    split
    · rfl
    · next q e => exact h q (Or.inr e)
  unfold tmv; rw [e1, e2]
theorem mdt_c {f g : Nat → Int32} {ts : List Tm} : ∀ (n t : Nat) (s : Int64), (∀ t' q, t ≤ t' → t' < t + n → ((ts.getD t' (0, 0, none)).2.1 = q ∨ (ts.getD t' (0, 0, none)).2.2 = some q) → f q = g q) → mdt f ts n t s = mdt g ts n t s
  | 0, _, _, _ => rfl
  | n + 1, t, s, h => by
    rw [mdt, mdt, tmv_c (fun q hq => h t q (by omega) (by omega) hq)]
    split
    · rfl
    · exact mdt_c n (t + 1) _ (fun t' q h1 h2 h3 => h t' q (by omega) (by omega) h3)
theorem mdv_c {f g : Nat → Int32} {ts : List Tm} {r : Ln} (h : ∀ t q, r.2.1 ≤ t → t < r.2.1 + r.2.2.1 → ((ts.getD t (0, 0, none)).2.1 = q ∨ (ts.getD t (0, 0, none)).2.2 = some q) → f q = g q) : mdv f ts r = mdv g ts r := by
  unfold mdv; rw [mdt_c _ _ _ h]
theorem mkl_c {f g : Nat → Prop} {ts : List Tm} {a n : Nat} (h : ∀ t q, a ≤ t → t < a + n → ((ts.getD t (0, 0, none)).2.1 = q ∨ (ts.getD t (0, 0, none)).2.2 = some q) → (f q ↔ g q)) : mkl f ts a n ↔ mkl g ts a n := by
  constructor
  · intro ⟨t, h1, h2, h3⟩
    refine ⟨t, h1, h2, ?_⟩
    rcases h3 with h3 | ⟨q, h3, h4⟩
    · exact Or.inl ((h t _ h1 h2 (Or.inl rfl)).1 h3)
    · exact Or.inr ⟨q, h3, (h t q h1 h2 (Or.inr h3)).1 h4⟩
  · intro ⟨t, h1, h2, h3⟩
    refine ⟨t, h1, h2, ?_⟩
    rcases h3 with h3 | ⟨q, h3, h4⟩
    · exact Or.inl ((h t _ h1 h2 (Or.inl rfl)).2 h3)
    · exact Or.inr ⟨q, h3, (h t q h1 h2 (Or.inr h3)).2 h4⟩
theorem nv_c {r : Nat → Int32} {w u e c q : Nat} {pr pr' : Nat → Nat → Int32} {nw nw' : Nat → Int32} (hw : w < 7) (hu : u < 7) (hc : c < w * u) (h1 : q / 4 = 5 → nw (q % 4) = nw' (q % 4)) (h2 : ∀ c l, c < w * u → l < 4 → pr c l = pr' c l) : nv r w u e pr nw c q = nv r w u e pr' nw' c q := by
  unfold nv
  split
  · next z => exact h1 z
  · split
    · rfl
    · next z =>
      rcases nn_lt (e := e) (d := q / 4) hw hu hc with z2 | z2
      · exact h2 _ _ z2 (Nat.mod_lt q (by decide))
      · exact absurd z2 z
theorem nk_c {w u e c q : Nat} {pr pr' : Nat → Nat → Int32} {nw nw' : Nat → Int32} (hw : w < 7) (hu : u < 7) (hc : c < w * u) (h1 : q / 4 = 5 → nw (q % 4) = nw' (q % 4)) (h2 : ∀ c l, c < w * u → l < 4 → pr c l = pr' c l) : nk w u e pr nw c q ↔ nk w u e pr' nw' c q := by
  unfold nk
  split
  · next z => rw [h1 z]
  · by_cases z : nn w u e c (q / 4) = 99
    · exact ⟨fun y => absurd z y.1, fun y => absurd z y.1⟩
    · rcases nn_lt (e := e) (d := q / 4) hw hu hc with z2 | z2
      · rw [h2 _ _ z2 (Nat.mod_lt q (by decide))]
      · exact absurd z2 z
section
variable {r : Nat → Int32} {w u e : Nat} {ts : List Tm} {ls : List Ln} {Z : Nat → Nat → Nat → Int32 → Int32} {pr : Nat → Nat → Int32} {s c : Nat}
theorem nwv_no {l : Nat} : ∀ j, (∀ i, i < j → (lnA ls i).1 ≠ l) → nwv r w u e ts ls Z pr s c j l = Z s c l (pr c l)
  | 0, _ => rfl
  | j + 1, h => by
    rw [nwv, if_neg (fun z => h j (by omega) z.symm)]
    exact nwv_no j (fun i hi => h i (by omega))
theorem nwk_no {l : Nat} : ∀ j, (∀ i, i < j → (lnA ls i).1 ≠ l) → nwk w u e ts ls pr c j l = pr c l
  | 0, _ => rfl
  | j + 1, h => by
    rw [nwk, if_neg (fun z => h j (by omega) z.symm)]
    exact nwk_no j (fun i hi => h i (by omega))
theorem nwv_at {i : Nat} (hd : ∀ i j, i < ls.length → j < ls.length → (lnA ls i).1 = (lnA ls j).1 → i = j) (hi : i < ls.length) : ∀ j, i < j → j ≤ ls.length → nwv r w u e ts ls Z pr s c j (lnA ls i).1 = Z s c (lnA ls i).1 (mdv (nv r w u e pr (nwv r w u e ts ls Z pr s c i) c) ts (lnA ls i))
  | 0, h, _ => by omega
  | j + 1, h, h2 => by
    rw [nwv]
    by_cases z : (lnA ls i).1 = (lnA ls j).1
    · have z2 := hd i j hi (by omega) z
      rw [if_pos z, ← z2]
    · rw [if_neg z]
      have : i ≠ j := fun y => z (by rw [y])
      exact nwv_at hd hi j (by omega) (by omega)
theorem nwk_at {i : Nat} (hd : ∀ i j, i < ls.length → j < ls.length → (lnA ls i).1 = (lnA ls j).1 → i = j) (hi : i < ls.length) : ∀ j, i < j → j ≤ ls.length → nwk w u e ts ls pr c j (lnA ls i).1 = b1 (mkl (nk w u e pr (nwk w u e ts ls pr c i) c) ts (lnA ls i).2.1 (lnA ls i).2.2.1)
  | 0, h, _ => by omega
  | j + 1, h, h2 => by
    rw [nwk]
    by_cases z : (lnA ls i).1 = (lnA ls j).1
    · have z2 := hd i j hi (by omega) z
      rw [if_pos z, ← z2]
    · rw [if_neg z]
      have : i ≠ j := fun y => z (by rw [y])
      exact nwk_at hd hi j (by omega) (by omega)
/-- what is had of a line out of rows that hold the right numbers where they are read -/
theorem val_ln (hV : Vq ts ls) (hw : w < 7) (hu : u < 7) (hc : c < w * u) {i : Nat} (hi : i < ls.length) {pr' : Nat → Nat → Int32} {nw : Nat → Int32} (h1 : ∀ c l, c < w * u → l < 4 → pr' c l = pr c l) (h2 : ∀ j, j < i → nw (lnA ls j).1 = nwv r w u e ts ls Z pr s c ls.length (lnA ls j).1) : Z s c (lnA ls i).1 (mdv (nv r w u e pr' nw c) ts (lnA ls i)) = nwv r w u e ts ls Z pr s c ls.length (lnA ls i).1 := by
  rw [nwv_at hV.2.1 hi ls.length hi (Nat.le_refl _)]
  congr 1
  refine mdv_c (fun t q h3 h4 h5 => nv_c hw hu hc (fun h6 => ?_) h1)
  obtain ⟨j, hj, e⟩ := hV.2.2 i t q hi h3 h4 h5 h6
  rw [← e, h2 j hj, nwv_at hV.2.1 (by omega) ls.length (by omega) (Nat.le_refl _), nwv_at hV.2.1 (by omega) i hj (by omega)]
theorem vak_ln (hV : Vq ts ls) (hw : w < 7) (hu : u < 7) (hc : c < w * u) {i : Nat} (hi : i < ls.length) {pr' : Nat → Nat → Int32} {nw : Nat → Int32} (h1 : ∀ c l, c < w * u → l < 4 → pr' c l = pr c l) (h2 : ∀ j, j < i → nw (lnA ls j).1 = nwk w u e ts ls pr c ls.length (lnA ls j).1) : b1 (mkl (nk w u e pr' nw c) ts (lnA ls i).2.1 (lnA ls i).2.2.1) = nwk w u e ts ls pr c ls.length (lnA ls i).1 := by
  rw [nwk_at hV.2.1 hi ls.length hi (Nat.le_refl _)]
  refine b1_c (mkl_c (fun t q h3 h4 h5 => nk_c hw hu hc (fun h6 => ?_) h1))
  obtain ⟨j, hj, e⟩ := hV.2.2 i t q hi h3 h4 h5 h6
  rw [← e, h2 j hj, nwk_at hV.2.1 (by omega) ls.length (by omega) (Nat.le_refl _), nwk_at hV.2.1 (by omega) i hj (by omega)]
end
theorem nwk_01 {w u e : Nat} {ts : List Tm} {ls : List Ln} {pr : Nat → Nat → Int32} {c l : Nat} (h : pr c l = 0 ∨ pr c l = 1) : ∀ j, nwk w u e ts ls pr c j l = 0 ∨ nwk w u e ts ls pr c j l = 1
  | 0 => h
  | j + 1 => by
    rw [nwk]
    split
    · exact of_eq_true b1_or
    · exact nwk_01 h j
theorem vak_01 {w u e : Nat} {ts : List Tm} {ls : List Ln} {r0 : Nat → Nat → Int32} {c l : Nat} (h : r0 c l = 0 ∨ r0 c l = 1) : ∀ s, vak w u e ts ls r0 s c l = 0 ∨ vak w u e ts ls r0 s c l = 1
  | 0 => h
  | s + 1 => by rw [vak]; exact nwk_01 (vak_01 h s) _
/-- a letter's line in a plan -/
theorem PX_fd {M : ZM} {p : Nat} {ts : List Tm} {ls : List Ln} (h : PX M p ts ls) (hV : Vp ts ls) {l : Nat} (hl : l < 4) : (fd (M (p + 1)) (nI l) (M p 0).toNatClampNeg 0 = -4) = ¬ ∃ i, i < ls.length ∧ (lnA ls i).1 = l := by
  have h4 := hV.2.1
  rw [h.1, a_cl (by omega)]
  refine propext ⟨fun q ⟨i, hi, e⟩ => ?_, fun q => ?_⟩
  · refine fd_yes _ 0 (by omega) ⟨i, by omega, by omega, ?_⟩ q
    rw [(h.2.2.1 i hi).1]; rw [← e]; rfl
  · refine fd_no _ 0 (fun i _ hi e => q ⟨i, by omega, ?_⟩)
    have hi : i < ls.length := by omega
    have := (hV.2.2.2 i hi).2.2.2.2
    rw [(h.2.2.1 i hi).1, a_eq (by omega) (by omega)] at e
    exact e
theorem PX_fdv {M : ZM} {p : Nat} {ts : List Tm} {ls : List Ln} (h : PX M p ts ls) (hV : Vq ts ls) {i : Nat} (hi : i < ls.length) : fd (M (p + 1)) (nI (lnA ls i).1) (M p 0).toNatClampNeg 0 = nI i := by
  have h4 := hV.1.2.1
  rw [h.1, a_cl (by omega)]
  refine fd_at _ 0 i (by omega) (by omega) ?_ (fun j _ hj e => ?_)
  · rw [(h.2.2.1 i hi).1]; rfl
  · have h5 := (hV.1.2.2.2 j (by omega)).2.2.2.2
    have h6 := (hV.1.2.2.2 i hi).2.2.2.2
    rw [(h.2.2.1 j (by omega)).1, a_eq (by omega) (by have : (lnA ls i).1 < 4 := h6; omega)] at e
    have := hV.2.1 j i (by omega) hi e
    omega
