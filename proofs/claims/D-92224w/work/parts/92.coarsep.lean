/-! coarse: plain facts for the model's side -/
set_option maxRecDepth 100000
set_option maxHeartbeats 4000000
def vsm (f : Nat → Int32) : Nat → Int64
  | 0 => 0
  | q + 1 => vsm f q + (f q).toInt64
def ivf (f : Nat → Int32) (v : Int32) : Nat → Int32
  | 0 => if v = 2000000000 then 1 else 0
  | q + 1 => if ivf f v q = 0 then (if f q = 2000000000 then 1 else 0) else 1
theorem ivf_0 {f : Nat → Int32} {v : Int32} : ∀ q, ivf f v q = 0 ↔ (¬ v = 2000000000 ∧ ∀ i, i < q → ¬ f i = 2000000000)
  | 0 => by
    rw [ivf]
    by_cases c : v = 2000000000
    · rw [if_pos c]; exact ⟨fun z => absurd z (by decide), fun z => absurd c z.1⟩
    · rw [if_neg c]; exact ⟨fun _ => ⟨c, fun i hi => by omega⟩, fun _ => rfl⟩
  | q + 1 => by
    have ih := ivf_0 (f := f) (v := v) q
    rw [ivf]
    by_cases c : ivf f v q = 0
    · have d := ih.mp c
      rw [if_pos c]
      by_cases c2 : f q = 2000000000
      · rw [if_pos c2]; exact ⟨fun z => absurd z (by decide), fun z => absurd c2 (z.2 q (by omega))⟩
      · rw [if_neg c2]
        refine ⟨fun _ => ⟨d.1, fun i hi => ?_⟩, fun _ => rfl⟩
        by_cases e : i = q
        · rw [e]; exact c2
        · exact d.2 i (by omega)
    · rw [if_neg c]
      exact ⟨fun z => absurd z (by decide), fun z => absurd (ih.mpr ⟨z.1, fun i hi => z.2 i (by omega)⟩) c⟩
theorem mn4_v {f : Nat → Int32} {i : Nat} (hi : i < 4) (h : f i = 2000000000) : mn4 f 4 0 0 = 2000000000 := by
  simp only [mn4, Nat.zero_add, Nat.reduceAdd]
  have : i = 0 ∨ i = 1 ∨ i = 2 ∨ i = 3 := by omega
  rcases this with rfl | rfl | rfl | rfl
  · rw [if_pos h]
  · rw [if_pos h]; split <;> rfl
  · rw [if_pos h]; (repeat' split) <;> rfl
  · rw [if_pos h]; (repeat' split) <;> rfl
theorem mn4_n {f : Nat → Int32} (h : ∀ i, i < 4 → ¬ f i = 2000000000) : mn4 f 4 0 0 = (fdL (vsm f 4) 4).toInt32 := by
  simp only [mn4, vsm, Nat.zero_add, Nat.reduceAdd]
  rw [if_neg (h 0 (by omega)), if_neg (h 1 (by omega)), if_neg (h 2 (by omega)), if_neg (h 3 (by omega))]
theorem vsm_b {f : Nat → Int32} {B : Int} (hB : B ≤ 1000000000) (h : ∀ i, i < 4 → -B ≤ (f i).toInt ∧ (f i).toInt ≤ B) : -(4 * B) ≤ (vsm f 4).toInt ∧ (vsm f 4).toInt ≤ 4 * B := by
  have h0 := h 0 (by omega)
  have h1 := h 1 (by omega)
  have h2 := h 2 (by omega)
  have h3 := h 3 (by omega)
  simp only [vsm]
  have z : ((0 : Int64)).toInt = 0 := rfl
  have e0 : ((0 : Int64) + (f 0).toInt64).toInt = (f 0).toInt := by
    rw [l_add (by rw [z, Int32.toInt_toInt64]; omega) (by rw [z, Int32.toInt_toInt64]; omega), z, Int32.toInt_toInt64]; omega
  have e1 : ((0 : Int64) + (f 0).toInt64 + (f 1).toInt64).toInt = (f 0).toInt + (f 1).toInt := by
    rw [l_add (by rw [e0, Int32.toInt_toInt64]; omega) (by rw [e0, Int32.toInt_toInt64]; omega), e0, Int32.toInt_toInt64]
  have e2 : ((0 : Int64) + (f 0).toInt64 + (f 1).toInt64 + (f 2).toInt64).toInt = (f 0).toInt + (f 1).toInt + (f 2).toInt := by
    rw [l_add (by rw [e1, Int32.toInt_toInt64]; omega) (by rw [e1, Int32.toInt_toInt64]; omega), e1, Int32.toInt_toInt64]
  rw [l_add (by rw [e2, Int32.toInt_toInt64]; omega) (by rw [e2, Int32.toInt_toInt64]; omega), e2, Int32.toInt_toInt64]
  omega
theorem md_b {s : Int64} {B : Int} (hB : 0 ≤ B) (hB2 : B ≤ 1000000000) (h : -(4 * B) ≤ s.toInt ∧ s.toInt ≤ 4 * B) : dnL s 4 = fdL s 4 ∧ -B ≤ (fdL s 4).toInt ∧ (fdL s 4).toInt ≤ B ∧ (fdL s 4).toInt32.toInt64 = fdL s 4 ∧ -B ≤ (fdL s 4).toInt32.toInt ∧ (fdL s 4).toInt32.toInt ≤ B := by
  have h4 : (4 : Int64).toInt = 4 := rfl
  have e : (fdL s 4).toInt = s.toInt / 4 := by rw [fdL_ti (by rw [h4]; omega) (by omega), h4]
  have b1 : -B ≤ (fdL s 4).toInt := by rw [e]; omega
  have b2 : (fdL s 4).toInt ≤ B := by rw [e]; omega
  have e2 : (fdL s 4).toInt32.toInt = (fdL s 4).toInt := by
    rw [Int64.toInt_toInt32]
    exact Int.bmod_eq_of_le (by omega) (by omega)
  refine ⟨fd_dn (by rw [h4]; omega) (by rw [h4]; omega) (by omega), b1, b2, l_ext (by rw [Int32.toInt_toInt64, e2]), by rw [e2]; exact b1, by rw [e2]; exact b2⟩
theorem bd_n {v : Int32} (h : bd v) (hn : ¬ v = 2000000000) : -1000000000 ≤ v.toInt ∧ v.toInt ≤ 1000000000 := h.resolve_left hn
theorem ab_s {a b : Int64} (ha : -1000000000 ≤ a.toInt ∧ a.toInt ≤ 1000000000) (hb : -1000000000 ≤ b.toInt ∧ b.toInt ≤ 1000000000) : abL (a - b) = abL (b - a) := by
  have e1 := l_sub (x := a) (y := b) (by omega) (by omega)
  have e2 := l_sub (x := b) (y := a) (by omega) (by omega)
  refine l_ext ?_
  unfold abL
  rw [l_abs (by omega), l_abs (by omega), e1, e2]
  omega
theorem cst_v {f : Nat → Int32} {v e : Int32} (h : ¬ ivf f v 4 = 0) : cst f v e = 1 := by
  refine cst_1 ?_
  by_cases c : v = 2000000000
  · exact Or.inr (Or.inl c)
  · left
    refine Classical.byContradiction fun q => h ((ivf_0 4).mpr ⟨c, fun i hi z => q (mn4_v hi z)⟩)
theorem cst_n {f : Nat → Int32} {v e : Int32} (hf : ∀ i, i < 4 → bd (f i)) (hv : bd v) (h : ivf f v 4 = 0) : cst f v e = if e.toInt64 < abL (v.toInt64 - dnL (vsm f 4) 4) then 1 else 0 := by
  obtain ⟨h1, h2⟩ := (ivf_0 4).mp h
  have b := vsm_b (f := f) (B := 1000000000) (by omega) (fun i hi => bd_n (hf i hi) (h2 i hi))
  obtain ⟨m1, m2, m3, m4, m5, m6⟩ := md_b (s := vsm f 4) (B := 1000000000) (by omega) (by omega) b
  have em := mn4_n h2
  have nm : ¬ (fdL (vsm f 4) 4).toInt32 = 2000000000 := fun z => by
    rw [z, show (2000000000 : Int32).toInt = 2000000000 from rfl] at m6; omega
  have hv' := bd_n hv h1
  have es : abL ((mn4 f 4 0 0).toInt64 - v.toInt64) = abL (v.toInt64 - dnL (vsm f 4) 4) := by
    rw [em, m4, m1]
    exact ab_s ⟨m2, m3⟩ (by rw [Int32.toInt_toInt64]; exact hv')
  by_cases c : e.toInt64 < abL (v.toInt64 - dnL (vsm f 4) 4)
  · rw [if_pos c]; exact cst_1 (Or.inr (Or.inr (by rw [es]; exact c)))
  · rw [if_neg c]
    refine cst_0 fun q => ?_
    rcases q with q | q | q
    · rw [em] at q; exact nm q
    · exact h1 q
    · rw [es] at q; exact c q
/-- the four cells of a coarser one -/
theorem pos_q (w W k : Nat) : pos w W k 1 = pos w W k 0 + 1 ∧ pos w W k 2 = pos w W k 0 + w ∧ pos w W k 3 = pos w W k 0 + w + 1 := by
  unfold pos
  have e : w * (2 * (k / W) + 1) = w * (2 * (k / W)) + w := by rw [Nat.mul_add, Nat.mul_one]
  refine ⟨?_, ?_, ?_⟩
  · show w * (2 * (k / W) + 0) + 2 * (k % W) + 1 = w * (2 * (k / W) + 0) + 2 * (k % W) + 0 + 1
    rfl
  · show w * (2 * (k / W) + 1) + 2 * (k % W) + 0 = w * (2 * (k / W)) + 2 * (k % W) + 0 + w
    rw [e]; generalize w * (2 * (k / W)) = z; omega
  · show w * (2 * (k / W) + 1) + 2 * (k % W) + 1 = w * (2 * (k / W)) + 2 * (k % W) + 0 + w + 1
    rw [e]; generalize w * (2 * (k / W)) = z; omega
