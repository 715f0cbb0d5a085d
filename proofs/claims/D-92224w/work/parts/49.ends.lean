/-! when steps are ended: plainly -/
set_option maxRecDepth 100000
set_option maxHeartbeats 4000000
section
variable (w u e wk : Nat) (bb pc : Nat → Nat)
def mxd (prev : Nat → Nat) (c b : Nat) : Nat → Nat
  | 0 => b
  | d + 1 => if nn w u e c (d + 1) = 99 then mxd prev c b d else max (mxd prev c b d) (prev (nn w u e c (d + 1)) + (if bb (nn w u e c (d + 1)) = bb c then 0 else wk))
def bgn (s : Nat) (prev f : Nat → Nat) (c d : Nat) : Nat := if s = 1 then f (bb c) else mxd w u e wk bb prev c (f (bb c)) d
def fe (s : Nat) (prev fr0 : Nat → Nat) : Nat → Nat → Nat
  | 0, p => fr0 p
  | c + 1, p => if p = bb c then bgn w u e wk bb s prev (fe s prev fr0 c) c 4 + pc (bb c) else fe s prev fr0 c p
def es : Nat → (Nat → Nat) × (Nat → Nat)
  | 0 => (fun _ => 0, fun _ => 0)
  | s + 1 => (fun c => bgn w u e wk bb (s + 1) (es s).1 (fe w u e wk bb pc (s + 1) (es s).1 (es s).2 c) c 4 + pc (bb c), fe w u e wk bb pc (s + 1) (es s).1 (es s).2 (w * u))
end
/-- people within their bounds -/
def Pe (q wk : Nat) (bb pc : Nat → Nat) : Prop := wk ≤ 9 ∧ (∀ c, c < q → bb c < 6) ∧ ∀ p, p < 6 → pc p ≤ 20
theorem mxd_b {w u e wk : Nat} {bb : Nat → Nat} {prev : Nat → Nat} {c b B F : Nat} (hw : w < 7) (hu : u < 7) (hc : c < w * u) (h1 : b ≤ B) (h2 : ∀ c, c < w * u → prev c ≤ F) (h3 : F + wk ≤ B) : ∀ d, mxd w u e wk bb prev c b d ≤ B
  | 0 => h1
  | d + 1 => by
    have q := mxd_b hw hu hc h1 h2 h3 (e := e) (bb := bb) d
    rw [mxd]
    split
    · exact q
    · next z =>
      rcases nn_lt (e := e) (d := d + 1) hw hu hc with z2 | z2
      · have := h2 _ z2
        split <;> omega
      · exact absurd z2 z
theorem fe_b {w u e wk : Nat} {bb pc : Nat → Nat} {s F : Nat} {prev fr0 : Nat → Nat} (hw : w < 7) (hu : u < 7) (hp : Pe (w * u) wk bb pc) (h1 : ∀ c, c < w * u → prev c ≤ F) (h2 : ∀ p, p < 6 → fr0 p ≤ F) : ∀ c, c ≤ w * u → (∀ p, p < 6 → fe w u e wk bb pc s prev fr0 c p ≤ F + 29 * c) ∧ (c < w * u → ∀ d, bgn w u e wk bb s prev (fe w u e wk bb pc s prev fr0 c) c d ≤ F + 29 * c + 9)
  | 0, hc => by
    refine ⟨fun p hp2 => by rw [fe]; have := h2 p hp2; omega, fun hc2 d => ?_⟩
    have q := h2 _ (hp.2.1 0 hc2)
    unfold bgn
    split
    · rw [fe]; omega
    · have := hp.1
      exact mxd_b hw hu hc2 (by rw [fe]; omega) h1 (by omega) d
  | c + 1, hc => by
    have ih := fe_b (e := e) (s := s) hw hu hp h1 h2 c (by omega)
    have h3 : ∀ p, p < 6 → fe w u e wk bb pc s prev fr0 (c + 1) p ≤ F + 29 * (c + 1) := by
      intro p hp2
      rw [fe]
      split
      · have q := ih.2 (by omega) 4
        have q2 := hp.2.2 _ (hp.2.1 c (by omega))
        omega
      · have := ih.1 p hp2; omega
    refine ⟨h3, fun hc2 d => ?_⟩
    have q := h3 _ (hp.2.1 (c + 1) hc2)
    unfold bgn
    split
    · omega
    · have := hp.1
      exact mxd_b hw hu hc2 (by omega) h1 (by omega) d
theorem es_b {w u e wk : Nat} {bb pc : Nat → Nat} (hw : w < 7) (hu : u < 7) (hp : Pe (w * u) wk bb pc) : ∀ s, (∀ c, c < w * u → (es w u e wk bb pc s).1 c ≤ 1100 * s) ∧ ∀ p, p < 6 → (es w u e wk bb pc s).2 p ≤ 1100 * s
  | 0 => ⟨fun c _ => Nat.zero_le _, fun p _ => Nat.zero_le _⟩
  | s + 1 => by
    have ih := es_b (e := e) hw hu hp s
    have h36 := Nat.mul_le_mul (Nat.le_of_lt_succ hw) (Nat.le_of_lt_succ hu)
    have q := fe_b (e := e) (s := s + 1) hw hu hp ih.1 ih.2
    refine ⟨fun c hc => ?_, fun p hp2 => ?_⟩
    · have q1 := (q c (by omega)).2 hc 4
      have q2 := hp.2.2 _ (hp.2.1 c hc)
      rw [es]
      show bgn _ _ _ _ _ _ _ _ _ _ + _ ≤ _
      omega
    · have q1 := (q (w * u) (Nat.le_refl _)).1 p hp2
      rw [es]
      show fe _ _ _ _ _ _ _ _ _ _ _ ≤ _
      omega
/-- rows from lo on, up to step s and cell c; what people are free at -/
def Eg (E F : Nat → Int32) (lo q : Nat) (en : Nat → Nat → Nat) (f : Nat → Nat) (s c : Nat) : Prop := (∀ s' c', lo ≤ s' → c' < q → (s' < s ∨ (s' = s ∧ c' < c)) → E (36 * s' + c') = nI (en s' c')) ∧ ∀ p, p < 6 → F p = nI (f p)
theorem Eg.put {E F : Nat → Int32} {lo q : Nat} {en : Nat → Nat → Nat} {f f' : Nat → Nat} {s c pp : Nat} {x : Int32} (h : Eg E F lo q en f s c) (hq : q ≤ 36) (hc : c < q) (hx : x = nI (en s c)) (hf : ∀ p, p < 6 → f' p = if p = pp then en s c else f p) : Eg (upd E (36 * s + c) x) (upd F pp x) lo q en f' s (c + 1) := by
  refine ⟨fun s' c' h1 h2 h3 => ?_, fun p hp => ?_⟩
  · by_cases z : 36 * s' + c' = 36 * s + c
    · have e1 : s' = s := by omega
      have e2 : c' = c := by omega
      rw [z, pk_us, hx, e1, e2]
    · rw [pk_un z]
      refine h.1 s' c' h1 h2 ?_
      rcases h3 with h3 | ⟨h3, h4⟩
      · exact Or.inl h3
      · refine Or.inr ⟨h3, ?_⟩
        have : c' ≠ c := fun y => z (by rw [h3, y])
        omega
  · rw [hf p hp]
    by_cases z : p = pp
    · rw [if_pos z, z, pk_us, hx]
    · rw [if_neg z, pk_un z]; exact h.2 p hp
theorem Eg.next {E F : Nat → Int32} {lo q : Nat} {en : Nat → Nat → Nat} {f : Nat → Nat} {s : Nat} (h : Eg E F lo q en f s q) : Eg E F lo q en f (s + 1) 0 := by
  refine ⟨fun s' c' h1 h2 h3 => h.1 s' c' h1 h2 ?_, h.2⟩
  by_cases z : s' = s
  · exact Or.inr ⟨z, h2⟩
  · exact Or.inl (by omega)
theorem bgn_le {w u e wk : Nat} {bb : Nat → Nat} {s : Nat} {prev f : Nat → Nat} {c d : Nat} (h : s = 1) : bgn w u e wk bb s prev f c d = f (bb c) := if_pos h
theorem bgn_s {w u e wk : Nat} {bb : Nat → Nat} {s : Nat} {prev f : Nat → Nat} {c d : Nat} (h : ¬ s = 1) : bgn w u e wk bb s prev f c (d + 1) = if nn w u e c (d + 1) = 99 then bgn w u e wk bb s prev f c d else max (bgn w u e wk bb s prev f c d) (prev (nn w u e c (d + 1)) + (if bb (nn w u e c (d + 1)) = bb c then 0 else wk)) := by
  unfold bgn; rw [if_neg h, if_neg h, mxd]
theorem bgn_0 {w u e wk : Nat} {bb : Nat → Nat} {s : Nat} {prev f : Nat → Nat} {c : Nat} : bgn w u e wk bb s prev f c 0 = f (bb c) := by
  unfold bgn; split <;> rfl
