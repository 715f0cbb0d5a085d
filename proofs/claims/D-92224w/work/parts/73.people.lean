/-! the people of a state -/
set_option maxRecDepth 100000
set_option maxHeartbeats 4000000
def bbx (x : St) (c : Nat) : Nat := nat (sN x 20 c)
def pcx (x : St) (p : Nat) : Nat := nat (sN x 19 p)
def esx (x : St) (s : Nat) : Nat → Nat := (es (nat (sN x 0 0)) (nat (sN x 0 1)) (nat (sN x 0 2)) (nat (sN x 0 3)) (bbx x) (pcx x) s).1
theorem J.people {x : St} (h : J x) : ∃ w u e wk : Nat, sN x 0 0 = nI w ∧ sN x 0 1 = nI u ∧ sN x 0 2 = nI e ∧ sN x 0 3 = nI wk ∧ Sh w u e 0 0 ∧ Pe (w * u) wk (bbx x) (pcx x) ∧ (∀ c, c < w * u → sN x 20 c = nI (bbx x c)) ∧ (∀ p, p < 6 → sN x 19 p = nI (pcx x p)) ∧ (∀ s, esx x s = (es w u e wk (bbx x) (pcx x) s).1) ∧ (∀ s c, s < 13 → c < w * u → esx x s c < 100000) ∧ 0 < w * u ∧ w * u ≤ 36 ∧ nat (sN x 0 0) * nat (sN x 0 1) = w * u := by
  obtain ⟨⟨w, u, e, wk, n, ns, a, b, km, h1, h2, h3, h4, h5, h6, h7, h8, h9, g1, g2, g3, g4, g5, g6, g7, g8, g9, f1, f2⟩, ⟨j1, j2, j3, j4, j5⟩, jp, jk⟩ := h
  have h36 : w * u ≤ 36 := Nat.mul_le_mul g2 g4
  have h0 : 0 < w * u := Nat.mul_pos (by omega) (by omega)
  have b5 : ∀ c, c < w * u → sN x 20 c = nI (bbx x c) ∧ bbx x c < 6 := fun c hc => by
    obtain ⟨v, v1, v2⟩ := j5 c (by omega)
    have : bbx x c = v := by unfold bbx nat; rw [v2, a_cl (by omega)]
    rw [this]; exact ⟨v2, v1⟩
  have b4 : ∀ p, p < 6 → sN x 19 p = nI (pcx x p) ∧ pcx x p ≤ 20 := fun p hp => by
    obtain ⟨v, v0, v1, v2⟩ := j4 p hp
    have : pcx x p = v := by unfold pcx nat; rw [v2, a_cl (by omega)]
    rw [this]; exact ⟨v2, v1⟩
  have n1 : nat (sN x 0 0) = w := by unfold nat; rw [h1, a_cl (by omega)]
  have n2 : nat (sN x 0 1) = u := by unfold nat; rw [h2, a_cl (by omega)]
  have n3 : nat (sN x 0 2) = e := by unfold nat; rw [h3, a_cl (by omega)]
  have n4 : nat (sN x 0 3) = wk := by unfold nat; rw [h4, a_cl (by omega)]
  have hPe : Pe (w * u) wk (bbx x) (pcx x) := ⟨g6, fun c hc => (b5 c hc).2, fun p hp => (b4 p hp).2⟩
  have he : ∀ s, esx x s = (es w u e wk (bbx x) (pcx x) s).1 := fun s => by unfold esx; rw [n1, n2, n3, n4]
  refine ⟨w, u, e, wk, h1, h2, h3, h4, ?_, hPe, fun c hc => (b5 c hc).1, fun p hp => (b4 p hp).1, he, fun s c hs hc => ?_, h0, h36, by rw [n1, n2]⟩
  · unfold Sh; omega
  · rw [he]
    have := (es_b (e := e) (show w < 7 by omega) (show u < 7 by omega) hPe s).1 c hc
    omega
theorem RX.lf {M M1 : ZM} {L : ZL} {x : St} (h : RX M L x) {w u : Nat} (hl : Lf M M1 w u) (hw : sN x 0 0 = nI w) (hu : sN x 0 1 = nI u) : RX M1 L x := by
  obtain ⟨l1, l2, l3, l4⟩ := hl
  have e0 := l1 0 (by decide) (by decide) (by decide)
  have e1 := l1 1 (by decide) (by decide) (by decide)
  have e19 := l1 19 (by decide) (by decide) (by decide)
  have e20 := l1 20 (by decide) (by decide) (by decide)
  have e21 := l1 21 (by decide) (by decide) (by decide)
  have e22 := l1 22 (by decide) (by decide) (by decide)
  have e23 := l1 23 (by decide) (by decide) (by decide)
  have e24 := l1 24 (by decide) (by decide) (by decide)
  have e37 := l1 37 (by decide) (by decide) (by decide)
  have e38 := l1 38 (by decide) (by decide) (by decide)
  have e39 := l1 39 (by decide) (by decide) (by decide)
  have e26 := l1 26 (by decide) (by decide) (by decide)
  have e28 := l1 28 (by decide) (by decide) (by decide)
  have e29 := l1 29 (by decide) (by decide) (by decide)
  have e30 := l1 30 (by decide) (by decide) (by decide)
  obtain ⟨r1, r2, r3, r4⟩ := h
  refine ⟨?_, ?_, r3.to (fun a ha => l1 a (by omega) (by omega) (by omega)) rfl, ?_⟩
  · unfold Xs at r1 ⊢; rw [e0]; exact r1
  · unfold Xa at r2 ⊢; rw [e1, e19, e20, e21, e22, e23, e24, e37, e38, e39]; exact r2
  · rw [e0]
    rcases r4 with q | q
    · exact Or.inl q
    · refine Or.inr ⟨q.1, ?_⟩
      obtain ⟨q1, q2, q3⟩ := q.2
      unfold Xh
      rw [e26, e28, e29, e30]
      exact ⟨by rw [l2, hw], by rw [l3, hu], q3⟩
