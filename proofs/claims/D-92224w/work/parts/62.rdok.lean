/-! what is read is a valid plan -/
set_option maxRecDepth 100000
set_option maxHeartbeats 4000000
def okC (ds : List Nat) (c : Nat) : Prop := c < 24 ∧ (c / 4 = 5 → c % 4 ∈ ds)
def okT (ds : List Nat) (tm : Tm) : Prop := okC ds tm.2.1 ∧ (∀ q, tm.2.2 = some q → okC ds q) ∧ -1000 ≤ tm.1.toInt ∧ tm.1.toInt ≤ 1000
theorem nm_ok {g : Nat → Nat} {ds : List Nat} {p q c : Nat} (h : nm g ds p = some (q, c)) : okC ds c := by
  unfold nm at h
  split at h
  · next c1 =>
    split at h
    · split at h
      · next c3 =>
        cases h
        refine ⟨by omega, fun _ => ?_⟩
        rw [show (g p - 97 + 20) % 4 = g p - 97 by omega]; exact c3.2
      · cases h
    · cases h
      have := wd_le (g (p + 1))
      exact ⟨by omega, fun z => by omega⟩
  · cases h
theorem tr2_ok {g : Nat → Nat} {ds : List Nat} {p q : Nat} {f : Int32} {tm : Tm} (hf : -1000 ≤ f.toInt ∧ f.toInt ≤ 1000) (h : tr2 g ds p f = .ok (q, tm)) : okT ds tm := by
  unfold tr2 at h
  split at h
  · cases h
  · next r c e =>
    split at h
    · split at h
      · cases h
      · next r2 d e2 =>
        cases h
        exact ⟨nm_ok e, fun q hq => by cases hq; exact nm_ok e2, hf⟩
    · cases h
      exact ⟨nm_ok e, fun q hq => (by cases hq), hf⟩
theorem sg_b {s : Int32} (hs : s = 1 ∨ s = -1) {v : Nat} (hv : v ≤ 999) : -1000 ≤ (s * nI v).toInt ∧ (s * nI v).toInt ≤ 1000 := by
  have e := a_ti (show v < 2147483648 by omega)
  rcases hs with rfl | rfl
  · rw [Int32.one_mul, e]; omega
  · rw [i_mul (by rw [e, show (-1 : Int32).toInt = -1 from rfl]; omega) (by rw [e, show (-1 : Int32).toInt = -1 from rfl]; omega), e, show (-1 : Int32).toInt = -1 from rfl]; omega
theorem tr1_ok {g : Nat → Nat} {ds : List Nat} {p q : Nat} {s : Int32} {tm : Tm} (hs : s = 1 ∨ s = -1) (h : tr1 g ds p s = .ok (q, tm)) : okT ds tm := by
  unfold tr1 at h
  split at h
  · split at h
    · next c => exact tr2_ok (sg_b hs c.2) h
    · cases h
  · exact tr2_ok (sg_b hs (v := 1) (by omega)) h
theorem tr_ok {g : Nat → Nat} {ds : List Nat} {p q : Nat} {tm : Tm} (h : tr g ds p = .ok (q, tm)) : okT ds tm := by
  unfold tr at h
  split at h
  · exact tr1_ok (Or.inr rfl) h
  · split at h
    · exact tr1_ok (Or.inl rfl) h
    · exact tr1_ok (Or.inl rfl) h
theorem trs_ok {g : Nat → Nat} {ds : List Nat} : ∀ (f q : Nat) (ts : List Tm) (r : Nat) (ts' : List Tm), trs g ds f q ts = .ok (r, ts') → ts.length ≤ ts'.length ∧ (∀ t, t < ts.length → ts'.getD t (0, 0, none) = ts.getD t (0, 0, none)) ∧ ∀ t, ts.length ≤ t → t < ts'.length → okT ds (ts'.getD t (0, 0, none))
  | 0, q, ts, r, ts', h => by
    cases h
    exact ⟨Nat.le_refl _, fun _ _ => rfl, fun t h1 h2 => by omega⟩
  | f + 1, q, ts, r, ts', h => by
    rw [trs] at h
    split at h
    · split at h
      · cases h
      · next q2 tm e =>
        have ih := trs_ok f q2 (ts ++ [tm]) r ts' h
        rw [len_1] at ih
        refine ⟨by omega, fun t ht => by rw [ih.2.1 t (by omega), gd_1 ht], fun t h1 h2 => ?_⟩
        by_cases z : t = ts.length
        · rw [z, ih.2.1 ts.length (by omega), gd_2]; exact tr_ok e
        · exact ih.2.2 t (by omega) h2
    · cases h
      exact ⟨Nat.le_refl _, fun _ _ => rfl, fun t h1 h2 => by omega⟩
theorem ln2_b {g : Nat → Nat} {q r b nr : Nat} (h : ln2 g q = .ok (r, b, nr)) : 0 < b := by
  have h3 : ∀ {q b r b2 nr : Nat}, ln3 g q b = .ok (r, b2, nr) → b2 = b := by
    intro q b r b2 nr h
    unfold ln3 at h
    split at h
    · split at h
      · cases h; rfl
      · cases h
    · split at h
      · cases h; rfl
      · cases h
  unfold ln2 at h
  split at h
  · split at h
    · next c =>
      have := nu_1 c.1 c.2.1
      rw [h3 h]; omega
    · cases h
  · rw [h3 h]; omega
theorem ln_ok {g : Nat → Nat} {ds : List Nat} {ts ts' : List Tm} {p q : Nat} {r : Ln} (h : ln g ds ts p = .ok (q, ts', r)) : (∀ t, t < ts.length → ts'.getD t (0, 0, none) = ts.getD t (0, 0, none)) ∧ (∀ t, ts.length ≤ t → t < ts'.length → okT ds (ts'.getD t (0, 0, none))) ∧ 0 < r.2.2.2.1 := by
  unfold ln at h
  split at h
  · split at h
    · unfold ln1 at h
      split at h
      · cases h
      · next q2 tm e =>
        generalize e2 : trs g ds 200 q2 (ts ++ [tm]) = x at h
        match x, e2, h with
        | .error _, _, h => cases h
        | .ok (q3, ts3), e2, h =>
          have h4 := trs_ok 200 q2 _ q3 ts3 e2
          rw [len_1] at h4
          unfold lnD at h
          dsimp only at h
          cases e3 : ln2 g q3 with
          | error e => rw [e3] at h; cases h
          | ok y =>
            obtain ⟨q4, b, nr⟩ := y
            have h5 := ln2_b e3
            rw [e3] at h
            cases h
            refine ⟨fun t ht => ?_, fun t h6 h7 => ?_, h5⟩
            · show ts3.getD t _ = _
              rw [h4.2.1 t (by omega), gd_1 ht]
            · show okT ds (ts3.getD t _)
              by_cases z : t = ts.length
              · rw [z, h4.2.1 ts.length (by omega), gd_2]; exact tr_ok e
              · exact h4.2.2 t (by omega) h7
    · cases h
  · cases h
/-- what holds of what is read so far -/
def okP (ts : List Tm) (ls : List Ln) : Prop := (ls.map (·.1)).Nodup ∧ (∀ i, i < ls.length → (lnA ls i).1 < 4 ∧ (lnA ls i).2.1 + (lnA ls i).2.2.1 ≤ ts.length ∧ 0 < (lnA ls i).2.2.2.1 ∧ (lnA ls i).2.2.2.1 ≤ 1000 ∧ (lnA ls i).2.2.2.2 ≤ 1 ∧ ∀ t, (lnA ls i).2.1 ≤ t → t < (lnA ls i).2.1 + (lnA ls i).2.2.1 → okT ((ls.take i).map (·.1)) (ts.getD t (0, 0, none))) ∧ ∀ t, t < ts.length → ∃ ds, okT ds (ts.getD t (0, 0, none))
theorem alr_ok {g : Nat → Nat} {n : Nat} (h7 : ∀ i, n ≤ i → g i = 0) (hn : n ≤ 160) : ∀ (f p : Nat) (ts : List Tm) (ls : List Ln) (ts' : List Tm) (ls' : List Ln), p ≤ n → 2 * ts.length ≤ p → okP ts ls → alr g n f p ts ls = .ok (ts', ls') → okP ts' ls' ∧ ts'.length ≤ 80
  | 0, p, ts, ls, ts', ls', hp, h2, h, e => by cases e; exact ⟨h, by omega⟩
  | f + 1, p, ts, ls, ts', ls', hp, h2, h, e => by
    rw [alr] at e
    split at e
    · split at e
      · cases e
      · next q ts2 r e2 =>
        have k1 := ln_le h7 h2 e2
        have k2 := ln_ok e2
        obtain ⟨o1, o2, o3⟩ := h
        refine alr_ok h7 hn f q ts2 (ls ++ [r]) ts' ls' k1.2.1 k1.2.2.1 ⟨?_, fun i hi => ?_, fun t ht => ?_⟩ e
        · rw [List.map_append]
          refine List.nodup_append.2 ⟨o1, List.nodup_cons.2 ⟨List.not_mem_nil, List.nodup_nil⟩, ?_⟩
          intro a ha b hb
          rcases List.mem_cons.1 hb with z | z
          · rw [z]; exact fun y => k1.2.2.2.2.1 (by rw [show r.1 = a from y.symm]; exact ha)
          · exact absurd z List.not_mem_nil
        · rw [len_1] at hi
          unfold lnA
          by_cases z : i = ls.length
          · subst z
            rw [gd_2]
            refine ⟨k1.2.2.2.1, by omega, k2.2.2, k1.2.2.2.2.2.2.2.2.1, k1.2.2.2.2.2.2.2.2.2, fun t z1 z2 => ?_⟩
            rw [show (ls ++ [r]).take ls.length = ls from List.take_left' rfl]
            exact k2.2.1 t (by omega) (by omega)
          · have hi2 : i < ls.length := by omega
            have q2 := o2 i hi2
            unfold lnA at q2
            rw [gd_1 hi2]
            refine ⟨q2.1, by omega, q2.2.2.1, q2.2.2.2.1, q2.2.2.2.2.1, fun t z1 z2 => ?_⟩
            rw [List.take_append_of_le_length (by omega), k2.1 t (by omega)]
            exact q2.2.2.2.2.2 t z1 z2
        · by_cases z : t < ts.length
          · rw [k2.1 t z]; exact o3 t z
          · exact ⟨_, k2.2.1 t (by omega) ht⟩
    · cases e; exact ⟨h, by omega⟩
theorem okP.Vq {ts : List Tm} {ls : List Ln} (h : okP ts ls) (h8 : ts.length ≤ 80) : Vq ts ls ∧ Vf ts := by
  obtain ⟨o1, o2, o3⟩ := h
  have hlen : ls.length ≤ 4 := by
    have := nd_le 4 _ o1 (fun x hx => by
      obtain ⟨a, h1, h2⟩ := List.mem_map.1 hx
      obtain ⟨i, hi, e⟩ := List.getElem_of_mem h1
      have q := (o2 i hi).1
      rw [lnA, gd hi, e, h2] at q; exact q)
    rw [List.length_map] at this; exact this
  refine ⟨⟨⟨h8, hlen, fun t ht => ?_, fun i hi => ?_⟩, fun i j hi hj e => ?_, fun i t q hi h1 h2 h3 h5 => ?_⟩, fun t ht => ?_⟩
  · obtain ⟨ds, q⟩ := o3 t ht
    exact ⟨q.1.1, fun c hc => (q.2.1 c hc).1⟩
  · have q := o2 i hi
    exact ⟨q.2.1, q.2.2.1, q.2.2.2.1, q.2.2.2.2.1, q.1⟩
  · have e1 : (ls.map (·.1))[i]'(by rw [List.length_map]; exact hi) = (ls.map (·.1))[j]'(by rw [List.length_map]; exact hj) := by
      rw [List.getElem_map, List.getElem_map]
      rw [lnA, lnA, gd hi, gd hj] at e; exact e
    exact (List.getElem_inj o1).1 e1
  · have q9 := (o2 i hi).2.2.2.2.2 t h1 h2
    have hc : okC ((ls.take i).map (·.1)) q := by
      rcases h3 with h3 | h3
      · rw [← h3]; exact q9.1
      · exact q9.2.1 q h3
    obtain ⟨a, z1, z2⟩ := List.mem_map.1 (hc.2 h5)
    obtain ⟨j, hj, e⟩ := List.getElem_of_mem z1
    rw [List.length_take] at hj
    refine ⟨j, by omega, ?_⟩
    rw [lnA, gd (show j < ls.length by omega), ← z2, ← e, List.getElem_take]
  · obtain ⟨ds, q⟩ := o3 t ht
    exact q.2.2
theorem rd_ok {g : Nat → Nat} {n : Nat} (h7 : ∀ i, n ≤ i → g i = 0) (hn : n ≤ 160) {ts : List Tm} {ls : List Ln} (h : rd g n = .ok (ts, ls)) : Vq ts ls ∧ Vf ts := by
  have q := alr_ok h7 hn 200 0 [] [] ts ls (Nat.zero_le _) (Nat.le_refl _) ⟨List.nodup_nil, fun i hi => absurd hi (Nat.not_lt_zero i), fun t ht => absurd ht (Nat.not_lt_zero t)⟩ h
  exact q.1.Vq q.2
