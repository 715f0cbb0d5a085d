/-! arrays, copies, calls; a method's table gives its meaning -/
set_option maxRecDepth 100000
section MA
variable {p : Program} {l : Launch} {e : Env} {R : Room} {s : State} {m : MethodId} {args : Array Value} {below : List Frame} {meth : Method} {c : Code} {w : ma_Wd} {Y : Nat → ma_Ly} {NC : Nat} {A : Nat → Prop} {own : String} {cc : ByteArray} {nL : Nat} {r : Option FieldType} {pc n : Nat}
theorem mk_iar (X : ma_Cx p s m args meth c w Y NC A own cc nL r) (hd : decode cc pc = .ok (.iaload, 1)) (hn : pc + 1 = n) : ma_Ok p l e R s m args below meth c w Y NC A nL pc (in_iar Y n) := by
  subst hn
  intro K ls st M L h H locs Ls hP hS hl
  unfold in_iar at h
  split at h
  · next i k t =>
    split at h
    · next len a b hy =>
      obtain ⟨hk, he⟩ := ma_cell (M := M) (L := L) X.2.2.2.2.2.2.2.2 hy (Nat.le_of_ble_eq_true rfl)
      exact va_iald X.1 X.2.1 X.2.2.2.2.2.1.1 hP k 0 he rfl h.1 hd (h.2 H locs Ls hP hS hl)
    · exact h.elim
  · exact h.elim
theorem mk_bar (X : ma_Cx p s m args meth c w Y NC A own cc nL r) (hd : decode cc pc = .ok (.baload, 1)) (hn : pc + 1 = n) : ma_Ok p l e R s m args below meth c w Y NC A nL pc (in_bar Y n) := by
  subst hn
  intro K ls st M L h H locs Ls hP hS hl
  unfold in_bar at h
  split at h
  · next i k t =>
    split at h
    · next len a b hy =>
      obtain ⟨hk, he⟩ := ma_cell (M := M) (L := L) X.2.2.2.2.2.2.2.2 hy (Nat.le_of_ble_eq_true rfl)
      exact va_zald X.1 X.2.1 X.2.2.2.2.2.1.1 hP k 1 he rfl h.1 hd (h.2 H locs Ls hP hS hl)
    · next len a b hy =>
      obtain ⟨hk, he⟩ := ma_cell (M := M) (L := L) X.2.2.2.2.2.2.2.2 hy (Nat.le_of_ble_eq_true rfl)
      exact va_bald X.1 X.2.1 X.2.2.2.2.2.1.1 hP k 2 he rfl h.1 hd (h.2 H locs Ls hP hS hl)
    · exact h.elim
  · exact h.elim
theorem mk_lar (X : ma_Cx p s m args meth c w Y NC A own cc nL r) (hd : decode cc pc = .ok (.laload, 1)) (hn : pc + 1 = n) : ma_Ok p l e R s m args below meth c w Y NC A nL pc (in_lar Y n) := by
  subst hn
  intro K ls st M L h H locs Ls hP hS hl
  unfold in_lar at h
  split at h
  · next i k t =>
    split at h
    · next len a b hy =>
      obtain ⟨hk, he⟩ := ma_cell (M := M) (L := L) X.2.2.2.2.2.2.2.2 hy (Nat.le_of_ble_eq_true rfl)
      exact va_lald X.1 X.2.1 X.2.2.2.2.2.1.1 hP k 3 he rfl h.1 hd (h.2 H locs Ls hP hS hl)
    · exact h.elim
  · exact h.elim
theorem mk_aar (X : ma_Cx p s m args meth c w Y NC A own cc nL r) (hd : decode cc pc = .ok (.aaload, 1)) (hn : pc + 1 = n) : ma_Ok p l e R s m args below meth c w Y NC A nL pc (in_aar Y n) := by
  subst hn
  intro K ls st M L h H locs Ls hP hS hl
  unfold in_aar at h
  split at h
  · next i k t =>
    split at h
    · next len a rf hy =>
      obtain ⟨hk, he⟩ := ma_cell (M := M) (L := L) X.2.2.2.2.2.2.2.2 hy (Nat.le_of_ble_eq_true rfl)
      obtain ⟨h1, h⟩ := h
      split at h
      · next q hq =>
        refine va_aldq X.1 X.2.1 X.2.2.2.2.2.1.1 hP k 4 he rfl h1 hd ?_
        rw [hq]
        exact h H locs Ls hP hS hl
      · exact h.elim
    · exact h.elim
  · exact h.elim
theorem mk_iaw (X : ma_Cx p s m args meth c w Y NC A own cc nL r) (hd : decode cc pc = .ok (.iastore, 1)) (hn : pc + 1 = n) : ma_Ok p l e R s m args below meth c w Y NC A nL pc (in_iaw Y n) := by
  subst hn
  intro K ls st M L h H locs Ls hP hS hl
  unfold in_iaw at h
  split at h
  · next x i k t =>
    split at h
    · next len a b hy =>
      obtain ⟨hk, he⟩ := ma_cell (M := M) (L := L) X.2.2.2.2.2.2.2.2 hy (Nat.le_of_ble_eq_true rfl)
      refine va_iast X.1 X.2.1 X.2.2.2.2.2.1.1 hP (X.2.2.2.2.2.2.2.2.1 M L) hS k 0 he rfl h.1 hd (fun H1 locs1 hP1 hD1 hS1 => ?_)
      rw [ma_wl_set (M' := ma_up M k i.toNatClampNeg x) (L' := L) hk (by rw [hy]; show _ = (Sum.inl (_, _, Sum.inl (ma_up M k _ _ k)) : va_E); rw [ma_up_at]) ma_up_ne (fun _ _ => rfl)] at hP1
      exact h.2 H1 locs1 Ls hP1 hS1 hl
    · exact h.elim
  · exact h.elim
theorem ma_nz {x : Int32} (h : x = 0 ∨ x = 1) : vp_nar .boolean x = x := by rcases h with rfl | rfl <;> rfl
theorem mk_baw (X : ma_Cx p s m args meth c w Y NC A own cc nL r) (hd : decode cc pc = .ok (.bastore, 1)) (hn : pc + 1 = n) : ma_Ok p l e R s m args below meth c w Y NC A nL pc (in_baw Y n) := by
  subst hn
  intro K ls st M L h H locs Ls hP hS hl
  unfold in_baw at h
  split at h
  · next x i k t =>
    split at h
    · next len a b hy =>
      obtain ⟨hk, he⟩ := ma_cell (M := M) (L := L) X.2.2.2.2.2.2.2.2 hy (Nat.le_of_ble_eq_true rfl)
      refine va_zast X.1 X.2.1 X.2.2.2.2.2.1.1 hP (X.2.2.2.2.2.2.2.2.1 M L) hS k 1 he rfl h.1 hd (fun H1 locs1 hP1 hD1 hS1 => ?_)
      rw [ma_nz h.2.1, ma_wl_set (M' := ma_up M k i.toNatClampNeg x) (L' := L) hk (by rw [hy]; show _ = (Sum.inl (_, _, Sum.inl (ma_up M k _ _ k)) : va_E); rw [ma_up_at]) ma_up_ne (fun _ _ => rfl)] at hP1
      exact h.2.2 H1 locs1 Ls hP1 hS1 hl
    · next len a b hy =>
      obtain ⟨hk, he⟩ := ma_cell (M := M) (L := L) X.2.2.2.2.2.2.2.2 hy (Nat.le_of_ble_eq_true rfl)
      refine va_bast X.1 X.2.1 X.2.2.2.2.2.1.1 hP (X.2.2.2.2.2.2.2.2.1 M L) hS k 2 he rfl h.1 hd (fun H1 locs1 hP1 hD1 hS1 => ?_)
      rw [vp_nar_byte, ma_wl_set (M' := ma_up M k i.toNatClampNeg x.toInt8.toInt32) (L' := L) hk (by rw [hy]; show _ = (Sum.inl (_, _, Sum.inl (ma_up M k _ _ k)) : va_E); rw [ma_up_at]) ma_up_ne (fun _ _ => rfl)] at hP1
      exact h.2 H1 locs1 Ls hP1 hS1 hl
    · exact h.elim
  · exact h.elim
theorem mk_law (X : ma_Cx p s m args meth c w Y NC A own cc nL r) (hd : decode cc pc = .ok (.lastore, 1)) (hn : pc + 1 = n) : ma_Ok p l e R s m args below meth c w Y NC A nL pc (in_law Y n) := by
  subst hn
  intro K ls st M L h H locs Ls hP hS hl
  unfold in_law at h
  split at h
  · next x i k t =>
    split at h
    · next len a b hy =>
      obtain ⟨hk, he⟩ := ma_cell (M := M) (L := L) X.2.2.2.2.2.2.2.2 hy (Nat.le_of_ble_eq_true rfl)
      refine va_last X.1 X.2.1 X.2.2.2.2.2.1.1 hP (X.2.2.2.2.2.2.2.2.1 M L) hS k 3 he rfl h.1 hd (fun H1 locs1 hP1 hD1 hS1 => ?_)
      rw [ma_wl_set (M' := M) (L' := ma_uL L k i.toNatClampNeg x) hk (by rw [hy]; show _ = (Sum.inl (_, _, Sum.inr (Sum.inl (ma_uL L k _ _ k))) : va_E); rw [ma_uL_at]) (fun _ _ => rfl) ma_uL_ne] at hP1
      exact h.2 H1 locs1 Ls hP1 hS1 hl
    · exact h.elim
  · exact h.elim
theorem mk_len (X : ma_Cx p s m args meth c w Y NC A own cc nL r) (hd : decode cc pc = .ok (.arraylength, 1)) (hn : pc + 1 = n) : ma_Ok p l e R s m args below meth c w Y NC A nL pc (in_len Y n) := by
  subst hn
  intro K ls st M L h H locs Ls hP hS hl
  unfold in_len at h
  split at h
  · next k t =>
    obtain ⟨⟨h0, h5⟩, h⟩ := h
    obtain ⟨hk, he⟩ := ma_cell (M := M) (L := L) X.2.2.2.2.2.2.2.2 rfl h5
    obtain ⟨tg, ln, nf, rf⟩ : ma_Ly := Y k
    have h' := h H locs Ls hP hS hl
    generalize hy : Y k = y at he h0 h5 h'
    obtain ⟨tg, ln, nf, rf⟩ := y
    match tg, h0, h5 with
    | 1, _, _ => exact va_alen X.1 X.2.1 X.2.2.2.2.2.1.1 hP k 0 he rfl rfl hd h'
    | 2, _, _ => exact va_alen X.1 X.2.1 X.2.2.2.2.2.1.1 hP k 1 he rfl rfl hd h'
    | 3, _, _ => exact va_alen X.1 X.2.1 X.2.2.2.2.2.1.1 hP k 2 he rfl rfl hd h'
    | 4, _, _ => exact va_alen X.1 X.2.1 X.2.2.2.2.2.1.1 hP k 3 he rfl rfl hd h'
    | 5, _, _ => exact va_alen X.1 X.2.1 X.2.2.2.2.2.1.1 hP k 4 he rfl rfl hd h'
  · exact h.elim
theorem ma_fits {x : Int32} (h : x = 0 ∨ x = 1) : fits .boolean (.int x) = true := by rcases h with rfl | rfl <;> rfl
theorem mk_cpy (X : ma_Cx p s m args meth c w Y NC A own cc nL r) {ix : Nat} (hq : Cond.methodLink own ix arraycopyName ∈ lw_all) (hq2 : Cond.native arraycopyName ∈ lw_all) (hq3 : Cond.static arraycopyName ∈ lw_all) (hq4 : Cond.initialized "java/lang/System" ∈ lw_all) (hR : 1 ≤ R.frames ∧ 8 + (nativeFrameWords "java/lang/System" "arraycopy" 5 + 11) ≤ R.locals) (hd : decode cc pc = .ok (.invokestatic ix, 3)) (hn : pc + 3 = n) : ma_Ok p l e R s m args below meth c w Y NC A nL pc (in_cpy Y n) := by
  subst hn
  intro K ls st M L h H locs Ls hP hS hl
  unfold in_cpy at h
  split at h
  · next c0 dp b sp a t =>
    obtain ⟨⟨g0, g1, g2, g3, g4, g5⟩, ht, h⟩ := h
    have hml : c.maxLocals = Ls.size := X.2.2.1.trans hl.1.symm
    have hroom : ((t.map (ma_tr w)).map fun v => v.category).sum + (nativeFrameWords "java/lang/System" "arraycopy" 5 + 11) ≤ R.locals := by rw [ma_tr_wd]; omega
    have hts := X.2.2.2.2.1
    rcases ht with ⟨t0, t1⟩ | ⟨t0, t1, hf⟩
    · obtain ⟨hk, he⟩ := ma_cell (k := a) (M := M) (L := L) X.2.2.2.2.2.2.2.2 rfl (by omega)
      obtain ⟨hk1, he1⟩ := ma_cell (k := b) (M := M) (L := L) X.2.2.2.2.2.2.2.2 rfl (by omega)
      generalize hya : Y a = ya at he t0 g4
      generalize hyb : Y b = yb at he1 t1 g5
      obtain ⟨ta, na, fa, ra⟩ := ya
      obtain ⟨tb, nb, fb, rb⟩ := yb
      cases t0
      cases t1
      refine va_copyi (ty := .int) X.1 X.2.1 hml X.2.2.2.1 (hts _ hq) (hts _ hq2) (hts _ hq3) (hts _ hq4) X.2.2.2.2.2.1.1 hP (X.2.2.2.2.2.2.2.2.1 M L) hS a b 0 0 he he1 rfl rfl rfl g1 g2 g3 g4 g5 (fun _ _ => rfl) hR.1 hroom hd (fun H1 locs1 hP1 hD1 hS1 => ?_)
      rw [ma_wl_set (M' := ma_cp M a b sp.toNatClampNeg dp.toNatClampNeg c0.toNatClampNeg) (L' := L) hk1 (by rw [hyb]; show _ = (Sum.inl (_, _, Sum.inl (ma_cp M a b _ _ _ b)) : va_E); rw [ma_cp_at]) ma_cp_ne (fun _ _ => rfl)] at hP1
      exact h H1 locs1 Ls hP1 hS1 hl
    · obtain ⟨hk, he⟩ := ma_cell (k := a) (M := M) (L := L) X.2.2.2.2.2.2.2.2 rfl (by omega)
      obtain ⟨hk1, he1⟩ := ma_cell (k := b) (M := M) (L := L) X.2.2.2.2.2.2.2.2 rfl (by omega)
      generalize hya : Y a = ya at he t0 g4
      generalize hyb : Y b = yb at he1 t1 g5
      obtain ⟨ta, na, fa, ra⟩ := ya
      obtain ⟨tb, nb, fb, rb⟩ := yb
      cases t0
      cases t1
      refine va_copyi (ty := .boolean) X.1 X.2.1 hml X.2.2.2.1 (hts _ hq) (hts _ hq2) (hts _ hq3) (hts _ hq4) X.2.2.2.2.2.1.1 hP (X.2.2.2.2.2.2.2.2.1 M L) hS a b 1 1 he he1 rfl rfl rfl g1 g2 g3 g4 g5 (fun i hi => ma_fits (hf i hi)) hR.1 hroom hd (fun H1 locs1 hP1 hD1 hS1 => ?_)
      rw [ma_wl_set (M' := ma_cp M a b sp.toNatClampNeg dp.toNatClampNeg c0.toNatClampNeg) (L' := L) hk1 (by rw [hyb]; show _ = (Sum.inl (_, _, Sum.inl (ma_cp M a b _ _ _ b)) : va_E); rw [ma_cp_at]) ma_cp_ne (fun _ _ => rfl)] at hP1
      exact h H1 locs1 Ls hP1 hS1 hl
  · exact h.elim
/-! calls -/
theorem mk_back {K K0 : ma_Kt} {H : Heap} {locs : List Loc} {Ls : Array Slot} {ls : ma_Ls} {rest : List Value} {st0 : List Value} {a : Array Value}
    (hr : va_Run p l e R s m args below meth c H locs 0 0 0 0 (F0 m pc Ls st0) (rest.map (ma_tr w)) (ma_Qk w Y NC A K0 a) A) (hS : va_S A s.heap H locs) (hl : ma_LR w nL ls Ls)
    (hK : ∀ v M L, K0 v M L → ma_bk (ma_Vs p l e R s m args below meth c w Y NC A nL K) (pc + 3) ls rest v M L) :
    W p l e R s m args below meth c H locs 0 0 (MQ below (ma_Qk w Y NC A K) args s 0 0 A) (F0 m pc Ls st0) := by
  intro T hT X
  obtain ⟨v, st₀, t, T', LL, h0, X', hL, e1, e2, ⟨⟨v1, M, L, hv, hk, hp⟩, hz, hkk⟩, st⟩ := hr T hT X
  cases hv
  rw [h0] at hz hkk
  have hS' : va_S A s.heap T'.heap (locs ++ LL) := ⟨Nat.le_trans hS.1 (by rw [e1]; exact hz), fun q h1 h2 => by rw [e1, hkk q (Nat.lt_of_lt_of_le h1 hS.1) h2]; exact hS.2.1 q h1 h2, fun q hq => by
      rcases List.mem_append.mp hq with h | h
      · exact hS.2.2 q h
      · exact hL q h⟩
  have h2 := hK v1 M L hk
  cases v1 with
  | none =>
    obtain ⟨t2, a1, b1⟩ := h2 T'.heap _ Ls (by rw [e1]; exact hp) hS' hl T' rfl X'
    exact ⟨t2, st t2 a1, b1⟩
  | some x =>
    obtain ⟨t2, a1, b1⟩ := h2 T'.heap _ Ls (by rw [e1]; exact hp) hS' hl T' rfl X'
    exact ⟨t2, st t2 a1, b1⟩
theorem ma_pc_blind {as : List Value} {M : ZM} {L : ZL} : FrameBlind (ma_Pc w Y NC as M L) := by
  intro a U g mk q
  obtain ⟨q0, q1, q2⟩ := q
  exact ⟨q0, ma_gd.same rfl q1, q2⟩
theorem ma_pc_at {as : List Value} {M : ZM} {L : ZL} {H : Heap} (hg : ma_gd w s) (hP : va_P w.1 vCl (ma_wl w Y NC M L) H) : ∀ U : State, U.heap = H → s.WarmedH U.vm → ma_Pc w Y NC as M L (as.map (ma_tr w)).toArray U := fun U hU hW => ⟨rfl, hg.warm hW, by rw [hU]; exact hP⟩
theorem ma_len_rev {as : List Value} : (as.map (ma_tr w)).length = as.length := by simp
variable {y : MethodName} {b : ByteArray} {nL' ix nA : Nat} {r' : Option FieldType} {rm : Room} {S : ma_Cs}
/-- a static call -/
theorem mk_S (X : ma_Cx p s m args meth c w Y NC A own cc nL r) (hM : ma_Sd l w Y NC A y b nL' r' rm S) (hg : GoodIn lw_all (va_wsS own ix y (ws_ y b nL' r')))
    (hd0 : y.cls ≠ "java/lang/invoke/MethodHandle" ∧ y.cls ≠ "java/lang/invoke/VarHandle" ∧ (parseMethodDescriptor y.desc).map (fun d => d.parameters.length) = some nA) (hR : rm.frames + 1 ≤ R.frames ∧ 8 + (nL' + 11) + rm.locals ≤ R.locals) (hd : decode cc pc = .ok (.invokestatic ix, 3))
    {as rest : List Value} (hn : as.length = nA) {K : ma_Kt} {ls : ma_Ls} {M : ZM} {L : ZL} (hw : ma_wd rest ≤ 8) (h : S as M L (ma_bk (ma_Vs p l e R s m args below meth c w Y NC A nL K) (pc + 3) ls rest)) :
    ma_Vs p l e R s m args below meth c w Y NC A nL K pc ls (as.reverse ++ rest) M L := by
  intro H locs Ls hP hS hl
  refine mk_back (va_runS (As := as.map (ma_tr w)) (rest := rest.map (ma_tr w)) ⟨X.1, X.2.1, X.2.2.1, X.2.2.2.1, X.2.2.2.2.1⟩ (hM.2 as M L _ h) (va_cwS nA X.2.2.2.2.1 hg rfl hM.1.1 hM.1.2 hd0 hR) ⟨ma_pc_blind, ma_pc_at X.2.2.2.2.2.1 hP⟩ rfl (by rw [ma_len_rev]; exact hn) hl.1 (by simp) (by show 2 * 0 + _ ≤ 8; rw [ma_tr_wd]; omega) hd ⟨by show 0 + 0 ≤ _; omega, by show 0 + 0 ≤ _; omega⟩) hS hl (fun v M L q => q)
theorem mk_SN (X : ma_Cx p s m args meth c w Y NC A own cc nL r) (hM : ma_Sd l w Y NC A y b nL' r' rm S) {host : String} (hg : GoodIn lw_all (ws_ y b nL' r')) (hq : (own, ix, y, host) ∈ ma_nM) (hq1 : Cond.initialized y.cls ∈ lw_all) (hq2 : Cond.static y ∈ lw_all)
    (hd0 : y.cls ≠ "java/lang/invoke/MethodHandle" ∧ y.cls ≠ "java/lang/invoke/VarHandle" ∧ (parseMethodDescriptor y.desc).map (fun d => d.parameters.length) = some nA) (hR : rm.frames + 1 ≤ R.frames ∧ 8 + (nL' + 11) + rm.locals ≤ R.locals) (hd : decode cc pc = .ok (.invokestatic ix, 3))
    {as rest : List Value} (hn : as.length = nA) {K : ma_Kt} {ls : ma_Ls} {M : ZM} {L : ZL} (hw : ma_wd rest ≤ 8) (h : S as M L (ma_bk (ma_Vs p l e R s m args below meth c w Y NC A nL K) (pc + 3) ls rest)) :
    ma_Vs p l e R s m args below meth c w Y NC A nL K pc ls (as.reverse ++ rest) M L := by
  intro H locs Ls hP hS hl
  refine mk_back (va_runSN (As := as.map (ma_tr w)) (rest := rest.map (ma_tr w)) ⟨X.1, X.2.1, X.2.2.1, X.2.2.2.1, X.2.2.2.2.1⟩ (hM.2 as M L _ h) ⟨va_cnB nA X.2.2.2.2.1 hg rfl hM.1.1 hM.1.2 (X.2.2.2.2.2.1.2.2 _ hq) (X.2.2.2.2.1 _ hq1) hd0 hR, X.2.2.2.2.1 _ hq2, trivial⟩ ⟨ma_pc_blind, ma_pc_at X.2.2.2.2.2.1 hP⟩ rfl (by rw [ma_len_rev]; exact hn) hl.1 (by simp) (by show 2 * 0 + _ ≤ 8; rw [ma_tr_wd]; omega) hd ⟨by show 0 + 0 ≤ _; omega, by show 0 + 0 ≤ _; omega⟩) hS hl (fun v M L q => q)
theorem ma_recv {k ci N : Nat} {C : String} {T : u_T} {M : ZM} {L : ZL} {H : Heap} (X : ma_Cx p s m args meth c w Y NC A own cc nL r) (hc : vCl[ci]? = some (C, T, N)) (hy : (Y k).1 = 0 ∧ (Y k).2.1 = ci) (hP : va_P w.1 vCl (ma_wl w Y NC M L) H) : ∃ cell : Cell, H[w.2.1 k]? = some cell ∧ cell.vm.isStatics = false ∧ s.vm.findClass C = some cell.cls := by
  obtain ⟨hk, he⟩ := ma_cell (k := k) (M := M) (L := L) X.2.2.2.2.2.2.2.2 rfl (by omega)
  generalize hya : Y k = ya at he hy
  obtain ⟨ta, na, fa, ra⟩ := ya
  obtain ⟨h1, h2⟩ := hy
  cases h1
  cases h2
  exact va_recv X.2.2.2.2.2.1.1 hP hc he
/-- a call through an object -/
theorem mk_V (X : ma_Cx p s m args meth c w Y NC A own cc nL r) (hM : ma_Sd l w Y NC A y b nL' r' rm S) {C : String} {T : u_T} {ci N : Nat} (hc : vCl[ci]? = some (C, T, N)) (hg : GoodIn lw_all (wsV own ix C y (ws_ y b nL' r')))
    (hd0 : y.cls = C ∧ y.cls ≠ "java/lang/invoke/MethodHandle" ∧ y.cls ≠ "java/lang/invoke/VarHandle" ∧ (parseMethodDescriptor y.desc).map (fun d => d.parameters.length) = some nA) (hR : rm.frames + 1 ≤ R.frames ∧ 8 + (nL' + 11) + rm.locals ≤ R.locals) (hd : decode cc pc = .ok (.invokevirtual ix, 3))
    {as rest : List Value} {k : Nat} (hn : as.length = nA) {K : ma_Kt} {ls : ma_Ls} {M : ZM} {L : ZL} (hy : (Y k).1 = 0 ∧ (Y k).2.1 = ci) (hw : ma_wd rest ≤ 8) (h : S (.ref k :: as) M L (ma_bk (ma_Vs p l e R s m args below meth c w Y NC A nL K) (pc + 3) ls rest)) :
    ma_Vs p l e R s m args below meth c w Y NC A nL K pc ls (as.reverse ++ .ref k :: rest) M L := by
  intro H locs Ls hP hS hl
  refine mk_back (va_runV (b := w.2.1 k) (As := as.map (ma_tr w)) (rest := rest.map (ma_tr w)) ⟨X.1, X.2.1, X.2.2.1, X.2.2.2.1, X.2.2.2.2.1⟩ (hM.2 (.ref k :: as) M L _ h) (cwV nA X.2.2.2.2.1 hg rfl hM.1.1 hM.1.2 hd0 hR) ⟨ma_pc_blind, ma_recv X hc hy hP, ma_pc_at (as := .ref k :: as) X.2.2.2.2.2.1 hP⟩ rfl (by rw [ma_len_rev]; exact hn) hl.1 (by simp [ma_tr]) (by show 2 * 0 + _ ≤ 8; rw [ma_tr_wd]; omega) hd ⟨by show 0 + 0 ≤ _; omega, by show 0 + 0 ≤ _; omega⟩) hS hl (fun v M L q => q)
theorem mk_VN (X : ma_Cx p s m args meth c w Y NC A own cc nL r) (hM : ma_Sd l w Y NC A y b nL' r' rm S) {C host : String} {T : u_T} {ci N : Nat} (hc : vCl[ci]? = some (C, T, N)) (hg : GoodIn lw_all (ws_ y b nL' r')) (hq : (own, ix, y, host) ∈ ma_nM) (hq1 : Cond.initialized y.cls ∈ lw_all) (hq2 : Cond.instanceMethod y ∈ lw_all) (hq3 : Cond.selects C y y ∈ lw_all)
    (hd0 : y.cls ≠ "java/lang/invoke/MethodHandle" ∧ y.cls ≠ "java/lang/invoke/VarHandle" ∧ (parseMethodDescriptor y.desc).map (fun d => d.parameters.length) = some nA) (hR : rm.frames + 1 ≤ R.frames ∧ 8 + (nL' + 11) + rm.locals ≤ R.locals) (hd : decode cc pc = .ok (.invokevirtual ix, 3))
    {as rest : List Value} {k : Nat} (hn : as.length = nA) {K : ma_Kt} {ls : ma_Ls} {M : ZM} {L : ZL} (hy : (Y k).1 = 0 ∧ (Y k).2.1 = ci) (hw : ma_wd rest ≤ 8) (h : S (.ref k :: as) M L (ma_bk (ma_Vs p l e R s m args below meth c w Y NC A nL K) (pc + 3) ls rest)) :
    ma_Vs p l e R s m args below meth c w Y NC A nL K pc ls (as.reverse ++ .ref k :: rest) M L := by
  intro H locs Ls hP hS hl
  refine mk_back (va_runVN (b := w.2.1 k) (As := as.map (ma_tr w)) (rest := rest.map (ma_tr w)) ⟨X.1, X.2.1, X.2.2.1, X.2.2.2.1, X.2.2.2.2.1⟩ (hM.2 (.ref k :: as) M L _ h) ⟨va_cnB nA X.2.2.2.2.1 hg rfl hM.1.1 hM.1.2 (X.2.2.2.2.2.1.2.2 _ hq) (X.2.2.2.2.1 _ hq1) hd0 hR, X.2.2.2.2.1 _ hq2, X.2.2.2.2.1 _ hq3⟩ ⟨ma_pc_blind, ma_recv X hc hy hP, ma_pc_at (as := .ref k :: as) X.2.2.2.2.2.1 hP⟩ rfl (by rw [ma_len_rev]; exact hn) hl.1 (by simp [ma_tr]) (by show 2 * 0 + _ ≤ 8; rw [ma_tr_wd]; omega) hd ⟨by show 0 + 0 ≤ _; omega, by show 0 + 0 ≤ _; omega⟩) hS hl (fun v M L q => q)
theorem mk_S1 (X : ma_Cx p s m args meth c w Y NC A own cc nL r) (hM : ma_Sd l w Y NC A y b nL' r' rm S) (hg : GoodIn lw_all (va_wsS own ix y (ws_ y b nL' r'))) (hd0 : y.cls ≠ "java/lang/invoke/MethodHandle" ∧ y.cls ≠ "java/lang/invoke/VarHandle" ∧ (parseMethodDescriptor y.desc).map (fun d => d.parameters.length) = some 1) (hR : rm.frames + 1 ≤ R.frames ∧ 8 + (nL' + 11) + rm.locals ≤ R.locals) (hd : decode cc pc = .ok (.invokestatic ix, 3)) (hn : pc + 3 = n) : ma_Ok p l e R s m args below meth c w Y NC A nL pc (in_s1 S n) := by
  subst hn
  intro K ls st M L h
  unfold in_s1 at h
  split at h
  · exact mk_S X hM hg hd0 hR hd (as := [_]) rfl h.1 h.2
  · exact h.elim
theorem mk_SN1 (X : ma_Cx p s m args meth c w Y NC A own cc nL r) (hM : ma_Sd l w Y NC A y b nL' r' rm S) {host : String} (hg : GoodIn lw_all (ws_ y b nL' r')) (hq : (own, ix, y, host) ∈ ma_nM) (hq1 : Cond.initialized y.cls ∈ lw_all) (hq2 : Cond.static y ∈ lw_all) (hd0 : y.cls ≠ "java/lang/invoke/MethodHandle" ∧ y.cls ≠ "java/lang/invoke/VarHandle" ∧ (parseMethodDescriptor y.desc).map (fun d => d.parameters.length) = some 1) (hR : rm.frames + 1 ≤ R.frames ∧ 8 + (nL' + 11) + rm.locals ≤ R.locals) (hd : decode cc pc = .ok (.invokestatic ix, 3)) (hn : pc + 3 = n) : ma_Ok p l e R s m args below meth c w Y NC A nL pc (in_s1 S n) := by
  subst hn
  intro K ls st M L h
  unfold in_s1 at h
  split at h
  · exact mk_SN X hM hg hq hq1 hq2 hd0 hR hd (as := [_]) rfl h.1 h.2
  · exact h.elim
theorem mk_S2 (X : ma_Cx p s m args meth c w Y NC A own cc nL r) (hM : ma_Sd l w Y NC A y b nL' r' rm S) (hg : GoodIn lw_all (va_wsS own ix y (ws_ y b nL' r'))) (hd0 : y.cls ≠ "java/lang/invoke/MethodHandle" ∧ y.cls ≠ "java/lang/invoke/VarHandle" ∧ (parseMethodDescriptor y.desc).map (fun d => d.parameters.length) = some 2) (hR : rm.frames + 1 ≤ R.frames ∧ 8 + (nL' + 11) + rm.locals ≤ R.locals) (hd : decode cc pc = .ok (.invokestatic ix, 3)) (hn : pc + 3 = n) : ma_Ok p l e R s m args below meth c w Y NC A nL pc (in_s2 S n) := by
  subst hn
  intro K ls st M L h
  unfold in_s2 at h
  split at h
  · exact mk_S X hM hg hd0 hR hd (as := [_, _]) rfl h.1 h.2
  · exact h.elim
theorem mk_SN2 (X : ma_Cx p s m args meth c w Y NC A own cc nL r) (hM : ma_Sd l w Y NC A y b nL' r' rm S) {host : String} (hg : GoodIn lw_all (ws_ y b nL' r')) (hq : (own, ix, y, host) ∈ ma_nM) (hq1 : Cond.initialized y.cls ∈ lw_all) (hq2 : Cond.static y ∈ lw_all) (hd0 : y.cls ≠ "java/lang/invoke/MethodHandle" ∧ y.cls ≠ "java/lang/invoke/VarHandle" ∧ (parseMethodDescriptor y.desc).map (fun d => d.parameters.length) = some 2) (hR : rm.frames + 1 ≤ R.frames ∧ 8 + (nL' + 11) + rm.locals ≤ R.locals) (hd : decode cc pc = .ok (.invokestatic ix, 3)) (hn : pc + 3 = n) : ma_Ok p l e R s m args below meth c w Y NC A nL pc (in_s2 S n) := by
  subst hn
  intro K ls st M L h
  unfold in_s2 at h
  split at h
  · exact mk_SN X hM hg hq hq1 hq2 hd0 hR hd (as := [_, _]) rfl h.1 h.2
  · exact h.elim
theorem mk_S3 (X : ma_Cx p s m args meth c w Y NC A own cc nL r) (hM : ma_Sd l w Y NC A y b nL' r' rm S) (hg : GoodIn lw_all (va_wsS own ix y (ws_ y b nL' r'))) (hd0 : y.cls ≠ "java/lang/invoke/MethodHandle" ∧ y.cls ≠ "java/lang/invoke/VarHandle" ∧ (parseMethodDescriptor y.desc).map (fun d => d.parameters.length) = some 3) (hR : rm.frames + 1 ≤ R.frames ∧ 8 + (nL' + 11) + rm.locals ≤ R.locals) (hd : decode cc pc = .ok (.invokestatic ix, 3)) (hn : pc + 3 = n) : ma_Ok p l e R s m args below meth c w Y NC A nL pc (in_s3 S n) := by
  subst hn
  intro K ls st M L h
  unfold in_s3 at h
  split at h
  · exact mk_S X hM hg hd0 hR hd (as := [_, _, _]) rfl h.1 h.2
  · exact h.elim
theorem mk_SN3 (X : ma_Cx p s m args meth c w Y NC A own cc nL r) (hM : ma_Sd l w Y NC A y b nL' r' rm S) {host : String} (hg : GoodIn lw_all (ws_ y b nL' r')) (hq : (own, ix, y, host) ∈ ma_nM) (hq1 : Cond.initialized y.cls ∈ lw_all) (hq2 : Cond.static y ∈ lw_all) (hd0 : y.cls ≠ "java/lang/invoke/MethodHandle" ∧ y.cls ≠ "java/lang/invoke/VarHandle" ∧ (parseMethodDescriptor y.desc).map (fun d => d.parameters.length) = some 3) (hR : rm.frames + 1 ≤ R.frames ∧ 8 + (nL' + 11) + rm.locals ≤ R.locals) (hd : decode cc pc = .ok (.invokestatic ix, 3)) (hn : pc + 3 = n) : ma_Ok p l e R s m args below meth c w Y NC A nL pc (in_s3 S n) := by
  subst hn
  intro K ls st M L h
  unfold in_s3 at h
  split at h
  · exact mk_SN X hM hg hq hq1 hq2 hd0 hR hd (as := [_, _, _]) rfl h.1 h.2
  · exact h.elim
theorem mk_V1 (X : ma_Cx p s m args meth c w Y NC A own cc nL r) (hM : ma_Sd l w Y NC A y b nL' r' rm S) {C : String} {T : u_T} {ci N : Nat} (hc : vCl[ci]? = some (C, T, N)) (hg : GoodIn lw_all (wsV own ix C y (ws_ y b nL' r'))) (hd0 : y.cls = C ∧ y.cls ≠ "java/lang/invoke/MethodHandle" ∧ y.cls ≠ "java/lang/invoke/VarHandle" ∧ (parseMethodDescriptor y.desc).map (fun d => d.parameters.length) = some 0) (hR : rm.frames + 1 ≤ R.frames ∧ 8 + (nL' + 11) + rm.locals ≤ R.locals) (hd : decode cc pc = .ok (.invokevirtual ix, 3)) (hn : pc + 3 = n) : ma_Ok p l e R s m args below meth c w Y NC A nL pc (in_v1 Y ci S n) := by
  subst hn
  intro K ls st M L h
  unfold in_v1 at h
  split at h
  · exact mk_V X hM hc hg hd0 hR hd (as := []) rfl h.1 h.2.1 h.2.2
  · exact h.elim
theorem mk_VN1 (X : ma_Cx p s m args meth c w Y NC A own cc nL r) (hM : ma_Sd l w Y NC A y b nL' r' rm S) {C host : String} {T : u_T} {ci N : Nat} (hc : vCl[ci]? = some (C, T, N)) (hg : GoodIn lw_all (ws_ y b nL' r')) (hq : (own, ix, y, host) ∈ ma_nM) (hq1 : Cond.initialized y.cls ∈ lw_all) (hq2 : Cond.instanceMethod y ∈ lw_all) (hq3 : Cond.selects C y y ∈ lw_all) (hd0 : y.cls ≠ "java/lang/invoke/MethodHandle" ∧ y.cls ≠ "java/lang/invoke/VarHandle" ∧ (parseMethodDescriptor y.desc).map (fun d => d.parameters.length) = some 0) (hR : rm.frames + 1 ≤ R.frames ∧ 8 + (nL' + 11) + rm.locals ≤ R.locals) (hd : decode cc pc = .ok (.invokevirtual ix, 3)) (hn : pc + 3 = n) : ma_Ok p l e R s m args below meth c w Y NC A nL pc (in_v1 Y ci S n) := by
  subst hn
  intro K ls st M L h
  unfold in_v1 at h
  split at h
  · exact mk_VN X hM hc hg hq hq1 hq2 hq3 hd0 hR hd (as := []) rfl h.1 h.2.1 h.2.2
  · exact h.elim
theorem mk_V2 (X : ma_Cx p s m args meth c w Y NC A own cc nL r) (hM : ma_Sd l w Y NC A y b nL' r' rm S) {C : String} {T : u_T} {ci N : Nat} (hc : vCl[ci]? = some (C, T, N)) (hg : GoodIn lw_all (wsV own ix C y (ws_ y b nL' r'))) (hd0 : y.cls = C ∧ y.cls ≠ "java/lang/invoke/MethodHandle" ∧ y.cls ≠ "java/lang/invoke/VarHandle" ∧ (parseMethodDescriptor y.desc).map (fun d => d.parameters.length) = some 1) (hR : rm.frames + 1 ≤ R.frames ∧ 8 + (nL' + 11) + rm.locals ≤ R.locals) (hd : decode cc pc = .ok (.invokevirtual ix, 3)) (hn : pc + 3 = n) : ma_Ok p l e R s m args below meth c w Y NC A nL pc (in_v2 Y ci S n) := by
  subst hn
  intro K ls st M L h
  unfold in_v2 at h
  split at h
  · exact mk_V X hM hc hg hd0 hR hd (as := [_]) rfl h.1 h.2.1 h.2.2
  · exact h.elim
theorem mk_VN2 (X : ma_Cx p s m args meth c w Y NC A own cc nL r) (hM : ma_Sd l w Y NC A y b nL' r' rm S) {C host : String} {T : u_T} {ci N : Nat} (hc : vCl[ci]? = some (C, T, N)) (hg : GoodIn lw_all (ws_ y b nL' r')) (hq : (own, ix, y, host) ∈ ma_nM) (hq1 : Cond.initialized y.cls ∈ lw_all) (hq2 : Cond.instanceMethod y ∈ lw_all) (hq3 : Cond.selects C y y ∈ lw_all) (hd0 : y.cls ≠ "java/lang/invoke/MethodHandle" ∧ y.cls ≠ "java/lang/invoke/VarHandle" ∧ (parseMethodDescriptor y.desc).map (fun d => d.parameters.length) = some 1) (hR : rm.frames + 1 ≤ R.frames ∧ 8 + (nL' + 11) + rm.locals ≤ R.locals) (hd : decode cc pc = .ok (.invokevirtual ix, 3)) (hn : pc + 3 = n) : ma_Ok p l e R s m args below meth c w Y NC A nL pc (in_v2 Y ci S n) := by
  subst hn
  intro K ls st M L h
  unfold in_v2 at h
  split at h
  · exact mk_VN X hM hc hg hq hq1 hq2 hq3 hd0 hR hd (as := [_]) rfl h.1 h.2.1 h.2.2
  · exact h.elim
theorem mk_V3 (X : ma_Cx p s m args meth c w Y NC A own cc nL r) (hM : ma_Sd l w Y NC A y b nL' r' rm S) {C : String} {T : u_T} {ci N : Nat} (hc : vCl[ci]? = some (C, T, N)) (hg : GoodIn lw_all (wsV own ix C y (ws_ y b nL' r'))) (hd0 : y.cls = C ∧ y.cls ≠ "java/lang/invoke/MethodHandle" ∧ y.cls ≠ "java/lang/invoke/VarHandle" ∧ (parseMethodDescriptor y.desc).map (fun d => d.parameters.length) = some 2) (hR : rm.frames + 1 ≤ R.frames ∧ 8 + (nL' + 11) + rm.locals ≤ R.locals) (hd : decode cc pc = .ok (.invokevirtual ix, 3)) (hn : pc + 3 = n) : ma_Ok p l e R s m args below meth c w Y NC A nL pc (in_v3 Y ci S n) := by
  subst hn
  intro K ls st M L h
  unfold in_v3 at h
  split at h
  · exact mk_V X hM hc hg hd0 hR hd (as := [_, _]) rfl h.1 h.2.1 h.2.2
  · exact h.elim
theorem mk_VN3 (X : ma_Cx p s m args meth c w Y NC A own cc nL r) (hM : ma_Sd l w Y NC A y b nL' r' rm S) {C host : String} {T : u_T} {ci N : Nat} (hc : vCl[ci]? = some (C, T, N)) (hg : GoodIn lw_all (ws_ y b nL' r')) (hq : (own, ix, y, host) ∈ ma_nM) (hq1 : Cond.initialized y.cls ∈ lw_all) (hq2 : Cond.instanceMethod y ∈ lw_all) (hq3 : Cond.selects C y y ∈ lw_all) (hd0 : y.cls ≠ "java/lang/invoke/MethodHandle" ∧ y.cls ≠ "java/lang/invoke/VarHandle" ∧ (parseMethodDescriptor y.desc).map (fun d => d.parameters.length) = some 2) (hR : rm.frames + 1 ≤ R.frames ∧ 8 + (nL' + 11) + rm.locals ≤ R.locals) (hd : decode cc pc = .ok (.invokevirtual ix, 3)) (hn : pc + 3 = n) : ma_Ok p l e R s m args below meth c w Y NC A nL pc (in_v3 Y ci S n) := by
  subst hn
  intro K ls st M L h
  unfold in_v3 at h
  split at h
  · exact mk_VN X hM hc hg hq hq1 hq2 hq3 hd0 hR hd (as := [_, _]) rfl h.1 h.2.1 h.2.2
  · exact h.elim
theorem mk_V4 (X : ma_Cx p s m args meth c w Y NC A own cc nL r) (hM : ma_Sd l w Y NC A y b nL' r' rm S) {C : String} {T : u_T} {ci N : Nat} (hc : vCl[ci]? = some (C, T, N)) (hg : GoodIn lw_all (wsV own ix C y (ws_ y b nL' r'))) (hd0 : y.cls = C ∧ y.cls ≠ "java/lang/invoke/MethodHandle" ∧ y.cls ≠ "java/lang/invoke/VarHandle" ∧ (parseMethodDescriptor y.desc).map (fun d => d.parameters.length) = some 3) (hR : rm.frames + 1 ≤ R.frames ∧ 8 + (nL' + 11) + rm.locals ≤ R.locals) (hd : decode cc pc = .ok (.invokevirtual ix, 3)) (hn : pc + 3 = n) : ma_Ok p l e R s m args below meth c w Y NC A nL pc (in_v4 Y ci S n) := by
  subst hn
  intro K ls st M L h
  unfold in_v4 at h
  split at h
  · exact mk_V X hM hc hg hd0 hR hd (as := [_, _, _]) rfl h.1 h.2.1 h.2.2
  · exact h.elim
theorem mk_VN4 (X : ma_Cx p s m args meth c w Y NC A own cc nL r) (hM : ma_Sd l w Y NC A y b nL' r' rm S) {C host : String} {T : u_T} {ci N : Nat} (hc : vCl[ci]? = some (C, T, N)) (hg : GoodIn lw_all (ws_ y b nL' r')) (hq : (own, ix, y, host) ∈ ma_nM) (hq1 : Cond.initialized y.cls ∈ lw_all) (hq2 : Cond.instanceMethod y ∈ lw_all) (hq3 : Cond.selects C y y ∈ lw_all) (hd0 : y.cls ≠ "java/lang/invoke/MethodHandle" ∧ y.cls ≠ "java/lang/invoke/VarHandle" ∧ (parseMethodDescriptor y.desc).map (fun d => d.parameters.length) = some 3) (hR : rm.frames + 1 ≤ R.frames ∧ 8 + (nL' + 11) + rm.locals ≤ R.locals) (hd : decode cc pc = .ok (.invokevirtual ix, 3)) (hn : pc + 3 = n) : ma_Ok p l e R s m args below meth c w Y NC A nL pc (in_v4 Y ci S n) := by
  subst hn
  intro K ls st M L h
  unfold in_v4 at h
  split at h
  · exact mk_VN X hM hc hg hq hq1 hq2 hq3 hd0 hR hd (as := [_, _, _]) rfl h.1 h.2.1 h.2.2
  · exact h.elim
theorem mk_V5 (X : ma_Cx p s m args meth c w Y NC A own cc nL r) (hM : ma_Sd l w Y NC A y b nL' r' rm S) {C : String} {T : u_T} {ci N : Nat} (hc : vCl[ci]? = some (C, T, N)) (hg : GoodIn lw_all (wsV own ix C y (ws_ y b nL' r'))) (hd0 : y.cls = C ∧ y.cls ≠ "java/lang/invoke/MethodHandle" ∧ y.cls ≠ "java/lang/invoke/VarHandle" ∧ (parseMethodDescriptor y.desc).map (fun d => d.parameters.length) = some 4) (hR : rm.frames + 1 ≤ R.frames ∧ 8 + (nL' + 11) + rm.locals ≤ R.locals) (hd : decode cc pc = .ok (.invokevirtual ix, 3)) (hn : pc + 3 = n) : ma_Ok p l e R s m args below meth c w Y NC A nL pc (in_v5 Y ci S n) := by
  subst hn
  intro K ls st M L h
  unfold in_v5 at h
  split at h
  · exact mk_V X hM hc hg hd0 hR hd (as := [_, _, _, _]) rfl h.1 h.2.1 h.2.2
  · exact h.elim
theorem mk_VN5 (X : ma_Cx p s m args meth c w Y NC A own cc nL r) (hM : ma_Sd l w Y NC A y b nL' r' rm S) {C host : String} {T : u_T} {ci N : Nat} (hc : vCl[ci]? = some (C, T, N)) (hg : GoodIn lw_all (ws_ y b nL' r')) (hq : (own, ix, y, host) ∈ ma_nM) (hq1 : Cond.initialized y.cls ∈ lw_all) (hq2 : Cond.instanceMethod y ∈ lw_all) (hq3 : Cond.selects C y y ∈ lw_all) (hd0 : y.cls ≠ "java/lang/invoke/MethodHandle" ∧ y.cls ≠ "java/lang/invoke/VarHandle" ∧ (parseMethodDescriptor y.desc).map (fun d => d.parameters.length) = some 4) (hR : rm.frames + 1 ≤ R.frames ∧ 8 + (nL' + 11) + rm.locals ≤ R.locals) (hd : decode cc pc = .ok (.invokevirtual ix, 3)) (hn : pc + 3 = n) : ma_Ok p l e R s m args below meth c w Y NC A nL pc (in_v5 Y ci S n) := by
  subst hn
  intro K ls st M L h
  unfold in_v5 at h
  split at h
  · exact mk_VN X hM hc hg hq hq1 hq2 hq3 hd0 hR hd (as := [_, _, _, _]) rfl h.1 h.2.1 h.2.2
  · exact h.elim
theorem mk_V6 (X : ma_Cx p s m args meth c w Y NC A own cc nL r) (hM : ma_Sd l w Y NC A y b nL' r' rm S) {C : String} {T : u_T} {ci N : Nat} (hc : vCl[ci]? = some (C, T, N)) (hg : GoodIn lw_all (wsV own ix C y (ws_ y b nL' r'))) (hd0 : y.cls = C ∧ y.cls ≠ "java/lang/invoke/MethodHandle" ∧ y.cls ≠ "java/lang/invoke/VarHandle" ∧ (parseMethodDescriptor y.desc).map (fun d => d.parameters.length) = some 5) (hR : rm.frames + 1 ≤ R.frames ∧ 8 + (nL' + 11) + rm.locals ≤ R.locals) (hd : decode cc pc = .ok (.invokevirtual ix, 3)) (hn : pc + 3 = n) : ma_Ok p l e R s m args below meth c w Y NC A nL pc (in_v6 Y ci S n) := by
  subst hn
  intro K ls st M L h
  unfold in_v6 at h
  split at h
  · exact mk_V X hM hc hg hd0 hR hd (as := [_, _, _, _, _]) rfl h.1 h.2.1 h.2.2
  · exact h.elim
theorem mk_VN6 (X : ma_Cx p s m args meth c w Y NC A own cc nL r) (hM : ma_Sd l w Y NC A y b nL' r' rm S) {C host : String} {T : u_T} {ci N : Nat} (hc : vCl[ci]? = some (C, T, N)) (hg : GoodIn lw_all (ws_ y b nL' r')) (hq : (own, ix, y, host) ∈ ma_nM) (hq1 : Cond.initialized y.cls ∈ lw_all) (hq2 : Cond.instanceMethod y ∈ lw_all) (hq3 : Cond.selects C y y ∈ lw_all) (hd0 : y.cls ≠ "java/lang/invoke/MethodHandle" ∧ y.cls ≠ "java/lang/invoke/VarHandle" ∧ (parseMethodDescriptor y.desc).map (fun d => d.parameters.length) = some 5) (hR : rm.frames + 1 ≤ R.frames ∧ 8 + (nL' + 11) + rm.locals ≤ R.locals) (hd : decode cc pc = .ok (.invokevirtual ix, 3)) (hn : pc + 3 = n) : ma_Ok p l e R s m args below meth c w Y NC A nL pc (in_v6 Y ci S n) := by
  subst hn
  intro K ls st M L h
  unfold in_v6 at h
  split at h
  · exact mk_VN X hM hc hg hq hq1 hq2 hq3 hd0 hR hd (as := [_, _, _, _, _]) rfl h.1 h.2.1 h.2.2
  · exact h.elim
end MA
theorem ma_nn_no : ∀ (n k : Nat), ma_gl (ma_nn n) k = none := by
  intro n
  induction n with
  | zero => intro k; rfl
  | succ n ih =>
    intro k
    cases k with
    | zero => rfl
    | succ k => exact ih k
theorem ma_en_mem {w : ma_Wd} : ∀ (as : List Value) (n i k : Nat) (v : Value), ma_gl (ma_en n as) k = some v → (i + k, ma_tr w v) ∈ lv_args i (as.map (ma_tr w)) := by
  intro as
  induction as with
  | nil => intro n i k v h; rw [show ma_en n [] = ma_nn n from rfl, ma_nn_no] at h; cases h
  | cons x t ih =>
    intro n i k v h
    rw [List.map_cons]
    unfold lv_args
    unfold ma_en at h
    rw [ma_tr_wc]
    split at h
    · next q =>
      rw [if_pos q]
      match k, h with
      | 0, h => cases h; exact List.mem_cons_self
      | 1, h => cases h
      | k + 2, h =>
        have := ih (n - 2) (i + 2) k v h
        rw [show i + (k + 2) = i + 2 + k by omega]
        exact List.mem_cons_of_mem _ this
    · next q =>
      rw [if_neg q]
      match k, h with
      | 0, h => cases h; exact List.mem_cons_self
      | k + 1, h =>
        have := ih (n - 1) (i + 1) k v h
        rw [show i + (k + 1) = i + 1 + k by omega]
        exact List.mem_cons_of_mem _ this
theorem ma_sl_len {w : ma_Wd} (as : List Value) : (lg_sl (as.map (ma_tr w))).length = ma_wd as := by
  induction as with
  | nil => rfl
  | cons x t ih =>
    rw [show lg_sl ((x :: t).map (ma_tr w)) = (if (ma_tr w x).category = 2 then [Slot.val (ma_tr w x), .second] else [.val (ma_tr w x)]) ++ lg_sl (t.map (ma_tr w)) from rfl, List.length_append, ih, ma_tr_wc]
    show _ = ma_wc x + ma_wd t
    split
    · next q => rw [q]; rfl
    · next q =>
      have : ma_wc x = 1 := by cases x <;> first | rfl | exact absurd rfl q
      rw [this]; rfl
/-- a method's table gives what the method means -/
theorem ma_of {l : Launch} {w : ma_Wd} {Y : Nat → ma_Ly} {NC : Nat} {A : Nat → Prop} {y : MethodName} {b : ByteArray} {nL : Nat} {r : Option FieldType} {rm : Room} {tb : Nat → ma_In} (hw : ma_Wo w Y NC A) (hy : plainName y.cls = true) (hz : rm.cells = 0 ∧ rm.slots = 0)
    (tk : ∀ {p : Program} {e : Env} {s : State} {m : MethodId} {args : Array Value} {below : List Frame} {meth : Method} {c : Code}, ma_Cx p s m args meth c w Y NC A y.cls b nL r → ∀ pc, ma_Ok p l e rm s m args below meth c w Y NC A nL pc (tb pc)) : ma_Sd l w Y NC A y b nL r rm (ma_rn tb nL) := by
  refine ⟨hz, fun as M L K h => ?_⟩
  refine Met.ofW (cc := b) (maxL := nL) (ret := r) hy rfl ?_
  intro p e s m args below meth c s₁ B hml hv
  obtain ⟨rfl, hg, hP⟩ := hv
  have hts := atoms_spec (ws := ws_ y b nL r) B.pre
  have X : ma_Cx p s m (as.map (ma_tr w)).toArray meth c w Y NC A y.cls b nL r := ⟨B.exec, B.bytes, hml, findClass_of_methodNamed B.named, fun x hx => hts x (List.mem_cons_of_mem _ hx), hg, B.notSynchronized, B.returns, hw⟩
  have hl := lv_entry (as.map (ma_tr w)) (n := nL) (by rw [ma_sl_len]; exact h.1)
  rw [lg_entry_eq]
  exact h.2 (ma_Vs p l e rm s m _ below meth c w Y NC A nL K) (fun pc ls st M L q => tk X pc K ls st M L q) s.heap [] _ hP va_S.rf ⟨hl.1, hl.2.1, fun k v hk => by
    have := hl.2.2 _ (ma_en_mem (w := w) as nL 0 k v hk)
    rwa [Nat.zero_add] at this⟩
/-- the same for a member that the machine has no entry for, of a class that has entries -/
theorem ma_ofF {l : Launch} {w : ma_Wd} {Y : Nat → ma_Ly} {NC : Nat} {A : Nat → Prop} {y : MethodName} {b : ByteArray} {nL : Nat} {r : Option FieldType} {rm : Room} {tb : Nat → ma_In} (hw : ma_Wo w Y NC A) (hy : plainFor y = true) (hz : rm.cells = 0 ∧ rm.slots = 0)
    (tk : ∀ {p : Program} {e : Env} {s : State} {m : MethodId} {args : Array Value} {below : List Frame} {meth : Method} {c : Code}, ma_Cx p s m args meth c w Y NC A y.cls b nL r → ∀ pc, ma_Ok p l e rm s m args below meth c w Y NC A nL pc (tb pc)) : ma_Sd l w Y NC A y b nL r rm (ma_rn tb nL) := by
  refine ⟨hz, fun as M L K h => ?_⟩
  refine va_MetF (cc := b) (maxL := nL) (ret := r) hy rfl ?_
  intro p e s m args below meth c s₁ B hml hv
  obtain ⟨rfl, hg, hP⟩ := hv
  have hts := atoms_spec (ws := ws_ y b nL r) B.pre
  have X : ma_Cx p s m (as.map (ma_tr w)).toArray meth c w Y NC A y.cls b nL r := ⟨B.exec, B.bytes, hml, findClass_of_methodNamed B.named, fun x hx => hts x (List.mem_cons_of_mem _ hx), hg, B.notSynchronized, B.returns, hw⟩
  have hl := lv_entry (as.map (ma_tr w)) (n := nL) (by rw [ma_sl_len]; exact h.1)
  rw [lg_entry_eq]
  exact h.2 (ma_Vs p l e rm s m _ below meth c w Y NC A nL K) (fun pc ls st M L q => tk X pc K ls st M L q) s.heap [] _ hP va_S.rf ⟨hl.1, hl.2.1, fun k v hk => by
    have := hl.2.2 _ (ma_en_mem (w := w) as nL 0 k v hk)
    rwa [Nat.zero_add] at this⟩
