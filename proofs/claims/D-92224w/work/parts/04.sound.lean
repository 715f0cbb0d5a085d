/-! THE PLAIN MACHINE IS SOUND: each instruction's transformer, by the kit's row -/
set_option maxRecDepth 100000
/-- a world: the kit's class numbers and slots, the cells' addresses, the array classes -/
abbrev ma_Wd : Type := va_G × (Nat → Nat) × (Nat → ClassId)
def ma_tr (w : ma_Wd) (v : Value) : Value := match v with
  | .ref k => .ref (w.2.1 k)
  | .int x => .int x
  | .long x => .long x
  | .float x => .float x
  | .double x => .double x
  | .null => .null
  | .retAddr x => .retAddr x
theorem ma_tr_wc (w : ma_Wd) (v : Value) : (ma_tr w v).category = ma_wc v := by cases v <;> rfl
theorem ma_tr_wd (w : ma_Wd) (st : List Value) : ((st.map (ma_tr w)).map fun v => v.category).sum = ma_wd st := by
  induction st with
  | nil => rfl
  | cons v t ih => simp only [List.map_cons, List.sum_cons, ma_wd, ma_tr_wc, ih]
def ma_fv (w : ma_Wd) (M : ZM) (k : Nat) (rf : Nat → Option Nat) (j : Nat) : Value := match rf j with
  | none => .int (M k j)
  | some r => .ref (w.2.1 r)
def ma_ce (w : ma_Wd) (y : ma_Ly) (k : Nat) (M : ZM) (L : ZL) : va_E := match y with
  | (0, ci, nf, rf) => .inr (ci, (List.range nf).map (ma_fv w M k rf))
  | (1, n, _, _) => .inl (w.2.2 1, n, .inl (M k))
  | (2, n, _, _) => .inl (w.2.2 2, n, .inl (M k))
  | (3, n, _, _) => .inl (w.2.2 3, n, .inl (M k))
  | (4, n, _, _) => .inl (w.2.2 4, n, .inr (.inl (L k)))
  | (_, n, _, rf) => .inl (w.2.2 5, n, .inr (.inr (.inr (.inr (fun j => (rf j).map w.2.1)))))
def ma_wl (w : ma_Wd) (Y : Nat → ma_Ly) (NC : Nat) (M : ZM) (L : ZL) : va_W := (List.range NC).map (fun k => (w.2.1 k, ma_ce w (Y k) k M L))
def ma_ty (w : ma_Wd) : List (ClassId × FieldType) := [(w.2.2 1, .int), (w.2.2 2, .boolean), (w.2.2 3, .byte), (w.2.2 4, .long), (w.2.2 5, .object "ForecastHall$Kept")]
theorem ma_wl_at {w : ma_Wd} {Y : Nat → ma_Ly} {NC : Nat} {M : ZM} {L : ZL} {k : Nat} (hk : k < NC) : (ma_wl w Y NC M L)[k]? = some (w.2.1 k, ma_ce w (Y k) k M L) := by
  unfold ma_wl
  rw [List.getElem?_map, List.getElem?_range hk]
  rfl
theorem ma_ce_congr {w : ma_Wd} {y : ma_Ly} {k : Nat} {M M' : ZM} {L L' : ZL} (hM : M' k = M k) (hL : L' k = L k) : ma_ce w y k M' L' = ma_ce w y k M L := by
  have hf : ∀ rf, ma_fv w M' k rf = ma_fv w M k rf := by
    intro rf
    funext j
    unfold ma_fv
    rw [hM]
  unfold ma_ce
  split <;> simp only [hM, hL, hf]
theorem ma_wl_set {w : ma_Wd} {Y : Nat → ma_Ly} {NC : Nat} {M M' : ZM} {L L' : ZL} {k : Nat} {x : va_E} (hk : k < NC) (hx : x = ma_ce w (Y k) k M' L') (hM : ∀ a, a ≠ k → M' a = M a) (hL : ∀ a, a ≠ k → L' a = L a) :
    (ma_wl w Y NC M L).set k (w.2.1 k, x) = ma_wl w Y NC M' L' := by
  apply List.ext_getElem?
  intro i
  by_cases hi : i = k
  · subst hi
    rw [ma_wl_at hk, List.getElem?_set_self (by simp [ma_wl, hk]), hx]
  · rw [List.getElem?_set_ne (Ne.symm hi)]
    by_cases hn : i < NC
    · rw [ma_wl_at hn, ma_wl_at hn, ma_ce_congr (hM i hi) (hL i hi)]
    · rw [List.getElem?_eq_none (by simp [ma_wl]; omega), List.getElem?_eq_none (by simp [ma_wl]; omega)]
theorem ma_up_ne {M : ZM} {k j : Nat} {v : Int32} : ∀ a, a ≠ k → ma_up M k j v a = M a := by
  intro a h
  funext b
  simp [ma_up, h]
theorem ma_up_at {M : ZM} {k j : Nat} {v : Int32} : ma_up M k j v k = upd (M k) j v := by
  funext b
  simp [ma_up, upd]
theorem ma_uL_ne {M : ZL} {k j : Nat} {v : Int64} : ∀ a, a ≠ k → ma_uL M k j v a = M a := by
  intro a h
  funext b
  simp [ma_uL, h]
theorem ma_uL_at {M : ZL} {k j : Nat} {v : Int64} : ma_uL M k j v k = vp_updL (M k) j v := by
  funext b
  simp [ma_uL, vp_updL]
theorem ma_cp_ne {M : ZM} {a b sp dp n : Nat} : ∀ k, k ≠ b → ma_cp M a b sp dp n k = M k := by
  intro k h
  funext j
  simp [ma_cp, h]
theorem ma_cp_at {M : ZM} {a b sp dp n : Nat} : ma_cp M a b sp dp n b = va_cpy (M a) (M b) sp dp n := by
  funext j
  simp [ma_cp, va_cpy]
/-- what a state's tables hold: the classes known, the nest mates' links -/
def ma_gd (w : ma_Wd) (U : State) : Prop := va_K w.1 vCl (ma_ty w) U ∧ (∀ q ∈ ma_nF, va_Nw (.fieldLinkNest q.1 q.2.1 q.2.2.1 q.2.2.2.1 q.2.2.2.2.1 q.2.2.2.2.2) U) ∧ ∀ q ∈ ma_nM, va_Nw (.methodLinkNest q.1 q.2.1 q.2.2.1 q.2.2.2) U
theorem ma_gd.warm {w : ma_Wd} {s U : State} (hW : s.WarmedH U.vm) (h : ma_gd w s) : ma_gd w U := ⟨va_K.moved hW.alike h.1, fun q hq => va_Nw.warmF hW (h.2.1 q hq), fun q hq => va_Nw.warmM hW (h.2.2 q hq)⟩
theorem ma_gd.same {w : ma_Wd} {s U : State} (hv : s.vm = U.vm) (h : ma_gd w s) : ma_gd w U := ⟨va_K.moved (by rw [hv]; exact Vm.Alike.refl _) h.1, fun q hq => va_Nw.same rfl hv (h.2.1 q hq), fun q hq => va_Nw.same rfl hv (h.2.2 q hq)⟩
def ma_Wo (w : ma_Wd) (Y : Nat → ma_Ly) (NC : Nat) (A : Nat → Prop) : Prop := (∀ M L, va_D A (ma_wl w Y NC M L)) ∧ (∀ k, (Y k).1 ≤ 5 → k < NC) ∧ ∀ k ci nf rf, Y k = (0, ci, nf, rf) → ∃ C T, vCl[ci]? = some (C, T, nf)
def ma_LR (w : ma_Wd) (nL : Nat) (ls : ma_Ls) (Ls : Array Slot) : Prop := Ls.size = nL ∧ lv_wf Ls ∧ ∀ k v, ma_gl ls k = some v → Ls[k]? = some (.val (ma_tr w v))
def ma_ll (w : ma_Wd) (nL : Nat) (ls : ma_Ls) : List (Nat × Value) := (List.range nL).filterMap fun k => (ma_gl ls k).map fun v => (k, ma_tr w v)
theorem ma_LR.has {w : ma_Wd} {nL : Nat} {ls : ma_Ls} {Ls : Array Slot} (h : ma_LR w nL ls Ls) : lv_has Ls nL (ma_ll w nL ls) := by
  refine ⟨h.1, h.2.1, fun q hq => ?_⟩
  obtain ⟨k, -, hk⟩ := List.mem_filterMap.mp hq
  cases hg : ma_gl ls k with
  | none => rw [hg] at hk; cases hk
  | some v =>
    rw [hg] at hk
    cases hk
    exact h.2.2 k v hg
theorem ma_LR.mem {w : ma_Wd} {nL : Nat} {ls : ma_Ls} {Ls : Array Slot} (h : ma_LR w nL ls Ls) {k : Nat} {v : Value} (hg : ma_gl ls k = some v) : (k, ma_tr w v) ∈ ma_ll w nL ls := by
  have hk : k < nL := by rw [← h.1]; exact lv_lt (h.2.2 k v hg)
  exact List.mem_filterMap.mpr ⟨k, List.mem_range.mpr hk, by rw [hg]; rfl⟩
theorem ma_nl_cat {w : ma_Wd} {o : Option Value} {v : Value} (h : ma_nl o) (e : o = some v) : ¬ (ma_tr w v).category = 2 := by
  subst e
  cases v <;> simp [ma_nl, ma_tr, Value.category] at h ⊢
theorem ma_LR.st1 {w : ma_Wd} {nL : Nat} {ls : ma_Ls} {Ls Ls' : Array Slot} {i : Nat} {v : Value} (h : ma_LR w nL ls Ls) (hn : ma_nl (ma_gl ls (i - 1)))
    (h' : lv_has Ls' nL ((i, ma_tr w v) :: (ma_ll w nL ls).filter (fun q => !(q.1 == i) && !(q.1 + 1 == i && q.2.category == 2)))) : ma_LR w nL (ma_sl ls i (some v)) Ls' := by
  refine ⟨h'.1, h'.2.1, fun k x hx => ?_⟩
  rcases ma_gl_sl ls i k (some v) x hx with ⟨rfl, e⟩ | ⟨hne, e⟩
  · cases e
    exact h'.2.2 _ List.mem_cons_self
  · refine h'.2.2 (k, ma_tr w x) (List.mem_cons_of_mem _ (List.mem_filter.mpr ⟨h.mem e, ?_⟩))
    have h2 : ¬ (k + 1 = i ∧ (ma_tr w x).category = 2) := by
      rintro ⟨q1, q2⟩
      have : i - 1 = k := by omega
      rw [this] at hn
      exact ma_nl_cat (w := w) hn e q2
    simp only [Bool.and_eq_true, Bool.not_eq_true', beq_eq_false_iff_ne, ne_eq, Bool.and_eq_false_iff]
    refine ⟨hne, ?_⟩
    by_cases q1 : k + 1 = i
    · exact Or.inr fun q2 => h2 ⟨q1, q2⟩
    · exact Or.inl q1
theorem ma_LR.st2 {w : ma_Wd} {nL : Nat} {ls : ma_Ls} {Ls Ls' : Array Slot} {i : Nat} {v : Value} (h : ma_LR w nL ls Ls) (hn : ma_nl (ma_gl ls (i - 1)))
    (h' : lv_has Ls' nL ((i, ma_tr w v) :: (ma_ll w nL ls).filter (fun q => !(q.1 == i) && (!(q.1 == i + 1) && !(q.1 + 1 == i && q.2.category == 2))))) : ma_LR w nL (ma_sl (ma_sl ls i (some v)) (i + 1) none) Ls' := by
  refine ⟨h'.1, h'.2.1, fun k x hx => ?_⟩
  rcases ma_gl_sl _ (i + 1) k none x hx with ⟨-, e⟩ | ⟨hne1, e1⟩
  · cases e
  rcases ma_gl_sl ls i k (some v) x e1 with ⟨rfl, e⟩ | ⟨hne, e⟩
  · cases e
    exact h'.2.2 _ List.mem_cons_self
  · refine h'.2.2 (k, ma_tr w x) (List.mem_cons_of_mem _ (List.mem_filter.mpr ⟨h.mem e, ?_⟩))
    have h2 : ¬ (k + 1 = i ∧ (ma_tr w x).category = 2) := by
      rintro ⟨q1, q2⟩
      have : i - 1 = k := by omega
      rw [this] at hn
      exact ma_nl_cat (w := w) hn e q2
    simp only [Bool.and_eq_true, Bool.not_eq_true', beq_eq_false_iff_ne, ne_eq, Bool.and_eq_false_iff]
    refine ⟨hne, hne1, ?_⟩
    by_cases q1 : k + 1 = i
    · exact Or.inr fun q2 => h2 ⟨q1, q2⟩
    · exact Or.inl q1
/-- a method's end -/
def ma_Qk (w : ma_Wd) (Y : Nat → ma_Ly) (NC : Nat) (A : Nat → Prop) (K : ma_Kt) : Array Value → State → Outcome → State → Prop := fun _ st o t => (∃ (v : Option Value) (M : ZM) (L : ZL), o = .returned (v.map (ma_tr w)) ∧ K v M L ∧ va_P w.1 vCl (ma_wl w Y NC M L) t.heap) ∧ va_F A st t
def ma_Pc (w : ma_Wd) (Y : Nat → ma_Ly) (NC : Nat) (as : List Value) (M : ZM) (L : ZL) : Array Value → State → Prop := va_Pc (as.map (ma_tr w)) (fun U => ma_gd w U ∧ va_P w.1 vCl (ma_wl w Y NC M L) U.heap)
/-- a method's meaning S is what the machine does -/
def ma_Sd (l : Launch) (w : ma_Wd) (Y : Nat → ma_Ly) (NC : Nat) (A : Nat → Prop) (y : MethodName) (b : ByteArray) (nL : Nat) (r : Option FieldType) (rm : Room) (S : ma_Cs) : Prop :=
  (rm.cells = 0 ∧ rm.slots = 0) ∧ ∀ as M L K, S as M L K → Met l y (ws_ y b nL r) rm (ma_Pc w Y NC as M L) (ma_Qk w Y NC A K) 0 0 A
theorem ma_Sd.mono {l : Launch} {w : ma_Wd} {Y : Nat → ma_Ly} {NC : Nat} {A : Nat → Prop} {y : MethodName} {b : ByteArray} {nL : Nat} {r : Option FieldType} {rm : Room} {S S' : ma_Cs} (h : ma_Sd l w Y NC A y b nL r rm S) (hs : ∀ as M L K, S' as M L K → S as M L K) : ma_Sd l w Y NC A y b nL r rm S' := ⟨h.1, fun as M L K q => h.2 as M L K (hs as M L K q)⟩
def ma_Cx (p : Program) (s : State) (m : MethodId) (args : Array Value) (meth : Method) (c : Code) (w : ma_Wd) (Y : Nat → ma_Ly) (NC : Nat) (A : Nat → Prop) (own : String) (cc : ByteArray) (nL : Nat) (r : Option FieldType) : Prop :=
  p.tables.exec = Jvm.exec ∧ c.code = cc ∧ c.maxLocals = nL ∧ s.vm.findClass own = some m.cls ∧ (∀ x ∈ lw_all, x.before args s = true) ∧ ma_gd w s ∧ meth.locks = false ∧ meth.sig.returnType = r ∧ ma_Wo w Y NC A
def ma_Vs (p : Program) (l : Launch) (e : Env) (R : Room) (s : State) (m : MethodId) (args : Array Value) (below : List Frame) (meth : Method) (c : Code) (w : ma_Wd) (Y : Nat → ma_Ly) (NC : Nat) (A : Nat → Prop) (nL : Nat) (K : ma_Kt) : ma_Pr := fun pc ls st M L =>
  ∀ (H : Heap) (locs : List Loc) (Ls : Array Slot), va_P w.1 vCl (ma_wl w Y NC M L) H → va_S A s.heap H locs → ma_LR w nL ls Ls → W p l e R s m args below meth c H locs 0 0 (MQ below (ma_Qk w Y NC A K) args s 0 0 A) (F0 m pc Ls (st.map (ma_tr w)))
def ma_Ok (p : Program) (l : Launch) (e : Env) (R : Room) (s : State) (m : MethodId) (args : Array Value) (below : List Frame) (meth : Method) (c : Code) (w : ma_Wd) (Y : Nat → ma_Ly) (NC : Nat) (A : Nat → Prop) (nL : Nat) (pc : Nat) (i : ma_In) : Prop :=
  ∀ (K : ma_Kt) (ls : ma_Ls) (st : List Value) (M : ZM) (L : ZL), i (ma_Vs p l e R s m args below meth c w Y NC A nL K) K ls st M L → ma_Vs p l e R s m args below meth c w Y NC A nL K pc ls st M L
section MK
variable {p : Program} {l : Launch} {e : Env} {R : Room} {s : State} {m : MethodId} {args : Array Value} {below : List Frame} {meth : Method} {c : Code} {w : ma_Wd} {Y : Nat → ma_Ly} {NC : Nat} {A : Nat → Prop} {own : String} {cc : ByteArray} {nL : Nat} {r : Option FieldType} {pc n : Nat}
theorem mk_lt {k : Nat} {a b : ma_In} : ma_Ok p l e R s m args below meth c w Y NC A nL pc a → ma_Ok p l e R s m args below meth c w Y NC A nL pc b → ma_Ok p l e R s m args below meth c w Y NC A nL pc (if pc < k then a else b) := by
  intro h1 h2
  split
  · exact h1
  · exact h2
theorem mk_no : ma_Ok p l e R s m args below meth c w Y NC A nL pc in_no := fun _ _ _ _ _ h => h.elim
theorem mk_eq {k : Nat} {a : ma_In} (h : ma_Ok p l e R s m args below meth c w Y NC A nL k a) : ma_Ok p l e R s m args below meth c w Y NC A nL pc (if pc = k then a else in_no) := by
  split
  · next q => rw [q]; exact h
  · exact mk_no
theorem mk_iconst (X : ma_Cx p s m args meth c w Y NC A own cc nL r) {z : Int} {v : Int32} (hd : decode cc pc = .ok (.iconst z, 1)) (hv : Int32.ofInt z = v) (hn : pc + 1 = n) : ma_Ok p l e R s m args below meth c w Y NC A nL pc (in_push (.int v) n) := by
  subst hn
  exact fun K ls st M L h H locs Ls hP hS hl => lv_iconst X.1 X.2.1 hd hv (h H locs Ls hP hS hl)
theorem mk_bipush (X : ma_Cx p s m args meth c w Y NC A own cc nL r) {z : Int} {v : Int32} (hd : decode cc pc = .ok (.bipush z, 2)) (hv : (Int8.ofInt z).toInt32 = v) (hn : pc + 2 = n) : ma_Ok p l e R s m args below meth c w Y NC A nL pc (in_push (.int v) n) := by
  subst hn
  exact fun K ls st M L h H locs Ls hP hS hl => lv_bipush X.1 X.2.1 hd hv (h H locs Ls hP hS hl)
theorem mk_sipush (X : ma_Cx p s m args meth c w Y NC A own cc nL r) {z : Int} {v : Int32} (hd : decode cc pc = .ok (.sipush z, 3)) (hv : (Int16.ofInt z).toInt32 = v) (hn : pc + 3 = n) : ma_Ok p l e R s m args below meth c w Y NC A nL pc (in_push (.int v) n) := by
  subst hn
  exact fun K ls st M L h H locs Ls hP hS hl => lv_sipush X.1 X.2.1 hd hv (h H locs Ls hP hS hl)
theorem mk_lconst (X : ma_Cx p s m args meth c w Y NC A own cc nL r) {z : Fin 2} {v : Int64} (hd : decode cc pc = .ok (.lconst z, 1)) (hv : Int64.ofNat (z : Nat) = v) (hn : pc + 1 = n) : ma_Ok p l e R s m args below meth c w Y NC A nL pc (in_push (.long v) n) := by
  subst hn
  exact fun K ls st M L h H locs Ls hP hS hl => lv_lconst X.1 X.2.1 hd hv (h H locs Ls hP hS hl)
theorem mk_ldc (X : ma_Cx p s m args meth c w Y NC A own cc nL r) {ix : Nat} {v : Int32} (hd : decode cc pc = .ok (.ldc ix, 2)) (hq : Jvm.Cond.constant own ix v ∈ lw_all) (hn : pc + 2 = n) : ma_Ok p l e R s m args below meth c w Y NC A nL pc (in_push (.int v) n) := by
  subst hn
  exact fun K ls st M L h H locs Ls hP hS hl => lv_ldc X.1 X.2.1 X.2.2.2.1 (X.2.2.2.2.1 _ hq) hd (h H locs Ls hP hS hl)
theorem mk_ldcw (X : ma_Cx p s m args meth c w Y NC A own cc nL r) {ix : Nat} {v : Int32} (hd : decode cc pc = .ok (.ldc_w ix, 3)) (hq : Jvm.Cond.constant own ix v ∈ lw_all) (hn : pc + 3 = n) : ma_Ok p l e R s m args below meth c w Y NC A nL pc (in_push (.int v) n) := by
  subst hn
  exact fun K ls st M L h H locs Ls hP hS hl => lv_ldcw X.1 X.2.1 X.2.2.2.1 (X.2.2.2.2.1 _ hq) hd (h H locs Ls hP hS hl)
theorem mk_ldc2 (X : ma_Cx p s m args meth c w Y NC A own cc nL r) {ix : Nat} {v : Int64} (hd : decode cc pc = .ok (.ldc2_w ix, 3)) (hq : Jvm.Cond.constantLong own ix v ∈ lw_all) (hn : pc + 3 = n) : ma_Ok p l e R s m args below meth c w Y NC A nL pc (in_push (.long v) n) := by
  subst hn
  exact fun K ls st M L h H locs Ls hP hS hl => lv_ldc2 X.1 X.2.1 X.2.2.2.1 (X.2.2.2.2.1 _ hq) hd (h H locs Ls hP hS hl)
theorem mk_iload_n (X : ma_Cx p s m args meth c w Y NC A own cc nL r) {z : Fin 4} {k : Nat} (hd : decode cc pc = .ok (.iload_n z, 1)) (hz : (z : Nat) = k) (hn : pc + 1 = n) : ma_Ok p l e R s m args below meth c w Y NC A nL pc (in_ild k n) := by
  subst hn
  intro K ls st M L h H locs Ls hP hS hl
  unfold in_ild at h
  split at h
  · next x hx => exact lv_iload_n X.1 X.2.1 hd hz (hl.2.2 _ _ hx) (h H locs Ls hP hS hl)
  · exact h.elim
theorem mk_iload (X : ma_Cx p s m args meth c w Y NC A own cc nL r) {k : Nat} (hd : decode cc pc = .ok (.iload k, 2)) (hn : pc + 2 = n) : ma_Ok p l e R s m args below meth c w Y NC A nL pc (in_ild k n) := by
  subst hn
  intro K ls st M L h H locs Ls hP hS hl
  unfold in_ild at h
  split at h
  · next x hx => exact lv_iload X.1 X.2.1 hd (hl.2.2 _ _ hx) (h H locs Ls hP hS hl)
  · exact h.elim
theorem mk_lload_n (X : ma_Cx p s m args meth c w Y NC A own cc nL r) {z : Fin 4} {k : Nat} (hd : decode cc pc = .ok (.lload_n z, 1)) (hz : (z : Nat) = k) (hn : pc + 1 = n) : ma_Ok p l e R s m args below meth c w Y NC A nL pc (in_lld k n) := by
  subst hn
  intro K ls st M L h H locs Ls hP hS hl
  unfold in_lld at h
  split at h
  · next x hx => exact lv_lload_n X.1 X.2.1 hd hz (hl.2.2 _ _ hx) (h H locs Ls hP hS hl)
  · exact h.elim
theorem mk_lload (X : ma_Cx p s m args meth c w Y NC A own cc nL r) {k : Nat} (hd : decode cc pc = .ok (.lload k, 2)) (hn : pc + 2 = n) : ma_Ok p l e R s m args below meth c w Y NC A nL pc (in_lld k n) := by
  subst hn
  intro K ls st M L h H locs Ls hP hS hl
  unfold in_lld at h
  split at h
  · next x hx => exact lv_lload X.1 X.2.1 hd (hl.2.2 _ _ hx) (h H locs Ls hP hS hl)
  · exact h.elim
theorem mk_aload_n (X : ma_Cx p s m args meth c w Y NC A own cc nL r) {z : Fin 4} {k : Nat} (hd : decode cc pc = .ok (.aload_n z, 1)) (hz : (z : Nat) = k) (hn : pc + 1 = n) : ma_Ok p l e R s m args below meth c w Y NC A nL pc (in_ald k n) := by
  subst hn
  intro K ls st M L h H locs Ls hP hS hl
  unfold in_ald at h
  split at h
  · next x hx => exact lv_aload_n X.1 X.2.1 hd hz (hl.2.2 _ _ hx) (h H locs Ls hP hS hl)
  · exact h.elim
theorem mk_aload (X : ma_Cx p s m args meth c w Y NC A own cc nL r) {k : Nat} (hd : decode cc pc = .ok (.aload k, 2)) (hn : pc + 2 = n) : ma_Ok p l e R s m args below meth c w Y NC A nL pc (in_ald k n) := by
  subst hn
  intro K ls st M L h H locs Ls hP hS hl
  unfold in_ald at h
  split at h
  · next x hx => exact lv_aload X.1 X.2.1 hd (hl.2.2 _ _ hx) (h H locs Ls hP hS hl)
  · exact h.elim
theorem mk_istore_n (X : ma_Cx p s m args meth c w Y NC A own cc nL r) {z : Fin 4} {k : Nat} (hd : decode cc pc = .ok (.istore_n z, 1)) (hz : (z : Nat) = k) (hk : k < nL) (hn : pc + 1 = n) : ma_Ok p l e R s m args below meth c w Y NC A nL pc (in_ist k n) := by
  subst hn
  intro K ls st M L h H locs Ls hP hS hl
  unfold in_ist at h
  split at h
  · next x t => exact lv_istore_n X.1 X.2.1 hd hz hl.has hk rfl (fun Ls hl9 => h.2 H locs Ls hP hS (hl.st1 h.1 hl9))
  · exact h.elim
theorem mk_istore (X : ma_Cx p s m args meth c w Y NC A own cc nL r) {k : Nat} (hd : decode cc pc = .ok (.istore k, 2)) (hk : k < nL) (hn : pc + 2 = n) : ma_Ok p l e R s m args below meth c w Y NC A nL pc (in_ist k n) := by
  subst hn
  intro K ls st M L h H locs Ls hP hS hl
  unfold in_ist at h
  split at h
  · next x t => exact lv_istore X.1 X.2.1 hd hl.has hk rfl (fun Ls hl9 => h.2 H locs Ls hP hS (hl.st1 h.1 hl9))
  · exact h.elim
theorem mk_astore_n (X : ma_Cx p s m args meth c w Y NC A own cc nL r) {z : Fin 4} {k : Nat} (hd : decode cc pc = .ok (.astore_n z, 1)) (hz : (z : Nat) = k) (hk : k < nL) (hn : pc + 1 = n) : ma_Ok p l e R s m args below meth c w Y NC A nL pc (in_ast k n) := by
  subst hn
  intro K ls st M L h H locs Ls hP hS hl
  unfold in_ast at h
  split at h
  · next x t => exact lv_astore_n X.1 X.2.1 hd hz hl.has hk rfl (fun Ls hl9 => h.2 H locs Ls hP hS (hl.st1 h.1 hl9))
  · exact h.elim
theorem mk_astore (X : ma_Cx p s m args meth c w Y NC A own cc nL r) {k : Nat} (hd : decode cc pc = .ok (.astore k, 2)) (hk : k < nL) (hn : pc + 2 = n) : ma_Ok p l e R s m args below meth c w Y NC A nL pc (in_ast k n) := by
  subst hn
  intro K ls st M L h H locs Ls hP hS hl
  unfold in_ast at h
  split at h
  · next x t => exact lv_astore X.1 X.2.1 hd hl.has hk rfl (fun Ls hl9 => h.2 H locs Ls hP hS (hl.st1 h.1 hl9))
  · exact h.elim
theorem mk_lstore_n (X : ma_Cx p s m args meth c w Y NC A own cc nL r) {z : Fin 4} {k : Nat} (hd : decode cc pc = .ok (.lstore_n z, 1)) (hz : (z : Nat) = k) (hk : k + 1 < nL) (hn : pc + 1 = n) : ma_Ok p l e R s m args below meth c w Y NC A nL pc (in_lst k n) := by
  subst hn
  intro K ls st M L h H locs Ls hP hS hl
  unfold in_lst at h
  split at h
  · next x t => exact lv_lstore_n X.1 X.2.1 hd hz hl.has hk rfl (fun Ls hl9 => h.2 H locs Ls hP hS (hl.st2 h.1 hl9))
  · exact h.elim
theorem mk_lstore (X : ma_Cx p s m args meth c w Y NC A own cc nL r) {k : Nat} (hd : decode cc pc = .ok (.lstore k, 2)) (hk : k + 1 < nL) (hn : pc + 2 = n) : ma_Ok p l e R s m args below meth c w Y NC A nL pc (in_lst k n) := by
  subst hn
  intro K ls st M L h H locs Ls hP hS hl
  unfold in_lst at h
  split at h
  · next x t => exact lv_lstore X.1 X.2.1 hd hl.has hk rfl (fun Ls hl9 => h.2 H locs Ls hP hS (hl.st2 h.1 hl9))
  · exact h.elim
theorem mk_iinc (X : ma_Cx p s m args meth c w Y NC A own cc nL r) {k : Nat} {z : Int} {v : Int32} (hd : decode cc pc = .ok (.iinc k z, 3)) (hv : Int32.ofInt z = v) (hk : k < nL) (hn : pc + 3 = n) : ma_Ok p l e R s m args below meth c w Y NC A nL pc (in_inc k v n) := by
  subst hn
  subst hv
  intro K ls st M L h H locs Ls hP hS hl
  unfold in_inc at h
  split at h
  · next x hx =>
    obtain ⟨i, hi⟩ := List.getElem?_of_mem (hl.mem hx)
    exact lv_iinc X.1 X.2.1 hd hl.has (k := i) hi rfl hk rfl (fun Ls hl9 => h.2 H locs Ls hP hS (hl.st1 h.1 hl9))
  · exact h.elim
theorem mk_iadd (X : ma_Cx p s m args meth c w Y NC A own cc nL r) (hd : decode cc pc = .ok (.iadd, 1)) (hn : pc + 1 = n) : ma_Ok p l e R s m args below meth c w Y NC A nL pc (in_iii (fun x y => x + y) n) := by
  subst hn
  intro K ls st M L h H locs Ls hP hS hl
  unfold in_iii at h
  split at h
  · exact lv_iadd X.1 X.2.1 hd (h H locs Ls hP hS hl)
  · exact h.elim
theorem mk_isub (X : ma_Cx p s m args meth c w Y NC A own cc nL r) (hd : decode cc pc = .ok (.isub, 1)) (hn : pc + 1 = n) : ma_Ok p l e R s m args below meth c w Y NC A nL pc (in_iii (fun x y => x - y) n) := by
  subst hn
  intro K ls st M L h H locs Ls hP hS hl
  unfold in_iii at h
  split at h
  · exact lv_isub X.1 X.2.1 hd (h H locs Ls hP hS hl)
  · exact h.elim
theorem mk_imul (X : ma_Cx p s m args meth c w Y NC A own cc nL r) (hd : decode cc pc = .ok (.imul, 1)) (hn : pc + 1 = n) : ma_Ok p l e R s m args below meth c w Y NC A nL pc (in_iii (fun x y => x * y) n) := by
  subst hn
  intro K ls st M L h H locs Ls hP hS hl
  unfold in_iii at h
  split at h
  · exact lv_imul X.1 X.2.1 hd (h H locs Ls hP hS hl)
  · exact h.elim
theorem mk_iand (X : ma_Cx p s m args meth c w Y NC A own cc nL r) (hd : decode cc pc = .ok (.iand, 1)) (hn : pc + 1 = n) : ma_Ok p l e R s m args below meth c w Y NC A nL pc (in_iii (fun x y => x &&& y) n) := by
  subst hn
  intro K ls st M L h H locs Ls hP hS hl
  unfold in_iii at h
  split at h
  · exact lv_iand X.1 X.2.1 hd (h H locs Ls hP hS hl)
  · exact h.elim
theorem mk_ior (X : ma_Cx p s m args meth c w Y NC A own cc nL r) (hd : decode cc pc = .ok (.ior, 1)) (hn : pc + 1 = n) : ma_Ok p l e R s m args below meth c w Y NC A nL pc (in_iii (fun x y => x ||| y) n) := by
  subst hn
  intro K ls st M L h H locs Ls hP hS hl
  unfold in_iii at h
  split at h
  · exact lv_ior X.1 X.2.1 hd (h H locs Ls hP hS hl)
  · exact h.elim
theorem mk_ixor (X : ma_Cx p s m args meth c w Y NC A own cc nL r) (hd : decode cc pc = .ok (.ixor, 1)) (hn : pc + 1 = n) : ma_Ok p l e R s m args below meth c w Y NC A nL pc (in_iii (fun x y => x ^^^ y) n) := by
  subst hn
  intro K ls st M L h H locs Ls hP hS hl
  unfold in_iii at h
  split at h
  · exact lv_ixor X.1 X.2.1 hd (h H locs Ls hP hS hl)
  · exact h.elim
theorem mk_ishl (X : ma_Cx p s m args meth c w Y NC A own cc nL r) (hd : decode cc pc = .ok (.ishl, 1)) (hn : pc + 1 = n) : ma_Ok p l e R s m args below meth c w Y NC A nL pc (in_iii (fun x y => x <<< (y &&& 31)) n) := by
  subst hn
  intro K ls st M L h H locs Ls hP hS hl
  unfold in_iii at h
  split at h
  · exact lv_ishl X.1 X.2.1 hd (h H locs Ls hP hS hl)
  · exact h.elim
theorem mk_ishr (X : ma_Cx p s m args meth c w Y NC A own cc nL r) (hd : decode cc pc = .ok (.ishr, 1)) (hn : pc + 1 = n) : ma_Ok p l e R s m args below meth c w Y NC A nL pc (in_iii (fun x y => x >>> (y &&& 31)) n) := by
  subst hn
  intro K ls st M L h H locs Ls hP hS hl
  unfold in_iii at h
  split at h
  · exact lv_ishr X.1 X.2.1 hd (h H locs Ls hP hS hl)
  · exact h.elim
theorem mk_iushr (X : ma_Cx p s m args meth c w Y NC A own cc nL r) (hd : decode cc pc = .ok (.iushr, 1)) (hn : pc + 1 = n) : ma_Ok p l e R s m args below meth c w Y NC A nL pc (in_iii (fun x y => (x.toUInt32 >>> (y.toUInt32 &&& Int32.toUInt32 31)).toInt32) n) := by
  subst hn
  intro K ls st M L h H locs Ls hP hS hl
  unfold in_iii at h
  split at h
  · exact lv_iushr X.1 X.2.1 hd rfl (h H locs Ls hP hS hl)
  · exact h.elim
theorem mk_idiv (X : ma_Cx p s m args meth c w Y NC A own cc nL r) (hd : decode cc pc = .ok (.idiv, 1)) (hn : pc + 1 = n) : ma_Ok p l e R s m args below meth c w Y NC A nL pc (in_idv (fun x y => x / y) n) := by
  subst hn
  intro K ls st M L h H locs Ls hP hS hl
  unfold in_idv at h
  split at h
  · exact lv_idiv X.1 X.2.1 hd h.1 (h.2 H locs Ls hP hS hl)
  · exact h.elim
theorem mk_irem (X : ma_Cx p s m args meth c w Y NC A own cc nL r) (hd : decode cc pc = .ok (.irem, 1)) (hn : pc + 1 = n) : ma_Ok p l e R s m args below meth c w Y NC A nL pc (in_idv (fun x y => x - x / y * y) n) := by
  subst hn
  intro K ls st M L h H locs Ls hP hS hl
  unfold in_idv at h
  split at h
  · exact lv_irem X.1 X.2.1 hd h.1 (h.2 H locs Ls hP hS hl)
  · exact h.elim
theorem mk_ldiv (X : ma_Cx p s m args meth c w Y NC A own cc nL r) (hd : decode cc pc = .ok (.ldiv, 1)) (hn : pc + 1 = n) : ma_Ok p l e R s m args below meth c w Y NC A nL pc (in_ldv (fun x y => x / y) n) := by
  subst hn
  intro K ls st M L h H locs Ls hP hS hl
  unfold in_ldv at h
  split at h
  · exact lv_ldiv X.1 X.2.1 hd h.1 (h.2 H locs Ls hP hS hl)
  · exact h.elim
theorem mk_ladd (X : ma_Cx p s m args meth c w Y NC A own cc nL r) (hd : decode cc pc = .ok (.ladd, 1)) (hn : pc + 1 = n) : ma_Ok p l e R s m args below meth c w Y NC A nL pc (in_lll (fun x y => x + y) n) := by
  subst hn
  intro K ls st M L h H locs Ls hP hS hl
  unfold in_lll at h
  split at h
  · exact lv_ladd X.1 X.2.1 hd (h H locs Ls hP hS hl)
  · exact h.elim
theorem mk_lsub (X : ma_Cx p s m args meth c w Y NC A own cc nL r) (hd : decode cc pc = .ok (.lsub, 1)) (hn : pc + 1 = n) : ma_Ok p l e R s m args below meth c w Y NC A nL pc (in_lll (fun x y => x - y) n) := by
  subst hn
  intro K ls st M L h H locs Ls hP hS hl
  unfold in_lll at h
  split at h
  · exact lv_lsub X.1 X.2.1 hd (h H locs Ls hP hS hl)
  · exact h.elim
theorem mk_lmul (X : ma_Cx p s m args meth c w Y NC A own cc nL r) (hd : decode cc pc = .ok (.lmul, 1)) (hn : pc + 1 = n) : ma_Ok p l e R s m args below meth c w Y NC A nL pc (in_lll (fun x y => x * y) n) := by
  subst hn
  intro K ls st M L h H locs Ls hP hS hl
  unfold in_lll at h
  split at h
  · exact lv_lmul X.1 X.2.1 hd (h H locs Ls hP hS hl)
  · exact h.elim
theorem mk_land (X : ma_Cx p s m args meth c w Y NC A own cc nL r) (hd : decode cc pc = .ok (.land, 1)) (hn : pc + 1 = n) : ma_Ok p l e R s m args below meth c w Y NC A nL pc (in_lll (fun x y => x &&& y) n) := by
  subst hn
  intro K ls st M L h H locs Ls hP hS hl
  unfold in_lll at h
  split at h
  · exact lv_land X.1 X.2.1 hd (h H locs Ls hP hS hl)
  · exact h.elim
theorem mk_lor (X : ma_Cx p s m args meth c w Y NC A own cc nL r) (hd : decode cc pc = .ok (.lor, 1)) (hn : pc + 1 = n) : ma_Ok p l e R s m args below meth c w Y NC A nL pc (in_lll (fun x y => x ||| y) n) := by
  subst hn
  intro K ls st M L h H locs Ls hP hS hl
  unfold in_lll at h
  split at h
  · exact lv_lor X.1 X.2.1 hd (h H locs Ls hP hS hl)
  · exact h.elim
theorem mk_lxor (X : ma_Cx p s m args meth c w Y NC A own cc nL r) (hd : decode cc pc = .ok (.lxor, 1)) (hn : pc + 1 = n) : ma_Ok p l e R s m args below meth c w Y NC A nL pc (in_lll (fun x y => x ^^^ y) n) := by
  subst hn
  intro K ls st M L h H locs Ls hP hS hl
  unfold in_lll at h
  split at h
  · exact lv_lxor X.1 X.2.1 hd (h H locs Ls hP hS hl)
  · exact h.elim
theorem mk_lcmp (X : ma_Cx p s m args meth c w Y NC A own cc nL r) (hd : decode cc pc = .ok (.lcmp, 1)) (hn : pc + 1 = n) : ma_Ok p l e R s m args below meth c w Y NC A nL pc (in_lli lg_cmp n) := by
  subst hn
  intro K ls st M L h H locs Ls hP hS hl
  unfold in_lli at h
  split at h
  · exact W.lcmp X.1 X.2.1 hd (h H locs Ls hP hS hl)
  · exact h.elim
theorem mk_lshl (X : ma_Cx p s m args meth c w Y NC A own cc nL r) (hd : decode cc pc = .ok (.lshl, 1)) (hn : pc + 1 = n) : ma_Ok p l e R s m args below meth c w Y NC A nL pc (in_lil (fun x y => x <<< (y.toInt64 &&& 63)) n) := by
  subst hn
  intro K ls st M L h H locs Ls hP hS hl
  unfold in_lil at h
  split at h
  · exact lv_lshl X.1 X.2.1 hd rfl (h H locs Ls hP hS hl)
  · exact h.elim
theorem mk_lshr (X : ma_Cx p s m args meth c w Y NC A own cc nL r) (hd : decode cc pc = .ok (.lshr, 1)) (hn : pc + 1 = n) : ma_Ok p l e R s m args below meth c w Y NC A nL pc (in_lil (fun x y => x >>> (y.toInt64 &&& 63)) n) := by
  subst hn
  intro K ls st M L h H locs Ls hP hS hl
  unfold in_lil at h
  split at h
  · exact lv_lshr X.1 X.2.1 hd rfl (h H locs Ls hP hS hl)
  · exact h.elim
theorem mk_ineg (X : ma_Cx p s m args meth c w Y NC A own cc nL r) (hd : decode cc pc = .ok (.ineg, 1)) (hn : pc + 1 = n) : ma_Ok p l e R s m args below meth c w Y NC A nL pc (in_ii (fun x => -x) n) := by
  subst hn
  intro K ls st M L h H locs Ls hP hS hl
  unfold in_ii at h
  split at h
  · exact lv_ineg X.1 X.2.1 hd (h H locs Ls hP hS hl)
  · exact h.elim
theorem mk_i2b (X : ma_Cx p s m args meth c w Y NC A own cc nL r) (hd : decode cc pc = .ok (.i2b, 1)) (hn : pc + 1 = n) : ma_Ok p l e R s m args below meth c w Y NC A nL pc (in_ii (fun x => x.toInt8.toInt32) n) := by
  subst hn
  intro K ls st M L h H locs Ls hP hS hl
  unfold in_ii at h
  split at h
  · exact lv_i2b X.1 X.2.1 hd rfl (h H locs Ls hP hS hl)
  · exact h.elim
theorem mk_i2l (X : ma_Cx p s m args meth c w Y NC A own cc nL r) (hd : decode cc pc = .ok (.i2l, 1)) (hn : pc + 1 = n) : ma_Ok p l e R s m args below meth c w Y NC A nL pc (in_il (fun x => x.toInt64) n) := by
  subst hn
  intro K ls st M L h H locs Ls hP hS hl
  unfold in_il at h
  split at h
  · exact lv_i2l X.1 X.2.1 hd rfl (h H locs Ls hP hS hl)
  · exact h.elim
theorem mk_l2i (X : ma_Cx p s m args meth c w Y NC A own cc nL r) (hd : decode cc pc = .ok (.l2i, 1)) (hn : pc + 1 = n) : ma_Ok p l e R s m args below meth c w Y NC A nL pc (in_li (fun x => x.toInt32) n) := by
  subst hn
  intro K ls st M L h H locs Ls hP hS hl
  unfold in_li at h
  split at h
  · exact lv_l2i X.1 X.2.1 hd rfl (h H locs Ls hP hS hl)
  · exact h.elim
theorem mk_lneg (X : ma_Cx p s m args meth c w Y NC A own cc nL r) (hd : decode cc pc = .ok (.lneg, 1)) (hn : pc + 1 = n) : ma_Ok p l e R s m args below meth c w Y NC A nL pc (in_ll (fun x => -x) n) := by
  subst hn
  intro K ls st M L h H locs Ls hP hS hl
  unfold in_ll at h
  split at h
  · exact lv_lneg X.1 X.2.1 hd (h H locs Ls hP hS hl)
  · exact h.elim
theorem mk_dup (X : ma_Cx p s m args meth c w Y NC A own cc nL r) (hd : decode cc pc = .ok (.dup, 1)) (hn : pc + 1 = n) : ma_Ok p l e R s m args below meth c w Y NC A nL pc (in_dup n) := by
  subst hn
  intro K ls st M L h H locs Ls hP hS hl
  unfold in_dup at h
  split at h
  · exact lv_dup X.1 X.2.1 hd rfl (h H locs Ls hP hS hl)
  · exact lv_dup X.1 X.2.1 hd rfl (h H locs Ls hP hS hl)
  · exact h.elim
theorem mk_dup2 (X : ma_Cx p s m args meth c w Y NC A own cc nL r) (hd : decode cc pc = .ok (.dup2, 1)) (hn : pc + 1 = n) : ma_Ok p l e R s m args below meth c w Y NC A nL pc (in_dp2 n) := by
  subst hn
  intro K ls st M L h H locs Ls hP hS hl
  unfold in_dp2 at h
  split at h
  · exact lv_dup2_11 X.1 X.2.1 hd rfl rfl (h H locs Ls hP hS hl)
  · exact h.elim
theorem mk_ifeq (X : ma_Cx p s m args meth c w Y NC A own cc nL r) {o : Int} {t : Nat} (hd : decode cc pc = .ok (.ifCond .eq o, 3)) (ht : (pc : Int) + o = (t : Int)) (hn : pc + 3 = n) : ma_Ok p l e R s m args below meth c w Y NC A nL pc (in_if1 (fun x => x = 0) t n) := by
  subst hn
  intro K ls st M L h H locs Ls hP hS hl
  unfold in_if1 at h
  split at h
  · exact lv_if_eq X.1 X.2.1 hd ht (fun q => h.1 q H locs Ls hP hS hl) (fun q => h.2 q H locs Ls hP hS hl)
  · exact h.elim
theorem mk_iceq (X : ma_Cx p s m args meth c w Y NC A own cc nL r) {o : Int} {t : Nat} (hd : decode cc pc = .ok (.if_icmp .eq o, 3)) (ht : (pc : Int) + o = (t : Int)) (hn : pc + 3 = n) : ma_Ok p l e R s m args below meth c w Y NC A nL pc (in_if2 (fun x y => x = y) t n) := by
  subst hn
  intro K ls st M L h H locs Ls hP hS hl
  unfold in_if2 at h
  split at h
  · exact lv_icmp_eq X.1 X.2.1 hd ht (fun q => h.1 q H locs Ls hP hS hl) (fun q => h.2 q H locs Ls hP hS hl)
  · exact h.elim
theorem mk_ifne (X : ma_Cx p s m args meth c w Y NC A own cc nL r) {o : Int} {t : Nat} (hd : decode cc pc = .ok (.ifCond .ne o, 3)) (ht : (pc : Int) + o = (t : Int)) (hn : pc + 3 = n) : ma_Ok p l e R s m args below meth c w Y NC A nL pc (in_if1 (fun x => x = 0) n t) := by
  subst hn
  intro K ls st M L h H locs Ls hP hS hl
  unfold in_if1 at h
  split at h
  · exact lv_if_ne X.1 X.2.1 hd ht (fun q => h.2 q H locs Ls hP hS hl) (fun q => h.1 q H locs Ls hP hS hl)
  · exact h.elim
theorem mk_icne (X : ma_Cx p s m args meth c w Y NC A own cc nL r) {o : Int} {t : Nat} (hd : decode cc pc = .ok (.if_icmp .ne o, 3)) (ht : (pc : Int) + o = (t : Int)) (hn : pc + 3 = n) : ma_Ok p l e R s m args below meth c w Y NC A nL pc (in_if2 (fun x y => x = y) n t) := by
  subst hn
  intro K ls st M L h H locs Ls hP hS hl
  unfold in_if2 at h
  split at h
  · exact lv_icmp_ne X.1 X.2.1 hd ht (fun q => h.2 q H locs Ls hP hS hl) (fun q => h.1 q H locs Ls hP hS hl)
  · exact h.elim
theorem mk_iflt (X : ma_Cx p s m args meth c w Y NC A own cc nL r) {o : Int} {t : Nat} (hd : decode cc pc = .ok (.ifCond .lt o, 3)) (ht : (pc : Int) + o = (t : Int)) (hn : pc + 3 = n) : ma_Ok p l e R s m args below meth c w Y NC A nL pc (in_if1 (fun x => x < 0) t n) := by
  subst hn
  intro K ls st M L h H locs Ls hP hS hl
  unfold in_if1 at h
  split at h
  · exact lv_if_lt X.1 X.2.1 hd ht (fun q => h.1 q H locs Ls hP hS hl) (fun q => h.2 q H locs Ls hP hS hl)
  · exact h.elim
theorem mk_iclt (X : ma_Cx p s m args meth c w Y NC A own cc nL r) {o : Int} {t : Nat} (hd : decode cc pc = .ok (.if_icmp .lt o, 3)) (ht : (pc : Int) + o = (t : Int)) (hn : pc + 3 = n) : ma_Ok p l e R s m args below meth c w Y NC A nL pc (in_if2 (fun x y => x < y) t n) := by
  subst hn
  intro K ls st M L h H locs Ls hP hS hl
  unfold in_if2 at h
  split at h
  · exact lv_icmp_lt X.1 X.2.1 hd ht (fun q => h.1 q H locs Ls hP hS hl) (fun q => h.2 q H locs Ls hP hS hl)
  · exact h.elim
theorem mk_ifge (X : ma_Cx p s m args meth c w Y NC A own cc nL r) {o : Int} {t : Nat} (hd : decode cc pc = .ok (.ifCond .ge o, 3)) (ht : (pc : Int) + o = (t : Int)) (hn : pc + 3 = n) : ma_Ok p l e R s m args below meth c w Y NC A nL pc (in_if1 (fun x => 0 ≤ x) t n) := by
  subst hn
  intro K ls st M L h H locs Ls hP hS hl
  unfold in_if1 at h
  split at h
  · exact lv_if_ge X.1 X.2.1 hd ht (fun q => h.1 q H locs Ls hP hS hl) (fun q => h.2 q H locs Ls hP hS hl)
  · exact h.elim
theorem mk_icge (X : ma_Cx p s m args meth c w Y NC A own cc nL r) {o : Int} {t : Nat} (hd : decode cc pc = .ok (.if_icmp .ge o, 3)) (ht : (pc : Int) + o = (t : Int)) (hn : pc + 3 = n) : ma_Ok p l e R s m args below meth c w Y NC A nL pc (in_if2 (fun x y => y ≤ x) t n) := by
  subst hn
  intro K ls st M L h H locs Ls hP hS hl
  unfold in_if2 at h
  split at h
  · exact lv_icmp_ge X.1 X.2.1 hd ht (fun q => h.1 q H locs Ls hP hS hl) (fun q => h.2 q H locs Ls hP hS hl)
  · exact h.elim
theorem mk_ifgt (X : ma_Cx p s m args meth c w Y NC A own cc nL r) {o : Int} {t : Nat} (hd : decode cc pc = .ok (.ifCond .gt o, 3)) (ht : (pc : Int) + o = (t : Int)) (hn : pc + 3 = n) : ma_Ok p l e R s m args below meth c w Y NC A nL pc (in_if1 (fun x => 0 < x) t n) := by
  subst hn
  intro K ls st M L h H locs Ls hP hS hl
  unfold in_if1 at h
  split at h
  · exact lv_if_gt X.1 X.2.1 hd ht (fun q => h.1 q H locs Ls hP hS hl) (fun q => h.2 q H locs Ls hP hS hl)
  · exact h.elim
theorem mk_icgt (X : ma_Cx p s m args meth c w Y NC A own cc nL r) {o : Int} {t : Nat} (hd : decode cc pc = .ok (.if_icmp .gt o, 3)) (ht : (pc : Int) + o = (t : Int)) (hn : pc + 3 = n) : ma_Ok p l e R s m args below meth c w Y NC A nL pc (in_if2 (fun x y => y < x) t n) := by
  subst hn
  intro K ls st M L h H locs Ls hP hS hl
  unfold in_if2 at h
  split at h
  · exact lv_icmp_gt X.1 X.2.1 hd ht (fun q => h.1 q H locs Ls hP hS hl) (fun q => h.2 q H locs Ls hP hS hl)
  · exact h.elim
theorem mk_ifle (X : ma_Cx p s m args meth c w Y NC A own cc nL r) {o : Int} {t : Nat} (hd : decode cc pc = .ok (.ifCond .le o, 3)) (ht : (pc : Int) + o = (t : Int)) (hn : pc + 3 = n) : ma_Ok p l e R s m args below meth c w Y NC A nL pc (in_if1 (fun x => x ≤ 0) t n) := by
  subst hn
  intro K ls st M L h H locs Ls hP hS hl
  unfold in_if1 at h
  split at h
  · exact lv_if_le X.1 X.2.1 hd ht (fun q => h.1 q H locs Ls hP hS hl) (fun q => h.2 q H locs Ls hP hS hl)
  · exact h.elim
theorem mk_icle (X : ma_Cx p s m args meth c w Y NC A own cc nL r) {o : Int} {t : Nat} (hd : decode cc pc = .ok (.if_icmp .le o, 3)) (ht : (pc : Int) + o = (t : Int)) (hn : pc + 3 = n) : ma_Ok p l e R s m args below meth c w Y NC A nL pc (in_if2 (fun x y => x ≤ y) t n) := by
  subst hn
  intro K ls st M L h H locs Ls hP hS hl
  unfold in_if2 at h
  split at h
  · exact lv_icmp_le X.1 X.2.1 hd ht (fun q => h.1 q H locs Ls hP hS hl) (fun q => h.2 q H locs Ls hP hS hl)
  · exact h.elim
theorem mk_goto (X : ma_Cx p s m args meth c w Y NC A own cc nL r) {o : Int} {t : Nat} (hd : decode cc pc = .ok (.goto o, 3)) (ht : (pc : Int) + o = (t : Int)) : ma_Ok p l e R s m args below meth c w Y NC A nL pc (in_go t) := by
  exact fun K ls st M L h H locs Ls hP hS hl => lv_goto X.1 X.2.1 hd ht (h H locs Ls hP hS hl)
theorem ma_sw_at {G : Nat → Prop} {d : Nat} {x : Int32} : ∀ (ts : List Nat) (i j t : Nat), ts[j]? = some t → x = Int32.ofNat (i + j) → i + j < 2147483648 → ma_sw G d x i ts → G t := by
  intro ts
  induction ts with
  | nil => intro i j t h; simp at h
  | cons a r ih =>
    intro i j t h hx hb hs
    cases j with
    | zero =>
      cases h
      exact hs.1 hx
    | succ j =>
      have hne : ¬ x = Int32.ofNat i := by
        intro q
        have := (nI_eq (a := i + (j + 1)) (b := i) (by omega) (by omega)).mp (show Int32.ofNat (i + (j + 1)) = Int32.ofNat i by rw [← hx, q])
        omega
      exact ih (i + 1) j t h (by rw [hx]; congr 1; omega) (by omega) (hs.2 hne)
theorem ma_sw_out {G : Nat → Prop} {d : Nat} {x : Int32} : ∀ (ts : List Nat) (i : Nat), (∀ j, j < ts.length → ¬ x = Int32.ofNat (i + j)) → ma_sw G d x i ts → G d := by
  intro ts
  induction ts with
  | nil => intro i _ h; exact h
  | cons a r ih =>
    intro i h hs
    refine ih (i + 1) (fun j hj => ?_) (hs.2 (h 0 (by simp)))
    have := h (j + 1) (by simp; omega)
    rwa [show i + (j + 1) = i + 1 + j by omega] at this
theorem mk_sw (X : ma_Cx p s m args meth c w Y NC A own cc nL r) {ts : List Nat} {d ln : Nat} {df hi : Int} {offs : Array Int} (hd : decode cc pc = .ok (.tableswitch df 0 hi offs, ln)) (hdf : (pc : Int) + df = (d : Int)) (hhi : hi + 1 = (ts.length : Int)) (hln : ts.length < 1000) (hts : offs.toList.map (fun o => (pc : Int) + o) = ts.map (fun t : Nat => (t : Int))) : ma_Ok p l e R s m args below meth c w Y NC A nL pc (in_sw ts d) := by
  intro K ls st M L h H locs Ls hP hS hl
  unfold in_sw at h
  split at h
  · next x t =>
    by_cases hx : x.toInt < 0 ∨ hi < x.toInt
    · refine lv_tableOut X.1 X.2.1 hd hx hdf ?_
      refine (ma_sw_out ts 0 (fun j hj q => ?_) h : ma_Vs p l e R s m args below meth c w Y NC A nL K d ls t M L) H locs Ls hP hS hl
      have := nI_toInt (n := 0 + j) (by omega)
      rw [show nI (0 + j) = x from q.symm] at this
      omega
    · have h1 : ¬ x.toInt < 0 := fun q => hx (Or.inl q)
      have h2 : ¬ hi < x.toInt := fun q => hx (Or.inr q)
      have hlen : offs.toList.length = ts.length := by
        have := congrArg List.length hts
        simpa using this
      have hj : x.toInt.toNat < ts.length := by omega
      have e1 : (offs.toList.map (fun o => (pc : Int) + o))[x.toInt.toNat]? = some ((ts[x.toInt.toNat] : Nat) : Int) := by
        rw [hts, List.getElem?_map, List.getElem?_eq_getElem hj]
        rfl
      rw [List.getElem?_map] at e1
      cases ho : offs.toList[x.toInt.toNat]? with
      | none => rw [ho] at e1; cases e1
      | some o =>
        rw [ho] at e1
        have e2 : (pc : Int) + o = ((ts[x.toInt.toNat] : Nat) : Int) := Option.some.inj e1
        refine lv_tableIn (off := o) X.1 X.2.1 hd h1 h2 (by rw [Int.sub_zero, ← Array.getElem?_toList]; exact ho) e2 ?_
        refine (ma_sw_at ts 0 x.toInt.toNat _ (List.getElem?_eq_getElem hj) ?_ (by omega) h : ma_Vs p l e R s m args below meth c w Y NC A nL K _ ls t M L) H locs Ls hP hS hl
        refine Int32.toInt_inj.mp ?_
        have := nI_toInt (n := 0 + x.toInt.toNat) (by omega)
        rw [show Int32.ofNat (0 + x.toInt.toNat) = nI (0 + x.toInt.toNat) from rfl, this]
        omega
  · exact h.elim
theorem mk_rv (X : ma_Cx p s m args meth c w Y NC A own cc nL none) (hd : decode cc pc = .ok (.return_, 1)) : ma_Ok p l e R s m args below meth c w Y NC A nL pc in_rv := by
  intro K ls st M L h H locs Ls hP hS hl
  unfold in_rv at h
  split at h
  · exact W.vret X.1 X.2.1 X.2.2.2.2.2.2.2.1 (fun t ht hW => ⟨⟨none, M, L, rfl, h, by rw [ht]; exact hP⟩, hS.F ht⟩) hS.2.2 hd X.2.2.2.2.2.2.1
  · exact h.elim
theorem mk_ri (X : ma_Cx p s m args meth c w Y NC A own cc nL (some .int)) (hd : decode cc pc = .ok (.ireturn, 1)) : ma_Ok p l e R s m args below meth c w Y NC A nL pc in_ri := by
  intro K ls st M L h H locs Ls hP hS hl
  unfold in_ri at h
  split at h
  · next x => exact W.iret X.1 X.2.1 X.2.2.2.2.2.2.2.1 (fun t ht hW => ⟨⟨some (.int x), M, L, rfl, h, by rw [ht]; exact hP⟩, hS.F ht⟩) hS.2.2 hd X.2.2.2.2.2.2.1
  · exact h.elim
theorem mk_rz (X : ma_Cx p s m args meth c w Y NC A own cc nL (some .boolean)) (hd : decode cc pc = .ok (.ireturn, 1)) : ma_Ok p l e R s m args below meth c w Y NC A nL pc in_rz := by
  intro K ls st M L h H locs Ls hP hS hl
  unfold in_rz at h
  split at h
  · next x => exact W.zret X.1 X.2.1 X.2.2.2.2.2.2.2.1 (by rcases h.1 with rfl | rfl <;> rfl) (fun t ht hW => ⟨⟨some (.int x), M, L, rfl, h.2, by rw [ht]; exact hP⟩, hS.F ht⟩) hS.2.2 hd X.2.2.2.2.2.2.1
  · exact h.elim
theorem mk_rl (X : ma_Cx p s m args meth c w Y NC A own cc nL (some .long)) (hd : decode cc pc = .ok (.lreturn, 1)) : ma_Ok p l e R s m args below meth c w Y NC A nL pc in_rl := by
  intro K ls st M L h H locs Ls hP hS hl
  unfold in_rl at h
  split at h
  · next x => exact W.lret X.1 X.2.1 X.2.2.2.2.2.2.2.1 (fun t ht hW => ⟨⟨some (.long x), M, L, rfl, h, by rw [ht]; exact hP⟩, hS.F ht⟩) hS.2.2 hd X.2.2.2.2.2.2.1
  · exact h.elim
theorem ma_fs {w : ma_Wd} {M : ZM} {k : Nat} {rf : Nat → Option Nat} {nf j : Nat} (hj : j < nf) : ((List.range nf).map (ma_fv w M k rf))[j]? = some (ma_fv w M k rf j) := by
  rw [List.getElem?_map, List.getElem?_range hj]
  rfl
/-- what a cell of the world is, by its layout -/
theorem ma_cell {Y : Nat → ma_Ly} {k : Nat} {y : ma_Ly} {M : ZM} {L : ZL} (hw : ma_Wo w Y NC A) (hy : Y k = y) (h5 : y.1 ≤ 5) : k < NC ∧ (ma_wl w Y NC M L)[k]? = some (w.2.1 k, ma_ce w y k M L) := by
  have hk : k < NC := hw.2.1 k (by rw [hy]; exact h5)
  exact ⟨hk, by rw [ma_wl_at hk, hy]⟩
theorem mk_get (X : ma_Cx p s m args meth c w Y NC A own cc nL r) {ci j N ix : Nat} {C : String} {T : u_T} (hc : vCl[ci]? = some (C, T, N)) (hin : ∀ x ∈ u_ws C T N, x ∈ lw_all) (hj : j < N) (hq : Cond.fieldLink own ix (T j).1 (T j).2.1 (T j).2.2.1 ∈ lw_all) (hd : decode cc pc = .ok (.getfield ix, 3)) (hn : pc + 3 = n) : ma_Ok p l e R s m args below meth c w Y NC A nL pc (in_get Y ci j n) := by
  subst hn
  intro K ls st M L h H locs Ls hP hS hl
  unfold in_get at h
  split at h
  · next k t =>
    split at h
    · next c0 nf rf hy =>
      obtain ⟨rfl, h⟩ := h
      obtain ⟨C', T', e1⟩ := X.2.2.2.2.2.2.2.2.2.2 k _ _ _ hy
      cases hc.symm.trans e1
      obtain ⟨hk, he⟩ := ma_cell (M := M) (L := L) X.2.2.2.2.2.2.2.2 hy (Nat.le_of_ble_eq_true rfl)
      refine va_get (D := w.1) (v := ma_fv w M k rf j) X.1 X.2.1 X.2.2.2.2.1 hin X.2.2.2.1 X.2.2.2.2.2.1.1 hP k he hc j hj (X.2.2.2.2.1 _ hq) (fun _ q => q) (ma_fs hj) hd ?_
      unfold ma_fv
      split at h
      · next q => rw [q]; exact h H locs Ls hP hS hl
      · next q => rw [q]; exact h H locs Ls hP hS hl
    · exact h.elim
  · exact h.elim
theorem mk_getN (X : ma_Cx p s m args meth c w Y NC A own cc nL r) {ci j N ix : Nat} {C host : String} {T : u_T} (hc : vCl[ci]? = some (C, T, N)) (hin : ∀ x ∈ u_ws C T N, x ∈ lw_all) (hj : j < N) (hq : (own, ix, (T j).1, (T j).2.1, (T j).2.2.1, host) ∈ ma_nF) (hd : decode cc pc = .ok (.getfield ix, 3)) (hn : pc + 3 = n) : ma_Ok p l e R s m args below meth c w Y NC A nL pc (in_get Y ci j n) := by
  subst hn
  intro K ls st M L h H locs Ls hP hS hl
  unfold in_get at h
  split at h
  · next k t =>
    split at h
    · next c0 nf rf hy =>
      obtain ⟨rfl, h⟩ := h
      obtain ⟨C', T', e1⟩ := X.2.2.2.2.2.2.2.2.2.2 k _ _ _ hy
      cases hc.symm.trans e1
      obtain ⟨hk, he⟩ := ma_cell (M := M) (L := L) X.2.2.2.2.2.2.2.2 hy (Nat.le_of_ble_eq_true rfl)
      refine va_getN (D := w.1) (v := ma_fv w M k rf j) X.1 X.2.1 X.2.2.2.2.1 hin X.2.2.2.1 X.2.2.2.2.2.1.1 hP k he hc j hj (va_Nw.use rfl (X.2.2.2.2.2.1.2.1 _ hq)) (fun _ q => q) (ma_fs hj) hd ?_
      unfold ma_fv
      split at h
      · next q => rw [q]; exact h H locs Ls hP hS hl
      · next q => rw [q]; exact h H locs Ls hP hS hl
    · exact h.elim
  · exact h.elim
theorem ma_set_f {w : ma_Wd} {M : ZM} {k : Nat} {rf : Nat → Option Nat} {nf j ci : Nat} {v : Int32} {L : ZL} (hj : j < nf) (hr : rf j = none) : (.inr (ci, ((List.range nf).map (ma_fv w M k rf)).set j (.int v)) : va_E) = ma_ce w (0, ci, nf, rf) k (ma_up M k j v) L := by
  show (Sum.inr (ci, _) : va_E) = .inr (ci, _)
  congr 2
  apply List.ext_getElem?
  intro i
  by_cases hi : i = j
  · subst hi
    rw [ma_fs hj, List.getElem?_set_self (by simp [hj])]
    simp [ma_fv, hr, ma_up]
  · rw [List.getElem?_set_ne (Ne.symm hi)]
    by_cases hn : i < nf
    · rw [ma_fs hn, ma_fs hn]
      simp [ma_fv, ma_up, hi]
    · rw [List.getElem?_eq_none (by simp; omega), List.getElem?_eq_none (by simp; omega)]
theorem mk_put0 (X : ma_Cx p s m args meth c w Y NC A own cc nL r) {ci j N ix k nf : Nat} {rf : Nat → Option Nat} {C : String} {T : u_T} {ty : Nat → FieldType} {v : Int32} {M : ZM} {L : ZL} {H : Heap} {locs : List Loc} {Ls : Array Slot} {t : List Value} {K : ma_Kt} (hc : vCl[ci]? = some (C, T, N)) (hin : ∀ x ∈ u_ws C T N, x ∈ lw_all) (hty : ∀ k, k < N → parseFieldDescriptor (T k).2.2.1 = some (ty k)) (hnm : ∀ a, a < N → ∀ b, b < N → a ≠ b → (T a).2.1 ≠ (T b).2.1) (hj : j < N) (hfin : (T j).2.2.2 = false) (hq : Cond.fieldLink own ix (T j).1 (T j).2.1 (T j).2.2.1 ∈ lw_all) (hd : decode cc pc = .ok (.putfield ix, 3)) (hy : Y k = (0, ci, nf, rf)) (hr : rf j = none) (hv : narrow (ty j) (.int v) = .int v) (hf : fits (ty j) (.int v) = true)
    (hP : va_P w.1 vCl (ma_wl w Y NC M L) H) (hS : va_S A s.heap H locs) (kk : ∀ H1 locs1, va_P w.1 vCl (ma_wl w Y NC (ma_up M k j v) L) H1 → va_S A s.heap H1 locs1 → W p l e R s m args below meth c H1 locs1 0 0 (MQ below (ma_Qk w Y NC A K) args s 0 0 A) (F0 m (pc + 3) Ls t)) : W p l e R s m args below meth c H locs 0 0 (MQ below (ma_Qk w Y NC A K) args s 0 0 A) (F0 m pc Ls (.int v :: .ref (w.2.1 k) :: t)) := by
  obtain ⟨C', T', e1⟩ := X.2.2.2.2.2.2.2.2.2.2 k _ _ _ hy
  cases hc.symm.trans e1
  obtain ⟨hk, he⟩ := ma_cell (M := M) (L := L) X.2.2.2.2.2.2.2.2 hy (Nat.le_of_ble_eq_true rfl)
  refine va_put (D := w.1) X.1 X.2.1 X.2.2.2.2.1 hin ty hty hnm X.2.2.2.1 X.2.2.2.2.2.1.1 hP (X.2.2.2.2.2.2.2.2.1 M L) hS k he hc j hj (X.2.2.2.2.1 _ hq) (fun _ q => q) hfin (hty j hj) hv hf (by simp; exact hj) hd (fun H1 locs1 hP1 hD1 hS1 => ?_)
  rw [ma_wl_set (M' := ma_up M k j v) (L' := L) hk (by rw [hy]; exact ma_set_f hj hr) ma_up_ne (fun _ _ => rfl)] at hP1
  exact kk H1 locs1 hP1 hS1
theorem mk_put (X : ma_Cx p s m args meth c w Y NC A own cc nL r) {ci j N ix : Nat} {C : String} {T : u_T} {ty : Nat → FieldType} (hc : vCl[ci]? = some (C, T, N)) (hin : ∀ x ∈ u_ws C T N, x ∈ lw_all) (hty : ∀ k, k < N → parseFieldDescriptor (T k).2.2.1 = some (ty k)) (hnm : ∀ a, a < N → ∀ b, b < N → a ≠ b → (T a).2.1 ≠ (T b).2.1) (hj : j < N) (hfin : (T j).2.2.2 = false) (ht : ty j = .int) (hq : Cond.fieldLink own ix (T j).1 (T j).2.1 (T j).2.2.1 ∈ lw_all) (hd : decode cc pc = .ok (.putfield ix, 3)) (hn : pc + 3 = n) : ma_Ok p l e R s m args below meth c w Y NC A nL pc (in_put Y ci j n) := by
  subst hn
  intro K ls st M L h H locs Ls hP hS hl
  unfold in_put at h
  split at h
  · next v k t =>
    split at h
    · next c0 nf rf hy =>
      obtain ⟨rfl, hr, h⟩ := h
      exact mk_put0 X hc hin hty hnm hj hfin hq hd hy hr (by rw [ht]; rfl) (by rw [ht]; rfl) hP hS (fun H1 locs1 hP1 hS1 => h H1 locs1 Ls hP1 hS1 hl)
    · exact h.elim
  · exact h.elim
theorem mk_puz (X : ma_Cx p s m args meth c w Y NC A own cc nL r) {ci j N ix : Nat} {C : String} {T : u_T} {ty : Nat → FieldType} (hc : vCl[ci]? = some (C, T, N)) (hin : ∀ x ∈ u_ws C T N, x ∈ lw_all) (hty : ∀ k, k < N → parseFieldDescriptor (T k).2.2.1 = some (ty k)) (hnm : ∀ a, a < N → ∀ b, b < N → a ≠ b → (T a).2.1 ≠ (T b).2.1) (hj : j < N) (hfin : (T j).2.2.2 = false) (ht : ty j = .boolean) (hq : Cond.fieldLink own ix (T j).1 (T j).2.1 (T j).2.2.1 ∈ lw_all) (hd : decode cc pc = .ok (.putfield ix, 3)) (hn : pc + 3 = n) : ma_Ok p l e R s m args below meth c w Y NC A nL pc (in_puz Y ci j n) := by
  subst hn
  intro K ls st M L h H locs Ls hP hS hl
  unfold in_puz at h
  split at h
  · next v k t =>
    split at h
    · next c0 nf rf hy =>
      obtain ⟨rfl, hr, hv, h⟩ := h
      exact mk_put0 X hc hin hty hnm hj hfin hq hd hy hr (by rw [ht]; rcases hv with rfl | rfl <;> rfl) (by rw [ht]; rcases hv with rfl | rfl <;> rfl) hP hS (fun H1 locs1 hP1 hS1 => h H1 locs1 Ls hP1 hS1 hl)
    · exact h.elim
  · exact h.elim
theorem mk_put0N (X : ma_Cx p s m args meth c w Y NC A own cc nL r) {ci j N ix k nf : Nat} {rf : Nat → Option Nat} {C : String} {T : u_T} {ty : Nat → FieldType} {v : Int32} {M : ZM} {L : ZL} {H : Heap} {locs : List Loc} {Ls : Array Slot} {t : List Value} {K : ma_Kt} (hc : vCl[ci]? = some (C, T, N)) (hin : ∀ x ∈ u_ws C T N, x ∈ lw_all) (hty : ∀ k, k < N → parseFieldDescriptor (T k).2.2.1 = some (ty k)) (hnm : ∀ a, a < N → ∀ b, b < N → a ≠ b → (T a).2.1 ≠ (T b).2.1) (hj : j < N) (hfin : (T j).2.2.2 = false) {host : String} (hq : (own, ix, (T j).1, (T j).2.1, (T j).2.2.1, host) ∈ ma_nF) (hd : decode cc pc = .ok (.putfield ix, 3)) (hy : Y k = (0, ci, nf, rf)) (hr : rf j = none) (hv : narrow (ty j) (.int v) = .int v) (hf : fits (ty j) (.int v) = true)
    (hP : va_P w.1 vCl (ma_wl w Y NC M L) H) (hS : va_S A s.heap H locs) (kk : ∀ H1 locs1, va_P w.1 vCl (ma_wl w Y NC (ma_up M k j v) L) H1 → va_S A s.heap H1 locs1 → W p l e R s m args below meth c H1 locs1 0 0 (MQ below (ma_Qk w Y NC A K) args s 0 0 A) (F0 m (pc + 3) Ls t)) : W p l e R s m args below meth c H locs 0 0 (MQ below (ma_Qk w Y NC A K) args s 0 0 A) (F0 m pc Ls (.int v :: .ref (w.2.1 k) :: t)) := by
  obtain ⟨C', T', e1⟩ := X.2.2.2.2.2.2.2.2.2.2 k _ _ _ hy
  cases hc.symm.trans e1
  obtain ⟨hk, he⟩ := ma_cell (M := M) (L := L) X.2.2.2.2.2.2.2.2 hy (Nat.le_of_ble_eq_true rfl)
  refine va_putN (D := w.1) X.1 X.2.1 X.2.2.2.2.1 hin ty hty hnm X.2.2.2.1 X.2.2.2.2.2.1.1 hP (X.2.2.2.2.2.2.2.2.1 M L) hS k he hc j hj (va_Nw.use rfl (X.2.2.2.2.2.1.2.1 _ hq)) (fun _ q => q) hfin (hty j hj) hv hf (by simp; exact hj) hd (fun H1 locs1 hP1 hD1 hS1 => ?_)
  rw [ma_wl_set (M' := ma_up M k j v) (L' := L) hk (by rw [hy]; exact ma_set_f hj hr) ma_up_ne (fun _ _ => rfl)] at hP1
  exact kk H1 locs1 hP1 hS1
theorem mk_putN (X : ma_Cx p s m args meth c w Y NC A own cc nL r) {ci j N ix : Nat} {C : String} {T : u_T} {ty : Nat → FieldType} (hc : vCl[ci]? = some (C, T, N)) (hin : ∀ x ∈ u_ws C T N, x ∈ lw_all) (hty : ∀ k, k < N → parseFieldDescriptor (T k).2.2.1 = some (ty k)) (hnm : ∀ a, a < N → ∀ b, b < N → a ≠ b → (T a).2.1 ≠ (T b).2.1) (hj : j < N) (hfin : (T j).2.2.2 = false) (ht : ty j = .int) {host : String} (hq : (own, ix, (T j).1, (T j).2.1, (T j).2.2.1, host) ∈ ma_nF) (hd : decode cc pc = .ok (.putfield ix, 3)) (hn : pc + 3 = n) : ma_Ok p l e R s m args below meth c w Y NC A nL pc (in_put Y ci j n) := by
  subst hn
  intro K ls st M L h H locs Ls hP hS hl
  unfold in_put at h
  split at h
  · next v k t =>
    split at h
    · next c0 nf rf hy =>
      obtain ⟨rfl, hr, h⟩ := h
      exact mk_put0N X hc hin hty hnm hj hfin hq hd hy hr (by rw [ht]; rfl) (by rw [ht]; rfl) hP hS (fun H1 locs1 hP1 hS1 => h H1 locs1 Ls hP1 hS1 hl)
    · exact h.elim
  · exact h.elim
theorem mk_puzN (X : ma_Cx p s m args meth c w Y NC A own cc nL r) {ci j N ix : Nat} {C : String} {T : u_T} {ty : Nat → FieldType} (hc : vCl[ci]? = some (C, T, N)) (hin : ∀ x ∈ u_ws C T N, x ∈ lw_all) (hty : ∀ k, k < N → parseFieldDescriptor (T k).2.2.1 = some (ty k)) (hnm : ∀ a, a < N → ∀ b, b < N → a ≠ b → (T a).2.1 ≠ (T b).2.1) (hj : j < N) (hfin : (T j).2.2.2 = false) (ht : ty j = .boolean) {host : String} (hq : (own, ix, (T j).1, (T j).2.1, (T j).2.2.1, host) ∈ ma_nF) (hd : decode cc pc = .ok (.putfield ix, 3)) (hn : pc + 3 = n) : ma_Ok p l e R s m args below meth c w Y NC A nL pc (in_puz Y ci j n) := by
  subst hn
  intro K ls st M L h H locs Ls hP hS hl
  unfold in_puz at h
  split at h
  · next v k t =>
    split at h
    · next c0 nf rf hy =>
      obtain ⟨rfl, hr, hv, h⟩ := h
      exact mk_put0N X hc hin hty hnm hj hfin hq hd hy hr (by rw [ht]; rcases hv with rfl | rfl <;> rfl) (by rw [ht]; rcases hv with rfl | rfl <;> rfl) hP hS (fun H1 locs1 hP1 hS1 => h H1 locs1 Ls hP1 hS1 hl)
    · exact h.elim
  · exact h.elim
end MK
