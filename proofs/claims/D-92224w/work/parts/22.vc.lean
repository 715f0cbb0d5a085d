/-! monotone transformers; a walk of a table by rewriting: ma_vc -/
set_option maxRecDepth 100000
def ma_mo (i : ma_In) : Prop := ∀ (V V' : ma_Pr) (K : ma_Kt) (ls : ma_Ls) (st : List Value) (M : ZM) (L : ZL), (∀ pc ls st M L, V pc ls st M L → V' pc ls st M L) → i V K ls st M L → i V' K ls st M L
def ma_ms (S : ma_Cs) : Prop := ∀ (as : List Value) (M : ZM) (L : ZL) (K K' : ma_Kt), (∀ v M L, K v M L → K' v M L) → S as M L K → S as M L K'
theorem mo_no : ma_mo in_no := fun _ _ _ _ _ _ _ _ q => q
theorem mo_lt {pc k : Nat} {a b : ma_In} (h1 : ma_mo a) (h2 : ma_mo b) : ma_mo (if pc < k then a else b) := by split <;> assumption
theorem mo_eq {pc k : Nat} {a : ma_In} (h1 : ma_mo a) : ma_mo (if pc = k then a else in_no) := by
  split
  · exact h1
  · exact mo_no
theorem mo_push {v : Value} {n : Nat} : ma_mo (in_push v n) := fun V V' K ls st M L h q => h _ _ _ _ _ q
theorem mo_go {t : Nat} : ma_mo (in_go t) := fun V V' K ls st M L h q => h _ _ _ _ _ q
theorem mo_ild {k n : Nat} : ma_mo (in_ild k n) := by
  intro V V' K ls st M L h
  unfold in_ild
  cases ma_gl ls k with
  | none => exact id
  | some v => cases v <;> first | exact id | exact h _ _ _ _ _
theorem mo_lld {k n : Nat} : ma_mo (in_lld k n) := by
  intro V V' K ls st M L h
  unfold in_lld
  cases ma_gl ls k with
  | none => exact id
  | some v => cases v <;> first | exact id | exact h _ _ _ _ _
theorem mo_ald {k n : Nat} : ma_mo (in_ald k n) := by
  intro V V' K ls st M L h
  unfold in_ald
  cases ma_gl ls k with
  | none => exact id
  | some v => cases v <;> first | exact id | exact h _ _ _ _ _
theorem mo_inc {k n : Nat} {v : Int32} : ma_mo (in_inc k v n) := by
  intro V V' K ls st M L h
  unfold in_inc
  cases ma_gl ls k with
  | none => exact id
  | some v => cases v <;> first | exact id | exact fun q => ⟨q.1, h _ _ _ _ _ q.2⟩
theorem mo_ist {k n : Nat} : ma_mo (in_ist k n) := by
  intro V V' K ls st M L h q
  unfold in_ist at q ⊢
  split at q
  · exact ⟨q.1, h _ _ _ _ _ q.2⟩
  · exact q.elim
theorem mo_ast {k n : Nat} : ma_mo (in_ast k n) := by
  intro V V' K ls st M L h q
  unfold in_ast at q ⊢
  split at q
  · exact ⟨q.1, h _ _ _ _ _ q.2⟩
  · exact q.elim
theorem mo_lst {k n : Nat} : ma_mo (in_lst k n) := by
  intro V V' K ls st M L h q
  unfold in_lst at q ⊢
  split at q
  · exact ⟨q.1, h _ _ _ _ _ q.2⟩
  · exact q.elim
theorem mo_iii {f : Int32 → Int32 → Int32} {n : Nat} : ma_mo (in_iii f n) := by
  intro V V' K ls st M L h q
  unfold in_iii at q ⊢
  split at q
  · exact h _ _ _ _ _ q
  · exact q.elim
theorem mo_idv {f : Int32 → Int32 → Int32} {n : Nat} : ma_mo (in_idv f n) := by
  intro V V' K ls st M L h q
  unfold in_idv at q ⊢
  split at q
  · exact ⟨q.1, h _ _ _ _ _ q.2⟩
  · exact q.elim
theorem mo_ldv {f : Int64 → Int64 → Int64} {n : Nat} : ma_mo (in_ldv f n) := by
  intro V V' K ls st M L h q
  unfold in_ldv at q ⊢
  split at q
  · exact ⟨q.1, h _ _ _ _ _ q.2⟩
  · exact q.elim
theorem mo_lll {f : Int64 → Int64 → Int64} {n : Nat} : ma_mo (in_lll f n) := by
  intro V V' K ls st M L h q
  unfold in_lll at q ⊢
  split at q
  · exact h _ _ _ _ _ q
  · exact q.elim
theorem mo_lli {f : Int64 → Int64 → Int32} {n : Nat} : ma_mo (in_lli f n) := by
  intro V V' K ls st M L h q
  unfold in_lli at q ⊢
  split at q
  · exact h _ _ _ _ _ q
  · exact q.elim
theorem mo_lil {f : Int64 → Int32 → Int64} {n : Nat} : ma_mo (in_lil f n) := by
  intro V V' K ls st M L h q
  unfold in_lil at q ⊢
  split at q
  · exact h _ _ _ _ _ q
  · exact q.elim
theorem mo_ii {f : Int32 → Int32} {n : Nat} : ma_mo (in_ii f n) := by
  intro V V' K ls st M L h q
  unfold in_ii at q ⊢
  split at q
  · exact h _ _ _ _ _ q
  · exact q.elim
theorem mo_il {f : Int32 → Int64} {n : Nat} : ma_mo (in_il f n) := by
  intro V V' K ls st M L h q
  unfold in_il at q ⊢
  split at q
  · exact h _ _ _ _ _ q
  · exact q.elim
theorem mo_li {f : Int64 → Int32} {n : Nat} : ma_mo (in_li f n) := by
  intro V V' K ls st M L h q
  unfold in_li at q ⊢
  split at q
  · exact h _ _ _ _ _ q
  · exact q.elim
theorem mo_ll {f : Int64 → Int64} {n : Nat} : ma_mo (in_ll f n) := by
  intro V V' K ls st M L h q
  unfold in_ll at q ⊢
  split at q
  · exact h _ _ _ _ _ q
  · exact q.elim
theorem mo_dp2 {n : Nat} : ma_mo (in_dp2 n) := by
  intro V V' K ls st M L h q
  unfold in_dp2 at q ⊢
  split at q
  · exact h _ _ _ _ _ q
  · exact q.elim
theorem mo_dup {n : Nat} : ma_mo (in_dup n) := by
  intro V V' K ls st M L h q
  unfold in_dup at q ⊢
  split at q
  · exact h _ _ _ _ _ q
  · exact h _ _ _ _ _ q
  · exact q.elim
theorem mo_if1 {c : Int32 → Prop} {t n : Nat} : ma_mo (in_if1 c t n) := by
  intro V V' K ls st M L h q
  unfold in_if1 at q ⊢
  split at q
  · exact ⟨fun z => h _ _ _ _ _ (q.1 z), fun z => h _ _ _ _ _ (q.2 z)⟩
  · exact q.elim
theorem mo_if2 {c : Int32 → Int32 → Prop} {t n : Nat} : ma_mo (in_if2 c t n) := by
  intro V V' K ls st M L h q
  unfold in_if2 at q ⊢
  split at q
  · exact ⟨fun z => h _ _ _ _ _ (q.1 z), fun z => h _ _ _ _ _ (q.2 z)⟩
  · exact q.elim
theorem ma_sw_mono {G G' : Nat → Prop} {d : Nat} {x : Int32} (h : ∀ t, G t → G' t) : ∀ (ts : List Nat) (i : Nat), ma_sw G d x i ts → ma_sw G' d x i ts := by
  intro ts
  induction ts with
  | nil => intro i q; exact h _ q
  | cons t r ih => intro i q; exact ⟨fun z => h _ (q.1 z), fun z => ih (i + 1) (q.2 z)⟩
theorem mo_sw {ts : List Nat} {d : Nat} : ma_mo (in_sw ts d) := by
  intro V V' K ls st M L h q
  unfold in_sw at q ⊢
  split at q
  · exact ma_sw_mono (fun t z => h _ _ _ _ _ z) ts 0 q
  · exact q.elim
theorem mo_rv : ma_mo in_rv := by
  intro V V' K ls st M L h q
  unfold in_rv at q ⊢
  split at q
  · exact q
  · exact q.elim
theorem mo_ri : ma_mo in_ri := by
  intro V V' K ls st M L h q
  unfold in_ri at q ⊢
  split at q
  · exact q
  · exact q.elim
theorem mo_rz : ma_mo in_rz := by
  intro V V' K ls st M L h q
  unfold in_rz at q ⊢
  split at q
  · exact q
  · exact q.elim
theorem mo_rl : ma_mo in_rl := by
  intro V V' K ls st M L h q
  unfold in_rl at q ⊢
  split at q
  · exact q
  · exact q.elim
theorem mo_get {Y : Nat → ma_Ly} {ci j n : Nat} : ma_mo (in_get Y ci j n) := by
  intro V V' K ls st M L h q
  unfold in_get at q ⊢
  split at q
  · next k t =>
    try dsimp only at q ⊢
    generalize Y k = y at q ⊢
    obtain ⟨tg, ci0, nf, rf⟩ := y
    split at q
    · next c0 nf0 rf0 hq =>
      cases hq
      refine ⟨q.1, ?_⟩
      have q := q.2
      revert q
      cases rf j with
      | none => exact h _ _ _ _ _
      | some r => exact h _ _ _ _ _
    · exact q.elim
  · exact q.elim
theorem mo_put {Y : Nat → ma_Ly} {ci j n : Nat} : ma_mo (in_put Y ci j n) := by
  intro V V' K ls st M L h q
  unfold in_put at q ⊢
  split at q
  · next v k t =>
    try dsimp only at q ⊢
    generalize Y k = y at q ⊢
    obtain ⟨tg, ci0, nf, rf⟩ := y
    split at q
    · next hq => cases hq; exact ⟨q.1, q.2.1, h _ _ _ _ _ q.2.2⟩
    · exact q.elim
  · exact q.elim
theorem mo_puz {Y : Nat → ma_Ly} {ci j n : Nat} : ma_mo (in_puz Y ci j n) := by
  intro V V' K ls st M L h q
  unfold in_puz at q ⊢
  split at q
  · next v k t =>
    try dsimp only at q ⊢
    generalize Y k = y at q ⊢
    obtain ⟨tg, ci0, nf, rf⟩ := y
    split at q
    · next hq => cases hq; exact ⟨q.1, q.2.1, q.2.2.1, h _ _ _ _ _ q.2.2.2⟩
    · exact q.elim
  · exact q.elim
theorem mo_iar {Y : Nat → ma_Ly} {n : Nat} : ma_mo (in_iar Y n) := by
  intro V V' K ls st M L h q
  unfold in_iar at q ⊢
  split at q
  · next i k t =>
    try dsimp only at q ⊢
    generalize Y k = y at q ⊢
    obtain ⟨tg, ci0, nf, rf⟩ := y
    split at q
    · next hq => cases hq; exact ⟨q.1, h _ _ _ _ _ q.2⟩
    · exact q.elim
  · exact q.elim
theorem mo_bar {Y : Nat → ma_Ly} {n : Nat} : ma_mo (in_bar Y n) := by
  intro V V' K ls st M L h q
  unfold in_bar at q ⊢
  split at q
  · next i k t =>
    try dsimp only at q ⊢
    generalize Y k = y at q ⊢
    obtain ⟨tg, ci0, nf, rf⟩ := y
    split at q
    · next hq => cases hq; exact ⟨q.1, h _ _ _ _ _ q.2⟩
    · next hq => cases hq; exact ⟨q.1, h _ _ _ _ _ q.2⟩
    · exact q.elim
  · exact q.elim
theorem mo_lar {Y : Nat → ma_Ly} {n : Nat} : ma_mo (in_lar Y n) := by
  intro V V' K ls st M L h q
  unfold in_lar at q ⊢
  split at q
  · next i k t =>
    try dsimp only at q ⊢
    generalize Y k = y at q ⊢
    obtain ⟨tg, ci0, nf, rf⟩ := y
    split at q
    · next hq => cases hq; exact ⟨q.1, h _ _ _ _ _ q.2⟩
    · exact q.elim
  · exact q.elim
theorem mo_iaw {Y : Nat → ma_Ly} {n : Nat} : ma_mo (in_iaw Y n) := by
  intro V V' K ls st M L h q
  unfold in_iaw at q ⊢
  split at q
  · next x i k t =>
    try dsimp only at q ⊢
    generalize Y k = y at q ⊢
    obtain ⟨tg, ci0, nf, rf⟩ := y
    split at q
    · next hq => cases hq; exact ⟨q.1, h _ _ _ _ _ q.2⟩
    · exact q.elim
  · exact q.elim
theorem mo_law {Y : Nat → ma_Ly} {n : Nat} : ma_mo (in_law Y n) := by
  intro V V' K ls st M L h q
  unfold in_law at q ⊢
  split at q
  · next x i k t =>
    try dsimp only at q ⊢
    generalize Y k = y at q ⊢
    obtain ⟨tg, ci0, nf, rf⟩ := y
    split at q
    · next hq => cases hq; exact ⟨q.1, h _ _ _ _ _ q.2⟩
    · exact q.elim
  · exact q.elim
theorem mo_aar {Y : Nat → ma_Ly} {n : Nat} : ma_mo (in_aar Y n) := by
  intro V V' K ls st M L h q
  unfold in_aar at q ⊢
  split at q
  · next i k t =>
    try dsimp only at q ⊢
    generalize Y k = y at q ⊢
    obtain ⟨tg, ci0, nf, rf⟩ := y
    split at q
    · next hq =>
      cases hq
      refine ⟨q.1, ?_⟩
      have q := q.2
      revert q
      cases rf i.toNatClampNeg with
      | none => exact id
      | some r => exact h _ _ _ _ _
    · exact q.elim
  · exact q.elim
theorem mo_baw {Y : Nat → ma_Ly} {n : Nat} : ma_mo (in_baw Y n) := by
  intro V V' K ls st M L h q
  unfold in_baw at q ⊢
  split at q
  · next x i k t =>
    try dsimp only at q ⊢
    generalize Y k = y at q ⊢
    obtain ⟨tg, ci0, nf, rf⟩ := y
    split at q
    · next hq => cases hq; exact ⟨q.1, q.2.1, h _ _ _ _ _ q.2.2⟩
    · next hq => cases hq; exact ⟨q.1, h _ _ _ _ _ q.2⟩
    · exact q.elim
  · exact q.elim
theorem mo_len {Y : Nat → ma_Ly} {n : Nat} : ma_mo (in_len Y n) := by
  intro V V' K ls st M L h q
  unfold in_len at q ⊢
  split at q
  · exact ⟨q.1, h _ _ _ _ _ q.2⟩
  · exact q.elim
theorem mo_cpy {Y : Nat → ma_Ly} {n : Nat} : ma_mo (in_cpy Y n) := by
  intro V V' K ls st M L h q
  unfold in_cpy at q ⊢
  split at q
  · exact ⟨q.1, q.2.1, h _ _ _ _ _ q.2.2⟩
  · exact q.elim
theorem ma_bk_mono {V V' : ma_Pr} (h : ∀ pc ls st M L, V pc ls st M L → V' pc ls st M L) {n : Nat} {ls : ma_Ls} {r : List Value} (v : Option Value) (M : ZM) (L : ZL) (q : ma_bk V n ls r v M L) : ma_bk V' n ls r v M L := by
  cases v with
  | none => exact h _ _ _ _ _ q
  | some x => exact h _ _ _ _ _ q
theorem mo_s1 {S : ma_Cs} {n : Nat} (hS : ma_ms S) : ma_mo (in_s1 S n) := by
  intro V V' K ls st M L h q
  unfold in_s1 at q ⊢
  split at q
  · exact ⟨q.1, hS _ _ _ _ _ (ma_bk_mono h) q.2⟩
  · exact q.elim
theorem mo_s2 {S : ma_Cs} {n : Nat} (hS : ma_ms S) : ma_mo (in_s2 S n) := by
  intro V V' K ls st M L h q
  unfold in_s2 at q ⊢
  split at q
  · exact ⟨q.1, hS _ _ _ _ _ (ma_bk_mono h) q.2⟩
  · exact q.elim
theorem mo_s3 {S : ma_Cs} {n : Nat} (hS : ma_ms S) : ma_mo (in_s3 S n) := by
  intro V V' K ls st M L h q
  unfold in_s3 at q ⊢
  split at q
  · exact ⟨q.1, hS _ _ _ _ _ (ma_bk_mono h) q.2⟩
  · exact q.elim
theorem mo_v1 {Y : Nat → ma_Ly} {ci : Nat} {S : ma_Cs} {n : Nat} (hS : ma_ms S) : ma_mo (in_v1 Y ci S n) := by
  intro V V' K ls st M L h q
  unfold in_v1 at q ⊢
  split at q
  · exact ⟨q.1, q.2.1, hS _ _ _ _ _ (ma_bk_mono h) q.2.2⟩
  · exact q.elim
theorem mo_v2 {Y : Nat → ma_Ly} {ci : Nat} {S : ma_Cs} {n : Nat} (hS : ma_ms S) : ma_mo (in_v2 Y ci S n) := by
  intro V V' K ls st M L h q
  unfold in_v2 at q ⊢
  split at q
  · exact ⟨q.1, q.2.1, hS _ _ _ _ _ (ma_bk_mono h) q.2.2⟩
  · exact q.elim
theorem mo_v3 {Y : Nat → ma_Ly} {ci : Nat} {S : ma_Cs} {n : Nat} (hS : ma_ms S) : ma_mo (in_v3 Y ci S n) := by
  intro V V' K ls st M L h q
  unfold in_v3 at q ⊢
  split at q
  · exact ⟨q.1, q.2.1, hS _ _ _ _ _ (ma_bk_mono h) q.2.2⟩
  · exact q.elim
theorem mo_v4 {Y : Nat → ma_Ly} {ci : Nat} {S : ma_Cs} {n : Nat} (hS : ma_ms S) : ma_mo (in_v4 Y ci S n) := by
  intro V V' K ls st M L h q
  unfold in_v4 at q ⊢
  split at q
  · exact ⟨q.1, q.2.1, hS _ _ _ _ _ (ma_bk_mono h) q.2.2⟩
  · exact q.elim
theorem mo_v5 {Y : Nat → ma_Ly} {ci : Nat} {S : ma_Cs} {n : Nat} (hS : ma_ms S) : ma_mo (in_v5 Y ci S n) := by
  intro V V' K ls st M L h q
  unfold in_v5 at q ⊢
  split at q
  · exact ⟨q.1, q.2.1, hS _ _ _ _ _ (ma_bk_mono h) q.2.2⟩
  · exact q.elim
theorem mo_v6 {Y : Nat → ma_Ly} {ci : Nat} {S : ma_Cs} {n : Nat} (hS : ma_ms S) : ma_mo (in_v6 Y ci S n) := by
  intro V V' K ls st M L h q
  unfold in_v6 at q ⊢
  split at q
  · exact ⟨q.1, q.2.1, hS _ _ _ _ _ (ma_bk_mono h) q.2.2⟩
  · exact q.elim
/-- a walk, ended at the places of cut: the least predicate that the table closes, with V at the places of cut -/
def ma_fx (tb : Nat → ma_In) (cut : List Nat) (V : ma_Pr) (K : ma_Kt) : ma_Pr := fun pc ls st M L => ∀ U : ma_Pr, (∀ pc ls st M L, (if pc ∈ cut then V pc ls st M L else tb pc U K ls st M L) → U pc ls st M L) → U pc ls st M L
theorem ma_fx_in {tb : Nat → ma_In} (hm : ∀ pc, ma_mo (tb pc)) {cut : List Nat} {V : ma_Pr} {K : ma_Kt} {pc : Nat} {ls : ma_Ls} {st : List Value} {M : ZM} {L : ZL} (h : if pc ∈ cut then V pc ls st M L else tb pc (ma_fx tb cut V K) K ls st M L) : ma_fx tb cut V K pc ls st M L := by
  intro U hU
  refine hU _ _ _ _ _ ?_
  split at h
  · next q => rw [if_pos q]; exact h
  · next q => rw [if_neg q]; exact hm pc _ _ _ _ _ _ _ (fun pc ls st M L z => z U hU) h
theorem ma_fx_eq {tb : Nat → ma_In} (hm : ∀ pc, ma_mo (tb pc)) {cut : List Nat} {V : ma_Pr} {K : ma_Kt} {pc : Nat} {ls : ma_Ls} {st : List Value} {M : ZM} {L : ZL} : ma_fx tb cut V K pc ls st M L = if pc ∈ cut then V pc ls st M L else tb pc (ma_fx tb cut V K) K ls st M L := by
  refine propext ⟨fun h => ?_, ma_fx_in hm⟩
  refine h (fun pc ls st M L => if pc ∈ cut then V pc ls st M L else tb pc (ma_fx tb cut V K) K ls st M L) (fun pc ls st M L q => ?_)
  split at q
  · next z => rw [if_pos z]; exact q
  · next z => rw [if_neg z]; exact hm pc _ _ _ _ _ _ _ (fun pc ls st M L z => ma_fx_in hm z) q
theorem ma_fx_ok {tb : Nat → ma_In} {V : ma_Pr} {K : ma_Kt} (hV : ma_cl tb K V) {cut : List Nat} {pc : Nat} {ls : ma_Ls} {st : List Value} {M : ZM} {L : ZL} (h : ma_fx tb cut V K pc ls st M L) : V pc ls st M L := by
  refine h V (fun pc ls st M L q => ?_)
  split at q
  · exact q
  · exact hV _ _ _ _ _ q
/-- from a place on, up to the places of cut -/
theorem ma_go {tb : Nat → ma_In} {V : ma_Pr} {K : ma_Kt} (hm : ∀ pc, ma_mo (tb pc)) (hV : ma_cl tb K V) (cut : List Nat) {pc : Nat} {ls : ma_Ls} {st : List Value} {M : ZM} {L : ZL} (h : tb pc (ma_fx tb cut V K) K ls st M L) : V pc ls st M L := hV _ _ _ _ _ (hm pc _ _ _ _ _ _ _ (fun _ _ _ _ _ z => ma_fx_ok hV z) h)
