/-! THE PLAIN MACHINE: a method's body as a table of predicate transformers over plain memory (cell, place -> number), references by the cell's number -/
set_option maxRecDepth 100000
abbrev ZM : Type := Nat → Nat → Int32
abbrev ZL : Type := Nat → Nat → Int64
abbrev ma_Ls : Type := List (Option Value)
abbrev ma_Pr : Type := Nat → ma_Ls → List Value → ZM → ZL → Prop
abbrev ma_Kt : Type := Option Value → ZM → ZL → Prop
abbrev ma_In : Type := ma_Pr → ma_Kt → ma_Ls → List Value → ZM → ZL → Prop
abbrev ma_Cs : Type := List Value → ZM → ZL → ma_Kt → Prop
/-- a cell: kind (0 object, 1 int[], 2 boolean[], 3 byte[], 4 long[], 5 references), class number or length, number of fields, what the reference fields hold -/
abbrev ma_Ly : Type := Nat × Nat × Nat × (Nat → Option Nat)
def ma_gl : ma_Ls → Nat → Option Value
  | [], _ => none
  | x :: _, 0 => x
  | _ :: t, n + 1 => ma_gl t n
def ma_sl : ma_Ls → Nat → Option Value → ma_Ls
  | [], _, _ => []
  | _ :: t, 0, v => v :: t
  | x :: t, n + 1, v => x :: ma_sl t n v
def ma_nl (o : Option Value) : Prop := match o with
  | some (.long _) => False
  | some (.double _) => False
  | _ => True
def ma_wc (v : Value) : Nat := match v with
  | .int _ => 1
  | .long _ => 2
  | .float _ => 1
  | .double _ => 2
  | .null => 1
  | .ref _ => 1
  | .retAddr _ => 1
def ma_wd : List Value → Nat
  | [] => 0
  | v :: t => ma_wc v + ma_wd t
def ma_nn : Nat → ma_Ls
  | 0 => []
  | n + 1 => none :: ma_nn n
def ma_en : Nat → List Value → ma_Ls
  | n, [] => ma_nn n
  | n, v :: t => if ma_wc v = 2 then some v :: none :: ma_en (n - 2) t else some v :: ma_en (n - 1) t
def ma_up (M : ZM) (k j : Nat) (v : Int32) : ZM := fun a b => if a = k ∧ b = j then v else M a b
def ma_uL (M : ZL) (k j : Nat) (v : Int64) : ZL := fun a b => if a = k ∧ b = j then v else M a b
def ma_cp (M : ZM) (a b sp dp n : Nat) : ZM := fun k j => if k = b ∧ dp ≤ j ∧ j < dp + n then M a (sp + (j - dp)) else M k j
theorem ma_gl_sl (ls : ma_Ls) : ∀ (i k : Nat) (o : Option Value) (v : Value), ma_gl (ma_sl ls i o) k = some v → (k = i ∧ o = some v) ∨ (k ≠ i ∧ ma_gl ls k = some v) := by
  induction ls with
  | nil => intro i k o v h; simp [ma_sl, ma_gl] at h
  | cons x t ih =>
    intro i k o v h
    cases i with
    | zero =>
      cases k with
      | zero => exact Or.inl ⟨rfl, h⟩
      | succ k => exact Or.inr ⟨by omega, h⟩
    | succ i =>
      cases k with
      | zero => exact Or.inr ⟨by omega, h⟩
      | succ k =>
        rcases ih i k o v h with ⟨h1, h2⟩ | ⟨h1, h2⟩
        · exact Or.inl ⟨by omega, h2⟩
        · exact Or.inr ⟨by omega, h2⟩
theorem ma_wc_cat (v : Value) : ma_wc v = v.category := by cases v <;> rfl
/-! instructions -/
def in_no : ma_In := fun _ _ _ _ _ _ => False
def in_push (v : Value) (n : Nat) : ma_In := fun F _ ls st M L => F n ls (v :: st) M L
def in_ild (k n : Nat) : ma_In := fun F _ ls st M L => match ma_gl ls k with
  | some (.int x) => F n ls (.int x :: st) M L
  | _ => False
def in_lld (k n : Nat) : ma_In := fun F _ ls st M L => match ma_gl ls k with
  | some (.long x) => F n ls (.long x :: st) M L
  | _ => False
def in_ald (k n : Nat) : ma_In := fun F _ ls st M L => match ma_gl ls k with
  | some (.ref x) => F n ls (.ref x :: st) M L
  | _ => False
def in_ist (k n : Nat) : ma_In := fun F _ ls st M L => match st with
  | .int x :: st => ma_nl (ma_gl ls (k - 1)) ∧ F n (ma_sl ls k (some (.int x))) st M L
  | _ => False
def in_ast (k n : Nat) : ma_In := fun F _ ls st M L => match st with
  | .ref x :: st => ma_nl (ma_gl ls (k - 1)) ∧ F n (ma_sl ls k (some (.ref x))) st M L
  | _ => False
def in_lst (k n : Nat) : ma_In := fun F _ ls st M L => match st with
  | .long x :: st => ma_nl (ma_gl ls (k - 1)) ∧ F n (ma_sl (ma_sl ls k (some (.long x))) (k + 1) none) st M L
  | _ => False
def in_inc (k : Nat) (v : Int32) (n : Nat) : ma_In := fun F _ ls st M L => match ma_gl ls k with
  | some (.int x) => ma_nl (ma_gl ls (k - 1)) ∧ F n (ma_sl ls k (some (.int (x + v)))) st M L
  | _ => False
def in_iii (f : Int32 → Int32 → Int32) (n : Nat) : ma_In := fun F _ ls st M L => match st with
  | .int y :: .int x :: st => F n ls (.int (f x y) :: st) M L
  | _ => False
def in_idv (f : Int32 → Int32 → Int32) (n : Nat) : ma_In := fun F _ ls st M L => match st with
  | .int y :: .int x :: st => ¬ y = 0 ∧ F n ls (.int (f x y) :: st) M L
  | _ => False
def in_ldv (f : Int64 → Int64 → Int64) (n : Nat) : ma_In := fun F _ ls st M L => match st with
  | .long y :: .long x :: st => ¬ y = 0 ∧ F n ls (.long (f x y) :: st) M L
  | _ => False
def in_lll (f : Int64 → Int64 → Int64) (n : Nat) : ma_In := fun F _ ls st M L => match st with
  | .long y :: .long x :: st => F n ls (.long (f x y) :: st) M L
  | _ => False
def in_lli (f : Int64 → Int64 → Int32) (n : Nat) : ma_In := fun F _ ls st M L => match st with
  | .long y :: .long x :: st => F n ls (.int (f x y) :: st) M L
  | _ => False
def in_lil (f : Int64 → Int32 → Int64) (n : Nat) : ma_In := fun F _ ls st M L => match st with
  | .int y :: .long x :: st => F n ls (.long (f x y) :: st) M L
  | _ => False
def in_ii (f : Int32 → Int32) (n : Nat) : ma_In := fun F _ ls st M L => match st with
  | .int x :: st => F n ls (.int (f x) :: st) M L
  | _ => False
def in_il (f : Int32 → Int64) (n : Nat) : ma_In := fun F _ ls st M L => match st with
  | .int x :: st => F n ls (.long (f x) :: st) M L
  | _ => False
def in_li (f : Int64 → Int32) (n : Nat) : ma_In := fun F _ ls st M L => match st with
  | .long x :: st => F n ls (.int (f x) :: st) M L
  | _ => False
def in_ll (f : Int64 → Int64) (n : Nat) : ma_In := fun F _ ls st M L => match st with
  | .long x :: st => F n ls (.long (f x) :: st) M L
  | _ => False
def in_dup (n : Nat) : ma_In := fun F _ ls st M L => match st with
  | .int x :: st => F n ls (.int x :: .int x :: st) M L
  | .ref x :: st => F n ls (.ref x :: .ref x :: st) M L
  | _ => False
/-- dup2 of an index above a reference -/
def in_dp2 (n : Nat) : ma_In := fun F _ ls st M L => match st with
  | .int y :: .ref x :: st => F n ls (.int y :: .ref x :: .int y :: .ref x :: st) M L
  | _ => False
def in_if1 (c : Int32 → Prop) (t n : Nat) : ma_In := fun F _ ls st M L => match st with
  | .int x :: st => (c x → F t ls st M L) ∧ (¬ c x → F n ls st M L)
  | _ => False
def in_if2 (c : Int32 → Int32 → Prop) (t n : Nat) : ma_In := fun F _ ls st M L => match st with
  | .int y :: .int x :: st => (c x y → F t ls st M L) ∧ (¬ c x y → F n ls st M L)
  | _ => False
def in_go (t : Nat) : ma_In := fun F _ ls st M L => F t ls st M L
def ma_sw (G : Nat → Prop) (d : Nat) (x : Int32) : Nat → List Nat → Prop
  | _, [] => G d
  | i, t :: r => (x = Int32.ofNat i → G t) ∧ (¬ x = Int32.ofNat i → ma_sw G d x (i + 1) r)
def in_sw (ts : List Nat) (d : Nat) : ma_In := fun F _ ls st M L => match st with
  | .int x :: st => ma_sw (fun t => F t ls st M L) d x 0 ts
  | _ => False
def in_rv : ma_In := fun _ K _ st M L => match st with
  | [] => K none M L
  | _ => False
def in_ri : ma_In := fun _ K _ st M L => match st with
  | [.int x] => K (some (.int x)) M L
  | _ => False
def in_rz : ma_In := fun _ K _ st M L => match st with
  | [.int x] => (x = 0 ∨ x = 1) ∧ K (some (.int x)) M L
  | _ => False
def in_rl : ma_In := fun _ K _ st M L => match st with
  | [.long x] => K (some (.long x)) M L
  | _ => False
/-- an object of class ci at cell k: its field j -/
def in_get (Y : Nat → ma_Ly) (ci j n : Nat) : ma_In := fun F _ ls st M L => match st with
  | .ref k :: st => (match Y k with
    | (0, c, _, rf) => c = ci ∧ (match rf j with
      | none => F n ls (.int (M k j) :: st) M L
      | some r => F n ls (.ref r :: st) M L)
    | _ => False)
  | _ => False
def in_put (Y : Nat → ma_Ly) (ci j n : Nat) : ma_In := fun F _ ls st M L => match st with
  | .int v :: .ref k :: st => (match Y k with
    | (0, c, _, rf) => c = ci ∧ rf j = none ∧ F n ls st (ma_up M k j v) L
    | _ => False)
  | _ => False
def in_puz (Y : Nat → ma_Ly) (ci j n : Nat) : ma_In := fun F _ ls st M L => match st with
  | .int v :: .ref k :: st => (match Y k with
    | (0, c, _, rf) => c = ci ∧ rf j = none ∧ (v = 0 ∨ v = 1) ∧ F n ls st (ma_up M k j v) L
    | _ => False)
  | _ => False
def in_iar (Y : Nat → ma_Ly) (n : Nat) : ma_In := fun F _ ls st M L => match st with
  | .int i :: .ref k :: st => (match Y k with
    | (1, len, _, _) => vp_in i len ∧ F n ls (.int (M k i.toNatClampNeg) :: st) M L
    | _ => False)
  | _ => False
def in_bar (Y : Nat → ma_Ly) (n : Nat) : ma_In := fun F _ ls st M L => match st with
  | .int i :: .ref k :: st => (match Y k with
    | (2, len, _, _) => vp_in i len ∧ F n ls (.int (M k i.toNatClampNeg) :: st) M L
    | (3, len, _, _) => vp_in i len ∧ F n ls (.int (M k i.toNatClampNeg) :: st) M L
    | _ => False)
  | _ => False
def in_lar (Y : Nat → ma_Ly) (n : Nat) : ma_In := fun F _ ls st M L => match st with
  | .int i :: .ref k :: st => (match Y k with
    | (4, len, _, _) => vp_in i len ∧ F n ls (.long (L k i.toNatClampNeg) :: st) M L
    | _ => False)
  | _ => False
def in_aar (Y : Nat → ma_Ly) (n : Nat) : ma_In := fun F _ ls st M L => match st with
  | .int i :: .ref k :: st => (match Y k with
    | (5, len, _, rf) => vp_in i len ∧ (match rf i.toNatClampNeg with
      | some r => F n ls (.ref r :: st) M L
      | none => False)
    | _ => False)
  | _ => False
def in_iaw (Y : Nat → ma_Ly) (n : Nat) : ma_In := fun F _ ls st M L => match st with
  | .int x :: .int i :: .ref k :: st => (match Y k with
    | (1, len, _, _) => vp_in i len ∧ F n ls st (ma_up M k i.toNatClampNeg x) L
    | _ => False)
  | _ => False
def in_baw (Y : Nat → ma_Ly) (n : Nat) : ma_In := fun F _ ls st M L => match st with
  | .int x :: .int i :: .ref k :: st => (match Y k with
    | (2, len, _, _) => vp_in i len ∧ (x = 0 ∨ x = 1) ∧ F n ls st (ma_up M k i.toNatClampNeg x) L
    | (3, len, _, _) => vp_in i len ∧ F n ls st (ma_up M k i.toNatClampNeg x.toInt8.toInt32) L
    | _ => False)
  | _ => False
def in_law (Y : Nat → ma_Ly) (n : Nat) : ma_In := fun F _ ls st M L => match st with
  | .long x :: .int i :: .ref k :: st => (match Y k with
    | (4, len, _, _) => vp_in i len ∧ F n ls st M (ma_uL L k i.toNatClampNeg x)
    | _ => False)
  | _ => False
def in_len (Y : Nat → ma_Ly) (n : Nat) : ma_In := fun F _ ls st M L => match st with
  | .ref k :: st => (1 ≤ (Y k).1 ∧ (Y k).1 ≤ 5) ∧ F n ls (.int (Int32.ofNat (Y k).2.1) :: st) M L
  | _ => False
/-- System.arraycopy between int arrays, or between boolean arrays -/
def in_cpy (Y : Nat → ma_Ly) (n : Nat) : ma_In := fun F _ ls st M L => match st with
  | .int c :: .int dp :: .ref b :: .int sp :: .ref a :: st => (ma_wd st ≤ 8 ∧ ¬ sp < 0 ∧ ¬ dp < 0 ∧ ¬ c < 0 ∧ sp.toNatClampNeg + c.toNatClampNeg ≤ (Y a).2.1 ∧ dp.toNatClampNeg + c.toNatClampNeg ≤ (Y b).2.1) ∧
      (((Y a).1 = 1 ∧ (Y b).1 = 1) ∨ ((Y a).1 = 2 ∧ (Y b).1 = 2 ∧ ∀ i, i < c.toNatClampNeg → M a (sp.toNatClampNeg + i) = 0 ∨ M a (sp.toNatClampNeg + i) = 1)) ∧
      F n ls st (ma_cp M a b sp.toNatClampNeg dp.toNatClampNeg c.toNatClampNeg) L
  | _ => False
/-! calls: by how many values they take; in_v: through an object of class ci -/
def ma_bk (F : ma_Pr) (n : Nat) (ls : ma_Ls) (r : List Value) : ma_Kt := fun v M L => match v with
  | some x => F n ls (x :: r) M L
  | none => F n ls r M L
def in_s1 (S : ma_Cs) (n : Nat) : ma_In := fun F _ ls st M L => match st with
  | a :: r => ma_wd r ≤ 8 ∧ S [a] M L (ma_bk F n ls r)
  | _ => False
def in_s2 (S : ma_Cs) (n : Nat) : ma_In := fun F _ ls st M L => match st with
  | b :: a :: r => ma_wd r ≤ 8 ∧ S [a, b] M L (ma_bk F n ls r)
  | _ => False
def in_s3 (S : ma_Cs) (n : Nat) : ma_In := fun F _ ls st M L => match st with
  | c :: b :: a :: r => ma_wd r ≤ 8 ∧ S [a, b, c] M L (ma_bk F n ls r)
  | _ => False
def in_v1 (Y : Nat → ma_Ly) (ci : Nat) (S : ma_Cs) (n : Nat) : ma_In := fun F _ ls st M L => match st with
  | .ref k :: r => ((Y k).1 = 0 ∧ (Y k).2.1 = ci) ∧ ma_wd r ≤ 8 ∧ S [.ref k] M L (ma_bk F n ls r)
  | _ => False
def in_v2 (Y : Nat → ma_Ly) (ci : Nat) (S : ma_Cs) (n : Nat) : ma_In := fun F _ ls st M L => match st with
  | a :: .ref k :: r => ((Y k).1 = 0 ∧ (Y k).2.1 = ci) ∧ ma_wd r ≤ 8 ∧ S [.ref k, a] M L (ma_bk F n ls r)
  | _ => False
def in_v3 (Y : Nat → ma_Ly) (ci : Nat) (S : ma_Cs) (n : Nat) : ma_In := fun F _ ls st M L => match st with
  | b :: a :: .ref k :: r => ((Y k).1 = 0 ∧ (Y k).2.1 = ci) ∧ ma_wd r ≤ 8 ∧ S [.ref k, a, b] M L (ma_bk F n ls r)
  | _ => False
def in_v4 (Y : Nat → ma_Ly) (ci : Nat) (S : ma_Cs) (n : Nat) : ma_In := fun F _ ls st M L => match st with
  | c :: b :: a :: .ref k :: r => ((Y k).1 = 0 ∧ (Y k).2.1 = ci) ∧ ma_wd r ≤ 8 ∧ S [.ref k, a, b, c] M L (ma_bk F n ls r)
  | _ => False
def in_v5 (Y : Nat → ma_Ly) (ci : Nat) (S : ma_Cs) (n : Nat) : ma_In := fun F _ ls st M L => match st with
  | d :: c :: b :: a :: .ref k :: r => ((Y k).1 = 0 ∧ (Y k).2.1 = ci) ∧ ma_wd r ≤ 8 ∧ S [.ref k, a, b, c, d] M L (ma_bk F n ls r)
  | _ => False
def in_v6 (Y : Nat → ma_Ly) (ci : Nat) (S : ma_Cs) (n : Nat) : ma_In := fun F _ ls st M L => match st with
  | e :: d :: c :: b :: a :: .ref k :: r => ((Y k).1 = 0 ∧ (Y k).2.1 = ci) ∧ ma_wd r ≤ 8 ∧ S [.ref k, a, b, c, d, e] M L (ma_bk F n ls r)
  | _ => False
/-! what a method means: the least predicate that its table closes -/
def ma_cl (tb : Nat → ma_In) (K : ma_Kt) (V : ma_Pr) : Prop := ∀ pc ls st M L, tb pc V K ls st M L → V pc ls st M L
def ma_rn (tb : Nat → ma_In) (nL : Nat) : ma_Cs := fun as M L K => ma_wd as ≤ nL ∧ ∀ V : ma_Pr, ma_cl tb K V → V 0 (ma_en nL as) [] M L
