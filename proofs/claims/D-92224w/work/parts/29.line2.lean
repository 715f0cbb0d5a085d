/-! a line of the text, the whole text: the component's reader -/
set_option maxRecDepth 100000
set_option maxHeartbeats 4000000
/-- a line: letter, where its terms begin, how many, divisor, whether nearest -/
abbrev Ln : Type := Nat × Nat × Nat × Nat × Nat
def trs (g : Nat → Nat) (ds : List Nat) : Nat → Nat → List Tm → Except Nat (Nat × List Tm)
  | 0, p, ts => .ok (p, ts)
  | f + 1, p, ts => if g p = 43 ∨ g p = 45 then (match tr g ds p with
    | .error e => .error e
    | .ok (q, tm) => trs g ds f q (ts ++ [tm])) else .ok (p, ts)
def ln3 (g : Nat → Nat) (q b : Nat) : Except Nat (Nat × Nat × Nat) :=
  if g q = 126 then (if g (q + 1) = 59 then .ok (q + 2, b, 1) else .error (q + 1)) else (if g q = 59 then .ok (q + 1, b, 0) else .error q)
def ln2 (g : Nat → Nat) (q : Nat) : Except Nat (Nat × Nat × Nat) :=
  if g q = 47 then (if (48 ≤ g (q + 1) ∧ g (q + 1) ≤ 57) ∧ ¬ g (q + 1) = 48 ∧ (nu g 200 (q + 1) 0).2 ≤ 1000 then ln3 g (nu g 200 (q + 1) 0).1 (nu g 200 (q + 1) 0).2 else .error (q + 1)) else ln3 g q 1
def ln1 (g : Nat → Nat) (ds : List Nat) (ts : List Tm) (p : Nat) : Except Nat (Nat × List Tm) := match tr g ds p with
  | .error e => .error e
  | .ok (q, tm) => trs g ds 200 q (ts ++ [tm])
def lnE (l a : Nat) (x : Nat × List Tm) : Except Nat (Nat × Nat × Nat) → Except Nat (Nat × List Tm × Ln)
  | .error e => .error e
  | .ok (r, b, nr) => .ok (r, x.2, (l, a, x.2.length - a, b, nr))
def lnD (g : Nat → Nat) (l a : Nat) : Except Nat (Nat × List Tm) → Except Nat (Nat × List Tm × Ln)
  | .error e => .error e
  | .ok x => lnE l a x (ln2 g x.1)
def ln (g : Nat → Nat) (ds : List Nat) (ts : List Tm) (p : Nat) : Except Nat (Nat × List Tm × Ln) :=
  if (97 ≤ g p ∧ g p ≤ 100) ∧ ¬ (g p - 97) ∈ ds then (if g (p + 1) = 61 then lnD g (g p - 97) ts.length (ln1 g ds ts (p + 2)) else .error (p + 1)) else .error p
def alr (g : Nat → Nat) (n : Nat) : Nat → Nat → List Tm → List Ln → Except Nat (List Tm × List Ln)
  | 0, _, ts, ls => .ok (ts, ls)
  | f + 1, p, ts, ls => if p < n then (match ln g (ls.map (·.1)) ts p with
    | .error e => .error e
    | .ok (q, ts', r) => alr g n f q ts' (ls ++ [r])) else .ok (ts, ls)
theorem tr2_le {g : Nat → Nat} {n : Nat} (h7 : ∀ i, n ≤ i → g i = 0) {ds : List Nat} {p q : Nat} {f : Int32} {tm : Tm} (h : tr2 g ds p f = .ok (q, tm)) : p < q ∧ q ≤ n := by
  unfold tr2 at h
  split at h
  · cases h
  · next r c e =>
    have h1 := nm_le h7 e
    split at h
    · split at h
      · cases h
      · next r2 d e2 =>
        have h2 := nm_le h7 e2
        cases h; omega
    · cases h; omega
theorem tr1_le {g : Nat → Nat} {n : Nat} (h7 : ∀ i, n ≤ i → g i = 0) {ds : List Nat} {p q : Nat} {f : Int32} {tm : Tm} (hp : p ≤ n) (h : tr1 g ds p f = .ok (q, tm)) : p < q ∧ q ≤ n := by
  unfold tr1 at h
  have h0 := nu_le h7 200 p 0 hp
  split at h
  · split at h
    · have := tr2_le h7 h; omega
    · cases h
  · exact tr2_le h7 h
theorem tr_le {g : Nat → Nat} {n : Nat} (h7 : ∀ i, n ≤ i → g i = 0) {ds : List Nat} {p q : Nat} {tm : Tm} (hp : p ≤ n) (h : tr g ds p = .ok (q, tm)) : p < q ∧ q ≤ n ∧ (g p = 43 ∨ g p = 45 → p + 2 ≤ q) := by
  have pos : ∀ i, g i ≠ 0 → i < n := fun i hi => Nat.lt_of_not_le fun e => hi (h7 i e)
  unfold tr at h
  split at h
  · next c =>
    have := pos p (by omega)
    have := tr1_le h7 (by omega) h; omega
  · split at h
    · next c =>
      have := pos p (by omega)
      have := tr1_le h7 (by omega) h; omega
    · have := tr1_le h7 hp h; omega
theorem gd_1 {α : Type} {l : List α} {x d : α} {i : Nat} (h : i < l.length) : (l ++ [x]).getD i d = l.getD i d := by
  rw [gd h, gd (by rw [List.length_append]; exact Nat.lt_of_lt_of_le h (Nat.le_add_right _ _)), List.getElem_append_left h]
theorem gd_2 {α : Type} {l : List α} {x d : α} : (l ++ [x]).getD l.length d = x := by
  rw [List.getD_eq_getElem?_getD, List.getElem?_append_right (Nat.le_refl _), Nat.sub_self]; rfl
theorem len_1 {α : Type} {l : List α} {x : α} : (l ++ [x]).length = l.length + 1 := by rw [List.length_append]; rfl
/-- terms as a plan at cell p holds them; a plan as it holds it -/
def TE (M : ZM) (p : Nat) (ts : List Tm) : Prop := ∀ t, t < ts.length → M (p + 5) t = (ts.getD t (0, 0, none)).1 ∧ M (p + 6) t = nI (ex (ts.getD t (0, 0, none)).2.1) ∧ M (p + 7) t = s2 (ts.getD t (0, 0, none)).2.2
def LE (M : ZM) (p : Nat) (ls : List Ln) : Prop := ∀ i, i < ls.length → M (p + 1) i = nI (ls.getD i (0, 0, 0, 0, 0)).1 ∧ M (p + 2) i = nI (ls.getD i (0, 0, 0, 0, 0)).2.1 ∧ M (p + 2) (i + 1) = nI ((ls.getD i (0, 0, 0, 0, 0)).2.1 + (ls.getD i (0, 0, 0, 0, 0)).2.2.1) ∧ M (p + 3) i = nI (ls.getD i (0, 0, 0, 0, 0)).2.2.2.1 ∧ M (p + 4) i = nI (ls.getD i (0, 0, 0, 0, 0)).2.2.2.2
def PX (M : ZM) (p : Nat) (ts : List Tm) (ls : List Ln) : Prop := M p 0 = nI ls.length ∧ M p 5 = nI ts.length ∧ LE M p ls ∧ TE M p ts
theorem TE.add {M M' : ZM} {p : Nat} {ts : List Tm} {tm : Tm} (h : TE M p ts) (h5 : M' (p + 5) = upd (M (p + 5)) ts.length tm.1) (h6 : M' (p + 6) = upd (M (p + 6)) ts.length (nI (ex tm.2.1))) (h7 : M' (p + 7) = upd (M (p + 7)) ts.length (s2 tm.2.2)) : TE M' p (ts ++ [tm]) := by
  intro t ht
  rw [len_1] at ht
  rw [h5, h6, h7]
  by_cases e : t = ts.length
  · subst e; rw [gd_2]; exact ⟨pk_us, pk_us, pk_us⟩
  · rw [gd_1 (by omega), pk_un e, pk_un e, pk_un e]; exact h t (by omega)
theorem TE.same {M M' : ZM} {p : Nat} {ts : List Tm} (h : TE M p ts) (h5 : M' (p + 5) = M (p + 5)) (h6 : M' (p + 6) = M (p + 6)) (h7 : M' (p + 7) = M (p + 7)) : TE M' p ts := by
  unfold TE; rw [h5, h6, h7]; exact h
theorem nd_le : ∀ (m : Nat) (l : List Nat), l.Nodup → (∀ x, x ∈ l → x < m) → l.length ≤ m
  | 0, [], _, _ => Nat.le_refl 0
  | 0, x :: l, _, h => absurd (h x (List.mem_cons_self)) (Nat.not_lt_zero x)
  | m + 1, l, hn, h => by
    by_cases e : m ∈ l
    · have q := nd_le m (l.erase m) (hn.erase m) (fun x hx => by
        have := (hn.mem_erase_iff).1 hx
        have := h x this.2; omega)
      rw [List.length_erase_of_mem e] at q; omega
    · have q := nd_le m l hn (fun x hx => by
        have := h x hx
        have e2 : x ≠ m := fun z => e (z ▸ hx)
        omega)
      omega
theorem PX.Dl {M : ZM} {ts : List Tm} {ls : List Ln} (h : PX M 3 ts ls) (hN : (ls.map (·.1)).Nodup) (h4 : ∀ x, x ∈ ls.map (·.1) → x < 4) : Dl M (ls.map (·.1)) := by
  have hl := nd_le 4 _ hN h4
  refine ⟨by rw [h.1, List.length_map], hl, fun i hi => ?_⟩
  rw [List.length_map] at hi
  have e : (ls.map (·.1)).getD i 0 = (ls.getD i (0, 0, 0, 0, 0)).1 := by
    rw [gd (by rw [List.length_map]; exact hi), gd hi, List.getElem_map]
  rw [e]
  refine ⟨(h.2.2.1 i hi).1, ?_⟩
  rw [← e, gd (by rw [List.length_map]; exact hi)]
  exact h4 _ (List.getElem_mem _)
/-- the cells of the reader and the draft alone change -/
def Df (M M' : ZM) : Prop := ∀ a, a < 2 ∨ 10 < a → M' a = M a
theorem ud_2 {f : Nat → Int32} {k : Nat} {x y : Int32} : upd (upd f k x) k y = upd f k y := by
  funext j; simp only [upd]; split <;> rfl
def BF (f : Nat → Int32) : Prop := ∀ i, i < 4 → f i = 0 ∨ f i = 1
theorem BF.u {f : Nat → Int32} {k : Nat} {v : Int32} (h : BF f) (hv : v = 0 ∨ v = 1) : BF (upd f k v) := by
  intro i hi
  by_cases e : i = k
  · rw [e, pk_us]; exact hv
  · rw [pk_un e]; exact h i hi
theorem PX.add {M M' : ZM} {ts ts1 : List Tm} {ls : List Ln} {r : Ln} (h : PX M 3 ts ls) (hC : ∀ i, i + 1 = ls.length → (ls.getD i (0, 0, 0, 0, 0)).2.1 + (ls.getD i (0, 0, 0, 0, 0)).2.2.1 = ts.length) (hr : r.2.1 = ts.length) (e1 : M' 3 0 = nI (ls.length + 1)) (e2 : M' 3 5 = nI ts1.length) (e4 : M' 4 = upd (M 4) ls.length (nI r.1)) (e5 : M' 5 = upd (upd (M 5) ls.length (nI ts.length)) (ls.length + 1) (nI (r.2.1 + r.2.2.1))) (e6 : M' 6 = upd (M 6) ls.length (nI r.2.2.2.1)) (e7 : M' 7 = upd (M 7) ls.length (nI r.2.2.2.2)) (hT : TE M' 3 ts1) : PX M' 3 ts1 (ls ++ [r]) := by
  refine ⟨by rw [len_1]; exact e1, e2, fun i hi => ?_, hT⟩
  rw [len_1] at hi
  show M' 4 i = _ ∧ M' 5 i = _ ∧ M' 5 (i + 1) = _ ∧ M' 6 i = _ ∧ M' 7 i = _
  rw [e4, e5, e6, e7]
  by_cases c : i = ls.length
  · subst c
    rw [gd_2]
    exact ⟨pk_us, by rw [pk_un (by omega), pk_us, hr], pk_us, pk_us, pk_us⟩
  · have hi : i < ls.length := by omega
    rw [gd_1 hi, pk_un c, pk_un c, pk_un c, pk_un (by omega), pk_un c, pk_un (by omega)]
    have q := h.2.2.1 i hi
    refine ⟨q.1, q.2.1, ?_, q.2.2.2.1, q.2.2.2.2⟩
    by_cases c2 : i + 1 = ls.length
    · rw [c2, pk_us, hC i c2]
    · rw [pk_un c2]; exact q.2.2.1
def S_X1_line : ma_Cs := fun as M L K => match as with
  | [.ref k] => ∃ (g : Nat → Nat) (n : Nat) (p : Nat) (ts : List Tm) (ls : List Ln), (k = 2 ∧ Rd M g n p ∧ PX M 3 ts ls ∧ BF (M 7) ∧ (ls.map (·.1)).Nodup ∧ (∀ x, x ∈ ls.map (·.1) → x < 4) ∧ 2 * ts.length ≤ p ∧ (∀ i, i + 1 = ls.length → (ls.getD i (0, 0, 0, 0, 0)).2.1 + (ls.getD i (0, 0, 0, 0, 0)).2.2.1 = ts.length)) ∧ (∀ (M' : ZM) (q : Nat) (ts' : List Tm) (r : Ln), ln g (ls.map (·.1)) ts p = .ok (q, ts', r) → Df M M' → (M' 2 0 = nI q ∧ PX M' 3 ts' (ls ++ [r])) → BF (M' 7) → K (some (.int 1)) M' L) ∧ (∀ (M' : ZM) (e : Nat), ln g (ls.map (·.1)) ts p = .error e → Df M M' → M' 2 1 = nI e → BF (M' 7) → K (some (.int 0)) M' L)
  | _ => False
theorem ms_X1_line : ma_ms S_X1_line := by
  intro as M L K K' hk h
  unfold S_X1_line at h ⊢
  split at h
  · obtain ⟨g, n, p, ts, ls, h⟩ := h
    exact ⟨g, n, p, ts, ls, h.1, fun x0 x1 x2 x3 x4 x5 x6 x7 => hk _ _ _ (h.2.1 x0 x1 x2 x3 x4 x5 x6 x7), fun x0 x1 x2 x3 x4 x5 => hk _ _ _ (h.2.2 x0 x1 x2 x3 x4 x5)⟩
  · exact h.elim
theorem un_X1_line {k : Nat} {M : ZM} {L : ZL} {K : ma_Kt} : S_X1_line [.ref k] M L K = (∃ (g : Nat → Nat) (n : Nat) (p : Nat) (ts : List Tm) (ls : List Ln), (k = 2 ∧ Rd M g n p ∧ PX M 3 ts ls ∧ BF (M 7) ∧ (ls.map (·.1)).Nodup ∧ (∀ x, x ∈ ls.map (·.1) → x < 4) ∧ 2 * ts.length ≤ p ∧ (∀ i, i + 1 = ls.length → (ls.getD i (0, 0, 0, 0, 0)).2.1 + (ls.getD i (0, 0, 0, 0, 0)).2.2.1 = ts.length)) ∧ (∀ (M' : ZM) (q : Nat) (ts' : List Tm) (r : Ln), ln g (ls.map (·.1)) ts p = .ok (q, ts', r) → Df M M' → (M' 2 0 = nI q ∧ PX M' 3 ts' (ls ++ [r])) → BF (M' 7) → K (some (.int 1)) M' L) ∧ (∀ (M' : ZM) (e : Nat), ln g (ls.map (·.1)) ts p = .error e → Df M M' → M' 2 1 = nI e → BF (M' 7) → K (some (.int 0)) M' L)) := rfl
theorem pw_X1_line {k : Nat} {g : Nat → Nat} {n : Nat} {p : Nat} {ts : List Tm} {ls : List Ln} {M : ZM} {L : ZL} {K : ma_Kt} (hp : k = 2 ∧ Rd M g n p ∧ PX M 3 ts ls ∧ BF (M 7) ∧ (ls.map (·.1)).Nodup ∧ (∀ x, x ∈ ls.map (·.1) → x < 4) ∧ 2 * ts.length ≤ p ∧ (∀ i, i + 1 = ls.length → (ls.getD i (0, 0, 0, 0, 0)).2.1 + (ls.getD i (0, 0, 0, 0, 0)).2.2.1 = ts.length)) (h : (∀ (M' : ZM) (q : Nat) (ts' : List Tm) (r : Ln), ln g (ls.map (·.1)) ts p = .ok (q, ts', r) → Df M M' → (M' 2 0 = nI q ∧ PX M' 3 ts' (ls ++ [r])) → BF (M' 7) → K (some (.int 1)) M' L) ∧ (∀ (M' : ZM) (e : Nat), ln g (ls.map (·.1)) ts p = .error e → Df M M' → M' 2 1 = nI e → BF (M' 7) → K (some (.int 0)) M' L)) : ma_rn (tb_X1_line S_X1_here S_X0_isLetter S_X2_lineOf S_X1_fails S_X1_eats S_X1_term S_X1_number) 3 [.ref k] M L K := by
  refine ⟨Nat.le_of_ble_eq_true rfl, fun V hV => ?_⟩
  obtain ⟨rfl, h1, h2, h3, hN, h5, h6, hC⟩ := hp
  obtain ⟨k1, k2, k3, k4, k5, k6, k7⟩ := id h1
  have hD := h2.Dl hN h5
  have hN0 : (ls.map (·.1)).length = ls.length := List.length_map ..
  generalize hds : ls.map (·.1) = ds at *
  have pos : ∀ i, g i ≠ 0 → i < n := fun i hi => Nat.lt_of_not_le fun e => hi (k7 i e)
  have hl4 := nd_le 4 _ hN h5
  rw [hN0] at hl4
  have h189 : ∀ (M1 : ZM) (q b : Nat) (ts1 : List Tm), ls.length < 4 → (∀ a, a ≠ 2 → a ≠ 3 → a ≠ 5 → a ≠ 6 → a ≠ 8 → a ≠ 9 → a ≠ 10 → M1 a = M a) → Rd M1 g n q → (∀ j, j ≠ 5 → M1 3 j = M 3 j) → M1 3 5 = nI ts1.length → M1 5 = upd (M 5) ls.length (nI ts.length) → M1 6 = upd (M 6) ls.length (nI b) → TE M1 3 ts1 → ts.length ≤ ts1.length →
      ln g ds ts p = lnE (g p - 97) ts.length (q, ts1) (ln3 g q b) → V 189 [some (.ref 2), some (.int (nI (g p - 97))), some (.int (nI ls.length))] [] M1 L := by
    intro M1 q b ts1 hm e1 e2 e3 e4 e5 e6 e7 e8 e9
    have f0 : M1 3 0 = nI ls.length := by rw [e3 0 (by decide)]; exact h2.1
    have f4 := e1 4 (by decide) (by decide) (by decide) (by decide) (by decide) (by decide) (by decide)
    have f7 := e1 7 (by decide) (by decide) (by decide) (by decide) (by decide) (by decide) (by decide)
    have v4 : vp_in (nI ls.length) 4 := vp_in_nI hm (by decide)
    have v5 : vp_in (nI (ls.length + 1)) 5 := vp_in_nI (by omega) (by decide)
    unfold ln3 at e9
    refine ma_walk (mo_X1_line ms_X1_here ms_X0_isLetter ms_X2_lineOf ms_X1_fails ms_X1_eats ms_X1_term ms_X1_number) hV [] (fun F hF => ?_)
    simp only [tb_X1_line, hF, in_no, in_push, in_ild, in_lld, in_ald, in_ist, in_ast, in_lst, in_inc, in_iii, in_idv, in_ldv, in_lll, in_lli, in_lil, in_ii, in_il, in_li, in_ll, in_dup, in_dp2, q_if1, q_if2, in_go, in_sw, ma_sw, in_rv, in_ri, in_rz, in_rl, in_get, in_put, in_puz, in_iar, in_bar, in_lar, in_aar, in_iaw, in_baw, in_law, in_len, in_cpy, in_s1, in_s2, in_s3, in_v1, in_v2, in_v3, in_v4, in_v5, in_v6, ma_bk, ma_gl, ma_sl, ma_nl, ma_wc, ma_wd, ma_nn, ma_en, List.mem_cons, List.not_mem_nil, or_false, or_true, true_or, false_or, true_and, and_true, false_and, and_false, if_true, if_false, forall_const, true_implies, false_implies, not_true_eq_false, not_false_eq_true, Classical.not_not, implies_true, and_self, Nat.add_zero, Nat.zero_add, eq_self, ne_eq, reduceCtorEq, Nat.reduceLT, Nat.reduceLeDiff, Nat.reduceEqDiff, Nat.reduceSub, Nat.reduceAdd, i10, i01, im10, Int32.reduceLT, Int32.reduceLE, ↓reduceIte, reduceIte, up_r, uL_r, cp_r, Int32.toInt_toInt64, Int64.reduceToInt, Int32.reduceToInt, ↓b1_or, b1_0, b1_1, lc_lt, lc_le, lc_gt, lc_ge, lc_eq, yx_0, yx_1, yx_2, yx_3, yx_4, yx_5, yx_6, yx_7, yx_8, yx_9, yx_10, yx_11, yx_12, yx_13, yx_14, yx_15, yx_16, yx_17, yx_18, yx_19, yx_20, yx_21, yx_22, yx_23, yx_24, yx_25, yx_26, yx_27, yx_28, yx_29, yx_30, yx_31, yx_32, yx_33, yx_34, yx_35, yx_36, yx_37, yx_38, yx_39, yx_40, yx_41, yx_42, yx_43, yx_44, yx_45, yx_46, yx_47, yx_48, yx_49, yx_50, yx_51, yx_52, yx_53, yx_54, yx_55, yx_56, yx_57, yx_58, yx_59, yx_60, yx_61, yx_62, yx_63, yx_64, yx_65, yx_66, yx_67, yx_68, rx_0, rx_1, rx_2, rx_3, rx_4, rx_5, rx_6, rx_7, rx_8, rx_9, rx_10, rx_11, rx_12, rx_13, rx_14, rx_15, rx_16, rx_17, rx_18, rx_19, rx_20, rx_21, rx_22, rx_23, rx_24, rx_25, rx_26, rx_27, rx_28, rx_29, rx_30, rx_31, rx_32, rx_33, rp_0, rp_1, rp_2, rp_3, rp_4, rp_5, rp_6, rp_7, rp_8, rs_0, rs_1, rs_2, rs_3, rs_4, re_0, re_1, re_2, re_3, re_4, re_5, rr_0, rr_1, rr_2, rr_3, rr_4, rk_0, rk_1, isP3, isP11, isP46, isP58, isS25, isS28, isS31, un_X1_here, un_X0_isLetter, un_X2_lineOf, un_X1_fails, un_X1_eats, un_X1_term, un_X1_number, f0, e4, nI_1, v4, v5, a_cl (show ls.length < 2147483648 by omega), a_cl (show ls.length + 1 < 2147483648 by omega), e2.2.1]
    try simp only [iteP, Classical.not_not]
    refine ⟨g, n, q, 126, ⟨e2, rfl, by omega, by omega⟩, fun c => ?_, fun c => ?_⟩
    · have z := pos q (by omega)
      rw [if_pos c] at e9
      refine ⟨g, n, q + 1, 59, ⟨e2.to rfl rfl rfl z, rfl, by omega, by omega⟩, fun c1 => ?_, fun c1 => ?_⟩
      · rw [if_pos c1] at e9
        refine h.1 _ (q + 2) ts1 _ e9 (fun a ha => ?_) ⟨rfl, h2.add hC rfl rfl (by exact e4) ?_ ?_ ?_ ?_ (e7.same rfl rfl rfl)⟩ ?_
        · rw [up_c (by omega), up_c (by omega), up_c (by omega), up_c (by omega), up_c (by omega), up_c (by omega)]
          exact e1 a (by omega) (by omega) (by omega) (by omega) (by omega) (by omega) (by omega)
        · rw [← f4]; simp only [up_c, ma_up_at, ud_2, ne_eq, Nat.reduceEqDiff, not_false_eq_true] <;> try rfl
        · show _ = upd _ _ (nI (ts.length + (ts1.length - ts.length)))
          rw [show ts.length + (ts1.length - ts.length) = ts1.length by omega, ← e5]; simp only [up_c, ma_up_at, ud_2, ne_eq, Nat.reduceEqDiff, not_false_eq_true] <;> try rfl
        · exact e6
        · rw [← f7]; simp only [up_c, ma_up_at, ud_2, ne_eq, Nat.reduceEqDiff, not_false_eq_true] <;> try rfl
        · simp only [up_c, ma_up_at, ud_2, ne_eq, Nat.reduceEqDiff, not_false_eq_true] <;> try rfl
          exact BF.u (by rw [f7]; exact h3) (by decide)
      · rw [if_neg c1] at e9
        refine h.2 _ (q + 1) e9 (fun a ha => ?_) rfl ?_
        · rw [up_c (by omega), up_c (by omega), up_c (by omega)]
          exact e1 a (by omega) (by omega) (by omega) (by omega) (by omega) (by omega) (by omega)
        · simp only [up_c, ma_up_at, ud_2, ne_eq, Nat.reduceEqDiff, not_false_eq_true] <;> try rfl
          exact BF.u (by rw [f7]; exact h3) (by decide)
    · rw [if_neg c] at e9
      refine ⟨g, n, q, 59, ⟨e2.to rfl rfl e2.2.1 e2.2.2.1, rfl, by omega, by omega⟩, fun c1 => ?_, fun c1 => ?_⟩
      · rw [if_pos c1] at e9
        refine h.1 _ (q + 1) ts1 _ e9 (fun a ha => ?_) ⟨rfl, h2.add hC rfl rfl (by exact e4) ?_ ?_ ?_ ?_ (e7.same rfl rfl rfl)⟩ ?_
        · rw [up_c (by omega), up_c (by omega), up_c (by omega), up_c (by omega), up_c (by omega)]
          exact e1 a (by omega) (by omega) (by omega) (by omega) (by omega) (by omega) (by omega)
        · rw [← f4]; simp only [up_c, ma_up_at, ud_2, ne_eq, Nat.reduceEqDiff, not_false_eq_true] <;> try rfl
        · show _ = upd _ _ (nI (ts.length + (ts1.length - ts.length)))
          rw [show ts.length + (ts1.length - ts.length) = ts1.length by omega, ← e5]; simp only [up_c, ma_up_at, ud_2, ne_eq, Nat.reduceEqDiff, not_false_eq_true] <;> try rfl
        · exact e6
        · rw [← f7]; simp only [up_c, ma_up_at, ud_2, ne_eq, Nat.reduceEqDiff, not_false_eq_true] <;> try rfl
        · simp only [up_c, ma_up_at, ud_2, ne_eq, Nat.reduceEqDiff, not_false_eq_true] <;> try rfl
          exact BF.u (by rw [f7]; exact h3) (by decide)
      · rw [if_neg c1] at e9
        refine h.2 _ q e9 (fun a ha => ?_) rfl ?_
        · rw [up_c (by omega), up_c (by omega)]
          exact e1 a (by omega) (by omega) (by omega) (by omega) (by omega) (by omega) (by omega)
        · simp only [up_c, ma_up_at, ud_2, ne_eq, Nat.reduceEqDiff, not_false_eq_true] <;> try rfl
          exact BF.u (by rw [f7]; exact h3) (by decide)
  have h139 : ∀ (M1 : ZM) (q : Nat) (ts1 : List Tm), ls.length < 4 → (∀ a, a ≠ 2 → a ≠ 3 → a ≠ 5 → a ≠ 8 → a ≠ 9 → a ≠ 10 → M1 a = M a) → Rd M1 g n q → (∀ j, j ≠ 5 → M1 3 j = M 3 j) → M1 3 5 = nI ts1.length → M1 5 = upd (M 5) ls.length (nI ts.length) → TE M1 3 ts1 → ts.length ≤ ts1.length →
      ln g ds ts p = lnE (g p - 97) ts.length (q, ts1) (ln2 g q) → V 139 [some (.ref 2), some (.int (nI (g p - 97))), some (.int (nI ls.length))] [] M1 L := by
    intro M1 q ts1 hm e1 e2 e3 e4 e5 e7 e8 e9
    have v4 : vp_in (nI ls.length) 4 := vp_in_nI hm (by decide)
    have f6 := e1 6 (by decide) (by decide) (by decide) (by decide) (by decide) (by decide)
    have f7 := e1 7 (by decide) (by decide) (by decide) (by decide) (by decide) (by decide)
    unfold ln2 at e9
    refine ma_walk (mo_X1_line ms_X1_here ms_X0_isLetter ms_X2_lineOf ms_X1_fails ms_X1_eats ms_X1_term ms_X1_number) hV [189] (fun F hF => ?_)
    simp only [tb_X1_line, hF, in_no, in_push, in_ild, in_lld, in_ald, in_ist, in_ast, in_lst, in_inc, in_iii, in_idv, in_ldv, in_lll, in_lli, in_lil, in_ii, in_il, in_li, in_ll, in_dup, in_dp2, q_if1, q_if2, in_go, in_sw, ma_sw, in_rv, in_ri, in_rz, in_rl, in_get, in_put, in_puz, in_iar, in_bar, in_lar, in_aar, in_iaw, in_baw, in_law, in_len, in_cpy, in_s1, in_s2, in_s3, in_v1, in_v2, in_v3, in_v4, in_v5, in_v6, ma_bk, ma_gl, ma_sl, ma_nl, ma_wc, ma_wd, ma_nn, ma_en, List.mem_cons, List.not_mem_nil, or_false, or_true, true_or, false_or, true_and, and_true, false_and, and_false, if_true, if_false, forall_const, true_implies, false_implies, not_true_eq_false, not_false_eq_true, Classical.not_not, implies_true, and_self, Nat.add_zero, Nat.zero_add, eq_self, ne_eq, reduceCtorEq, Nat.reduceLT, Nat.reduceLeDiff, Nat.reduceEqDiff, Nat.reduceSub, Nat.reduceAdd, i10, i01, im10, Int32.reduceLT, Int32.reduceLE, ↓reduceIte, reduceIte, up_r, uL_r, cp_r, Int32.toInt_toInt64, Int64.reduceToInt, Int32.reduceToInt, ↓b1_or, b1_0, b1_1, lc_lt, lc_le, lc_gt, lc_ge, lc_eq, yx_0, yx_1, yx_2, yx_3, yx_4, yx_5, yx_6, yx_7, yx_8, yx_9, yx_10, yx_11, yx_12, yx_13, yx_14, yx_15, yx_16, yx_17, yx_18, yx_19, yx_20, yx_21, yx_22, yx_23, yx_24, yx_25, yx_26, yx_27, yx_28, yx_29, yx_30, yx_31, yx_32, yx_33, yx_34, yx_35, yx_36, yx_37, yx_38, yx_39, yx_40, yx_41, yx_42, yx_43, yx_44, yx_45, yx_46, yx_47, yx_48, yx_49, yx_50, yx_51, yx_52, yx_53, yx_54, yx_55, yx_56, yx_57, yx_58, yx_59, yx_60, yx_61, yx_62, yx_63, yx_64, yx_65, yx_66, yx_67, yx_68, rx_0, rx_1, rx_2, rx_3, rx_4, rx_5, rx_6, rx_7, rx_8, rx_9, rx_10, rx_11, rx_12, rx_13, rx_14, rx_15, rx_16, rx_17, rx_18, rx_19, rx_20, rx_21, rx_22, rx_23, rx_24, rx_25, rx_26, rx_27, rx_28, rx_29, rx_30, rx_31, rx_32, rx_33, rp_0, rp_1, rp_2, rp_3, rp_4, rp_5, rp_6, rp_7, rp_8, rs_0, rs_1, rs_2, rs_3, rs_4, re_0, re_1, re_2, re_3, re_4, re_5, rr_0, rr_1, rr_2, rr_3, rr_4, rk_0, rk_1, isP3, isP11, isP46, isP58, isS25, isS28, isS31, un_X1_here, un_X0_isLetter, un_X2_lineOf, un_X1_fails, un_X1_eats, un_X1_term, un_X1_number, v4, a_cl (show ls.length < 2147483648 by omega)]
    try simp only [iteP, Classical.not_not]
    have hR : Rd (ma_up M1 6 ls.length 1) g n q := e2.to rfl rfl e2.2.1 e2.2.2.1
    refine ⟨g, n, q, 47, ⟨hR, rfl, by omega, by omega⟩, fun c => ?_, fun c => ?_⟩
    · have z := pos q (by omega)
      have hn := nu_le k7 200 (q + 1) 0 z
      rw [if_pos c] at e9
      refine ⟨g, n, q + 1, 1000, ⟨e2.to rfl rfl rfl z, rfl, by omega⟩, fun c1 => ?_, fun c1 => ?_⟩
      · rw [if_pos c1] at e9
        refine h189 _ _ (nu g 200 (q + 1) 0).2 ts1 hm (fun a z2 z3 z5 z6 z8 z9 z10 => ?_) (e2.to rfl rfl rfl hn.2) e3 e4 e5 ?_ (e7.same rfl rfl rfl) e8 e9
        · rw [up_c z6, up_c z2, up_c z2, up_c z2, up_c z6]; exact e1 a z2 z3 z5 z8 z9 z10
        · rw [← f6]; simp only [up_c, ma_up_at, ud_2, ne_eq, Nat.reduceEqDiff, not_false_eq_true] <;> try rfl
      · rw [if_neg c1] at e9
        refine h.2 _ (q + 1) e9 (fun a ha => ?_) rfl ?_
        · rw [up_c (by omega), up_c (by omega), up_c (by omega), up_c (by omega), up_c (by omega)]
          exact e1 a (by omega) (by omega) (by omega) (by omega) (by omega) (by omega)
        · simp only [up_c, ma_up_at, ud_2, ne_eq, Nat.reduceEqDiff, not_false_eq_true] <;> try rfl
          rw [f7]; exact h3
    · rw [if_neg c] at e9
      refine h189 _ q 1 ts1 hm (fun a z2 z3 z5 z6 z8 z9 z10 => ?_) hR e3 e4 e5 ?_ (e7.same rfl rfl rfl) e8 e9
      · rw [up_c z6]; exact e1 a z2 z3 z5 z8 z9 z10
      · rw [← f6]; simp only [up_c, ma_up_at, ud_2, ne_eq, Nat.reduceEqDiff, not_false_eq_true] <;> try rfl
  have h111 : ∀ (m : Nat) (M1 : ZM) (q f : Nat) (ts1 : List Tm), n - q = m → 161 ≤ f + q → 2 * ts1.length + 1 ≤ q → ls.length < 4 → (∀ a, a ≠ 2 → a ≠ 3 → a ≠ 5 → a ≠ 8 → a ≠ 9 → a ≠ 10 → M1 a = M a) → Rd M1 g n q → (∀ j, j ≠ 5 → M1 3 j = M 3 j) → M1 3 5 = nI ts1.length → M1 5 = upd (M 5) ls.length (nI ts.length) → TE M1 3 ts1 → ts.length ≤ ts1.length →
      ln g ds ts p = lnD g (g p - 97) ts.length (trs g ds f q ts1) → V 111 [some (.ref 2), some (.int (nI (g p - 97))), some (.int (nI ls.length))] [] M1 L := by
    intro m
    induction m using Nat.strongRecOn with
    | ind m ih =>
      intro M1 q f ts1 e0 ef et hm e1 e2 e3 e4 e5 e7 e8 e9
      obtain ⟨f, rfl⟩ : ∃ f', f = f' + 1 := ⟨f - 1, by have := e2.2.2.1; omega⟩
      rw [trs] at e9
      have hD1 : Dl M1 ds := by
        unfold Dl; rw [e1 4 (by decide) (by decide) (by decide) (by decide) (by decide) (by decide), e3 0 (by decide)]; exact hD
      have f7 := e1 7 (by decide) (by decide) (by decide) (by decide) (by decide) (by decide)
      have go : (g q = 43 ∨ g q = 45) → ∃ (g_2 : Nat → Nat) (n p_2 : Nat) (ds : List Nat) (t : Nat),
            (Rd M1 g_2 n p_2 ∧ Dl M1 ds ∧ M1 3 5 = nI t ∧ t < 80 ∧ (g_2 p_2 = 43 ∨ g_2 p_2 = 45)) ∧
              (∀ (M' : ZM) (q : Nat) (tm : Tm), tr g_2 ds p_2 = Except.ok (q, tm) → Tx M1 M' q t tm →
                      V 111 [some (Value.ref 2), some (Value.int (nI (g p - 97))), some (Value.int (nI ls.length))] [] M' L) ∧
                ∀ (M' : ZM) (e : Nat), tr g_2 ds p_2 = Except.error e → Tf M1 M' → M' 2 1 = nI e → K (some (Value.int 0)) M' L := by
        intro c
        have z := pos q (by omega)
        rw [if_pos c] at e9
        refine ⟨g, n, q, ds, ts1.length, ⟨e2, hD1, e4, by omega, c⟩, fun M2 r tm ea eb => ?_, fun M2 e ea eb ec => ?_⟩
        · have hr := tr_le k7 (Nat.le_of_lt z) ea
          have hr2 := hr.2.2 c
          rw [ea] at e9
          obtain ⟨g1, g2, g3, g4, g5, g6, g7⟩ := eb
          refine ih (n - r) (by omega) M2 r f (ts1 ++ [tm]) rfl (by omega) (by rw [len_1]; omega) hm (fun a z2 z3 z5 z8 z9 z10 => ?_) (e2.to (by rw [g1 0 (by decide) (by decide) (by decide) (by decide) (by decide)]) (g1 1 (by decide) (by decide) (by decide) (by decide) (by decide)) g2 hr.2.1) (fun j hj => (g3 j hj).trans (e3 j hj)) (by rw [len_1]; exact g4) ((g1 5 (by decide) (by decide) (by decide) (by decide) (by decide)).trans e5) (e7.add g5 g6 g7) (by rw [len_1]; omega) e9
          exact (g1 a z2 z3 z8 z9 z10).trans (e1 a z2 z3 z5 z8 z9 z10)
        · rw [ea] at e9
          refine h.2 M2 e e9 (fun a ha => ?_) ec ?_
          · exact (eb a (by omega) (by omega) (by omega) (by omega) (by omega)).trans (e1 a (by omega) (by omega) (by omega) (by omega) (by omega) (by omega))
          · rw [eb 7 (by decide) (by decide) (by decide) (by decide) (by decide), f7]; exact h3
      refine ma_walk (mo_X1_line ms_X1_here ms_X0_isLetter ms_X2_lineOf ms_X1_fails ms_X1_eats ms_X1_term ms_X1_number) hV [111, 139] (fun F hF => ?_)
      simp only [tb_X1_line, hF, in_no, in_push, in_ild, in_lld, in_ald, in_ist, in_ast, in_lst, in_inc, in_iii, in_idv, in_ldv, in_lll, in_lli, in_lil, in_ii, in_il, in_li, in_ll, in_dup, in_dp2, q_if1, q_if2, in_go, in_sw, ma_sw, in_rv, in_ri, in_rz, in_rl, in_get, in_put, in_puz, in_iar, in_bar, in_lar, in_aar, in_iaw, in_baw, in_law, in_len, in_cpy, in_s1, in_s2, in_s3, in_v1, in_v2, in_v3, in_v4, in_v5, in_v6, ma_bk, ma_gl, ma_sl, ma_nl, ma_wc, ma_wd, ma_nn, ma_en, List.mem_cons, List.not_mem_nil, or_false, or_true, true_or, false_or, true_and, and_true, false_and, and_false, if_true, if_false, forall_const, true_implies, false_implies, not_true_eq_false, not_false_eq_true, Classical.not_not, implies_true, and_self, Nat.add_zero, Nat.zero_add, eq_self, ne_eq, reduceCtorEq, Nat.reduceLT, Nat.reduceLeDiff, Nat.reduceEqDiff, Nat.reduceSub, Nat.reduceAdd, i10, i01, im10, Int32.reduceLT, Int32.reduceLE, ↓reduceIte, reduceIte, up_r, uL_r, cp_r, Int32.toInt_toInt64, Int64.reduceToInt, Int32.reduceToInt, ↓b1_or, b1_0, b1_1, lc_lt, lc_le, lc_gt, lc_ge, lc_eq, yx_0, yx_1, yx_2, yx_3, yx_4, yx_5, yx_6, yx_7, yx_8, yx_9, yx_10, yx_11, yx_12, yx_13, yx_14, yx_15, yx_16, yx_17, yx_18, yx_19, yx_20, yx_21, yx_22, yx_23, yx_24, yx_25, yx_26, yx_27, yx_28, yx_29, yx_30, yx_31, yx_32, yx_33, yx_34, yx_35, yx_36, yx_37, yx_38, yx_39, yx_40, yx_41, yx_42, yx_43, yx_44, yx_45, yx_46, yx_47, yx_48, yx_49, yx_50, yx_51, yx_52, yx_53, yx_54, yx_55, yx_56, yx_57, yx_58, yx_59, yx_60, yx_61, yx_62, yx_63, yx_64, yx_65, yx_66, yx_67, yx_68, rx_0, rx_1, rx_2, rx_3, rx_4, rx_5, rx_6, rx_7, rx_8, rx_9, rx_10, rx_11, rx_12, rx_13, rx_14, rx_15, rx_16, rx_17, rx_18, rx_19, rx_20, rx_21, rx_22, rx_23, rx_24, rx_25, rx_26, rx_27, rx_28, rx_29, rx_30, rx_31, rx_32, rx_33, rp_0, rp_1, rp_2, rp_3, rp_4, rp_5, rp_6, rp_7, rp_8, rs_0, rs_1, rs_2, rs_3, rs_4, re_0, re_1, re_2, re_3, re_4, re_5, rr_0, rr_1, rr_2, rr_3, rr_4, rk_0, rk_1, isP3, isP11, isP46, isP58, isS25, isS28, isS31, un_X1_here, un_X0_isLetter, un_X2_lineOf, un_X1_fails, un_X1_eats, un_X1_term, un_X1_number]
      try simp only [iteP, Classical.not_not]
      simp only [show (43 : Int32) = nI 43 from rfl, show (45 : Int32) = nI 45 from rfl]
      refine ⟨g, n, q, e2, fun c => ?_, fun c => ?_⟩
      · rw [sbq k6 (by omega)] at c
        exact go (Or.inl c)
      rw [sbq k6 (by omega)] at c
      refine ⟨g, n, q, e2, fun c1 => ?_, fun c1 => ?_⟩
      · rw [sbq k6 (by omega)] at c1
        exact go (Or.inr c1)
      · rw [sbq k6 (by omega)] at c1
        rw [if_neg (by omega)] at e9
        exact h139 M1 q ts1 hm e1 e2 e3 e4 e5 e7 e8 e9
  unfold ln at h h111
  have v5 : vp_in (nI ls.length) 5 := vp_in_nI (by omega) (by decide)
  refine ma_walk (mo_X1_line ms_X1_here ms_X0_isLetter ms_X2_lineOf ms_X1_fails ms_X1_eats ms_X1_term ms_X1_number) hV [111] (fun F hF => ?_)
  simp only [tb_X1_line, hF, in_no, in_push, in_ild, in_lld, in_ald, in_ist, in_ast, in_lst, in_inc, in_iii, in_idv, in_ldv, in_lll, in_lli, in_lil, in_ii, in_il, in_li, in_ll, in_dup, in_dp2, q_if1, q_if2, in_go, in_sw, ma_sw, in_rv, in_ri, in_rz, in_rl, in_get, in_put, in_puz, in_iar, in_bar, in_lar, in_aar, in_iaw, in_baw, in_law, in_len, in_cpy, in_s1, in_s2, in_s3, in_v1, in_v2, in_v3, in_v4, in_v5, in_v6, ma_bk, ma_gl, ma_sl, ma_nl, ma_wc, ma_wd, ma_nn, ma_en, List.mem_cons, List.not_mem_nil, or_false, or_true, true_or, false_or, true_and, and_true, false_and, and_false, if_true, if_false, forall_const, true_implies, false_implies, not_true_eq_false, not_false_eq_true, Classical.not_not, implies_true, and_self, Nat.add_zero, Nat.zero_add, eq_self, ne_eq, reduceCtorEq, Nat.reduceLT, Nat.reduceLeDiff, Nat.reduceEqDiff, Nat.reduceSub, Nat.reduceAdd, i10, i01, im10, Int32.reduceLT, Int32.reduceLE, ↓reduceIte, reduceIte, up_r, uL_r, cp_r, Int32.toInt_toInt64, Int64.reduceToInt, Int32.reduceToInt, ↓b1_or, b1_0, b1_1, lc_lt, lc_le, lc_gt, lc_ge, lc_eq, yx_0, yx_1, yx_2, yx_3, yx_4, yx_5, yx_6, yx_7, yx_8, yx_9, yx_10, yx_11, yx_12, yx_13, yx_14, yx_15, yx_16, yx_17, yx_18, yx_19, yx_20, yx_21, yx_22, yx_23, yx_24, yx_25, yx_26, yx_27, yx_28, yx_29, yx_30, yx_31, yx_32, yx_33, yx_34, yx_35, yx_36, yx_37, yx_38, yx_39, yx_40, yx_41, yx_42, yx_43, yx_44, yx_45, yx_46, yx_47, yx_48, yx_49, yx_50, yx_51, yx_52, yx_53, yx_54, yx_55, yx_56, yx_57, yx_58, yx_59, yx_60, yx_61, yx_62, yx_63, yx_64, yx_65, yx_66, yx_67, yx_68, rx_0, rx_1, rx_2, rx_3, rx_4, rx_5, rx_6, rx_7, rx_8, rx_9, rx_10, rx_11, rx_12, rx_13, rx_14, rx_15, rx_16, rx_17, rx_18, rx_19, rx_20, rx_21, rx_22, rx_23, rx_24, rx_25, rx_26, rx_27, rx_28, rx_29, rx_30, rx_31, rx_32, rx_33, rp_0, rp_1, rp_2, rp_3, rp_4, rp_5, rp_6, rp_7, rp_8, rs_0, rs_1, rs_2, rs_3, rs_4, re_0, re_1, re_2, re_3, re_4, re_5, rr_0, rr_1, rr_2, rr_3, rr_4, rk_0, rk_1, isP3, isP11, isP46, isP58, isS25, isS28, isS31, un_X1_here, un_X0_isLetter, un_X2_lineOf, un_X1_fails, un_X1_eats, un_X1_term, un_X1_number, k2, h2.1, h2.2.1, v5]
  try simp only [iteP, Classical.not_not]
  refine ⟨g, n, p, h1, ?_⟩
  rw [sb_l _ (k6 p)]
  refine ⟨fun c => ?_, fun c => ?_⟩
  · exact h.2 _ p (by rw [if_neg (fun z => c z.1)]) (fun a ha => up_c (by omega)) rfl h3
  · rw [sb_s c, ← h2.1, hD.fd (by omega)]
    refine ⟨fun c1 => ?_, fun c1 => ?_⟩
    · have hm : ls.length < 4 := by
        have q := nd_le 4 ((g p - 97) :: ds) (List.nodup_cons.2 ⟨c1, hN⟩) (fun x hx => by
          rcases List.mem_cons.1 hx with z | z
          · omega
          · exact h5 x z)
        rw [List.length_cons, hN0] at q; omega
      have z := pos p (by omega)
      rw [if_pos ⟨c, c1⟩] at h h111
      simp only [nI_1, up_up, h2.1, a_cl (show ls.length < 2147483648 by omega)]
      refine ⟨g, n, p + 1, 61, ⟨h1.up z, rfl, by omega, by omega⟩, fun c2 => ?_, fun c2 => ?_⟩
      · have z2 := pos (p + 1) (by omega)
        rw [if_pos c2] at h h111
        unfold ln1 at h h111
        refine ⟨g, n, p + 2, ds, ts.length, ⟨h1.to rfl rfl rfl z2, hD, rfl, by omega⟩, fun M2 r tm ea eb => ?_, fun M2 e ea eb ec => ?_⟩
        · rw [ea] at h111
          have hr := tr_le k7 z2 ea
          obtain ⟨g1, g2, g3, g4, g5, g6, g7⟩ := eb
          refine h111 (n - r) M2 r 200 (ts ++ [tm]) rfl (by omega) (by rw [len_1]; omega) hm (fun a z2 z3 z5 z8 z9 z10 => ?_) (h1.to (by rw [g1 0 (by decide) (by decide) (by decide) (by decide) (by decide)]; rfl) ((g1 1 (by decide) (by decide) (by decide) (by decide) (by decide)).trans rfl) g2 hr.2.1) (fun j hj => (g3 j hj).trans rfl) (by rw [len_1]; exact g4) ((g1 5 (by decide) (by decide) (by decide) (by decide) (by decide)).trans ?_) (h2.2.2.2.add g5 g6 g7) (by rw [len_1]; omega) rfl
          · rw [g1 a z2 z3 z8 z9 z10, up_c z5, up_c z2]
          · exact ma_up_at (M := M)
        · rw [ea] at h
          refine h.2 M2 e rfl (fun a ha => ?_) ec ?_
          · rw [eb a (by omega) (by omega) (by omega) (by omega) (by omega), up_c (by omega), up_c (by omega)]
          · rw [eb 7 (by decide) (by decide) (by decide) (by decide) (by decide)]; exact h3
      · rw [if_neg c2] at h
        exact h.2 _ (p + 1) rfl (fun a ha => by rw [up_c (by omega), up_c (by omega)]) rfl h3
    · exact h.2 _ p (by rw [if_neg (fun z => c1 z.2)]) (fun a ha => up_c (by omega)) rfl h3
theorem pv_X1_line : ∀ as M L K, S_X1_line as M L K → ma_rn (tb_X1_line S_X1_here S_X0_isLetter S_X2_lineOf S_X1_fails S_X1_eats S_X1_term S_X1_number) 3 as M L K := by
  intro as M L K h
  unfold S_X1_line at h
  split at h
  · obtain ⟨g, n, p, ts, ls, h⟩ := h; exact pw_X1_line h.1 h.2
  · exact h.elim
