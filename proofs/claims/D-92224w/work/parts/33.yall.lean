/-! the model's reading: a line, the whole -/
set_option maxRecDepth 100000
set_option maxHeartbeats 4000000
theorem tr2_er {g : Nat → Nat} {n : Nat} (h7 : ∀ i, n ≤ i → g i = 0) (hn : n ≤ 160) {ds : List Nat} {p e : Nat} {f : Int32} (hp : p ≤ n) (h : tr2 g ds p f = .error e) : e < 1000 := by
  unfold tr2 at h
  split at h
  · cases h; omega
  · next r c z =>
    have h1 := nm_le h7 z
    split at h
    · split at h
      · cases h; omega
      · cases h
    · cases h
theorem tr1_er {g : Nat → Nat} {n : Nat} (h7 : ∀ i, n ≤ i → g i = 0) (hn : n ≤ 160) {ds : List Nat} {p e : Nat} {f : Int32} (hp : p ≤ n) (h : tr1 g ds p f = .error e) : e < 1000 := by
  unfold tr1 at h
  have h0 := nu_le h7 200 p 0 hp
  split at h
  · split at h
    · exact tr2_er h7 hn h0.2 h
    · cases h; omega
  · exact tr2_er h7 hn hp h
theorem tr_er {g : Nat → Nat} {n p : Nat} (h7 : ∀ i, n ≤ i → g i = 0) (hp : p ≤ n) (hn : n ≤ 160) {ds : List Nat} {e : Nat} (h : tr g ds p = .error e) : e < 1000 := by
  have pos : ∀ i, g i ≠ 0 → i < n := fun i hi => Nat.lt_of_not_le fun e => hi (h7 i e)
  unfold tr at h
  split at h
  · exact tr1_er h7 hn (pos p (by omega)) h
  · split at h
    · exact tr1_er h7 hn (pos p (by omega)) h
    · exact tr1_er h7 hn hp h
/-- a plan as the model holds it, from place a of the lines' arrays and place b of the terms' arrays on -/
def YT (M : ZM) (b : Nat) (ts : List Tm) : Prop := ∀ t, t < ts.length → M 9 (b + t) = (ts.getD t (0, 0, none)).1 ∧ M 10 (b + t) = nI (ts.getD t (0, 0, none)).2.1 ∧ M 11 (b + t) = y2 (ts.getD t (0, 0, none)).2.2
def YL (M : ZM) (a : Nat) (ls : List Ln) : Prop := (∀ i, i < ls.length → M 3 (a + i) = nI (ls.getD i (0, 0, 0, 0, 0)).1 ∧ M 4 (a + (ls.getD i (0, 0, 0, 0, 0)).1) = nI i ∧ M 5 (a + (ls.getD i (0, 0, 0, 0, 0)).1) = nI (ls.getD i (0, 0, 0, 0, 0)).2.1 ∧ M 6 (a + (ls.getD i (0, 0, 0, 0, 0)).1) = nI (ls.getD i (0, 0, 0, 0, 0)).2.2.1 ∧ M 7 (a + (ls.getD i (0, 0, 0, 0, 0)).1) = nI (ls.getD i (0, 0, 0, 0, 0)).2.2.2.1 ∧ M 8 (a + (ls.getD i (0, 0, 0, 0, 0)).1) = nI (ls.getD i (0, 0, 0, 0, 0)).2.2.2.2) ∧ ∀ l, l < 4 → ¬ l ∈ ls.map (·.1) → M 4 (a + l) = -4
def PY (M : ZM) (ts : List Tm) (ls : List Ln) : Prop := M 0 8 = nI ls.length ∧ M 0 34 = nI ts.length ∧ YL M 4 ls ∧ YT M 80 ts
theorem YT.to {M M' : ZM} {b : Nat} {ts : List Tm} (h : YT M b ts) (h9 : M' 9 = M 9) (h10 : M' 10 = M 10) (h11 : M' 11 = M 11) : YT M' b ts := by
  unfold YT; rw [h9, h10, h11]; exact h
theorem YT.add {M M' : ZM} {ts : List Tm} {tm : Tm} (h : YT M 80 ts) (hs : ∀ j, j ≠ 80 + ts.length → M' 9 j = M 9 j ∧ M' 10 j = M 10 j ∧ M' 11 j = M 11 j) (h9 : M' 9 (80 + ts.length) = tm.1) (h10 : M' 10 (80 + ts.length) = nI tm.2.1) (h11 : M' 11 (80 + ts.length) = y2 tm.2.2) : YT M' 80 (ts ++ [tm]) := by
  intro t ht
  rw [len_1] at ht
  by_cases e : t = ts.length
  · subst e; rw [gd_2]; exact ⟨h9, h10, h11⟩
  · have z := hs (80 + t) (by omega)
    rw [gd_1 (by omega), z.1, z.2.1, z.2.2]; exact h t (by omega)
/-- the reading changes scratch alone -/
def Rf (M M' : ZM) : Prop := (∀ a, a = 1 ∨ a = 2 ∨ 11 < a → M' a = M a) ∧ (∀ j, j ≠ 8 → j ≠ 32 → j ≠ 33 → j ≠ 34 → M' 0 j = M 0 j) ∧ (∀ j, j < 4 → M' 3 j = M 3 j ∧ M' 4 j = M 4 j ∧ M' 5 j = M 5 j ∧ M' 6 j = M 6 j ∧ M' 7 j = M 7 j ∧ M' 8 j = M 8 j) ∧ ∀ j, j < 80 → M' 9 j = M 9 j ∧ M' 10 j = M 10 j ∧ M' 11 j = M 11 j
theorem Rf.refl (M : ZM) : Rf M M := ⟨fun _ _ => rfl, fun _ _ _ _ _ => rfl, fun _ _ => ⟨rfl, rfl, rfl, rfl, rfl, rfl⟩, fun _ _ => ⟨rfl, rfl, rfl⟩⟩
theorem Rf.trans {M M1 M2 : ZM} (h : Rf M M1) (h2 : Rf M1 M2) : Rf M M2 := by
  refine ⟨fun a z => (h2.1 a z).trans (h.1 a z), fun j z1 z2 z3 z4 => (h2.2.1 j z1 z2 z3 z4).trans (h.2.1 j z1 z2 z3 z4), fun j z => ?_, fun j z => ?_⟩
  · have q := h2.2.2.1 j z
    have q2 := h.2.2.1 j z
    exact ⟨q.1.trans q2.1, q.2.1.trans q2.2.1, q.2.2.1.trans q2.2.2.1, q.2.2.2.1.trans q2.2.2.2.1, q.2.2.2.2.1.trans q2.2.2.2.2.1, q.2.2.2.2.2.trans q2.2.2.2.2.2⟩
  · have q := h2.2.2.2 j z
    have q2 := h.2.2.2 j z
    exact ⟨q.1.trans q2.1, q.2.1.trans q2.2.1, q.2.2.trans q2.2.2⟩
theorem Yf.Rf {M M' : ZM} {t : Nat} (h : Yf M M' t) : Rf M M' := by
  refine ⟨fun a z => h.1 a (by omega) (by omega) (by omega) (by omega), fun j _ z1 z2 z3 => h.2.1 j z1 z2 z3, fun j z => ?_, fun j z => h.2.2 j (by omega)⟩
  rw [h.1 3 (by decide) (by decide) (by decide) (by decide), h.1 4 (by decide) (by decide) (by decide) (by decide), h.1 5 (by decide) (by decide) (by decide) (by decide), h.1 6 (by decide) (by decide) (by decide) (by decide), h.1 7 (by decide) (by decide) (by decide) (by decide), h.1 8 (by decide) (by decide) (by decide) (by decide)]
  exact ⟨rfl, rfl, rfl, rfl, rfl, rfl⟩
theorem Rf.f0 {M : ZM} {j : Nat} {v : Int32} (hj : j = 8 ∨ j = 32 ∨ j = 33 ∨ j = 34) : Rf M (ma_up M 0 j v) := by
  refine ⟨fun a z => up_c (by omega), fun i z1 z2 z3 z4 => if_neg (by omega), fun i z => ?_, fun i z => ?_⟩
  · exact ⟨rfl, rfl, rfl, rfl, rfl, rfl⟩
  · exact ⟨rfl, rfl, rfl⟩
theorem Rf.fa {M : ZM} {a j : Nat} {v : Int32} (ha : 3 ≤ a ∧ a ≤ 8) (hj : 4 ≤ j) : Rf M (ma_up M a j v) := by
  refine ⟨fun b z => up_c (by omega), fun i z1 z2 z3 z4 => if_neg (by omega), fun i z => ?_, fun i z => ?_⟩
  · exact ⟨if_neg (by omega), if_neg (by omega), if_neg (by omega), if_neg (by omega), if_neg (by omega), if_neg (by omega)⟩
  · exact ⟨if_neg (by omega), if_neg (by omega), if_neg (by omega)⟩
theorem PY.Dy {M : ZM} {ts : List Tm} {ls : List Ln} (h : PY M ts ls) (hN : (ls.map (·.1)).Nodup) (h4 : ∀ x, x ∈ ls.map (·.1) → x < 4) : Dy M (ls.map (·.1)) := by
  have hl := nd_le 4 _ hN h4
  refine ⟨by rw [h.1, List.length_map], hl, fun i hi => ?_⟩
  rw [List.length_map] at hi
  have e : (ls.map (·.1)).getD i 0 = (ls.getD i (0, 0, 0, 0, 0)).1 := by
    rw [gd (by rw [List.length_map]; exact hi), gd hi, List.getElem_map]
  rw [e]
  refine ⟨(h.2.2.1.1 i hi).1, ?_⟩
  rw [← e, gd (by rw [List.length_map]; exact hi)]
  exact h4 _ (List.getElem_mem _)
theorem YL.add {M M' : ZM} {ls : List Ln} {r : Ln} (h : YL M 4 ls) (hr : ¬ r.1 ∈ ls.map (·.1)) (e3 : M' 3 = upd (M 3) (4 + ls.length) (nI r.1)) (e4 : M' 4 = upd (M 4) (4 + r.1) (nI ls.length)) (e5 : M' 5 = upd (M 5) (4 + r.1) (nI r.2.1)) (e6 : M' 6 = upd (M 6) (4 + r.1) (nI r.2.2.1)) (e7 : M' 7 = upd (M 7) (4 + r.1) (nI r.2.2.2.1)) (e8 : M' 8 = upd (M 8) (4 + r.1) (nI r.2.2.2.2)) : YL M' 4 (ls ++ [r]) := by
  refine ⟨fun i hi => ?_, fun l hl hm => ?_⟩
  · rw [len_1] at hi
    rw [e3, e4, e5, e6, e7, e8]
    by_cases c : i = ls.length
    · subst c; rw [gd_2]
      exact ⟨pk_us, pk_us, pk_us, pk_us, pk_us, pk_us⟩
    · have hi : i < ls.length := by omega
      rw [gd_1 hi]
      have hn : (ls.getD i (0, 0, 0, 0, 0)).1 ≠ r.1 := by
        intro z
        rw [gd hi] at z
        exact hr (by rw [← z]; exact List.mem_map.2 ⟨_, List.getElem_mem hi, rfl⟩)
      rw [pk_un (by omega), pk_un (by omega), pk_un (by omega), pk_un (by omega), pk_un (by omega), pk_un (by omega)]
      exact h.1 i hi
  · rw [List.map_append] at hm
    rw [e4, pk_un]
    · exact h.2 l hl (fun z => hm (List.mem_append.2 (Or.inl z)))
    · intro z
      exact hm (List.mem_append.2 (Or.inr (List.mem_cons.2 (Or.inl (by show l = r.1; omega)))))
def S_X5_readLine : ma_Cs := fun as M L K => match as with
  | [.ref k] => ∃ (g : Nat → Nat) (n : Nat) (p : Nat) (ts : List Tm) (ls : List Ln), (k = 0 ∧ Ty M g n ∧ M 0 32 = nI p ∧ p ≤ n ∧ M 0 33 = -1 ∧ PY M ts ls ∧ (ls.map (·.1)).Nodup ∧ (∀ x, x ∈ ls.map (·.1) → x < 4) ∧ 2 * ts.length ≤ p) ∧ (∀ (M' : ZM) (q : Nat) (ts' : List Tm) (r : Ln), ln g (ls.map (·.1)) ts p = .ok (q, ts', r) → Rf M M' → (M' 0 32 = nI q ∧ M' 0 33 = -1 ∧ PY M' ts' (ls ++ [r])) → K none M' L) ∧ (∀ (M' : ZM) (e : Nat), ln g (ls.map (·.1)) ts p = .error e → Rf M M' → M' 0 33 = nI e ∧ e < 1000 → K none M' L)
  | _ => False
theorem ms_X5_readLine : ma_ms S_X5_readLine := by
  intro as M L K K' hk h
  unfold S_X5_readLine at h ⊢
  split at h
  · obtain ⟨g, n, p, ts, ls, h⟩ := h
    exact ⟨g, n, p, ts, ls, h.1, fun x0 x1 x2 x3 x4 x5 x6 => hk _ _ _ (h.2.1 x0 x1 x2 x3 x4 x5 x6), fun x0 x1 x2 x3 x4 => hk _ _ _ (h.2.2 x0 x1 x2 x3 x4)⟩
  · exact h.elim
theorem un_X5_readLine {k : Nat} {M : ZM} {L : ZL} {K : ma_Kt} : S_X5_readLine [.ref k] M L K = (∃ (g : Nat → Nat) (n : Nat) (p : Nat) (ts : List Tm) (ls : List Ln), (k = 0 ∧ Ty M g n ∧ M 0 32 = nI p ∧ p ≤ n ∧ M 0 33 = -1 ∧ PY M ts ls ∧ (ls.map (·.1)).Nodup ∧ (∀ x, x ∈ ls.map (·.1) → x < 4) ∧ 2 * ts.length ≤ p) ∧ (∀ (M' : ZM) (q : Nat) (ts' : List Tm) (r : Ln), ln g (ls.map (·.1)) ts p = .ok (q, ts', r) → Rf M M' → (M' 0 32 = nI q ∧ M' 0 33 = -1 ∧ PY M' ts' (ls ++ [r])) → K none M' L) ∧ (∀ (M' : ZM) (e : Nat), ln g (ls.map (·.1)) ts p = .error e → Rf M M' → M' 0 33 = nI e ∧ e < 1000 → K none M' L)) := rfl
theorem pw_X5_readLine {k : Nat} {g : Nat → Nat} {n : Nat} {p : Nat} {ts : List Tm} {ls : List Ln} {M : ZM} {L : ZL} {K : ma_Kt} (hp : k = 0 ∧ Ty M g n ∧ M 0 32 = nI p ∧ p ≤ n ∧ M 0 33 = -1 ∧ PY M ts ls ∧ (ls.map (·.1)).Nodup ∧ (∀ x, x ∈ ls.map (·.1) → x < 4) ∧ 2 * ts.length ≤ p) (h : (∀ (M' : ZM) (q : Nat) (ts' : List Tm) (r : Ln), ln g (ls.map (·.1)) ts p = .ok (q, ts', r) → Rf M M' → (M' 0 32 = nI q ∧ M' 0 33 = -1 ∧ PY M' ts' (ls ++ [r])) → K none M' L) ∧ (∀ (M' : ZM) (e : Nat), ln g (ls.map (·.1)) ts p = .error e → Rf M M' → M' 0 33 = nI e ∧ e < 1000 → K none M' L)) : ma_rn (tb_X5_readLine S_X5_byteAt S_X5_isLetter S_X5_fails S_X5_term S_X5_number) 6 [.ref k] M L K := by
  refine ⟨Nat.le_of_ble_eq_true rfl, fun V hV => ?_⟩
  obtain ⟨rfl, h1, h2, h3, h4, h5, hN, h6, h7⟩ := hp
  obtain ⟨k1, k4, k5, k6, k7⟩ := id h1
  have hD := h5.Dy hN h6
  have hN0 : (ls.map (·.1)).length = ls.length := List.length_map ..
  generalize hds : ls.map (·.1) = ds at *
  have pos : ∀ i, g i ≠ 0 → i < n := fun i hi => Nat.lt_of_not_le fun e => hi (k7 i e)
  have hl4 := nd_le 4 _ hN h6
  rw [hN0] at hl4
  have E124 : ∀ (M1 : ZM) (e : Nat) (o1 o2 o4 o5 : Option Value) (x3 : Int32), e < 1000 → Rf M M1 → M1 0 33 = nI e → ln g ds ts p = .error e → V 124 [some (.ref 0), o1, o2, some (.int x3), o4, o5] [] M1 L := by
    intro M1 e o1 o2 o4 o5 x3 e0 e1 e2 e3
    have g33 : (0 : Int32) ≤ nI e := nI_pos' (by omega)
    refine ma_walk (mo_X5_readLine ms_X5_byteAt ms_X5_isLetter ms_X5_fails ms_X5_term ms_X5_number) hV [124] (fun F hF => ?_)
    simp only [tb_X5_readLine, hF, in_no, in_push, in_ild, in_lld, in_ald, in_ist, in_ast, in_lst, in_inc, in_iii, in_idv, in_ldv, in_lll, in_lli, in_lil, in_ii, in_il, in_li, in_ll, in_dup, in_dp2, q_if1, q_if2, in_go, in_sw, ma_sw, in_rv, in_ri, in_rz, in_rl, in_get, in_put, in_puz, in_iar, in_bar, in_lar, in_aar, in_iaw, in_baw, in_law, in_len, in_cpy, in_s1, in_s2, in_s3, in_v1, in_v2, in_v3, in_v4, in_v5, in_v6, ma_bk, ma_gl, ma_sl, ma_nl, ma_wc, ma_wd, ma_nn, ma_en, List.mem_cons, List.not_mem_nil, or_false, or_true, true_or, false_or, true_and, and_true, false_and, and_false, if_true, if_false, forall_const, true_implies, false_implies, not_true_eq_false, not_false_eq_true, Classical.not_not, implies_true, and_self, Nat.add_zero, Nat.zero_add, eq_self, ne_eq, reduceCtorEq, Nat.reduceLT, Nat.reduceLeDiff, Nat.reduceEqDiff, Nat.reduceSub, Nat.reduceAdd, i10, i01, im10, Int32.reduceLT, Int32.reduceLE, ↓reduceIte, reduceIte, up_r, uL_r, cp_r, Int32.toInt_toInt64, Int64.reduceToInt, Int32.reduceToInt, ↓b1_or, b1_0, b1_1, lc_lt, lc_le, lc_gt, lc_ge, lc_eq, ym_0, ym_1, ym_2, ym_3, ym_4, ym_5, ym_6, ym_7, ym_8, ym_9, ym_10, ym_11, ym_12, ym_13, ym_14, ym_15, ym_16, ym_17, ym_18, ym_19, ym_20, ym_21, ym_22, ym_23, ym_24, ym_25, ym_26, ym_27, ym_28, ym_29, ym_30, rm__0, rm__1, rm__2, rm__3, rm__4, rm__5, rm__6, rm__7, rm__8, rm__9, rm__10, rm__11, rm__12, rm__13, rm__14, rm__15, rm__16, rm__17, rm__18, rm__19, rm__20, rm__21, rm__22, rm__23, rm__24, rm__25, rm__26, rm__27, rm__28, rm__29, rm__30, rm__31, rm__32, rm__33, rm__34, rm__35, rm__36, rm__37, rm__38, rm__39, rm__40, rm__41, rm__42, rm__43, rm__44, rm__45, un_X5_byteAt, un_X5_isLetter, un_X5_fails, un_X5_term, un_X5_number, e2, g33]
    try simp only [iteP, Classical.not_not]
    refine h.2 _ e e3 ?_ ⟨?_, e0⟩
    · exact e1.trans (Rf.f0 (by omega))
    · exact e2
  have E230 : ∀ (M1 : ZM) (e : Nat) (o1 o2 o3 o5 : Option Value) (x4 : Int32), e < 1000 → Rf M M1 → M1 0 33 = nI e → ln g ds ts p = .error e → V 230 [some (.ref 0), o1, o2, o3, some (.int x4), o5] [] M1 L := by
    intro M1 e o1 o2 o3 o5 x4 e0 e1 e2 e3
    have g33 : (0 : Int32) ≤ nI e := nI_pos' (by omega)
    refine ma_walk (mo_X5_readLine ms_X5_byteAt ms_X5_isLetter ms_X5_fails ms_X5_term ms_X5_number) hV [] (fun F hF => ?_)
    simp only [tb_X5_readLine, hF, in_no, in_push, in_ild, in_lld, in_ald, in_ist, in_ast, in_lst, in_inc, in_iii, in_idv, in_ldv, in_lll, in_lli, in_lil, in_ii, in_il, in_li, in_ll, in_dup, in_dp2, q_if1, q_if2, in_go, in_sw, ma_sw, in_rv, in_ri, in_rz, in_rl, in_get, in_put, in_puz, in_iar, in_bar, in_lar, in_aar, in_iaw, in_baw, in_law, in_len, in_cpy, in_s1, in_s2, in_s3, in_v1, in_v2, in_v3, in_v4, in_v5, in_v6, ma_bk, ma_gl, ma_sl, ma_nl, ma_wc, ma_wd, ma_nn, ma_en, List.mem_cons, List.not_mem_nil, or_false, or_true, true_or, false_or, true_and, and_true, false_and, and_false, if_true, if_false, forall_const, true_implies, false_implies, not_true_eq_false, not_false_eq_true, Classical.not_not, implies_true, and_self, Nat.add_zero, Nat.zero_add, eq_self, ne_eq, reduceCtorEq, Nat.reduceLT, Nat.reduceLeDiff, Nat.reduceEqDiff, Nat.reduceSub, Nat.reduceAdd, i10, i01, im10, Int32.reduceLT, Int32.reduceLE, ↓reduceIte, reduceIte, up_r, uL_r, cp_r, Int32.toInt_toInt64, Int64.reduceToInt, Int32.reduceToInt, ↓b1_or, b1_0, b1_1, lc_lt, lc_le, lc_gt, lc_ge, lc_eq, ym_0, ym_1, ym_2, ym_3, ym_4, ym_5, ym_6, ym_7, ym_8, ym_9, ym_10, ym_11, ym_12, ym_13, ym_14, ym_15, ym_16, ym_17, ym_18, ym_19, ym_20, ym_21, ym_22, ym_23, ym_24, ym_25, ym_26, ym_27, ym_28, ym_29, ym_30, rm__0, rm__1, rm__2, rm__3, rm__4, rm__5, rm__6, rm__7, rm__8, rm__9, rm__10, rm__11, rm__12, rm__13, rm__14, rm__15, rm__16, rm__17, rm__18, rm__19, rm__20, rm__21, rm__22, rm__23, rm__24, rm__25, rm__26, rm__27, rm__28, rm__29, rm__30, rm__31, rm__32, rm__33, rm__34, rm__35, rm__36, rm__37, rm__38, rm__39, rm__40, rm__41, rm__42, rm__43, rm__44, rm__45, un_X5_byteAt, un_X5_isLetter, un_X5_fails, un_X5_term, un_X5_number, e2, g33]
    try simp only [iteP, Classical.not_not]
    refine h.2 _ e e3 ?_ ⟨?_, e0⟩
    · exact e1.trans (Rf.f0 (by omega))
    · exact e2
  have g33 : ¬ (0 : Int32) ≤ -1 := by decide
  have l33 : (-1 : Int32) < 0 := by decide
  have O230 : ∀ (M1 : ZM) (q b : Nat) (ts1 : List Tm) (o2 o5 : Option Value), ¬ (g p - 97) ∈ ds → (97 ≤ g p ∧ g p ≤ 100) → Rf M M1 → (∀ a, 3 ≤ a → a ≤ 8 → M1 a = M a) → M1 0 8 = nI ls.length → M1 0 32 = nI q → M1 0 33 = -1 → M1 0 34 = nI ts1.length → YT M1 80 ts1 → q ≤ n → ts.length ≤ ts1.length → ls.length < 4 →
      ln g ds ts p = lnE (g p - 97) ts.length (q, ts1) (ln3 g q b) → V 230 [some (.ref 0), some (.int (nI (g p - 97))), o2, some (.int (nI ts.length)), some (.int (nI b)), o5] [] M1 L := by
    intro M1 q b ts1 o2 o5 z1 z2 e1 e2 e3 e4 e5 e6 e7 e8 e9 hm eA
    have hT : Ty M1 g n := h1.to (e1.2.1 5 (by decide) (by decide) (by decide) (by decide)) (e1.1 2 (by omega))
    unfold ln3 at eA
    have v8 : vp_in (nI (4 + ls.length)) 8 := vp_in_nI (by omega) (by decide)
    have w8 : vp_in (nI (4 + (g p - 97))) 8 := vp_in_nI (by omega) (by decide)
    have g0 : ∀ e : Nat, e < 1000 → ((0 : Int32) ≤ nI e) = True := fun e he => eq_true (nI_pos' (by omega))
    have fin : ∀ (M2 : ZM) (q2 nr : Nat), (∀ a, a ≠ 0 → M2 a = M1 a) → (∀ j, j ≠ 32 → M2 0 j = M1 0 j) → M2 0 32 = nI q2 → ln g ds ts p = .ok (q2, ts1, (g p - 97, ts.length, ts1.length - ts.length, b, nr)) →
        K none (ma_up (ma_up (ma_up (ma_up (ma_up (ma_up (ma_up M2 3 (4 + ls.length) (nI (g p - 97))) 4 (4 + (g p - 97)) (nI ls.length)) 5 (4 + (g p - 97)) (nI ts.length)) 6 (4 + (g p - 97)) (nI (ts1.length - ts.length))) 7 (4 + (g p - 97)) (nI b)) 8 (4 + (g p - 97)) (nI nr)) 0 8 (nI (ls.length + 1))) L := by
      intro M2 q2 nr c1 c2 c3 c4
      have c5 : Rf M M2 := by
        refine e1.trans ⟨fun a z => c1 a (by omega), fun j y1 y2 y3 y4 => c2 j y2, fun j z => ?_, fun j z => ?_⟩
        · rw [c1 3 (by decide), c1 4 (by decide), c1 5 (by decide), c1 6 (by decide), c1 7 (by decide), c1 8 (by decide)]; exact ⟨rfl, rfl, rfl, rfl, rfl, rfl⟩
        · rw [c1 9 (by decide), c1 10 (by decide), c1 11 (by decide)]; exact ⟨rfl, rfl, rfl⟩
      refine h.1 _ q2 ts1 _ c4 ?_ ⟨c3, (c2 33 (by decide)).trans e5, by rw [len_1]; rfl, (c2 34 (by decide)).trans e6, YL.add h5.2.2.1 (by rw [hds]; exact z1) ?_ ?_ ?_ ?_ ?_ ?_, e7.to (c1 9 (by decide)) (c1 10 (by decide)) (c1 11 (by decide))⟩
      · exact (c5.trans (Rf.fa (by omega) (by omega))).trans ((Rf.fa (by omega) (by omega)).trans ((Rf.fa (by omega) (by omega)).trans ((Rf.fa (by omega) (by omega)).trans ((Rf.fa (by omega) (by omega)).trans ((Rf.fa (by omega) (by omega)).trans (Rf.f0 (by omega)))))))
      · rw [← e2 3 (by decide) (by decide), ← c1 3 (by decide)]; exact ma_up_at (M := M2)
      · rw [← e2 4 (by decide) (by decide), ← c1 4 (by decide)]; exact ma_up_at (M := M2)
      · rw [← e2 5 (by decide) (by decide), ← c1 5 (by decide)]; exact ma_up_at (M := M2)
      · rw [← e2 6 (by decide) (by decide), ← c1 6 (by decide)]; exact ma_up_at (M := M2)
      · rw [← e2 7 (by decide) (by decide), ← c1 7 (by decide)]; exact ma_up_at (M := M2)
      · rw [← e2 8 (by decide) (by decide), ← c1 8 (by decide)]; exact ma_up_at (M := M2)
    refine ma_walk (mo_X5_readLine ms_X5_byteAt ms_X5_isLetter ms_X5_fails ms_X5_term ms_X5_number) hV [] (fun F hF => ?_)
    simp only [tb_X5_readLine, hF, in_no, in_push, in_ild, in_lld, in_ald, in_ist, in_ast, in_lst, in_inc, in_iii, in_idv, in_ldv, in_lll, in_lli, in_lil, in_ii, in_il, in_li, in_ll, in_dup, in_dp2, q_if1, q_if2, in_go, in_sw, ma_sw, in_rv, in_ri, in_rz, in_rl, in_get, in_put, in_puz, in_iar, in_bar, in_lar, in_aar, in_iaw, in_baw, in_law, in_len, in_cpy, in_s1, in_s2, in_s3, in_v1, in_v2, in_v3, in_v4, in_v5, in_v6, ma_bk, ma_gl, ma_sl, ma_nl, ma_wc, ma_wd, ma_nn, ma_en, List.mem_cons, List.not_mem_nil, or_false, or_true, true_or, false_or, true_and, and_true, false_and, and_false, if_true, if_false, forall_const, true_implies, false_implies, not_true_eq_false, not_false_eq_true, Classical.not_not, implies_true, and_self, Nat.add_zero, Nat.zero_add, eq_self, ne_eq, reduceCtorEq, Nat.reduceLT, Nat.reduceLeDiff, Nat.reduceEqDiff, Nat.reduceSub, Nat.reduceAdd, i10, i01, im10, Int32.reduceLT, Int32.reduceLE, ↓reduceIte, reduceIte, up_r, uL_r, cp_r, Int32.toInt_toInt64, Int64.reduceToInt, Int32.reduceToInt, ↓b1_or, b1_0, b1_1, lc_lt, lc_le, lc_gt, lc_ge, lc_eq, ym_0, ym_1, ym_2, ym_3, ym_4, ym_5, ym_6, ym_7, ym_8, ym_9, ym_10, ym_11, ym_12, ym_13, ym_14, ym_15, ym_16, ym_17, ym_18, ym_19, ym_20, ym_21, ym_22, ym_23, ym_24, ym_25, ym_26, ym_27, ym_28, ym_29, ym_30, rm__0, rm__1, rm__2, rm__3, rm__4, rm__5, rm__6, rm__7, rm__8, rm__9, rm__10, rm__11, rm__12, rm__13, rm__14, rm__15, rm__16, rm__17, rm__18, rm__19, rm__20, rm__21, rm__22, rm__23, rm__24, rm__25, rm__26, rm__27, rm__28, rm__29, rm__30, rm__31, rm__32, rm__33, rm__34, rm__35, rm__36, rm__37, rm__38, rm__39, rm__40, rm__41, rm__42, rm__43, rm__44, rm__45, un_X5_byteAt, un_X5_isLetter, un_X5_fails, un_X5_term, un_X5_number, e3, e4, e5, e6, g33, l33]
    try simp only [iteP, Classical.not_not]
    simp only [show ∀ x, (4 : Int32) + nI x = nI (4 + x) from fun x => nI_add 4 x, v8, w8, nI_1, a_cl (show 4 + ls.length < 2147483648 by omega), a_cl (show 4 + (g p - 97) < 2147483648 by omega), pk_sub e9, true_and, g0 q (by omega), g0 (q + 1) (by omega), not_true_eq_false, false_implies, and_true, true_implies]
    refine ⟨g, n, q, ⟨hT, rfl, by omega⟩, ?_⟩
    rw [show (126 : Int32) = nI 126 from rfl, byq k6 k7 (by omega) (by omega)]
    refine ⟨fun c => ?_, fun c => ?_⟩
    · rw [if_pos c] at eA
      refine ⟨g, n, q + 1, ⟨hT.to rfl rfl, rfl, by omega⟩, ?_⟩
      rw [show (59 : Int32) = nI 59 from rfl, byq k6 k7 (by omega) (by omega)]
      refine ⟨fun c1 => ?_, fun c1 => ?_⟩
      · rw [if_pos c1] at eA
        exact fin _ (q + 2) 1 (fun a ha => by rw [up_c ha, up_c ha]) (fun j hj => by simp only [up_r, hj, and_false, if_false]) rfl eA
      · rw [if_neg c1] at eA
        exact h.2 _ (q + 1) eA (((e1.trans (Rf.f0 (by omega))).trans (Rf.f0 (by omega))).trans (Rf.f0 (by omega))) ⟨rfl, by omega⟩
    · rw [if_neg c] at eA
      refine ⟨g, n, q, ⟨hT, rfl, by omega⟩, ?_⟩
      rw [show (59 : Int32) = nI 59 from rfl, byq k6 k7 (by omega) (by omega)]
      refine ⟨fun c1 => ?_, fun c1 => ?_⟩
      · rw [if_pos c1] at eA
        exact fin _ (q + 1) 0 (fun a ha => by rw [up_c ha]) (fun j hj => by simp only [up_r, hj, and_false, if_false]) rfl eA
      · rw [if_neg c1] at eA
        exact h.2 _ q eA ((e1.trans (Rf.f0 (by omega))).trans (Rf.f0 (by omega))) ⟨rfl, by omega⟩
  have O165 : ∀ (M1 : ZM) (q : Nat) (ts1 : List Tm) (o2 : Int32), ¬ (g p - 97) ∈ ds → (97 ≤ g p ∧ g p ≤ 100) → Rf M M1 → (∀ a, 3 ≤ a → a ≤ 8 → M1 a = M a) → M1 0 8 = nI ls.length → M1 0 32 = nI q → M1 0 33 = -1 → M1 0 34 = nI ts1.length → YT M1 80 ts1 → q ≤ n → ts.length ≤ ts1.length → ls.length < 4 →
      ln g ds ts p = lnE (g p - 97) ts.length (q, ts1) (ln2 g q) → V 165 [some (.ref 0), some (.int (nI (g p - 97))), some (.int o2), some (.int (nI ts.length)), none, none] [] M1 L := by
    intro M1 q ts1 o2 z1 z2 e1 e2 e3 e4 e5 e6 e7 e8 e9 hm eA
    have hT : Ty M1 g n := h1.to (e1.2.1 5 (by decide) (by decide) (by decide) (by decide)) (e1.1 2 (by omega))
    unfold ln2 at eA
    have f9 : ∀ (M2 : ZM) (q2 : Nat), (∀ a, a ≠ 0 → M2 a = M1 a) → (∀ j, j ≠ 32 → M2 0 j = M1 0 j) → M2 0 32 = nI q2 → q2 ≤ n → ∀ (b : Nat) (o5 : Option Value), ln g ds ts p = lnE (g p - 97) ts.length (q, ts1) (ln3 g q2 b) → V 230 [some (.ref 0), some (.int (nI (g p - 97))), some (.int o2), some (.int (nI ts.length)), some (.int (nI b)), o5] [] M2 L := by
      intro M2 q2 c1 c2 c3 c4 b o5 c6
      have c5 : Rf M M2 := by
        refine e1.trans ⟨fun a z => c1 a (by omega), fun j y1 y2 y3 y4 => c2 j y2, fun j z => ?_, fun j z => ?_⟩
        · rw [c1 3 (by decide), c1 4 (by decide), c1 5 (by decide), c1 6 (by decide), c1 7 (by decide), c1 8 (by decide)]; exact ⟨rfl, rfl, rfl, rfl, rfl, rfl⟩
        · rw [c1 9 (by decide), c1 10 (by decide), c1 11 (by decide)]; exact ⟨rfl, rfl, rfl⟩
      exact O230 M2 q2 b ts1 _ o5 z1 z2 c5 (fun a y1 y2 => (c1 a (by omega)).trans (e2 a y1 y2)) ((c2 8 (by decide)).trans e3) c3 ((c2 33 (by decide)).trans e5) ((c2 34 (by decide)).trans e6) (e7.to (c1 9 (by decide)) (c1 10 (by decide)) (c1 11 (by decide))) c4 e9 hm c6
    refine ma_walk (mo_X5_readLine ms_X5_byteAt ms_X5_isLetter ms_X5_fails ms_X5_term ms_X5_number) hV [230] (fun F hF => ?_)
    simp only [tb_X5_readLine, hF, in_no, in_push, in_ild, in_lld, in_ald, in_ist, in_ast, in_lst, in_inc, in_iii, in_idv, in_ldv, in_lll, in_lli, in_lil, in_ii, in_il, in_li, in_ll, in_dup, in_dp2, q_if1, q_if2, in_go, in_sw, ma_sw, in_rv, in_ri, in_rz, in_rl, in_get, in_put, in_puz, in_iar, in_bar, in_lar, in_aar, in_iaw, in_baw, in_law, in_len, in_cpy, in_s1, in_s2, in_s3, in_v1, in_v2, in_v3, in_v4, in_v5, in_v6, ma_bk, ma_gl, ma_sl, ma_nl, ma_wc, ma_wd, ma_nn, ma_en, List.mem_cons, List.not_mem_nil, or_false, or_true, true_or, false_or, true_and, and_true, false_and, and_false, if_true, if_false, forall_const, true_implies, false_implies, not_true_eq_false, not_false_eq_true, Classical.not_not, implies_true, and_self, Nat.add_zero, Nat.zero_add, eq_self, ne_eq, reduceCtorEq, Nat.reduceLT, Nat.reduceLeDiff, Nat.reduceEqDiff, Nat.reduceSub, Nat.reduceAdd, i10, i01, im10, Int32.reduceLT, Int32.reduceLE, ↓reduceIte, reduceIte, up_r, uL_r, cp_r, Int32.toInt_toInt64, Int64.reduceToInt, Int32.reduceToInt, ↓b1_or, b1_0, b1_1, lc_lt, lc_le, lc_gt, lc_ge, lc_eq, ym_0, ym_1, ym_2, ym_3, ym_4, ym_5, ym_6, ym_7, ym_8, ym_9, ym_10, ym_11, ym_12, ym_13, ym_14, ym_15, ym_16, ym_17, ym_18, ym_19, ym_20, ym_21, ym_22, ym_23, ym_24, ym_25, ym_26, ym_27, ym_28, ym_29, ym_30, rm__0, rm__1, rm__2, rm__3, rm__4, rm__5, rm__6, rm__7, rm__8, rm__9, rm__10, rm__11, rm__12, rm__13, rm__14, rm__15, rm__16, rm__17, rm__18, rm__19, rm__20, rm__21, rm__22, rm__23, rm__24, rm__25, rm__26, rm__27, rm__28, rm__29, rm__30, rm__31, rm__32, rm__33, rm__34, rm__35, rm__36, rm__37, rm__38, rm__39, rm__40, rm__41, rm__42, rm__43, rm__44, rm__45, un_X5_byteAt, un_X5_isLetter, un_X5_fails, un_X5_term, un_X5_number, e4, e5, g33, l33]
    try simp only [iteP, Classical.not_not]
    refine ⟨g, n, q, ⟨hT, rfl, by omega⟩, ?_⟩
    rw [show (47 : Int32) = nI 47 from rfl, byq k6 k7 (by omega) (by omega)]
    simp only [nI_1]
    refine ⟨fun c => ?_, fun c => ?_⟩
    · have hq := pos q (by omega)
      have hn := nu_le k7 200 (q + 1) 0 hq
      rw [if_pos c] at eA
      refine ⟨g, n, q + 1, 1000, ⟨hT.to rfl rfl, rfl, hq, rfl, by omega⟩, fun c1 => ?_, fun c1 => ?_, fun v c1 => ?_⟩
      · rw [if_neg (fun z => c1 z.1)] at eA
        refine E230 _ (q + 1) _ _ _ _ _ (by omega) ((e1.trans (Rf.f0 (by omega))).trans (Rf.f0 (by omega))) ?_ eA
        rfl
      · rw [if_pos c1] at eA
        have hq2 : q + 1 < (nu g 200 (q + 1) 0).1 := by
          rw [nu, if_pos c1.1]
          exact Nat.lt_of_lt_of_le (Nat.lt_succ_self _) (nu_le k7 199 (q + 1 + 1) _ (pos (q + 1) (by omega))).1
        rw [a_eq (by omega) (by omega)]
        refine ⟨fun z => by omega, fun _ => ?_⟩
        exact f9 _ _ (fun a ha => by rw [up_c ha, up_c ha]) (fun j hj => by simp only [up_r, hj, and_false, if_false]) rfl hn.2 _ _ eA
      · rw [if_neg (fun z => c1.2 z.2)] at eA
        have eB : Rf M (ma_up (ma_up (ma_up M1 0 32 (nI (q + 1))) 0 32 (nI (nu g 200 (q + 1) 0).1)) 0 33 (nI (q + 1))) := ((e1.trans (Rf.f0 (by omega))).trans (Rf.f0 (by omega))).trans (Rf.f0 (by omega))
        have g34 : ¬ nI (q + 1) < 0 := nI_pos (by omega)
        rw [if_neg g34]
        exact ⟨fun _ => E230 _ (q + 1) _ _ _ _ _ (by omega) (eB.trans (Rf.f0 (by omega))) rfl eA, fun _ => E230 _ (q + 1) _ _ _ _ _ (by omega) eB rfl eA⟩
    · rw [if_neg c] at eA
      exact f9 M1 q (fun _ _ => rfl) (fun _ _ => rfl) e4 e8 1 none eA
  have O124 : ∀ (m : Nat) (M1 : ZM) (q f : Nat) (ts1 : List Tm) (o2 : Int32), n - q = m → 161 ≤ f + q → 2 * ts1.length + 1 ≤ q → ¬ (g p - 97) ∈ ds → (97 ≤ g p ∧ g p ≤ 100) → Rf M M1 → (∀ a, 3 ≤ a → a ≤ 8 → M1 a = M a) → M1 0 8 = nI ls.length → M1 0 32 = nI q → M1 0 33 = -1 → M1 0 34 = nI ts1.length → YT M1 80 ts1 → q ≤ n → ts.length ≤ ts1.length → ls.length < 4 →
      ln g ds ts p = lnD g (g p - 97) ts.length (trs g ds f q ts1) → V 124 [some (.ref 0), some (.int (nI (g p - 97))), some (.int o2), some (.int (nI ts.length)), none, none] [] M1 L := by
    intro m
    induction m using Nat.strongRecOn with
    | ind m ih =>
      intro M1 q f ts1 o2 e0 ef et z1 z2 e1 e2 e3 e4 e5 e6 e7 e8 e9 hm eA
      obtain ⟨f, rfl⟩ : ∃ f', f = f' + 1 := ⟨f - 1, by omega⟩
      rw [trs] at eA
      have hT : Ty M1 g n := h1.to (e1.2.1 5 (by decide) (by decide) (by decide) (by decide)) (e1.1 2 (by omega))
      have hD1 : Dy M1 ds := hD.to (by rw [e3, hD.1, hN0]) (e2 3 (by decide) (by decide))
      have go : (g q = 43 ∨ g q = 45) → ∃ (g_2 : Nat → Nat) (n p_2 : Nat) (ds : List Nat) (t : Nat),
            (Ty M1 g_2 n ∧ nI q = nI p_2 ∧ p_2 ≤ n ∧ Dy M1 ds ∧ nI ts1.length = nI t ∧ t < 80 ∧ (g_2 p_2 = 43 ∨ g_2 p_2 = 45)) ∧
              (∀ (M' : ZM) (q : Nat) (tm : Tm), tr g_2 ds p_2 = Except.ok (q, tm) → Yx M1 M' q t tm →
                      V 124 [some (.ref 0), some (.int (nI (g p - 97))), some (.int o2), some (.int (nI ts.length)), none, none] [] M' L) ∧
                ∀ (M' : ZM) (e : Nat), tr g_2 ds p_2 = Except.error e → Yf M1 M' t → M' 0 33 = nI e → V 124 [some (.ref 0), some (.int (nI (g p - 97))), some (.int o2), some (.int (nI ts.length)), none, none] [] M' L := by
        intro c
        have z := pos q (by omega)
        rw [if_pos c] at eA
        refine ⟨g, n, q, ds, ts1.length, ⟨hT, rfl, e8, hD1, rfl, by omega, c⟩, fun M2 r tm ea eb => ?_, fun M2 e ea eb ec => ?_⟩
        · have hr := tr_le k7 (Nat.le_of_lt z) ea
          have hr2 := hr.2.2 c
          rw [ea] at eA
          obtain ⟨g1, g2, g3, g4, g5, g6, g7⟩ := eb
          exact ih (n - r) (by omega) M2 r f (ts1 ++ [tm]) o2 rfl (by omega) (by rw [len_1]; omega) z1 z2 (e1.trans g1.Rf) (fun a y1 y2 => (g1.1 a (by omega) (by omega) (by omega) (by omega)).trans (e2 a y1 y2)) ((g1.2.1 8 (by decide) (by decide) (by decide)).trans e3) g2 g3 (by rw [len_1]; exact g4) (e7.add g1.2.2 g5 g6 g7) hr.2.1 (by rw [len_1]; omega) hm eA
        · rw [ea] at eA
          exact E124 M2 e _ _ _ _ _ (tr_er k7 (Nat.le_of_lt z) k4 ea) (e1.trans eb.Rf) ec eA
      refine ma_walk (mo_X5_readLine ms_X5_byteAt ms_X5_isLetter ms_X5_fails ms_X5_term ms_X5_number) hV [124, 165] (fun F hF => ?_)
      simp only [tb_X5_readLine, hF, in_no, in_push, in_ild, in_lld, in_ald, in_ist, in_ast, in_lst, in_inc, in_iii, in_idv, in_ldv, in_lll, in_lli, in_lil, in_ii, in_il, in_li, in_ll, in_dup, in_dp2, q_if1, q_if2, in_go, in_sw, ma_sw, in_rv, in_ri, in_rz, in_rl, in_get, in_put, in_puz, in_iar, in_bar, in_lar, in_aar, in_iaw, in_baw, in_law, in_len, in_cpy, in_s1, in_s2, in_s3, in_v1, in_v2, in_v3, in_v4, in_v5, in_v6, ma_bk, ma_gl, ma_sl, ma_nl, ma_wc, ma_wd, ma_nn, ma_en, List.mem_cons, List.not_mem_nil, or_false, or_true, true_or, false_or, true_and, and_true, false_and, and_false, if_true, if_false, forall_const, true_implies, false_implies, not_true_eq_false, not_false_eq_true, Classical.not_not, implies_true, and_self, Nat.add_zero, Nat.zero_add, eq_self, ne_eq, reduceCtorEq, Nat.reduceLT, Nat.reduceLeDiff, Nat.reduceEqDiff, Nat.reduceSub, Nat.reduceAdd, i10, i01, im10, Int32.reduceLT, Int32.reduceLE, ↓reduceIte, reduceIte, up_r, uL_r, cp_r, Int32.toInt_toInt64, Int64.reduceToInt, Int32.reduceToInt, ↓b1_or, b1_0, b1_1, lc_lt, lc_le, lc_gt, lc_ge, lc_eq, ym_0, ym_1, ym_2, ym_3, ym_4, ym_5, ym_6, ym_7, ym_8, ym_9, ym_10, ym_11, ym_12, ym_13, ym_14, ym_15, ym_16, ym_17, ym_18, ym_19, ym_20, ym_21, ym_22, ym_23, ym_24, ym_25, ym_26, ym_27, ym_28, ym_29, ym_30, rm__0, rm__1, rm__2, rm__3, rm__4, rm__5, rm__6, rm__7, rm__8, rm__9, rm__10, rm__11, rm__12, rm__13, rm__14, rm__15, rm__16, rm__17, rm__18, rm__19, rm__20, rm__21, rm__22, rm__23, rm__24, rm__25, rm__26, rm__27, rm__28, rm__29, rm__30, rm__31, rm__32, rm__33, rm__34, rm__35, rm__36, rm__37, rm__38, rm__39, rm__40, rm__41, rm__42, rm__43, rm__44, rm__45, un_X5_byteAt, un_X5_isLetter, un_X5_fails, un_X5_term, un_X5_number, e4, e5, e6, g33, l33]
      try simp only [iteP, Classical.not_not]
      refine ⟨g, n, q, ⟨hT, rfl, by omega⟩, ?_⟩
      rw [show (43 : Int32) = nI 43 from rfl, byq k6 k7 (by omega) (by omega)]
      refine ⟨fun c => go (Or.inl c), fun c => ⟨g, n, q, ⟨hT, rfl, by omega⟩, ?_⟩⟩
      rw [show (45 : Int32) = nI 45 from rfl, byq k6 k7 (by omega) (by omega)]
      refine ⟨fun c1 => go (Or.inr c1), fun c1 => ?_⟩
      rw [if_neg (by omega)] at eA
      exact O165 M1 q ts1 o2 z1 z2 e1 e2 e3 e4 e5 e6 e7 e8 e9 hm eA
  have L16 : ∀ j, j ≤ ds.length → V 16 [some (.ref 0), some (.int (byY g n p - 97)), some (.int (b1 (∃ i, i < j ∧ M 3 (4 + i) = byY g n p - 97))), some (.int (nI j)), none, none] [] M L := by
    unfold ln at h O124
    refine lp_up ?_ ?_
    · refine ma_walk (mo_X5_readLine ms_X5_byteAt ms_X5_isLetter ms_X5_fails ms_X5_term ms_X5_number) hV [16, 124] (fun F hF => ?_)
      simp only [tb_X5_readLine, hF, in_no, in_push, in_ild, in_lld, in_ald, in_ist, in_ast, in_lst, in_inc, in_iii, in_idv, in_ldv, in_lll, in_lli, in_lil, in_ii, in_il, in_li, in_ll, in_dup, in_dp2, q_if1, q_if2, in_go, in_sw, ma_sw, in_rv, in_ri, in_rz, in_rl, in_get, in_put, in_puz, in_iar, in_bar, in_lar, in_aar, in_iaw, in_baw, in_law, in_len, in_cpy, in_s1, in_s2, in_s3, in_v1, in_v2, in_v3, in_v4, in_v5, in_v6, ma_bk, ma_gl, ma_sl, ma_nl, ma_wc, ma_wd, ma_nn, ma_en, List.mem_cons, List.not_mem_nil, or_false, or_true, true_or, false_or, true_and, and_true, false_and, and_false, if_true, if_false, forall_const, true_implies, false_implies, not_true_eq_false, not_false_eq_true, Classical.not_not, implies_true, and_self, Nat.add_zero, Nat.zero_add, eq_self, ne_eq, reduceCtorEq, Nat.reduceLT, Nat.reduceLeDiff, Nat.reduceEqDiff, Nat.reduceSub, Nat.reduceAdd, i10, i01, im10, Int32.reduceLT, Int32.reduceLE, ↓reduceIte, reduceIte, up_r, uL_r, cp_r, Int32.toInt_toInt64, Int64.reduceToInt, Int32.reduceToInt, ↓b1_or, b1_0, b1_1, lc_lt, lc_le, lc_gt, lc_ge, lc_eq, ym_0, ym_1, ym_2, ym_3, ym_4, ym_5, ym_6, ym_7, ym_8, ym_9, ym_10, ym_11, ym_12, ym_13, ym_14, ym_15, ym_16, ym_17, ym_18, ym_19, ym_20, ym_21, ym_22, ym_23, ym_24, ym_25, ym_26, ym_27, ym_28, ym_29, ym_30, rm__0, rm__1, rm__2, rm__3, rm__4, rm__5, rm__6, rm__7, rm__8, rm__9, rm__10, rm__11, rm__12, rm__13, rm__14, rm__15, rm__16, rm__17, rm__18, rm__19, rm__20, rm__21, rm__22, rm__23, rm__24, rm__25, rm__26, rm__27, rm__28, rm__29, rm__30, rm__31, rm__32, rm__33, rm__34, rm__35, rm__36, rm__37, rm__38, rm__39, rm__40, rm__41, rm__42, rm__43, rm__44, rm__45, un_X5_byteAt, un_X5_isLetter, un_X5_fails, un_X5_term, un_X5_number, h5.1, ← hN0, h2, h4, l33]
      try simp only [iteP, Classical.not_not]
      rw [by_l k6 k7]
      refine ⟨fun _ => ⟨fun c => ?_, fun c => ?_⟩, fun z => absurd (nI_le (Nat.le_refl _) (by omega)) z⟩
      · exact h.2 _ p (by rw [if_neg (fun z => c z.1)]) (Rf.f0 (by omega)) ⟨rfl, by omega⟩
      · rw [by_in (p := p) k7 (by omega), show nI (g p) - (97 : Int32) = nI (g p - 97) from pk_sub c.1, hD.mem2 (by omega)]
        refine ⟨fun c1 => ?_, fun c1 => ?_⟩
        · rw [if_pos ⟨c, c1⟩] at h O124
          have hm : ls.length < 4 := by
            have q := nd_le 4 ((g p - 97) :: ds) (List.nodup_cons.2 ⟨c1, hN⟩) (fun x hx => by
              rcases List.mem_cons.1 hx with z | z
              · omega
              · exact h6 x z)
            rw [List.length_cons, hN0] at q; omega
          have hq := pos p (by omega)
          simp only [nI_1]
          refine ⟨g, n, p + 1, ⟨h1.to rfl rfl, rfl, by omega⟩, ?_⟩
          rw [show (61 : Int32) = nI 61 from rfl, byq k6 k7 (by omega) (by omega)]
          refine ⟨fun c2 => ?_, fun c2 => ?_⟩
          · rw [if_pos c2] at h O124
            unfold ln1 at h O124
            have hq2 := pos (p + 1) (by omega)
            refine ⟨g, n, p + 2, ds, ts.length, ⟨h1.to rfl rfl, rfl, hq2, hD.to rfl rfl, h5.2.1, by omega⟩, fun M2 r tm ea eb => ?_, fun M2 e ea eb ec => ?_⟩
            · rw [ea] at O124
              have hr := tr_le k7 hq2 ea
              obtain ⟨g1, g2, g3, g4, g5, g6, g7⟩ := eb
              rw [h5.2.1]
              refine O124 (n - r) M2 r 200 (ts ++ [tm]) _ rfl (by omega) (by rw [len_1]; omega) c1 c (((Rf.f0 (by omega)).trans (Rf.f0 (by omega))).trans g1.Rf) (fun a y1 y2 => ?_) ?_ g2 g3 (by rw [len_1]; exact g4) (YT.add (YT.to h5.2.2.2 rfl rfl rfl) g1.2.2 g5 g6 g7) hr.2.1 (by rw [len_1]; omega) hm rfl
              · rw [g1.1 a (by omega) (by omega) (by omega) (by omega), up_c (by omega), up_c (by omega)]
              · rw [g1.2.1 8 (by decide) (by decide) (by decide)]; exact h5.1
            · rw [ea] at h
              rw [h5.2.1]
              refine E124 M2 e _ _ _ _ _ (tr_er k7 hq2 k4 ea) (((Rf.f0 (by omega)).trans (Rf.f0 (by omega))).trans eb.Rf) ec ?_
              unfold ln; rw [if_pos ⟨c, c1⟩, if_pos c2]; unfold ln1; rw [ea]; rfl
          · rw [if_neg c2] at h
            exact h.2 _ (p + 1) rfl ((Rf.f0 (by omega)).trans (Rf.f0 (by omega))) ⟨rfl, by omega⟩
        · exact h.2 _ p (by rw [if_neg (fun z => z.2 c1)]) (Rf.f0 (by omega)) ⟨rfl, by omega⟩
    · intro j hj ih
      have := h5.1
      have z8 : M 0 8 = nI ds.length := hD.1
      have hd4 := hD.2.1
      refine ma_walk (mo_X5_readLine ms_X5_byteAt ms_X5_isLetter ms_X5_fails ms_X5_term ms_X5_number) hV [16, 52] (fun F hF => ?_)
      simp only [tb_X5_readLine, hF, in_no, in_push, in_ild, in_lld, in_ald, in_ist, in_ast, in_lst, in_inc, in_iii, in_idv, in_ldv, in_lll, in_lli, in_lil, in_ii, in_il, in_li, in_ll, in_dup, in_dp2, q_if1, q_if2, in_go, in_sw, ma_sw, in_rv, in_ri, in_rz, in_rl, in_get, in_put, in_puz, in_iar, in_bar, in_lar, in_aar, in_iaw, in_baw, in_law, in_len, in_cpy, in_s1, in_s2, in_s3, in_v1, in_v2, in_v3, in_v4, in_v5, in_v6, ma_bk, ma_gl, ma_sl, ma_nl, ma_wc, ma_wd, ma_nn, ma_en, List.mem_cons, List.not_mem_nil, or_false, or_true, true_or, false_or, true_and, and_true, false_and, and_false, if_true, if_false, forall_const, true_implies, false_implies, not_true_eq_false, not_false_eq_true, Classical.not_not, implies_true, and_self, Nat.add_zero, Nat.zero_add, eq_self, ne_eq, reduceCtorEq, Nat.reduceLT, Nat.reduceLeDiff, Nat.reduceEqDiff, Nat.reduceSub, Nat.reduceAdd, i10, i01, im10, Int32.reduceLT, Int32.reduceLE, ↓reduceIte, reduceIte, up_r, uL_r, cp_r, Int32.toInt_toInt64, Int64.reduceToInt, Int32.reduceToInt, ↓b1_or, b1_0, b1_1, lc_lt, lc_le, lc_gt, lc_ge, lc_eq, ym_0, ym_1, ym_2, ym_3, ym_4, ym_5, ym_6, ym_7, ym_8, ym_9, ym_10, ym_11, ym_12, ym_13, ym_14, ym_15, ym_16, ym_17, ym_18, ym_19, ym_20, ym_21, ym_22, ym_23, ym_24, ym_25, ym_26, ym_27, ym_28, ym_29, ym_30, rm__0, rm__1, rm__2, rm__3, rm__4, rm__5, rm__6, rm__7, rm__8, rm__9, rm__10, rm__11, rm__12, rm__13, rm__14, rm__15, rm__16, rm__17, rm__18, rm__19, rm__20, rm__21, rm__22, rm__23, rm__24, rm__25, rm__26, rm__27, rm__28, rm__29, rm__30, rm__31, rm__32, rm__33, rm__34, rm__35, rm__36, rm__37, rm__38, rm__39, rm__40, rm__41, rm__42, rm__43, rm__44, rm__45, un_X5_byteAt, un_X5_isLetter, un_X5_fails, un_X5_term, un_X5_number, z8]
      try simp only [iteP, Classical.not_not]
      simp (disch := omega) only [a_le, nI_1, show (4 : Int32) + nI j = nI (4 + j) from nI_add 4 j, a_vi, a_cl]
      refine ⟨fun c2 => absurd c2 (by omega), fun _ => ⟨fun c2 => ⟨by omega, fun c3 => ?_, fun c3 => ?_⟩, fun c2 => ?_⟩⟩
      · rw [b1_t ⟨j, by omega, c3⟩] at ih; exact ih
      · rw [b1_f] at ih
        · exact ih
        · intro ⟨i, z1, z2⟩
          by_cases z3 : i = j
          · rw [z3] at z2; exact c3 z2
          · exact c2 ⟨i, by omega, z2⟩
      · obtain ⟨i, z1, z2⟩ := c2
        rw [b1_t ⟨i, by omega, z2⟩] at ih; exact ih
  have L0 := L16 0 (Nat.zero_le _)
  rw [b1_f (fun z => by obtain ⟨i, z1, _⟩ := z; omega)] at L0
  refine ma_walk (mo_X5_readLine ms_X5_byteAt ms_X5_isLetter ms_X5_fails ms_X5_term ms_X5_number) hV [16] (fun F hF => ?_)
  simp only [tb_X5_readLine, hF, in_no, in_push, in_ild, in_lld, in_ald, in_ist, in_ast, in_lst, in_inc, in_iii, in_idv, in_ldv, in_lll, in_lli, in_lil, in_ii, in_il, in_li, in_ll, in_dup, in_dp2, q_if1, q_if2, in_go, in_sw, ma_sw, in_rv, in_ri, in_rz, in_rl, in_get, in_put, in_puz, in_iar, in_bar, in_lar, in_aar, in_iaw, in_baw, in_law, in_len, in_cpy, in_s1, in_s2, in_s3, in_v1, in_v2, in_v3, in_v4, in_v5, in_v6, ma_bk, ma_gl, ma_sl, ma_nl, ma_wc, ma_wd, ma_nn, ma_en, List.mem_cons, List.not_mem_nil, or_false, or_true, true_or, false_or, true_and, and_true, false_and, and_false, if_true, if_false, forall_const, true_implies, false_implies, not_true_eq_false, not_false_eq_true, Classical.not_not, implies_true, and_self, Nat.add_zero, Nat.zero_add, eq_self, ne_eq, reduceCtorEq, Nat.reduceLT, Nat.reduceLeDiff, Nat.reduceEqDiff, Nat.reduceSub, Nat.reduceAdd, i10, i01, im10, Int32.reduceLT, Int32.reduceLE, ↓reduceIte, reduceIte, up_r, uL_r, cp_r, Int32.toInt_toInt64, Int64.reduceToInt, Int32.reduceToInt, ↓b1_or, b1_0, b1_1, lc_lt, lc_le, lc_gt, lc_ge, lc_eq, ym_0, ym_1, ym_2, ym_3, ym_4, ym_5, ym_6, ym_7, ym_8, ym_9, ym_10, ym_11, ym_12, ym_13, ym_14, ym_15, ym_16, ym_17, ym_18, ym_19, ym_20, ym_21, ym_22, ym_23, ym_24, ym_25, ym_26, ym_27, ym_28, ym_29, ym_30, rm__0, rm__1, rm__2, rm__3, rm__4, rm__5, rm__6, rm__7, rm__8, rm__9, rm__10, rm__11, rm__12, rm__13, rm__14, rm__15, rm__16, rm__17, rm__18, rm__19, rm__20, rm__21, rm__22, rm__23, rm__24, rm__25, rm__26, rm__27, rm__28, rm__29, rm__30, rm__31, rm__32, rm__33, rm__34, rm__35, rm__36, rm__37, rm__38, rm__39, rm__40, rm__41, rm__42, rm__43, rm__44, rm__45, un_X5_byteAt, un_X5_isLetter, un_X5_fails, un_X5_term, un_X5_number, h2]
  try simp only [iteP, Classical.not_not]
  exact ⟨g, n, p, ⟨h1, rfl, by omega⟩, L0⟩
theorem pv_X5_readLine : ∀ as M L K, S_X5_readLine as M L K → ma_rn (tb_X5_readLine S_X5_byteAt S_X5_isLetter S_X5_fails S_X5_term S_X5_number) 6 as M L K := by
  intro as M L K h
  unfold S_X5_readLine at h
  split at h
  · obtain ⟨g, n, p, ts, ls, h⟩ := h; exact pw_X5_readLine h.1 h.2
  · exact h.elim
