/-! the model's reading: a term -/
set_option maxRecDepth 100000
set_option maxHeartbeats 4000000
def y2 (o : Option Nat) : Int32 := match o with
  | none => -1
  | some c => nI c
/-- what a term's reading may change in the model, with t terms read -/
def Yf (M M' : ZM) (t : Nat) : Prop := (∀ a, a ≠ 0 → a ≠ 9 → a ≠ 10 → a ≠ 11 → M' a = M a) ∧ (∀ j, j ≠ 32 → j ≠ 33 → j ≠ 34 → M' 0 j = M 0 j) ∧ ∀ j, j ≠ 80 + t → M' 9 j = M 9 j ∧ M' 10 j = M 10 j ∧ M' 11 j = M 11 j
def Yx (M M' : ZM) (q t : Nat) (tm : Tm) : Prop := Yf M M' t ∧ M' 0 32 = nI q ∧ M' 0 33 = -1 ∧ M' 0 34 = nI (t + 1) ∧ M' 9 (80 + t) = tm.1 ∧ M' 10 (80 + t) = nI tm.2.1 ∧ M' 11 (80 + t) = y2 tm.2.2
theorem nu_pos {g : Nat → Nat} : ∀ (f p v : Nat), 1 ≤ v → 1 ≤ (nu g f p v).2
  | 0, p, v, h => h
  | f + 1, p, v, h => by
    rw [nu]
    split
    · exact nu_pos f (p + 1) _ (by omega)
    · exact h
theorem nu_1 {g : Nat → Nat} {p : Nat} (h : 48 ≤ g p ∧ g p ≤ 57) (h2 : ¬ g p = 48) : 1 ≤ (nu g 200 p 0).2 := by
  rw [nu, if_pos h]; exact nu_pos _ _ _ (by omega)
def S_X5_term : ma_Cs := fun as M L K => match as with
  | [.ref k, .int f] => ∃ (g : Nat → Nat) (n : Nat) (p : Nat) (ds : List Nat) (t : Nat), (k = 0 ∧ Ty M g n ∧ M 0 32 = nI p ∧ p ≤ n ∧ M 0 33 = -1 ∧ Dy M ds ∧ M 0 34 = nI t ∧ t < 80 ∧ (f = 0 → g p = 43 ∨ g p = 45)) ∧ (∀ (M' : ZM) (q : Nat) (tm : Tm), tr g ds p = .ok (q, tm) → Yx M M' q t tm → K none M' L) ∧ (∀ (M' : ZM) (e : Nat), tr g ds p = .error e → Yf M M' t → M' 0 33 = nI e → K none M' L)
  | _ => False
theorem ms_X5_term : ma_ms S_X5_term := by
  intro as M L K K' hk h
  unfold S_X5_term at h ⊢
  split at h
  · obtain ⟨g, n, p, ds, t, h⟩ := h
    exact ⟨g, n, p, ds, t, h.1, fun x0 x1 x2 x3 x4 => hk _ _ _ (h.2.1 x0 x1 x2 x3 x4), fun x0 x1 x2 x3 x4 => hk _ _ _ (h.2.2 x0 x1 x2 x3 x4)⟩
  · exact h.elim
theorem un_X5_term {k : Nat} {f : Int32} {M : ZM} {L : ZL} {K : ma_Kt} : S_X5_term [.ref k, .int f] M L K = (∃ (g : Nat → Nat) (n : Nat) (p : Nat) (ds : List Nat) (t : Nat), (k = 0 ∧ Ty M g n ∧ M 0 32 = nI p ∧ p ≤ n ∧ M 0 33 = -1 ∧ Dy M ds ∧ M 0 34 = nI t ∧ t < 80 ∧ (f = 0 → g p = 43 ∨ g p = 45)) ∧ (∀ (M' : ZM) (q : Nat) (tm : Tm), tr g ds p = .ok (q, tm) → Yx M M' q t tm → K none M' L) ∧ (∀ (M' : ZM) (e : Nat), tr g ds p = .error e → Yf M M' t → M' 0 33 = nI e → K none M' L)) := rfl
theorem pw_X5_term {k : Nat} {f : Int32} {g : Nat → Nat} {n : Nat} {p : Nat} {ds : List Nat} {t : Nat} {M : ZM} {L : ZL} {K : ma_Kt} (hp : k = 0 ∧ Ty M g n ∧ M 0 32 = nI p ∧ p ≤ n ∧ M 0 33 = -1 ∧ Dy M ds ∧ M 0 34 = nI t ∧ t < 80 ∧ (f = 0 → g p = 43 ∨ g p = 45)) (h : (∀ (M' : ZM) (q : Nat) (tm : Tm), tr g ds p = .ok (q, tm) → Yx M M' q t tm → K none M' L) ∧ (∀ (M' : ZM) (e : Nat), tr g ds p = .error e → Yf M M' t → M' 0 33 = nI e → K none M' L)) : ma_rn (tb_X5_term S_X5_byteAt S_X5_fails S_X5_number S_X5_name) 4 [.ref k, .int f] M L K := by
  refine ⟨Nat.le_of_ble_eq_true rfl, fun V hV => ?_⟩
  obtain ⟨rfl, h1, h2, h3, h4, h5, h6, h7, h8⟩ := hp
  obtain ⟨k1, k4, k5, k6, k7⟩ := id h1
  have hv : vp_in (nI (80 + t)) 160 := vp_in_nI (by omega) (by decide)
  have a80 : (80 : Int32) + nI t = nI (80 + t) := nI_add 80 t
  have c80 := a_cl (show 80 + t < 2147483648 by omega)
  have hE : ∀ (M1 : ZM) (x s v : Int32) (e : Nat), e < 1000 → (∀ a, a ≠ 0 → M1 a = M a) → (∀ j, j ≠ 32 → j ≠ 33 → M1 0 j = M 0 j) → M1 0 33 = nI e → tr g ds p = .error e → V 112 [some (.ref 0), some (.int f), some (.int s), some (.int v)] [.int x, .int s, .int (nI (80 + t)), .ref 9] M1 L := by
    intro M1 x s v e e0 e1 e2 e3 e4
    have f34 : M1 0 34 = nI t := (e2 34 (by decide) (by decide)).trans h6
    have g33 : (0 : Int32) ≤ nI e := nI_pos' (by omega)
    refine ma_walk (mo_X5_term ms_X5_byteAt ms_X5_fails ms_X5_number ms_X5_name) hV [] (fun F hF => ?_)
    simp only [tb_X5_term, hF, in_no, in_push, in_ild, in_lld, in_ald, in_ist, in_ast, in_lst, in_inc, in_iii, in_idv, in_ldv, in_lll, in_lli, in_lil, in_ii, in_il, in_li, in_ll, in_dup, in_dp2, q_if1, q_if2, in_go, in_sw, ma_sw, in_rv, in_ri, in_rz, in_rl, in_get, in_put, in_puz, in_iar, in_bar, in_lar, in_aar, in_iaw, in_baw, in_law, in_len, in_cpy, in_s1, in_s2, in_s3, in_v1, in_v2, in_v3, in_v4, in_v5, in_v6, ma_bk, ma_gl, ma_sl, ma_nl, ma_wc, ma_wd, ma_nn, ma_en, List.mem_cons, List.not_mem_nil, or_false, or_true, true_or, false_or, true_and, and_true, false_and, and_false, if_true, if_false, forall_const, true_implies, false_implies, not_true_eq_false, not_false_eq_true, Classical.not_not, implies_true, and_self, Nat.add_zero, Nat.zero_add, eq_self, ne_eq, reduceCtorEq, Nat.reduceLT, Nat.reduceLeDiff, Nat.reduceEqDiff, Nat.reduceSub, Nat.reduceAdd, i10, i01, im10, Int32.reduceLT, Int32.reduceLE, ↓reduceIte, reduceIte, up_r, uL_r, cp_r, Int32.toInt_toInt64, Int64.reduceToInt, Int32.reduceToInt, ↓b1_or, b1_0, b1_1, lc_lt, lc_le, lc_gt, lc_ge, lc_eq, ym_0, ym_1, ym_2, ym_3, ym_4, ym_5, ym_6, ym_7, ym_8, ym_9, ym_10, ym_11, ym_12, ym_13, ym_14, ym_15, ym_16, ym_17, ym_18, ym_19, ym_20, ym_21, ym_22, ym_23, ym_24, ym_25, ym_26, ym_27, ym_28, ym_29, ym_30, rm__0, rm__1, rm__2, rm__3, rm__4, rm__5, rm__6, rm__7, rm__8, rm__9, rm__10, rm__11, rm__12, rm__13, rm__14, rm__15, rm__16, rm__17, rm__18, rm__19, rm__20, rm__21, rm__22, rm__23, rm__24, rm__25, rm__26, rm__27, rm__28, rm__29, rm__30, rm__31, rm__32, rm__33, rm__34, rm__35, rm__36, rm__37, rm__38, rm__39, rm__40, rm__41, rm__42, rm__43, rm__44, rm__45, un_X5_byteAt, un_X5_fails, un_X5_number, un_X5_name, e3, f34, a80, hv, c80, g33]
    try simp only [iteP, Classical.not_not]
    refine h.2 _ e e4 ⟨fun a z0 z9 z10 z11 => ?_, fun j z1 z2 z3 => ?_, fun j hj => ?_⟩ e3
    · rw [up_c z0, up_c z11, up_c z10, up_c z9]; exact e1 a z0
    · rw [← e2 j z1 z2]; exact if_neg (fun z => z3 z.2)
    · rw [← e1 9 (by decide), ← e1 10 (by decide), ← e1 11 (by decide)]
      simp only [up_r, hj, and_false, if_false]
      exact ⟨rfl, rfl, rfl⟩
  have hO : ∀ (M1 : ZM) (x s v : Int32) (r : Nat), (∀ a, a ≠ 0 → M1 a = M a) → (∀ j, j ≠ 32 → M1 0 j = M 0 j) → M1 0 32 = nI r → r ≤ n → tr g ds p = tr2 g ds r (s * x) → V 112 [some (.ref 0), some (.int f), some (.int s), some (.int v)] [.int x, .int s, .int (nI (80 + t)), .ref 9] M1 L := by
    intro M1 x s v r e1 e2 e3 e4 e5
    have hD : Dy M1 ds := h5.to (e2 8 (by decide)) (e1 3 (by decide))
    have hT : Ty M1 g n := h1.to (e2 5 (by decide)) (e1 2 (by decide))
    have f33 : M1 0 33 = -1 := (e2 33 (by decide)).trans h4
    have f34 : M1 0 34 = nI t := (e2 34 (by decide)).trans h6
    unfold tr2 at e5
    refine ma_walk (mo_X5_term ms_X5_byteAt ms_X5_fails ms_X5_number ms_X5_name) hV [] (fun F hF => ?_)
    simp only [tb_X5_term, hF, in_no, in_push, in_ild, in_lld, in_ald, in_ist, in_ast, in_lst, in_inc, in_iii, in_idv, in_ldv, in_lll, in_lli, in_lil, in_ii, in_il, in_li, in_ll, in_dup, in_dp2, q_if1, q_if2, in_go, in_sw, ma_sw, in_rv, in_ri, in_rz, in_rl, in_get, in_put, in_puz, in_iar, in_bar, in_lar, in_aar, in_iaw, in_baw, in_law, in_len, in_cpy, in_s1, in_s2, in_s3, in_v1, in_v2, in_v3, in_v4, in_v5, in_v6, ma_bk, ma_gl, ma_sl, ma_nl, ma_wc, ma_wd, ma_nn, ma_en, List.mem_cons, List.not_mem_nil, or_false, or_true, true_or, false_or, true_and, and_true, false_and, and_false, if_true, if_false, forall_const, true_implies, false_implies, not_true_eq_false, not_false_eq_true, Classical.not_not, implies_true, and_self, Nat.add_zero, Nat.zero_add, eq_self, ne_eq, reduceCtorEq, Nat.reduceLT, Nat.reduceLeDiff, Nat.reduceEqDiff, Nat.reduceSub, Nat.reduceAdd, i10, i01, im10, Int32.reduceLT, Int32.reduceLE, ↓reduceIte, reduceIte, up_r, uL_r, cp_r, Int32.toInt_toInt64, Int64.reduceToInt, Int32.reduceToInt, ↓b1_or, b1_0, b1_1, lc_lt, lc_le, lc_gt, lc_ge, lc_eq, ym_0, ym_1, ym_2, ym_3, ym_4, ym_5, ym_6, ym_7, ym_8, ym_9, ym_10, ym_11, ym_12, ym_13, ym_14, ym_15, ym_16, ym_17, ym_18, ym_19, ym_20, ym_21, ym_22, ym_23, ym_24, ym_25, ym_26, ym_27, ym_28, ym_29, ym_30, rm__0, rm__1, rm__2, rm__3, rm__4, rm__5, rm__6, rm__7, rm__8, rm__9, rm__10, rm__11, rm__12, rm__13, rm__14, rm__15, rm__16, rm__17, rm__18, rm__19, rm__20, rm__21, rm__22, rm__23, rm__24, rm__25, rm__26, rm__27, rm__28, rm__29, rm__30, rm__31, rm__32, rm__33, rm__34, rm__35, rm__36, rm__37, rm__38, rm__39, rm__40, rm__41, rm__42, rm__43, rm__44, rm__45, un_X5_byteAt, un_X5_fails, un_X5_number, un_X5_name, f33, f34, a80, hv, c80]
    try simp only [iteP, Classical.not_not]
    refine ⟨g, n, r, ds, ⟨hT.to rfl rfl, e3, e4, hD.to rfl rfl⟩, fun q c ea => ?_, fun M2 v2 ea eb ec ed => ?_⟩
    · have hq := nm_le k7 ea
      rw [ea] at e5
      dsimp only at e5
      refine ⟨g, n, q, ⟨hT.to rfl rfl, rfl, by omega⟩, ?_⟩
      rw [show (46 : Int32) = nI 46 from rfl, byq k6 k7 (by omega) (by omega)]
      refine ⟨fun c1 => ?_, fun c1 => ?_⟩
      · have hq2 : q < n := Nat.lt_of_not_le fun z => by have := k7 q z; omega
        rw [if_pos c1] at e5
        refine ⟨g, n, q + 1, ds, ⟨hT.to rfl rfl, nI_1 q, hq2, hD.to rfl rfl⟩, fun q2 c2 eb => ?_, fun M2 v2 eb ec ed ee => ?_⟩
        · rw [eb] at e5
          refine h.1 _ q2 (s * x, c, some c2) e5 ⟨⟨fun a z0 z9 z10 z11 => ?_, fun j z1 z2 z3 => ?_, fun j hj => ?_⟩, rfl, f33, nI_1 t, (by simp only [up_r, and_self, ↓reduceIte, Nat.reduceEqDiff, false_and]; try rfl), (by simp only [up_r, and_self, ↓reduceIte, Nat.reduceEqDiff, false_and]; try rfl), (by simp only [up_r, and_self, ↓reduceIte, Nat.reduceEqDiff, false_and]; try rfl)⟩
          · rw [up_c z0, up_c z11, up_c z0, up_c z0, up_c z11, up_c z10, up_c z0, up_c z9]; exact e1 a z0
          · rw [← e2 j z1]; simp only [up_r, z1, z3, and_false, if_false]; rfl
          · rw [← e1 9 (by decide), ← e1 10 (by decide), ← e1 11 (by decide)]
            simp only [up_r, hj, and_false, if_false]
            exact ⟨rfl, rfl, rfl⟩
        · rw [eb] at e5
          refine h.2 _ (q + 1) e5 ⟨fun a z0 z9 z10 z11 => ?_, fun j z1 z2 z3 => ?_, fun j hj => ?_⟩ ee
          · rw [up_c z0, up_c z11, ec a z0, up_c z0, up_c z11, up_c z10, up_c z0, up_c z9]; exact e1 a z0
          · rw [← e2 j z1]; simp only [up_r, z1, z3, and_false, if_false]
            refine (ed j z1 z2).trans ?_
            rw [if_neg z1, if_neg z1]
          · rw [← e1 9 (by decide), ← e1 10 (by decide), ← e1 11 (by decide)]
            simp only [up_r, hj, and_false, if_false, ec 9 (by decide), ec 10 (by decide), ec 11 (by decide)]
            exact ⟨rfl, rfl, rfl⟩
      · rw [if_neg c1] at e5
        refine h.1 _ q (s * x, c, none) e5 ⟨⟨fun a z0 z9 z10 z11 => ?_, fun j z1 z2 z3 => ?_, fun j hj => ?_⟩, rfl, f33, nI_1 t, (by simp only [up_r, and_self, ↓reduceIte, Nat.reduceEqDiff, false_and]; try rfl), (by simp only [up_r, and_self, ↓reduceIte, Nat.reduceEqDiff, false_and]; try rfl), (by simp only [up_r, and_self, ↓reduceIte, Nat.reduceEqDiff, false_and]; try rfl)⟩
        · rw [up_c z0, up_c z11, up_c z10, up_c z0, up_c z9]; exact e1 a z0
        · rw [← e2 j z1]; simp only [up_r, z1, z3, and_false, if_false]; rfl
        · rw [← e1 9 (by decide), ← e1 10 (by decide), ← e1 11 (by decide)]
          simp only [up_r, hj, and_false, if_false]
          exact ⟨rfl, rfl, rfl⟩
    · rw [ea] at e5
      have g33 : (0 : Int32) ≤ M2 0 33 := by rw [ed]; exact nI_pos' (by omega)
      have f342 : M2 0 34 = nI t := (ec 34 (by decide) (by decide)).trans f34
      rw [f342]
      simp only [a80, hv, c80, g33, true_and, not_true_eq_false, false_implies, and_true, true_implies]
      refine h.2 _ r e5 ⟨fun a z0 z9 z10 z11 => ?_, fun j z1 z2 z3 => ?_, fun j hj => ?_⟩ ed
      · rw [up_c z0, up_c z11, up_c z10, eb a z0, up_c z9]; exact e1 a z0
      · rw [← e2 j z1]; simp only [up_r, z3, and_false, if_false]; exact ec j z1 z2
      · rw [← e1 9 (by decide), ← e1 10 (by decide), ← e1 11 (by decide)]
        simp only [up_r, hj, and_false, if_false, eb 9 (by decide), eb 10 (by decide), eb 11 (by decide)]
        exact ⟨rfl, rfl, rfl⟩
  have h72 : ∀ (s : Int32) (r : Nat), r ≤ n → tr g ds p = tr1 g ds r s → V 72 [some (.ref 0), some (.int f), some (.int s), none] [] (ma_up M 0 32 (nI r)) L := by
    intro s r e1 e2
    unfold tr1 at e2
    have g33 : ¬ (0 : Int32) ≤ -1 := by decide
    have hn := nu_le k7 200 r 0 e1
    refine ma_walk (mo_X5_term ms_X5_byteAt ms_X5_fails ms_X5_number ms_X5_name) hV [112] (fun F hF => ?_)
    simp only [tb_X5_term, hF, in_no, in_push, in_ild, in_lld, in_ald, in_ist, in_ast, in_lst, in_inc, in_iii, in_idv, in_ldv, in_lll, in_lli, in_lil, in_ii, in_il, in_li, in_ll, in_dup, in_dp2, q_if1, q_if2, in_go, in_sw, ma_sw, in_rv, in_ri, in_rz, in_rl, in_get, in_put, in_puz, in_iar, in_bar, in_lar, in_aar, in_iaw, in_baw, in_law, in_len, in_cpy, in_s1, in_s2, in_s3, in_v1, in_v2, in_v3, in_v4, in_v5, in_v6, ma_bk, ma_gl, ma_sl, ma_nl, ma_wc, ma_wd, ma_nn, ma_en, List.mem_cons, List.not_mem_nil, or_false, or_true, true_or, false_or, true_and, and_true, false_and, and_false, if_true, if_false, forall_const, true_implies, false_implies, not_true_eq_false, not_false_eq_true, Classical.not_not, implies_true, and_self, Nat.add_zero, Nat.zero_add, eq_self, ne_eq, reduceCtorEq, Nat.reduceLT, Nat.reduceLeDiff, Nat.reduceEqDiff, Nat.reduceSub, Nat.reduceAdd, i10, i01, im10, Int32.reduceLT, Int32.reduceLE, ↓reduceIte, reduceIte, up_r, uL_r, cp_r, Int32.toInt_toInt64, Int64.reduceToInt, Int32.reduceToInt, ↓b1_or, b1_0, b1_1, lc_lt, lc_le, lc_gt, lc_ge, lc_eq, ym_0, ym_1, ym_2, ym_3, ym_4, ym_5, ym_6, ym_7, ym_8, ym_9, ym_10, ym_11, ym_12, ym_13, ym_14, ym_15, ym_16, ym_17, ym_18, ym_19, ym_20, ym_21, ym_22, ym_23, ym_24, ym_25, ym_26, ym_27, ym_28, ym_29, ym_30, rm__0, rm__1, rm__2, rm__3, rm__4, rm__5, rm__6, rm__7, rm__8, rm__9, rm__10, rm__11, rm__12, rm__13, rm__14, rm__15, rm__16, rm__17, rm__18, rm__19, rm__20, rm__21, rm__22, rm__23, rm__24, rm__25, rm__26, rm__27, rm__28, rm__29, rm__30, rm__31, rm__32, rm__33, rm__34, rm__35, rm__36, rm__37, rm__38, rm__39, rm__40, rm__41, rm__42, rm__43, rm__44, rm__45, un_X5_byteAt, un_X5_fails, un_X5_number, un_X5_name, h4, h6, a80, g33]
    try simp only [iteP, Classical.not_not]
    refine ⟨g, n, r, 999, ⟨h1.to rfl rfl, rfl, e1, rfl, by omega⟩, fun c => ?_, fun c => ?_, fun v c => ?_⟩
    · rw [if_neg c] at e2
      exact hO _ 1 s 0 r (fun a ha => up_c ha) (fun j hj => by simp only [up_r, hj, and_false, if_false]) rfl e1 e2
    · rw [if_pos c.1, if_pos c.2] at e2
      have := nu_1 c.1 c.2.1
      have hle : (nu g 200 r 0).2 < 2147483648 := by omega
      refine ⟨fun c2 => ?_, fun c2 => ?_⟩
      · rw [a_eq0 hle] at c2; omega
      · refine hO _ _ s _ (nu g 200 r 0).1 (fun a ha => by simp only [up_c ha]) (fun j hj => by simp only [up_r, hj, and_false, if_false]) rfl hn.2 e2
    · rw [if_pos c.1, if_neg c.2] at e2
      exact ⟨fun c2 => hE _ _ s _ r (by omega) (fun a ha => by simp only [up_c ha]) (fun j z1 z2 => by simp only [up_r, z1, z2, and_false, if_false]) rfl e2, fun c2 => hE _ _ s _ r (by omega) (fun a ha => by simp only [up_c ha]) (fun j z1 z2 => by simp only [up_r, z1, z2, and_false, if_false]) rfl e2⟩
  have pos : ∀ i, g i ≠ 0 → i < n := fun i hi => Nat.lt_of_not_le fun e => hi (k7 i e)
  unfold tr at h72
  refine ma_walk (mo_X5_term ms_X5_byteAt ms_X5_fails ms_X5_number ms_X5_name) hV [72] (fun F hF => ?_)
  simp only [tb_X5_term, hF, in_no, in_push, in_ild, in_lld, in_ald, in_ist, in_ast, in_lst, in_inc, in_iii, in_idv, in_ldv, in_lll, in_lli, in_lil, in_ii, in_il, in_li, in_ll, in_dup, in_dp2, q_if1, q_if2, in_go, in_sw, ma_sw, in_rv, in_ri, in_rz, in_rl, in_get, in_put, in_puz, in_iar, in_bar, in_lar, in_aar, in_iaw, in_baw, in_law, in_len, in_cpy, in_s1, in_s2, in_s3, in_v1, in_v2, in_v3, in_v4, in_v5, in_v6, ma_bk, ma_gl, ma_sl, ma_nl, ma_wc, ma_wd, ma_nn, ma_en, List.mem_cons, List.not_mem_nil, or_false, or_true, true_or, false_or, true_and, and_true, false_and, and_false, if_true, if_false, forall_const, true_implies, false_implies, not_true_eq_false, not_false_eq_true, Classical.not_not, implies_true, and_self, Nat.add_zero, Nat.zero_add, eq_self, ne_eq, reduceCtorEq, Nat.reduceLT, Nat.reduceLeDiff, Nat.reduceEqDiff, Nat.reduceSub, Nat.reduceAdd, i10, i01, im10, Int32.reduceLT, Int32.reduceLE, ↓reduceIte, reduceIte, up_r, uL_r, cp_r, Int32.toInt_toInt64, Int64.reduceToInt, Int32.reduceToInt, ↓b1_or, b1_0, b1_1, lc_lt, lc_le, lc_gt, lc_ge, lc_eq, ym_0, ym_1, ym_2, ym_3, ym_4, ym_5, ym_6, ym_7, ym_8, ym_9, ym_10, ym_11, ym_12, ym_13, ym_14, ym_15, ym_16, ym_17, ym_18, ym_19, ym_20, ym_21, ym_22, ym_23, ym_24, ym_25, ym_26, ym_27, ym_28, ym_29, ym_30, rm__0, rm__1, rm__2, rm__3, rm__4, rm__5, rm__6, rm__7, rm__8, rm__9, rm__10, rm__11, rm__12, rm__13, rm__14, rm__15, rm__16, rm__17, rm__18, rm__19, rm__20, rm__21, rm__22, rm__23, rm__24, rm__25, rm__26, rm__27, rm__28, rm__29, rm__30, rm__31, rm__32, rm__33, rm__34, rm__35, rm__36, rm__37, rm__38, rm__39, rm__40, rm__41, rm__42, rm__43, rm__44, rm__45, un_X5_byteAt, un_X5_fails, un_X5_number, un_X5_name, h2]
  try simp only [iteP, Classical.not_not]
  have b43 : (byY g n p = 43) = (g p = 43) := byq k6 k7 (c := 43) (by omega) (by omega)
  have b45 : (byY g n p = 45) = (g p = 45) := byq k6 k7 (c := 45) (by omega) (by omega)
  have w : ∀ {P : Prop}, P → (Ty M g n ∧ nI p = nI p ∧ p < 100000) ∧ P := fun q => ⟨⟨h1, rfl, by omega⟩, q⟩
  have m0 : ma_up M 0 32 (nI p) = M := up_s h2
  simp only [nI_1]
  refine ⟨g, n, p, w ?_⟩
  rw [b43]
  refine ⟨fun c => ⟨g, n, p, w ?_⟩, fun c => ⟨g, n, p, w ?_⟩⟩
  · rw [b45]
    refine ⟨fun c1 => by omega, fun c1 => ?_⟩
    exact h72 1 (p + 1) (pos p (by omega)) (by rw [if_neg c1, if_pos c])
  · rw [b45]
    refine ⟨fun c1 => ⟨g, n, p, w ?_⟩, fun c1 => ⟨fun c2 => ?_, fun c2 => ?_⟩⟩
    · rw [b45]
      refine ⟨fun c2 => ?_, fun c2 => absurd c1 c2⟩
      exact h72 (-1) (p + 1) (pos p (by omega)) (by rw [if_pos c1])
    · have := h8 c2; omega
    · have q := h72 1 p h3 (by rw [if_neg c1, if_neg c])
      rw [m0] at q; exact q
theorem pv_X5_term : ∀ as M L K, S_X5_term as M L K → ma_rn (tb_X5_term S_X5_byteAt S_X5_fails S_X5_number S_X5_name) 4 as M L K := by
  intro as M L K h
  unfold S_X5_term at h
  split at h
  · obtain ⟨g, n, p, ds, t, h⟩ := h; exact pw_X5_term h.1 h.2
  · exact h.elim
