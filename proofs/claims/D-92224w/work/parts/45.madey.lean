/-! what a line makes, and marks (the model) -/
set_option maxRecDepth 100000
set_option maxHeartbeats 4000000
/-- the model's plan -/
def Pc (M : ZM) (ts : List Tm) (ls : List Ln) : Prop := M 0 7 = nI ls.length ∧ YL M 0 ls ∧ YT M 0 ts
theorem v64 {x : Int32} : (x.toInt64 = 2000000000) = (x = 2000000000) := by
  refine propext ⟨fun z => i_ext ?_, fun z => by rw [z]; rfl⟩
  rw [← Int32.toInt_toInt64, z]; rfl
theorem fd_dn {s b : Int64} (hb : 0 < b.toInt) (hb2 : b.toInt < 2305843009213693952) (h : -2305843009213693952 < s.toInt) : dnL s b = fdL s b := l_ext (by rw [dnL_ti hb hb2 h, fdL_ti hb (by omega)])
def Vf (ts : List Tm) : Prop := ∀ t, t < ts.length → -1000 ≤ (ts.getD t (0, 0, none)).1.toInt ∧ (ts.getD t (0, 0, none)).1.toInt ≤ 1000
theorem mul_b {x y : Int} {A B : Nat} (hx : x.natAbs ≤ A) (hy : y.natAbs ≤ B) : (x * y).natAbs ≤ A * B := by
  rw [Int.natAbs_mul]; exact Nat.mul_le_mul hx hy
theorem abL_n {x : Int64} (h0 : -9223372036854775808 < x.toInt) : (1000000000000000 < abL x) = (1000000000000000 < x.toInt.natAbs) := by
  rw [Int64.lt_iff_toInt_lt, abL, l_abs h0, show (1000000000000000 : Int64).toInt = 1000000000000000 from rfl]; exact propext (by omega)
theorem tm_b {a b f : Int32} (hf : -1000 ≤ f.toInt ∧ f.toInt ≤ 1000) (h3 : ¬ 1000000000000000 < abL (a.toInt64 * b.toInt64)) (h4 : ¬ 1000000000000000 < abL (a.toInt64 * b.toInt64 * f.toInt64)) : -1000000000000000 ≤ (a.toInt64 * b.toInt64 * f.toInt64).toInt ∧ (a.toInt64 * b.toInt64 * f.toInt64).toInt ≤ 1000000000000000 := by
  have ha := i_rng a
  have hb := i_rng b
  have e1 : (a.toInt64 * b.toInt64).toInt = a.toInt * b.toInt := by
    have q := mul_b (x := a.toInt) (y := b.toInt) (A := 2147483648) (B := 2147483648) (by omega) (by omega)
    rw [l_mul (by rw [Int32.toInt_toInt64, Int32.toInt_toInt64]; omega) (by rw [Int32.toInt_toInt64, Int32.toInt_toInt64]; omega), Int32.toInt_toInt64, Int32.toInt_toInt64]
  have q1 := mul_b (x := a.toInt) (y := b.toInt) (A := 2147483648) (B := 2147483648) (by omega) (by omega)
  rw [abL_n (by rw [e1]; omega), e1] at h3
  have q2 := mul_b (x := a.toInt * b.toInt) (y := f.toInt) (A := 1000000000000000) (B := 1000) (by omega) (by omega)
  have e2 : (a.toInt64 * b.toInt64 * f.toInt64).toInt = a.toInt * b.toInt * f.toInt := by
    rw [l_mul (by rw [e1, Int32.toInt_toInt64]; omega) (by rw [e1, Int32.toInt_toInt64]; omega), e1, Int32.toInt_toInt64]
  rw [abL_n (by rw [e2]; omega), e2] at h4
  rw [e2]; omega
/-- a line's rows in the model -/
theorem Pc.ln {M : ZM} {ts : List Tm} {ls : List Ln} (h : Pc M ts ls) {i : Nat} (hi : i < ls.length) : M 3 i = nI (lnA ls i).1 ∧ M 4 (lnA ls i).1 = nI i ∧ M 5 (lnA ls i).1 = nI (lnA ls i).2.1 ∧ M 6 (lnA ls i).1 = nI (lnA ls i).2.2.1 ∧ M 7 (lnA ls i).1 = nI (lnA ls i).2.2.2.1 ∧ M 8 (lnA ls i).1 = nI (lnA ls i).2.2.2.2 := by
  have q := h.2.1.1 i hi
  simp only [Nat.zero_add] at q
  exact q
theorem Pc.no {M : ZM} {ts : List Tm} {ls : List Ln} (h : Pc M ts ls) {l : Nat} (hl : l < 4) (hn : ¬ ∃ i, i < ls.length ∧ (lnA ls i).1 = l) : M 4 l = -4 := by
  have q := h.2.1.2 l hl (fun z => by
    obtain ⟨a, h1, h2⟩ := List.mem_map.1 z
    obtain ⟨i, hi, e⟩ := List.getElem_of_mem h1
    exact hn ⟨i, hi, by rw [lnA, gd hi, e, h2]⟩)
  rw [Nat.zero_add] at q; exact q
theorem Pc.tm {M : ZM} {ts : List Tm} {ls : List Ln} (h : Pc M ts ls) {t : Nat} (ht : t < ts.length) : M 9 t = (ts.getD t (0, 0, none)).1 ∧ M 10 t = nI (ts.getD t (0, 0, none)).2.1 ∧ M 11 t = y2 (ts.getD t (0, 0, none)).2.2 := by
  have q := h.2.2 t ht
  simp only [Nat.zero_add] at q
  exact q
def S_X5_made : ma_Cs := fun as M L K => match as with
  | [.ref k, .ref r, .int ll, .int ss, .int cc] => ∃ (w : Nat) (u : Nat) (e : Nat) (c : Nat) (s : Nat) (l : Nat) (ts : List Tm) (ls : List Ln), (k = 0 ∧ isR r ∧ Sy M w u e c s ∧ 0 < s ∧ ss = nI s ∧ cc = nI c ∧ ll = nI l ∧ l < 4 ∧ Pc M ts ls ∧ Vp ts ls ∧ Vf ts) ∧ ((¬ ∃ i, i < ls.length ∧ (lnA ls i).1 = l) → K (some (.int (rwv (M r) (s - 1) c l))) M L) ∧ (∀ i, i < ls.length → (lnA ls i).1 = l → K (some (.int (mdv (nv (M 1) w u e (rwv (M r) (s - 1)) (rwv (M r) s c) c) ts (lnA ls i)))) M L)
  | _ => False
theorem ms_X5_made : ma_ms S_X5_made := by
  intro as M L K K' hk h
  unfold S_X5_made at h ⊢
  split at h
  · obtain ⟨w, u, e, c, s, l, ts, ls, h⟩ := h
    exact ⟨w, u, e, c, s, l, ts, ls, h.1, fun x0 => hk _ _ _ (h.2.1 x0), fun x0 x1 x2 => hk _ _ _ (h.2.2 x0 x1 x2)⟩
  · exact h.elim
theorem un_X5_made {k : Nat} {r : Nat} {ll : Int32} {ss : Int32} {cc : Int32} {M : ZM} {L : ZL} {K : ma_Kt} : S_X5_made [.ref k, .ref r, .int ll, .int ss, .int cc] M L K = (∃ (w : Nat) (u : Nat) (e : Nat) (c : Nat) (s : Nat) (l : Nat) (ts : List Tm) (ls : List Ln), (k = 0 ∧ isR r ∧ Sy M w u e c s ∧ 0 < s ∧ ss = nI s ∧ cc = nI c ∧ ll = nI l ∧ l < 4 ∧ Pc M ts ls ∧ Vp ts ls ∧ Vf ts) ∧ ((¬ ∃ i, i < ls.length ∧ (lnA ls i).1 = l) → K (some (.int (rwv (M r) (s - 1) c l))) M L) ∧ (∀ i, i < ls.length → (lnA ls i).1 = l → K (some (.int (mdv (nv (M 1) w u e (rwv (M r) (s - 1)) (rwv (M r) s c) c) ts (lnA ls i)))) M L)) := rfl
theorem pw_X5_made {k : Nat} {r : Nat} {ll : Int32} {ss : Int32} {cc : Int32} {w : Nat} {u : Nat} {e : Nat} {c : Nat} {s : Nat} {l : Nat} {ts : List Tm} {ls : List Ln} {M : ZM} {L : ZL} {K : ma_Kt} (hp : k = 0 ∧ isR r ∧ Sy M w u e c s ∧ 0 < s ∧ ss = nI s ∧ cc = nI c ∧ ll = nI l ∧ l < 4 ∧ Pc M ts ls ∧ Vp ts ls ∧ Vf ts) (h : ((¬ ∃ i, i < ls.length ∧ (lnA ls i).1 = l) → K (some (.int (rwv (M r) (s - 1) c l))) M L) ∧ (∀ i, i < ls.length → (lnA ls i).1 = l → K (some (.int (mdv (nv (M 1) w u e (rwv (M r) (s - 1)) (rwv (M r) s c) c) ts (lnA ls i)))) M L)) : ma_rn (tb_X5_made S_X5_place S_X5_named S_X5_size S_X5_downLong) 14 [.ref k, .ref r, .int ll, .int ss, .int cc] M L K := by
  refine ⟨Nat.le_of_ble_eq_true rfl, fun V hV => ?_⟩
  obtain ⟨rfl, hR, hk, h0, rfl, rfl, rfl, hl, hP, hV0, hVf⟩ := hp
  have yr := hR.y
  obtain ⟨m0, m1, m2, hs, hs2⟩ := id hk
  obtain ⟨s1, s2, s3, s4, s5, s6, s7⟩ := id hs
  have h36 := Nat.mul_le_mul (Nat.le_of_lt_succ s2) (Nat.le_of_lt_succ s4)
  obtain ⟨v1, v2, v3, v4⟩ := id hV0
  have l8 : vp_in (nI l) 8 := vp_in_nI (by omega) (by decide)
  have cl := a_cl (show l < 2147483648 by omega)
  have s11 : nI s - 1 = nI (s - 1) := pk_sub (b := 1) h0
  by_cases hno : ∃ i, i < ls.length ∧ (lnA ls i).1 = l
  · obtain ⟨i, hi, hil⟩ := hno
    have h := h.2 i hi hil
    have hL := hP.ln hi
    have hV4 : (lnA ls i).2.1 + (lnA ls i).2.2.1 ≤ ts.length ∧ 0 < (lnA ls i).2.2.2.1 ∧ (lnA ls i).2.2.2.1 ≤ 1000 ∧ (lnA ls i).2.2.2.2 ≤ 1 ∧ (lnA ls i).1 < 4 := v4 i hi
    rw [hil] at hL
    unfold mdv at h
    generalize lnA ls i = rr at *
    generalize hf : nv (M 1) w u e (rwv (M r) (s - 1)) (rwv (M r) s c) c = nvf at *
    obtain ⟨l1, l2, l3, l4, l5, l6⟩ := hL
    have i0 : (0 : Int32) ≤ nI i := nI_pos' (by omega)
    have bL : (nI rr.2.2.2.1).toInt64.toInt = (rr.2.2.2.1 : Int) := by rw [Int32.toInt_toInt64, a_ti (by omega)]
    have b0 : ¬ (nI rr.2.2.2.1).toInt64 = 0 := fun z => by
      rw [z, show (0 : Int64).toInt = 0 from rfl] at bL; omega
    have b2 : (2 * (nI rr.2.2.2.1).toInt64).toInt = 2 * (rr.2.2.2.1 : Int) := by
      rw [l_mul (by rw [bL, show (2 : Int64).toInt = 2 from rfl]; omega) (by rw [bL, show (2 : Int64).toInt = 2 from rfl]; omega), bL]; rfl
    have b0' : ¬ 2 * (nI rr.2.2.2.1).toInt64 = 0 := fun z => by
      rw [z, show (0 : Int64).toInt = 0 from rfl] at b2; omega
    have lp : ∀ n t x (o8 o9 o10 o11 o12 o13 : Option Value), t + n = rr.2.1 + rr.2.2.1 → rr.2.1 ≤ t → (-(1000000000000000 * ((t : Int) - rr.2.1)) ≤ x.toInt ∧ x.toInt ≤ 1000000000000000 * ((t : Int) - rr.2.1)) → K (some (.int (mdf rr.2.2.2.1 rr.2.2.2.2 (mdt nvf ts n t x)))) M L → V 32 [some (.ref 0), some (.ref r), some (.int (nI l)), some (.int (nI s)), some (.int (nI c)), some (.long x), none, some (.int (nI t)), o8, o9, o10, o11, o12, o13] [] M L := by
      intro n
      induction n with
      | zero =>
        intro t x o8 o9 o10 o11 o12 o13 e1 eT eX h
        rw [mdt, mdf] at h
        refine ma_walk (mo_X5_made ms_X5_place ms_X5_named ms_X5_size ms_X5_downLong) hV [32, 98, 242] (fun F hF => ?_)
        simp only [tb_X5_made, hF, in_no, in_push, in_ild, in_lld, in_ald, in_ist, in_ast, in_lst, in_inc, in_iii, in_idv, in_ldv, in_lll, in_lli, in_lil, in_ii, in_il, in_li, in_ll, in_dup, in_dp2, q_if1, q_if2, in_go, in_sw, ma_sw, in_rv, in_ri, in_rz, in_rl, in_get, in_put, in_puz, in_iar, in_bar, in_lar, in_aar, in_iaw, in_baw, in_law, in_len, in_cpy, in_s1, in_s2, in_s3, in_v1, in_v2, in_v3, in_v4, in_v5, in_v6, ma_bk, ma_gl, ma_sl, ma_nl, ma_wc, ma_wd, ma_nn, ma_en, List.mem_cons, List.not_mem_nil, or_false, or_true, true_or, false_or, true_and, and_true, false_and, and_false, if_true, if_false, forall_const, true_implies, false_implies, not_true_eq_false, not_false_eq_true, Classical.not_not, implies_true, and_self, Nat.add_zero, Nat.zero_add, eq_self, ne_eq, reduceCtorEq, Nat.reduceLT, Nat.reduceLeDiff, Nat.reduceEqDiff, Nat.reduceSub, Nat.reduceAdd, i10, i01, im10, Int32.reduceLT, Int32.reduceLE, ↓reduceIte, reduceIte, up_r, uL_r, cp_r, Int32.toInt_toInt64, Int64.reduceToInt, Int32.reduceToInt, ↓b1_or, b1_0, b1_1, lc_lt, lc_le, lc_gt, lc_ge, lc_eq, ym_0, ym_1, ym_2, ym_3, ym_4, ym_5, ym_6, ym_7, ym_8, ym_9, ym_10, ym_11, ym_12, ym_13, ym_14, ym_15, ym_16, ym_17, ym_18, ym_19, ym_20, ym_21, ym_22, ym_23, ym_24, ym_25, ym_26, ym_27, ym_28, ym_29, ym_30, rm__0, rm__1, rm__2, rm__3, rm__4, rm__5, rm__6, rm__7, rm__8, rm__9, rm__10, rm__11, rm__12, rm__13, rm__14, rm__15, rm__16, rm__17, rm__18, rm__19, rm__20, rm__21, rm__22, rm__23, rm__24, rm__25, rm__26, rm__27, rm__28, rm__29, rm__30, rm__31, rm__32, rm__33, rm__34, rm__35, rm__36, rm__37, rm__38, rm__39, rm__40, rm__41, rm__42, rm__43, rm__44, rm__45, un_X5_place, un_X5_named, un_X5_size, un_X5_downLong, yr, l8, cl, l3, l4, l5, l6, nI_add, abL_d]
        try simp only [iteP, Classical.not_not, b1_0, b1_1]
        rw [a_le (by omega) (by omega)]
        refine ⟨fun _ => ?_, fun z => absurd (by omega) z⟩
        simp only [n64, Classical.not_not]
        refine ⟨fun z => ?_, fun z => ?_⟩
        · rw [if_neg z] at h
          have hx : -1000000000000000 ≤ x.toInt ∧ x.toInt ≤ 1000000000000000 := by
            rw [abL_n (by omega)] at z; omega
          have h242 : ∀ o8, V 242 [some (.ref 0), some (.ref r), some (.int (nI l)), some (.int (nI s)), some (.int (nI c)), some (.long x), none, some (.long (nI rr.2.2.2.1).toInt64), none, o8, o10, o11, o12, o13] [.long (mdq rr.2.2.2.1 rr.2.2.2.2 x)] M L := by
            intro o8
            refine ma_walk (mo_X5_made ms_X5_place ms_X5_named ms_X5_size ms_X5_downLong) hV [] (fun F hF => ?_)
            simp only [tb_X5_made, hF, in_no, in_push, in_ild, in_lld, in_ald, in_ist, in_ast, in_lst, in_inc, in_iii, in_idv, in_ldv, in_lll, in_lli, in_lil, in_ii, in_il, in_li, in_ll, in_dup, in_dp2, q_if1, q_if2, in_go, in_sw, ma_sw, in_rv, in_ri, in_rz, in_rl, in_get, in_put, in_puz, in_iar, in_bar, in_lar, in_aar, in_iaw, in_baw, in_law, in_len, in_cpy, in_s1, in_s2, in_s3, in_v1, in_v2, in_v3, in_v4, in_v5, in_v6, ma_bk, ma_gl, ma_sl, ma_nl, ma_wc, ma_wd, ma_nn, ma_en, List.mem_cons, List.not_mem_nil, or_false, or_true, true_or, false_or, true_and, and_true, false_and, and_false, if_true, if_false, forall_const, true_implies, false_implies, not_true_eq_false, not_false_eq_true, Classical.not_not, implies_true, and_self, Nat.add_zero, Nat.zero_add, eq_self, ne_eq, reduceCtorEq, Nat.reduceLT, Nat.reduceLeDiff, Nat.reduceEqDiff, Nat.reduceSub, Nat.reduceAdd, i10, i01, im10, Int32.reduceLT, Int32.reduceLE, ↓reduceIte, reduceIte, up_r, uL_r, cp_r, Int32.toInt_toInt64, Int64.reduceToInt, Int32.reduceToInt, ↓b1_or, b1_0, b1_1, lc_lt, lc_le, lc_gt, lc_ge, lc_eq, ym_0, ym_1, ym_2, ym_3, ym_4, ym_5, ym_6, ym_7, ym_8, ym_9, ym_10, ym_11, ym_12, ym_13, ym_14, ym_15, ym_16, ym_17, ym_18, ym_19, ym_20, ym_21, ym_22, ym_23, ym_24, ym_25, ym_26, ym_27, ym_28, ym_29, ym_30, rm__0, rm__1, rm__2, rm__3, rm__4, rm__5, rm__6, rm__7, rm__8, rm__9, rm__10, rm__11, rm__12, rm__13, rm__14, rm__15, rm__16, rm__17, rm__18, rm__19, rm__20, rm__21, rm__22, rm__23, rm__24, rm__25, rm__26, rm__27, rm__28, rm__29, rm__30, rm__31, rm__32, rm__33, rm__34, rm__35, rm__36, rm__37, rm__38, rm__39, rm__40, rm__41, rm__42, rm__43, rm__44, rm__45, un_X5_place, un_X5_named, un_X5_size, un_X5_downLong, abL_d]
            try simp only [iteP, Classical.not_not, b1_0, b1_1]
            simp only [n64, Classical.not_not]
            refine ⟨fun z2 => ?_, fun z2 => ?_⟩
            · rw [if_neg z2] at h; exact h
            · rw [if_pos z2] at h; exact h
          unfold mdq at h242
          have e2 : (2 * x).toInt = 2 * x.toInt := by
            rw [l_mul (by rw [show (2 : Int64).toInt = 2 from rfl]; omega) (by rw [show (2 : Int64).toInt = 2 from rfl]; omega)]; rfl
          have e3 : (2 * x + (nI rr.2.2.2.1).toInt64).toInt = 2 * x.toInt + (rr.2.2.2.1 : Int) := by
            rw [l_add (by rw [e2, bL]; omega) (by rw [e2, bL]; omega), e2, bL]
          rw [show (nI rr.2.2.2.2 = (1 : Int32)) = (rr.2.2.2.2 = 1) from a_eq (b := 1) (by omega) (by omega)]
          refine ⟨fun z2 => ⟨b0', ?_⟩, fun z2 => ⟨b0, ?_⟩⟩
          · rw [if_neg (by omega)] at h242
            rw [fd_dn (by rw [b2]; omega) (by rw [b2]; omega) (by rw [e3]; omega)]; exact h242 _
          · rw [if_pos (by omega)] at h242
            rw [fd_dn (by rw [bL]; omega) (by rw [bL]; omega) (by omega)]; exact h242 _
        · rw [if_pos z] at h; exact h
      | succ n ih =>
        intro t x o8 o9 o10 o11 o12 o13 e1 eT eX h
        have ht : t < ts.length := by omega
        have hT := hP.tm ht
        have hq := v3 t ht
        have hf9 := hVf t ht
        rw [mdt, tmv] at h
        generalize ts.getD t (0, 0, none) = tm at *
        obtain ⟨t1, t2, t3⟩ := hT
        have v160 : vp_in (nI t) 160 := vp_in_nI (by omega) (by decide)
        have ct := a_cl (show t < 2147483648 by omega)
        have h98 : ∀ o10 o11, V 98 [some (.ref 0), some (.ref r), some (.int (nI l)), some (.int (nI s)), some (.int (nI c)), some (.long x), none, some (.int (nI t)), some (.long (nvf tm.2.1).toInt64), none, o10, o11, o12, o13] [.long (tb_ nvf tm.2.2).toInt64] M L := by
          intro o10 o11
          generalize tb_ nvf tm.2.2 = b at h ⊢
          generalize nvf tm.2.1 = a at h ⊢
          refine ma_walk (mo_X5_made ms_X5_place ms_X5_named ms_X5_size ms_X5_downLong) hV [32] (fun F hF => ?_)
          simp only [tb_X5_made, hF, in_no, in_push, in_ild, in_lld, in_ald, in_ist, in_ast, in_lst, in_inc, in_iii, in_idv, in_ldv, in_lll, in_lli, in_lil, in_ii, in_il, in_li, in_ll, in_dup, in_dp2, q_if1, q_if2, in_go, in_sw, ma_sw, in_rv, in_ri, in_rz, in_rl, in_get, in_put, in_puz, in_iar, in_bar, in_lar, in_aar, in_iaw, in_baw, in_law, in_len, in_cpy, in_s1, in_s2, in_s3, in_v1, in_v2, in_v3, in_v4, in_v5, in_v6, ma_bk, ma_gl, ma_sl, ma_nl, ma_wc, ma_wd, ma_nn, ma_en, List.mem_cons, List.not_mem_nil, or_false, or_true, true_or, false_or, true_and, and_true, false_and, and_false, if_true, if_false, forall_const, true_implies, false_implies, not_true_eq_false, not_false_eq_true, Classical.not_not, implies_true, and_self, Nat.add_zero, Nat.zero_add, eq_self, ne_eq, reduceCtorEq, Nat.reduceLT, Nat.reduceLeDiff, Nat.reduceEqDiff, Nat.reduceSub, Nat.reduceAdd, i10, i01, im10, Int32.reduceLT, Int32.reduceLE, ↓reduceIte, reduceIte, up_r, uL_r, cp_r, Int32.toInt_toInt64, Int64.reduceToInt, Int32.reduceToInt, ↓b1_or, b1_0, b1_1, lc_lt, lc_le, lc_gt, lc_ge, lc_eq, ym_0, ym_1, ym_2, ym_3, ym_4, ym_5, ym_6, ym_7, ym_8, ym_9, ym_10, ym_11, ym_12, ym_13, ym_14, ym_15, ym_16, ym_17, ym_18, ym_19, ym_20, ym_21, ym_22, ym_23, ym_24, ym_25, ym_26, ym_27, ym_28, ym_29, ym_30, rm__0, rm__1, rm__2, rm__3, rm__4, rm__5, rm__6, rm__7, rm__8, rm__9, rm__10, rm__11, rm__12, rm__13, rm__14, rm__15, rm__16, rm__17, rm__18, rm__19, rm__20, rm__21, rm__22, rm__23, rm__24, rm__25, rm__26, rm__27, rm__28, rm__29, rm__30, rm__31, rm__32, rm__33, rm__34, rm__35, rm__36, rm__37, rm__38, rm__39, rm__40, rm__41, rm__42, rm__43, rm__44, rm__45, un_X5_place, un_X5_named, un_X5_size, un_X5_downLong, yr, v160, ct, t1, abL_d, nI_1, v64]
          try simp only [iteP, Classical.not_not, b1_0, b1_1]
          simp only [n64, Classical.not_not]
          rw [show tm.1.toInt64 * (a.toInt64 * b.toInt64) = a.toInt64 * b.toInt64 * tm.1.toInt64 from Int64.mul_comm _ _]
          refine ⟨fun z => ?_, fun z => ⟨fun z2 => ?_, fun z2 => ⟨fun z3 => ⟨fun z4 => ?_, fun z4 => ?_⟩, fun z3 => ?_⟩⟩⟩
          · rw [if_pos (Or.inl z)] at h; exact h
          · rw [if_pos (Or.inr (Or.inl z2))] at h; exact h
          · rw [if_neg (by intro q; rcases q with q | q | q | q; exact z q; exact z2 q; exact z3 q; exact z4 q)] at h
            have tb9 := tm_b hf9 z3 z4
            refine ih _ _ _ _ _ _ _ _ (by omega) (by omega) ?_ h
            rw [l_add (by omega) (by omega)]; omega
          · rw [if_pos (Or.inr (Or.inr (Or.inr z4)))] at h; exact h
          · rw [if_pos (Or.inr (Or.inr (Or.inl z3)))] at h; exact h
        refine ma_walk (mo_X5_made ms_X5_place ms_X5_named ms_X5_size ms_X5_downLong) hV [32, 98, 180] (fun F hF => ?_)
        simp only [tb_X5_made, hF, in_no, in_push, in_ild, in_lld, in_ald, in_ist, in_ast, in_lst, in_inc, in_iii, in_idv, in_ldv, in_lll, in_lli, in_lil, in_ii, in_il, in_li, in_ll, in_dup, in_dp2, q_if1, q_if2, in_go, in_sw, ma_sw, in_rv, in_ri, in_rz, in_rl, in_get, in_put, in_puz, in_iar, in_bar, in_lar, in_aar, in_iaw, in_baw, in_law, in_len, in_cpy, in_s1, in_s2, in_s3, in_v1, in_v2, in_v3, in_v4, in_v5, in_v6, ma_bk, ma_gl, ma_sl, ma_nl, ma_wc, ma_wd, ma_nn, ma_en, List.mem_cons, List.not_mem_nil, or_false, or_true, true_or, false_or, true_and, and_true, false_and, and_false, if_true, if_false, forall_const, true_implies, false_implies, not_true_eq_false, not_false_eq_true, Classical.not_not, implies_true, and_self, Nat.add_zero, Nat.zero_add, eq_self, ne_eq, reduceCtorEq, Nat.reduceLT, Nat.reduceLeDiff, Nat.reduceEqDiff, Nat.reduceSub, Nat.reduceAdd, i10, i01, im10, Int32.reduceLT, Int32.reduceLE, ↓reduceIte, reduceIte, up_r, uL_r, cp_r, Int32.toInt_toInt64, Int64.reduceToInt, Int32.reduceToInt, ↓b1_or, b1_0, b1_1, lc_lt, lc_le, lc_gt, lc_ge, lc_eq, ym_0, ym_1, ym_2, ym_3, ym_4, ym_5, ym_6, ym_7, ym_8, ym_9, ym_10, ym_11, ym_12, ym_13, ym_14, ym_15, ym_16, ym_17, ym_18, ym_19, ym_20, ym_21, ym_22, ym_23, ym_24, ym_25, ym_26, ym_27, ym_28, ym_29, ym_30, rm__0, rm__1, rm__2, rm__3, rm__4, rm__5, rm__6, rm__7, rm__8, rm__9, rm__10, rm__11, rm__12, rm__13, rm__14, rm__15, rm__16, rm__17, rm__18, rm__19, rm__20, rm__21, rm__22, rm__23, rm__24, rm__25, rm__26, rm__27, rm__28, rm__29, rm__30, rm__31, rm__32, rm__33, rm__34, rm__35, rm__36, rm__37, rm__38, rm__39, rm__40, rm__41, rm__42, rm__43, rm__44, rm__45, un_X5_place, un_X5_named, un_X5_size, un_X5_downLong, yr, l8, cl, l3, l4, nI_add, v160, ct, t2, t3]
        try simp only [iteP, Classical.not_not, b1_0, b1_1]
        rw [a_le (by omega) (by omega)]
        refine ⟨fun z => absurd z (by omega), fun _ => ⟨w, u, e, c, s, tm.2.1, ⟨hR, hk, h0, rfl, rfl, rfl, hq.1⟩, ?_⟩⟩
        rw [hf]
        cases ho : tm.2.2 with
        | none =>
          rw [ho] at h98
          exact ⟨fun z => absurd z (by decide), fun _ => h98 _ _⟩
        | some q2 =>
          rw [ho] at h98
          have q24 := hq.2 q2 ho
          refine ⟨fun _ => ⟨w, u, e, c, s, q2, ⟨hR, hk, h0, rfl, rfl, rfl, q24⟩, ?_⟩, fun z => absurd (nI_pos' (by omega)) z⟩
          rw [hf]; exact h98 _ _
    refine ma_walk (mo_X5_made ms_X5_place ms_X5_named ms_X5_size ms_X5_downLong) hV [32] (fun F hF => ?_)
    simp only [tb_X5_made, hF, in_no, in_push, in_ild, in_lld, in_ald, in_ist, in_ast, in_lst, in_inc, in_iii, in_idv, in_ldv, in_lll, in_lli, in_lil, in_ii, in_il, in_li, in_ll, in_dup, in_dp2, q_if1, q_if2, in_go, in_sw, ma_sw, in_rv, in_ri, in_rz, in_rl, in_get, in_put, in_puz, in_iar, in_bar, in_lar, in_aar, in_iaw, in_baw, in_law, in_len, in_cpy, in_s1, in_s2, in_s3, in_v1, in_v2, in_v3, in_v4, in_v5, in_v6, ma_bk, ma_gl, ma_sl, ma_nl, ma_wc, ma_wd, ma_nn, ma_en, List.mem_cons, List.not_mem_nil, or_false, or_true, true_or, false_or, true_and, and_true, false_and, and_false, if_true, if_false, forall_const, true_implies, false_implies, not_true_eq_false, not_false_eq_true, Classical.not_not, implies_true, and_self, Nat.add_zero, Nat.zero_add, eq_self, ne_eq, reduceCtorEq, Nat.reduceLT, Nat.reduceLeDiff, Nat.reduceEqDiff, Nat.reduceSub, Nat.reduceAdd, i10, i01, im10, Int32.reduceLT, Int32.reduceLE, ↓reduceIte, reduceIte, up_r, uL_r, cp_r, Int32.toInt_toInt64, Int64.reduceToInt, Int32.reduceToInt, ↓b1_or, b1_0, b1_1, lc_lt, lc_le, lc_gt, lc_ge, lc_eq, ym_0, ym_1, ym_2, ym_3, ym_4, ym_5, ym_6, ym_7, ym_8, ym_9, ym_10, ym_11, ym_12, ym_13, ym_14, ym_15, ym_16, ym_17, ym_18, ym_19, ym_20, ym_21, ym_22, ym_23, ym_24, ym_25, ym_26, ym_27, ym_28, ym_29, ym_30, rm__0, rm__1, rm__2, rm__3, rm__4, rm__5, rm__6, rm__7, rm__8, rm__9, rm__10, rm__11, rm__12, rm__13, rm__14, rm__15, rm__16, rm__17, rm__18, rm__19, rm__20, rm__21, rm__22, rm__23, rm__24, rm__25, rm__26, rm__27, rm__28, rm__29, rm__30, rm__31, rm__32, rm__33, rm__34, rm__35, rm__36, rm__37, rm__38, rm__39, rm__40, rm__41, rm__42, rm__43, rm__44, rm__45, un_X5_place, un_X5_named, un_X5_size, un_X5_downLong, yr, l8, cl, l2, l3, i0]
    try simp only [iteP, Classical.not_not, b1_0, b1_1]
    exact lp rr.2.2.1 rr.2.1 0 none none none none none none rfl (Nat.le_refl _) (by rw [show (0 : Int64).toInt = 0 from rfl]; omega) h
  · have h := h.1 hno
    have hz := hP.no hl hno
    have g4 : ¬ (0 : Int32) ≤ -4 := by decide
    refine ma_walk (mo_X5_made ms_X5_place ms_X5_named ms_X5_size ms_X5_downLong) hV [32] (fun F hF => ?_)
    simp only [tb_X5_made, hF, in_no, in_push, in_ild, in_lld, in_ald, in_ist, in_ast, in_lst, in_inc, in_iii, in_idv, in_ldv, in_lll, in_lli, in_lil, in_ii, in_il, in_li, in_ll, in_dup, in_dp2, q_if1, q_if2, in_go, in_sw, ma_sw, in_rv, in_ri, in_rz, in_rl, in_get, in_put, in_puz, in_iar, in_bar, in_lar, in_aar, in_iaw, in_baw, in_law, in_len, in_cpy, in_s1, in_s2, in_s3, in_v1, in_v2, in_v3, in_v4, in_v5, in_v6, ma_bk, ma_gl, ma_sl, ma_nl, ma_wc, ma_wd, ma_nn, ma_en, List.mem_cons, List.not_mem_nil, or_false, or_true, true_or, false_or, true_and, and_true, false_and, and_false, if_true, if_false, forall_const, true_implies, false_implies, not_true_eq_false, not_false_eq_true, Classical.not_not, implies_true, and_self, Nat.add_zero, Nat.zero_add, eq_self, ne_eq, reduceCtorEq, Nat.reduceLT, Nat.reduceLeDiff, Nat.reduceEqDiff, Nat.reduceSub, Nat.reduceAdd, i10, i01, im10, Int32.reduceLT, Int32.reduceLE, ↓reduceIte, reduceIte, up_r, uL_r, cp_r, Int32.toInt_toInt64, Int64.reduceToInt, Int32.reduceToInt, ↓b1_or, b1_0, b1_1, lc_lt, lc_le, lc_gt, lc_ge, lc_eq, ym_0, ym_1, ym_2, ym_3, ym_4, ym_5, ym_6, ym_7, ym_8, ym_9, ym_10, ym_11, ym_12, ym_13, ym_14, ym_15, ym_16, ym_17, ym_18, ym_19, ym_20, ym_21, ym_22, ym_23, ym_24, ym_25, ym_26, ym_27, ym_28, ym_29, ym_30, rm__0, rm__1, rm__2, rm__3, rm__4, rm__5, rm__6, rm__7, rm__8, rm__9, rm__10, rm__11, rm__12, rm__13, rm__14, rm__15, rm__16, rm__17, rm__18, rm__19, rm__20, rm__21, rm__22, rm__23, rm__24, rm__25, rm__26, rm__27, rm__28, rm__29, rm__30, rm__31, rm__32, rm__33, rm__34, rm__35, rm__36, rm__37, rm__38, rm__39, rm__40, rm__41, rm__42, rm__43, rm__44, rm__45, un_X5_place, un_X5_named, un_X5_size, un_X5_downLong, yr, l8, cl, hz, g4, s11]
    try simp only [iteP, Classical.not_not, b1_0, b1_1]
    rw [pl_e, a_cl (by omega), a_vi (by omega)]
    exact ⟨by omega, h⟩
theorem pv_X5_made : ∀ as M L K, S_X5_made as M L K → ma_rn (tb_X5_made S_X5_place S_X5_named S_X5_size S_X5_downLong) 14 as M L K := by
  intro as M L K h
  unfold S_X5_made at h
  split at h
  · obtain ⟨w, u, e, c, s, l, ts, ls, h⟩ := h; exact pw_X5_made h.1 h.2
  · exact h.elim
