/-! what a line makes, and marks (the component) -/
set_option maxRecDepth 100000
set_option maxHeartbeats 4000000
def tb_ (nvf : Nat → Int32) (o : Option Nat) : Int32 := match o with
  | none => 1
  | some q => nvf q
def tmv (nvf : Nat → Int32) (tm : Tm) : Option Int64 :=
  if nvf tm.2.1 = 2000000000 ∨ tb_ nvf tm.2.2 = 2000000000 ∨ 1000000000000000 < abL ((nvf tm.2.1).toInt64 * (tb_ nvf tm.2.2).toInt64) ∨ 1000000000000000 < abL ((nvf tm.2.1).toInt64 * (tb_ nvf tm.2.2).toInt64 * tm.1.toInt64) then none
  else some ((nvf tm.2.1).toInt64 * (tb_ nvf tm.2.2).toInt64 * tm.1.toInt64)
def mdt (nvf : Nat → Int32) (ts : List Tm) : Nat → Nat → Int64 → Option Int64
  | 0, _, s => some s
  | n + 1, t, s => match tmv nvf (ts.getD t (0, 0, none)) with
    | none => none
    | some x => mdt nvf ts n (t + 1) (s + x)
def mdq (b nr : Nat) (s : Int64) : Int64 := if nr = 0 then fdL s (nI b).toInt64 else fdL (2 * s + (nI b).toInt64) (2 * (nI b).toInt64)
def mdf (b nr : Nat) (o : Option Int64) : Int32 := match o with
  | none => 2000000000
  | some s => if 1000000000000000 < abL s then 2000000000 else if 1000000000 < abL (mdq b nr s) then 2000000000 else (mdq b nr s).toInt32
def mdv (nvf : Nat → Int32) (ts : List Tm) (r : Ln) : Int32 := mdf r.2.2.2.1 r.2.2.2.2 (mdt nvf ts r.2.2.1 r.2.1 0)
/-- a plan within its bounds -/
def Vp (ts : List Tm) (ls : List Ln) : Prop := ts.length ≤ 80 ∧ ls.length ≤ 4 ∧ (∀ t, t < ts.length → (ts.getD t (0, 0, none)).2.1 < 24 ∧ ∀ q, (ts.getD t (0, 0, none)).2.2 = some q → q < 24) ∧ ∀ i, i < ls.length → (ls.getD i (0, 0, 0, 0, 0)).2.1 + (ls.getD i (0, 0, 0, 0, 0)).2.2.1 ≤ ts.length ∧ 0 < (ls.getD i (0, 0, 0, 0, 0)).2.2.2.1 ∧ (ls.getD i (0, 0, 0, 0, 0)).2.2.2.1 ≤ 1000 ∧ (ls.getD i (0, 0, 0, 0, 0)).2.2.2.2 ≤ 1 ∧ (ls.getD i (0, 0, 0, 0, 0)).1 < 4
theorem s2_n {q : Nat} (h : q < 24) : ¬ s2 (some q) = -4 := by
  intro z
  have z2 : (nI (ex q)).toInt = (-4 : Int32).toInt := by rw [← z]; rfl
  rw [a_ti (by unfold ex; split <;> omega), show (-4 : Int32).toInt = -4 from rfl] at z2; omega
def S_X3_made : ma_Cs := fun as M L K => match as with
  | [.ref k, .int ii, .int ss, .int cc] => ∃ (w : Nat) (u : Nat) (e : Nat) (c : Nat) (s : Nat) (i : Nat) (ts : List Tm) (ls : List Ln), (Sk M k w u e c s ∧ 0 < s ∧ ss = nI s ∧ cc = nI c ∧ ii = nI i ∧ i < ls.length ∧ PX M 11 ts ls ∧ Vp ts ls) ∧ (K (some (.int (mdv (nv (M 19) w u e (rwv (M (k + 1)) (s - 1)) (rwv (M (k + 1)) s c) c) ts (ls.getD i (0, 0, 0, 0, 0))))) M L)
  | _ => False
theorem ms_X3_made : ma_ms S_X3_made := by
  intro as M L K K' hk h
  unfold S_X3_made at h ⊢
  split at h
  · obtain ⟨w, u, e, c, s, i, ts, ls, h⟩ := h
    exact ⟨w, u, e, c, s, i, ts, ls, h.1, hk _ _ _ h.2⟩
  · exact h.elim
theorem un_X3_made {k : Nat} {ii : Int32} {ss : Int32} {cc : Int32} {M : ZM} {L : ZL} {K : ma_Kt} : S_X3_made [.ref k, .int ii, .int ss, .int cc] M L K = (∃ (w : Nat) (u : Nat) (e : Nat) (c : Nat) (s : Nat) (i : Nat) (ts : List Tm) (ls : List Ln), (Sk M k w u e c s ∧ 0 < s ∧ ss = nI s ∧ cc = nI c ∧ ii = nI i ∧ i < ls.length ∧ PX M 11 ts ls ∧ Vp ts ls) ∧ (K (some (.int (mdv (nv (M 19) w u e (rwv (M (k + 1)) (s - 1)) (rwv (M (k + 1)) s c) c) ts (ls.getD i (0, 0, 0, 0, 0))))) M L)) := rfl
theorem pw_X3_made {k : Nat} {ii : Int32} {ss : Int32} {cc : Int32} {w : Nat} {u : Nat} {e : Nat} {c : Nat} {s : Nat} {i : Nat} {ts : List Tm} {ls : List Ln} {M : ZM} {L : ZL} {K : ma_Kt} (hp : Sk M k w u e c s ∧ 0 < s ∧ ss = nI s ∧ cc = nI c ∧ ii = nI i ∧ i < ls.length ∧ PX M 11 ts ls ∧ Vp ts ls) (h : (K (some (.int (mdv (nv (M 19) w u e (rwv (M (k + 1)) (s - 1)) (rwv (M (k + 1)) s c) c) ts (ls.getD i (0, 0, 0, 0, 0))))) M L)) : ma_rn (tb_X3_made S_X3_valueOf S_J0_abs S_J0_floorDiv_2) 11 [.ref k, .int ii, .int ss, .int cc] M L K := by
  refine ⟨Nat.le_of_ble_eq_true rfl, fun V hV => ?_⟩
  obtain ⟨hk, h0, rfl, rfl, rfl, hi, hP, hV0⟩ := hp
  obtain ⟨hS, m0, m1, m2, hs, hs2⟩ := id hk
  obtain ⟨y0, y1, y2⟩ := id hS
  obtain ⟨v1, v2, v3, v4⟩ := id hV0
  obtain ⟨p1, p2, p3, p4⟩ := id hP
  have hL := p3 i hi
  have hV4 := v4 i hi
  unfold mdv at h
  generalize ls.getD i (0, 0, 0, 0, 0) = r at *
  generalize hf : nv (M 19) w u e (rwv (M (k + 1)) (s - 1)) (rwv (M (k + 1)) s c) c = nvf at *
  obtain ⟨l1, l2, l3, l4, l5⟩ := hL
  have i4 : vp_in (nI i) 4 := vp_in_nI (by omega) (by decide)
  have i5 : vp_in (nI i) 5 := vp_in_nI (by omega) (by decide)
  have j5 : vp_in (nI (i + 1)) 5 := vp_in_nI (by omega) (by decide)
  have ci := a_cl (show i < 2147483648 by omega)
  have cj := a_cl (show i + 1 < 2147483648 by omega)
  have l2 : M 13 i = nI r.2.1 := l2
  have l3 : M 13 (i + 1) = nI (r.2.1 + r.2.2.1) := l3
  have l4 : M 14 i = nI r.2.2.2.1 := l4
  have l5 : M 15 i = nI r.2.2.2.2 := l5
  have bL : (nI r.2.2.2.1).toInt64.toInt = (r.2.2.2.1 : Int) := by rw [Int32.toInt_toInt64, a_ti (by omega)]
  have b0 : ¬ (nI r.2.2.2.1).toInt64 = 0 := fun z => by
    rw [z, show (0 : Int64).toInt = 0 from rfl] at bL; omega
  have b0' : ¬ 2 * (nI r.2.2.2.1).toInt64 = 0 := fun z => by
    have z2 : (2 * (nI r.2.2.2.1).toInt64).toInt = 2 * (r.2.2.2.1 : Int) := by
      rw [l_mul (by rw [bL, show (2 : Int64).toInt = 2 from rfl]; omega) (by rw [bL, show (2 : Int64).toInt = 2 from rfl]; omega), bL]; rfl
    rw [z, show (0 : Int64).toInt = 0 from rfl] at z2; omega
  have lp : ∀ n t x (o7 o8 o9 : Option Value), t + n = r.2.1 + r.2.2.1 → ma_nl o7 → ma_nl o8 → K (some (.int (mdf r.2.2.2.1 r.2.2.2.2 (mdt nvf ts n t x)))) M L → V 17 [some (.ref k), some (.int (nI i)), some (.int (nI s)), some (.int (nI c)), some (.long x), none, some (.int (nI t)), o7, o8, o9, none] [] M L := by
    intro n
    induction n with
    | zero =>
      intro t x o7 o8 o9 e1 n7 n8 h
      rw [mdt, mdf] at h
      refine ma_walk (mo_X3_made ms_X3_valueOf ms_J0_abs ms_J0_floorDiv_2) hV [17, 98, 269] (fun F hF => ?_)
      simp only [tb_X3_made, hF, in_no, in_push, in_ild, in_lld, in_ald, in_ist, in_ast, in_lst, in_inc, in_iii, in_idv, in_ldv, in_lll, in_lli, in_lil, in_ii, in_il, in_li, in_ll, in_dup, in_dp2, q_if1, q_if2, in_go, in_sw, ma_sw, in_rv, in_ri, in_rz, in_rl, in_get, in_put, in_puz, in_iar, in_bar, in_lar, in_aar, in_iaw, in_baw, in_law, in_len, in_cpy, in_s1, in_s2, in_s3, in_v1, in_v2, in_v3, in_v4, in_v5, in_v6, ma_bk, ma_gl, ma_sl, ma_nl, ma_wc, ma_wd, ma_nn, ma_en, List.mem_cons, List.not_mem_nil, or_false, or_true, true_or, false_or, true_and, and_true, false_and, and_false, if_true, if_false, forall_const, true_implies, false_implies, not_true_eq_false, not_false_eq_true, Classical.not_not, implies_true, and_self, Nat.add_zero, Nat.zero_add, eq_self, ne_eq, reduceCtorEq, Nat.reduceLT, Nat.reduceLeDiff, Nat.reduceEqDiff, Nat.reduceSub, Nat.reduceAdd, i10, i01, im10, Int32.reduceLT, Int32.reduceLE, ↓reduceIte, reduceIte, up_r, uL_r, cp_r, Int32.toInt_toInt64, Int64.reduceToInt, Int32.reduceToInt, ↓b1_or, b1_0, b1_1, lc_lt, lc_le, lc_gt, lc_ge, lc_eq, yx_0, yx_1, yx_2, yx_3, yx_4, yx_5, yx_6, yx_7, yx_8, yx_9, yx_10, yx_11, yx_12, yx_13, yx_14, yx_15, yx_16, yx_17, yx_18, yx_19, yx_20, yx_21, yx_22, yx_23, yx_24, yx_25, yx_26, yx_27, yx_28, yx_29, yx_30, yx_31, yx_32, yx_33, yx_34, yx_35, yx_36, yx_37, yx_38, yx_39, yx_40, yx_41, yx_42, yx_43, yx_44, yx_45, yx_46, yx_47, yx_48, yx_49, yx_50, yx_51, yx_52, yx_53, yx_54, yx_55, yx_56, yx_57, yx_58, yx_59, yx_60, yx_61, yx_62, yx_63, yx_64, yx_65, yx_66, yx_67, yx_68, rx_0, rx_1, rx_2, rx_3, rx_4, rx_5, rx_6, rx_7, rx_8, rx_9, rx_10, rx_11, rx_12, rx_13, rx_14, rx_15, rx_16, rx_17, rx_18, rx_19, rx_20, rx_21, rx_22, rx_23, rx_24, rx_25, rx_26, rx_27, rx_28, rx_29, rx_30, rx_31, rx_32, rx_33, rp_0, rp_1, rp_2, rp_3, rp_4, rp_5, rp_6, rp_7, rp_8, rs_0, rs_1, rs_2, rs_3, rs_4, re_0, re_1, re_2, re_3, re_4, re_5, rr_0, rr_1, rr_2, rr_3, rr_4, rk_0, rk_1, isP3, isP11, isP46, isP58, isS25, isS28, isS31, un_X3_valueOf, un_J0_abs, un_J0_floorDiv_2, y0, i5, i4, nI_1, j5, ci, cj, l2, l3, l4, l5, abL_d]
      try simp only [iteP, Classical.not_not]
      rw [a_le (by omega) (by omega)]
      refine ⟨fun _ => ?_, fun z => absurd (by omega) z⟩
      simp only [n64, Classical.not_not]
      refine ⟨fun z => ?_, fun z => ?_⟩
      · rw [if_neg z] at h
        have h269 : V 269 [some (.ref k), some (.int (nI i)), some (.int (nI s)), some (.int (nI c)), some (.long x), none, some (.long (nI r.2.2.2.1).toInt64), none, o8, o9, none] [.long (mdq r.2.2.2.1 r.2.2.2.2 x)] M L := by
          refine ma_walk (mo_X3_made ms_X3_valueOf ms_J0_abs ms_J0_floorDiv_2) hV [] (fun F hF => ?_)
          simp only [tb_X3_made, hF, in_no, in_push, in_ild, in_lld, in_ald, in_ist, in_ast, in_lst, in_inc, in_iii, in_idv, in_ldv, in_lll, in_lli, in_lil, in_ii, in_il, in_li, in_ll, in_dup, in_dp2, q_if1, q_if2, in_go, in_sw, ma_sw, in_rv, in_ri, in_rz, in_rl, in_get, in_put, in_puz, in_iar, in_bar, in_lar, in_aar, in_iaw, in_baw, in_law, in_len, in_cpy, in_s1, in_s2, in_s3, in_v1, in_v2, in_v3, in_v4, in_v5, in_v6, ma_bk, ma_gl, ma_sl, ma_nl, ma_wc, ma_wd, ma_nn, ma_en, List.mem_cons, List.not_mem_nil, or_false, or_true, true_or, false_or, true_and, and_true, false_and, and_false, if_true, if_false, forall_const, true_implies, false_implies, not_true_eq_false, not_false_eq_true, Classical.not_not, implies_true, and_self, Nat.add_zero, Nat.zero_add, eq_self, ne_eq, reduceCtorEq, Nat.reduceLT, Nat.reduceLeDiff, Nat.reduceEqDiff, Nat.reduceSub, Nat.reduceAdd, i10, i01, im10, Int32.reduceLT, Int32.reduceLE, ↓reduceIte, reduceIte, up_r, uL_r, cp_r, Int32.toInt_toInt64, Int64.reduceToInt, Int32.reduceToInt, ↓b1_or, b1_0, b1_1, lc_lt, lc_le, lc_gt, lc_ge, lc_eq, yx_0, yx_1, yx_2, yx_3, yx_4, yx_5, yx_6, yx_7, yx_8, yx_9, yx_10, yx_11, yx_12, yx_13, yx_14, yx_15, yx_16, yx_17, yx_18, yx_19, yx_20, yx_21, yx_22, yx_23, yx_24, yx_25, yx_26, yx_27, yx_28, yx_29, yx_30, yx_31, yx_32, yx_33, yx_34, yx_35, yx_36, yx_37, yx_38, yx_39, yx_40, yx_41, yx_42, yx_43, yx_44, yx_45, yx_46, yx_47, yx_48, yx_49, yx_50, yx_51, yx_52, yx_53, yx_54, yx_55, yx_56, yx_57, yx_58, yx_59, yx_60, yx_61, yx_62, yx_63, yx_64, yx_65, yx_66, yx_67, yx_68, rx_0, rx_1, rx_2, rx_3, rx_4, rx_5, rx_6, rx_7, rx_8, rx_9, rx_10, rx_11, rx_12, rx_13, rx_14, rx_15, rx_16, rx_17, rx_18, rx_19, rx_20, rx_21, rx_22, rx_23, rx_24, rx_25, rx_26, rx_27, rx_28, rx_29, rx_30, rx_31, rx_32, rx_33, rp_0, rp_1, rp_2, rp_3, rp_4, rp_5, rp_6, rp_7, rp_8, rs_0, rs_1, rs_2, rs_3, rs_4, re_0, re_1, re_2, re_3, re_4, re_5, rr_0, rr_1, rr_2, rr_3, rr_4, rk_0, rk_1, isP3, isP11, isP46, isP58, isS25, isS28, isS31, un_X3_valueOf, un_J0_abs, un_J0_floorDiv_2, abL_d]
          try simp only [iteP, Classical.not_not]
          simp only [n64, Classical.not_not]
          refine ⟨fun z2 => ?_, fun z2 => ?_⟩
          · rw [if_neg z2] at h; exact h
          · rw [if_pos z2] at h; exact h
        unfold mdq at h269
        rw [a_eq0 (by omega)]
        refine ⟨fun z2 => ⟨b0, ?_⟩, fun z2 => ⟨b0', ?_⟩⟩
        · rw [if_pos z2] at h269; exact h269
        · rw [if_neg z2] at h269; exact h269
      · rw [if_pos z] at h; exact h
    | succ n ih =>
      intro t x o7 o8 o9 e1 n7 n8 h
      have ht : t < ts.length := by omega
      have hT := p4 t ht
      have hq := v3 t ht
      rw [mdt, tmv] at h
      generalize ts.getD t (0, 0, none) = tm at *
      obtain ⟨t1, t2, t3⟩ := hT
      have t1 : M 16 t = tm.1 := t1
      have t2 : M 17 t = nI (ex tm.2.1) := t2
      have t3 : M 18 t = s2 tm.2.2 := t3
      have v80 : vp_in (nI t) 80 := vp_in_nI (by omega) (by decide)
      have ct := a_cl (show t < 2147483648 by omega)
      have h98 : ∀ o8, ma_nl o8 → V 98 [some (.ref k), some (.int (nI i)), some (.int (nI s)), some (.int (nI c)), some (.long x), none, some (.int (nI t)), some (.int (nvf tm.2.1)), o8, o9, none] [.int (tb_ nvf tm.2.2)] M L := by
        intro o8 n8
        generalize tb_ nvf tm.2.2 = b at h ⊢
        generalize nvf tm.2.1 = a at h ⊢
        refine ma_walk (mo_X3_made ms_X3_valueOf ms_J0_abs ms_J0_floorDiv_2) hV [17] (fun F hF => ?_)
        simp only [tb_X3_made, hF, in_no, in_push, in_ild, in_lld, in_ald, in_ist, in_ast, in_lst, in_inc, in_iii, in_idv, in_ldv, in_lll, in_lli, in_lil, in_ii, in_il, in_li, in_ll, in_dup, in_dp2, q_if1, q_if2, in_go, in_sw, ma_sw, in_rv, in_ri, in_rz, in_rl, in_get, in_put, in_puz, in_iar, in_bar, in_lar, in_aar, in_iaw, in_baw, in_law, in_len, in_cpy, in_s1, in_s2, in_s3, in_v1, in_v2, in_v3, in_v4, in_v5, in_v6, ma_bk, ma_gl, ma_sl, ma_nl, ma_wc, ma_wd, ma_nn, ma_en, List.mem_cons, List.not_mem_nil, or_false, or_true, true_or, false_or, true_and, and_true, false_and, and_false, if_true, if_false, forall_const, true_implies, false_implies, not_true_eq_false, not_false_eq_true, Classical.not_not, implies_true, and_self, Nat.add_zero, Nat.zero_add, eq_self, ne_eq, reduceCtorEq, Nat.reduceLT, Nat.reduceLeDiff, Nat.reduceEqDiff, Nat.reduceSub, Nat.reduceAdd, i10, i01, im10, Int32.reduceLT, Int32.reduceLE, ↓reduceIte, reduceIte, up_r, uL_r, cp_r, Int32.toInt_toInt64, Int64.reduceToInt, Int32.reduceToInt, ↓b1_or, b1_0, b1_1, lc_lt, lc_le, lc_gt, lc_ge, lc_eq, yx_0, yx_1, yx_2, yx_3, yx_4, yx_5, yx_6, yx_7, yx_8, yx_9, yx_10, yx_11, yx_12, yx_13, yx_14, yx_15, yx_16, yx_17, yx_18, yx_19, yx_20, yx_21, yx_22, yx_23, yx_24, yx_25, yx_26, yx_27, yx_28, yx_29, yx_30, yx_31, yx_32, yx_33, yx_34, yx_35, yx_36, yx_37, yx_38, yx_39, yx_40, yx_41, yx_42, yx_43, yx_44, yx_45, yx_46, yx_47, yx_48, yx_49, yx_50, yx_51, yx_52, yx_53, yx_54, yx_55, yx_56, yx_57, yx_58, yx_59, yx_60, yx_61, yx_62, yx_63, yx_64, yx_65, yx_66, yx_67, yx_68, rx_0, rx_1, rx_2, rx_3, rx_4, rx_5, rx_6, rx_7, rx_8, rx_9, rx_10, rx_11, rx_12, rx_13, rx_14, rx_15, rx_16, rx_17, rx_18, rx_19, rx_20, rx_21, rx_22, rx_23, rx_24, rx_25, rx_26, rx_27, rx_28, rx_29, rx_30, rx_31, rx_32, rx_33, rp_0, rp_1, rp_2, rp_3, rp_4, rp_5, rp_6, rp_7, rp_8, rs_0, rs_1, rs_2, rs_3, rs_4, re_0, re_1, re_2, re_3, re_4, re_5, rr_0, rr_1, rr_2, rr_3, rr_4, rk_0, rk_1, isP3, isP11, isP46, isP58, isS25, isS28, isS31, un_X3_valueOf, un_J0_abs, un_J0_floorDiv_2, y0, v80, ct, t1, abL_d, nI_1]
        try simp only [iteP, Classical.not_not]
        simp only [n64, Classical.not_not]
        refine ⟨fun z => ?_, fun z => ⟨fun z2 => ?_, fun z2 => ⟨fun z3 => ?_, fun z3 => ⟨fun z4 => ?_, fun z4 => ?_⟩⟩⟩⟩
        · rw [if_pos (Or.inl z)] at h; exact h
        · rw [if_pos (Or.inr (Or.inl z2))] at h; exact h
        · rw [if_pos (Or.inr (Or.inr (Or.inl z3)))] at h; exact h
        · rw [if_neg (by intro q; rcases q with q | q | q | q; exact z q; exact z2 q; exact z3 q; exact z4 q)] at h
          exact ih _ _ _ _ _ (by omega) trivial trivial h
        · rw [if_pos (Or.inr (Or.inr (Or.inr z4)))] at h; exact h
      refine ma_walk (mo_X3_made ms_X3_valueOf ms_J0_abs ms_J0_floorDiv_2) hV [17, 98, 196] (fun F hF => ?_)
      simp only [tb_X3_made, hF, in_no, in_push, in_ild, in_lld, in_ald, in_ist, in_ast, in_lst, in_inc, in_iii, in_idv, in_ldv, in_lll, in_lli, in_lil, in_ii, in_il, in_li, in_ll, in_dup, in_dp2, q_if1, q_if2, in_go, in_sw, ma_sw, in_rv, in_ri, in_rz, in_rl, in_get, in_put, in_puz, in_iar, in_bar, in_lar, in_aar, in_iaw, in_baw, in_law, in_len, in_cpy, in_s1, in_s2, in_s3, in_v1, in_v2, in_v3, in_v4, in_v5, in_v6, ma_bk, ma_gl, ma_sl, ma_nl, ma_wc, ma_wd, ma_nn, ma_en, List.mem_cons, List.not_mem_nil, or_false, or_true, true_or, false_or, true_and, and_true, false_and, and_false, if_true, if_false, forall_const, true_implies, false_implies, not_true_eq_false, not_false_eq_true, Classical.not_not, implies_true, and_self, Nat.add_zero, Nat.zero_add, eq_self, ne_eq, reduceCtorEq, Nat.reduceLT, Nat.reduceLeDiff, Nat.reduceEqDiff, Nat.reduceSub, Nat.reduceAdd, i10, i01, im10, Int32.reduceLT, Int32.reduceLE, ↓reduceIte, reduceIte, up_r, uL_r, cp_r, Int32.toInt_toInt64, Int64.reduceToInt, Int32.reduceToInt, ↓b1_or, b1_0, b1_1, lc_lt, lc_le, lc_gt, lc_ge, lc_eq, yx_0, yx_1, yx_2, yx_3, yx_4, yx_5, yx_6, yx_7, yx_8, yx_9, yx_10, yx_11, yx_12, yx_13, yx_14, yx_15, yx_16, yx_17, yx_18, yx_19, yx_20, yx_21, yx_22, yx_23, yx_24, yx_25, yx_26, yx_27, yx_28, yx_29, yx_30, yx_31, yx_32, yx_33, yx_34, yx_35, yx_36, yx_37, yx_38, yx_39, yx_40, yx_41, yx_42, yx_43, yx_44, yx_45, yx_46, yx_47, yx_48, yx_49, yx_50, yx_51, yx_52, yx_53, yx_54, yx_55, yx_56, yx_57, yx_58, yx_59, yx_60, yx_61, yx_62, yx_63, yx_64, yx_65, yx_66, yx_67, yx_68, rx_0, rx_1, rx_2, rx_3, rx_4, rx_5, rx_6, rx_7, rx_8, rx_9, rx_10, rx_11, rx_12, rx_13, rx_14, rx_15, rx_16, rx_17, rx_18, rx_19, rx_20, rx_21, rx_22, rx_23, rx_24, rx_25, rx_26, rx_27, rx_28, rx_29, rx_30, rx_31, rx_32, rx_33, rp_0, rp_1, rp_2, rp_3, rp_4, rp_5, rp_6, rp_7, rp_8, rs_0, rs_1, rs_2, rs_3, rs_4, re_0, re_1, re_2, re_3, re_4, re_5, rr_0, rr_1, rr_2, rr_3, rr_4, rk_0, rk_1, isP3, isP11, isP46, isP58, isS25, isS28, isS31, un_X3_valueOf, un_J0_abs, un_J0_floorDiv_2, y0, i5, i4, nI_1, j5, ci, cj, l2, l3, l4, l5, v80, ct, t2, t3]
      try simp only [iteP, Classical.not_not]
      rw [a_le (by omega) (by omega)]
      refine ⟨fun z => absurd z (by omega), fun _ => ⟨w, u, e, c, s, tm.2.1, ⟨hk, h0, rfl, rfl, rfl, hq.1⟩, ?_⟩⟩
      rw [hf]
      cases ho : tm.2.2 with
      | none =>
        rw [ho] at h98
        exact ⟨fun _ => h98 _ n8, fun z => absurd rfl z⟩
      | some q2 =>
        rw [ho] at h98
        refine ⟨fun z => absurd z (s2_n (hq.2 q2 ho)), fun _ => ⟨w, u, e, c, s, q2, ⟨hk, h0, rfl, rfl, rfl, hq.2 q2 ho⟩, ?_⟩⟩
        rw [hf]; exact h98 _ n8
  refine ma_walk (mo_X3_made ms_X3_valueOf ms_J0_abs ms_J0_floorDiv_2) hV [17] (fun F hF => ?_)
  simp only [tb_X3_made, hF, in_no, in_push, in_ild, in_lld, in_ald, in_ist, in_ast, in_lst, in_inc, in_iii, in_idv, in_ldv, in_lll, in_lli, in_lil, in_ii, in_il, in_li, in_ll, in_dup, in_dp2, q_if1, q_if2, in_go, in_sw, ma_sw, in_rv, in_ri, in_rz, in_rl, in_get, in_put, in_puz, in_iar, in_bar, in_lar, in_aar, in_iaw, in_baw, in_law, in_len, in_cpy, in_s1, in_s2, in_s3, in_v1, in_v2, in_v3, in_v4, in_v5, in_v6, ma_bk, ma_gl, ma_sl, ma_nl, ma_wc, ma_wd, ma_nn, ma_en, List.mem_cons, List.not_mem_nil, or_false, or_true, true_or, false_or, true_and, and_true, false_and, and_false, if_true, if_false, forall_const, true_implies, false_implies, not_true_eq_false, not_false_eq_true, Classical.not_not, implies_true, and_self, Nat.add_zero, Nat.zero_add, eq_self, ne_eq, reduceCtorEq, Nat.reduceLT, Nat.reduceLeDiff, Nat.reduceEqDiff, Nat.reduceSub, Nat.reduceAdd, i10, i01, im10, Int32.reduceLT, Int32.reduceLE, ↓reduceIte, reduceIte, up_r, uL_r, cp_r, Int32.toInt_toInt64, Int64.reduceToInt, Int32.reduceToInt, ↓b1_or, b1_0, b1_1, lc_lt, lc_le, lc_gt, lc_ge, lc_eq, yx_0, yx_1, yx_2, yx_3, yx_4, yx_5, yx_6, yx_7, yx_8, yx_9, yx_10, yx_11, yx_12, yx_13, yx_14, yx_15, yx_16, yx_17, yx_18, yx_19, yx_20, yx_21, yx_22, yx_23, yx_24, yx_25, yx_26, yx_27, yx_28, yx_29, yx_30, yx_31, yx_32, yx_33, yx_34, yx_35, yx_36, yx_37, yx_38, yx_39, yx_40, yx_41, yx_42, yx_43, yx_44, yx_45, yx_46, yx_47, yx_48, yx_49, yx_50, yx_51, yx_52, yx_53, yx_54, yx_55, yx_56, yx_57, yx_58, yx_59, yx_60, yx_61, yx_62, yx_63, yx_64, yx_65, yx_66, yx_67, yx_68, rx_0, rx_1, rx_2, rx_3, rx_4, rx_5, rx_6, rx_7, rx_8, rx_9, rx_10, rx_11, rx_12, rx_13, rx_14, rx_15, rx_16, rx_17, rx_18, rx_19, rx_20, rx_21, rx_22, rx_23, rx_24, rx_25, rx_26, rx_27, rx_28, rx_29, rx_30, rx_31, rx_32, rx_33, rp_0, rp_1, rp_2, rp_3, rp_4, rp_5, rp_6, rp_7, rp_8, rs_0, rs_1, rs_2, rs_3, rs_4, re_0, re_1, re_2, re_3, re_4, re_5, rr_0, rr_1, rr_2, rr_3, rr_4, rk_0, rk_1, isP3, isP11, isP46, isP58, isS25, isS28, isS31, un_X3_valueOf, un_J0_abs, un_J0_floorDiv_2, y0, i5, ci, l2]
  try simp only [iteP, Classical.not_not]
  exact lp r.2.2.1 r.2.1 0 none none none rfl trivial trivial h
theorem pv_X3_made : ∀ as M L K, S_X3_made as M L K → ma_rn (tb_X3_made S_X3_valueOf S_J0_abs S_J0_floorDiv_2) 11 as M L K := by
  intro as M L K h
  unfold S_X3_made at h
  split at h
  · obtain ⟨w, u, e, c, s, i, ts, ls, h⟩ := h; exact pw_X3_made h.1 h.2
  · exact h.elim
