/-! op: line -/
set_option maxRecDepth 100000
set_option maxHeartbeats 4000000
/-- the line of a letter (none: as many as there are) -/
def lx (ls : List Ln) (l : Nat) : Nat → Nat → Nat
  | 0, k => k
  | n + 1, k => if (lnA ls k).1 = l then k else lx ls l n (k + 1)
def lix (ls : List Ln) (l : Nat) : Nat := lx ls l ls.length 0
theorem lx_s (ls : List Ln) (l : Nat) : ∀ n k, k + n = ls.length → (lx ls l n k < ls.length ∧ (lnA ls (lx ls l n k)).1 = l) ∨ (lx ls l n k = ls.length ∧ ∀ i, k ≤ i → i < ls.length → ¬ (lnA ls i).1 = l)
  | 0, k, h => Or.inr ⟨by rw [lx]; omega, fun i h1 h2 => by omega⟩
  | n + 1, k, h => by
    rw [lx]
    by_cases c : (lnA ls k).1 = l
    · rw [if_pos c]; exact Or.inl ⟨by omega, c⟩
    · rw [if_neg c]
      rcases lx_s ls l n (k + 1) (by omega) with q | q
      · exact Or.inl q
      · refine Or.inr ⟨q.1, fun i h1 h2 => ?_⟩
        by_cases z : i = k
        · rw [z]; exact c
        · exact q.2 i (by omega) h2
theorem lix_s (ls : List Ln) (l : Nat) : (lix ls l < ls.length ∧ (lnA ls (lix ls l)).1 = l) ∨ (lix ls l = ls.length ∧ ¬ ∃ i, i < ls.length ∧ (lnA ls i).1 = l) := by
  rcases lx_s ls l ls.length 0 (by omega) with q | q
  · exact Or.inl q
  · exact Or.inr ⟨q.1, fun ⟨i, h1, h2⟩ => q.2 i (Nat.zero_le _) h1 h2⟩
/-- a letter's line, as the component finds it -/
theorem fd_lix {M : ZM} {p : Nat} {ts : List Tm} {ls : List Ln} (h : PX M p ts ls) (hV : Vq ts ls) {l : Nat} (hl : l < 4) : fd (M (p + 1)) (nI l) (M p 0).toNatClampNeg 0 = if lix ls l < ls.length then nI (lix ls l) else -4 := by
  rcases lix_s ls l with q | q
  · rw [if_pos q.1]
    have := PX_fdv h hV q.1
    rw [q.2] at this; exact this
  · rw [if_neg (by omega)]
    exact of_eq_true ((PX_fd h hV.1 hl).trans (eq_true q.2))
abbrev cLine (l w : Int32) : Prop := (0 ≤ l.toInt ∧ l.toInt ≤ 3) ∧ (0 ≤ w.toInt ∧ w.toInt ≤ 4)
noncomputable def aLine (p : Plan) (i : Nat) (w : Int32) : Int32 := if w = 0 then nI i else if w = 1 then nI (lnA p.2 i).2.2.1 else if w = 2 then nI (lnA p.2 i).2.2.2.1 else if w = 3 then nI (lnA p.2 i).2.2.2.2 else b1 (hpr p.1 (lnA p.2 i).2.1 (lnA p.2 i).2.2.1)
noncomputable def oLine (l w : Int32) (x : St) : Int32 := if cLine l w then (if lix (sp x).2 (nat l) < (sp x).2.length then aLine (sp x) (lix (sp x).2 (nat l)) w else -4) else -1
def S_X0_line : ma_Cs := fun as M L K => match as with
  | [.ref k, .int l, .int w] => ∃ (x : St), (k = 0 ∧ J x ∧ RX M L x) ∧ (∀ (M' : ZM), RX M' L x → K (some (.int (oLine l w x))) M' L)
  | _ => False
theorem ms_X0_line : ma_ms S_X0_line := by
  intro as M L K K' hk h
  unfold S_X0_line at h ⊢
  split at h
  · obtain ⟨x, h⟩ := h
    exact ⟨x, h.1, fun x0 x1 => hk _ _ _ (h.2 x0 x1)⟩
  · exact h.elim
theorem un_X0_line {k : Nat} {l : Int32} {w : Int32} {M : ZM} {L : ZL} {K : ma_Kt} : S_X0_line [.ref k, .int l, .int w] M L K = (∃ (x : St), (k = 0 ∧ J x ∧ RX M L x) ∧ (∀ (M' : ZM), RX M' L x → K (some (.int (oLine l w x))) M' L)) := rfl
theorem pw_X0_line {k : Nat} {l : Int32} {w : Int32} {x : St} {M : ZM} {L : ZL} {K : ma_Kt} (hp : k = 0 ∧ J x ∧ RX M L x) (h : (∀ (M' : ZM), RX M' L x → K (some (.int (oLine l w x))) M' L)) : ma_rn (tb_X0_line S_X0_isLetter S_X0_isIn S_X2_lineOf S_X2_hasProduct) 4 [.ref k, .int l, .int w] M L K := by
  refine ⟨Nat.le_of_ble_eq_true rfl, fun V hV => ?_⟩
  obtain ⟨rfl, hJ, hR⟩ := hp
  have hP := hR.2.2.1.1
  have hVq := hJ.2.2.1.1
  have l4 := hVq.1.2.1
  unfold oLine at h
  by_cases z : 0 ≤ l.toInt ∧ l.toInt ≤ 3
  · obtain ⟨m, em, hm, bm⟩ := a_of z.1
    have nm' : nat l = m := by unfold nat; rw [em, a_cl bm]
    have hfd := fd_lix hP hVq (l := m) (by omega)
    have v5 : vp_in (M 11 0) 5 := by rw [hP.1]; exact vp_in_nI (by omega) (by decide)
    by_cases z2 : 0 ≤ w.toInt ∧ w.toInt ≤ 4
    · rw [if_pos ⟨z, z2⟩, nm'] at h
      rw [em]
      rcases lix_s (sp x).2 m with q | q
      · rw [if_pos q.1] at h hfd
        generalize lix (sp x).2 m = i at *
        have hi := q.1
        have hL := hP.at hi
        have hfd : fd (M 12) (nI m) (M 11 0).toNatClampNeg 0 = nI i := hfd
        have z3 : (nI i = -4) = False := eq_false fun y => by
          have z3 : (nI i).toInt = (-4 : Int32).toInt := by rw [y]
          rw [a_ti (by omega), show (-4 : Int32).toInt = -4 from rfl] at z3; omega
        have zm : (0 ≤ (nI m).toInt ∧ (nI m).toInt ≤ 3) = True := eq_true (by rw [← em]; exact z)
        have i4 : vp_in (nI i) 4 := vp_in_nI (by omega) (by decide)
        have i5 : vp_in (nI i) 5 := vp_in_nI (by omega) (by decide)
        have j5 : vp_in (nI (i + 1)) 5 := vp_in_nI (by omega) (by decide)
        have ci := a_cl (show i < 2147483648 by omega)
        have cj := a_cl (show i + 1 < 2147483648 by omega)
        have e2 : M 13 i = nI (lnA (sp x).2 i).2.1 := hL.2.1
        have e3 : M 13 (i + 1) = nI ((lnA (sp x).2 i).2.1 + (lnA (sp x).2 i).2.2.1) := hL.2.2.1
        have e4 : M 14 i = nI (lnA (sp x).2 i).2.2.2.1 := hL.2.2.2.1
        have e5 : M 15 i = nI (lnA (sp x).2 i).2.2.2.2 := hL.2.2.2.2
        have n1 := (hVq.1.2.2.2 i hi).2.2.2.1
        have n1 : (lnA (sp x).2 i).2.2.2.2 ≤ 1 := n1
        have es : nI ((lnA (sp x).2 i).2.1 + (lnA (sp x).2 i).2.2.1) - nI (lnA (sp x).2 i).2.1 = nI (lnA (sp x).2 i).2.2.1 := by rw [pk_sub (by omega)]; congr 1; omega
        refine ma_walk (mo_X0_line ms_X0_isLetter ms_X0_isIn ms_X2_lineOf ms_X2_hasProduct) hV [] (fun F hF => ?_)
        simp only [tb_X0_line, hF, in_no, in_push, in_ild, in_lld, in_ald, in_ist, in_ast, in_lst, in_inc, in_iii, in_idv, in_ldv, in_lll, in_lli, in_lil, in_ii, in_il, in_li, in_ll, in_dup, in_dp2, q_if1, q_if2, in_go, in_sw, ma_sw, in_rv, in_ri, in_rz, in_rl, in_get, in_put, in_puz, in_iar, in_bar, in_lar, in_aar, in_iaw, in_baw, in_law, in_len, in_cpy, in_s1, in_s2, in_s3, in_v1, in_v2, in_v3, in_v4, in_v5, in_v6, ma_bk, ma_gl, ma_sl, ma_nl, ma_wc, ma_wd, ma_nn, ma_en, List.mem_cons, List.not_mem_nil, or_false, or_true, true_or, false_or, true_and, and_true, false_and, and_false, if_true, if_false, forall_const, true_implies, false_implies, not_true_eq_false, not_false_eq_true, Classical.not_not, implies_true, and_self, Nat.add_zero, Nat.zero_add, eq_self, ne_eq, reduceCtorEq, Nat.reduceLT, Nat.reduceLeDiff, Nat.reduceEqDiff, Nat.reduceSub, Nat.reduceAdd, i10, i01, im10, Int32.reduceLT, Int32.reduceLE, ↓reduceIte, reduceIte, up_r, uL_r, cp_r, Int32.toInt_toInt64, Int64.reduceToInt, Int32.reduceToInt, ↓b1_or, b1_0, b1_1, lc_lt, lc_le, lc_gt, lc_ge, lc_eq, yx_0, yx_1, yx_2, yx_3, yx_4, yx_5, yx_6, yx_7, yx_8, yx_9, yx_10, yx_11, yx_12, yx_13, yx_14, yx_15, yx_16, yx_17, yx_18, yx_19, yx_20, yx_21, yx_22, yx_23, yx_24, yx_25, yx_26, yx_27, yx_28, yx_29, yx_30, yx_31, yx_32, yx_33, yx_34, yx_35, yx_36, yx_37, yx_38, yx_39, yx_40, yx_41, yx_42, yx_43, yx_44, yx_45, yx_46, yx_47, yx_48, yx_49, yx_50, yx_51, yx_52, yx_53, yx_54, yx_55, yx_56, yx_57, yx_58, yx_59, yx_60, yx_61, yx_62, yx_63, yx_64, yx_65, yx_66, yx_67, yx_68, rx_0, rx_1, rx_2, rx_3, rx_4, rx_5, rx_6, rx_7, rx_8, rx_9, rx_10, rx_11, rx_12, rx_13, rx_14, rx_15, rx_16, rx_17, rx_18, rx_19, rx_20, rx_21, rx_22, rx_23, rx_24, rx_25, rx_26, rx_27, rx_28, rx_29, rx_30, rx_31, rx_32, rx_33, rp_0, rp_1, rp_2, rp_3, rp_4, rp_5, rp_6, rp_7, rp_8, rs_0, rs_1, rs_2, rs_3, rs_4, re_0, re_1, re_2, re_3, re_4, re_5, rr_0, rr_1, rr_2, rr_3, rr_4, rk_0, rk_1, isP3, isP11, isP46, isP58, isS25, isS28, isS31, un_X0_isLetter, un_X0_isIn, un_X2_lineOf, un_X2_hasProduct, zm, eq_true z2, v5, hfd, z3, i4, i5, j5, ci, cj, e2, e3, e4, e5, nI_1, es]
        try simp only [iteP, Classical.not_not, b1_0, b1_1]
        unfold aLine at h
        simp only [show Int32.ofNat 0 = 0 from rfl, show Int32.ofNat 1 = 1 from rfl, show Int32.ofNat 2 = 2 from rfl, show Int32.ofNat 3 = 3 from rfl]
        refine ⟨fun y => ?_, fun y => ⟨fun y1 => ?_, fun y1 => ⟨fun y2 => ?_, fun y2 => ⟨fun y3 => ?_, fun y3 => ?_⟩⟩⟩⟩
        · rw [if_pos y] at h; exact h M hR
        · rw [if_neg y, if_pos y1] at h; exact h M hR
        · rw [if_neg y, if_neg y1, if_pos y2] at h; exact h M hR
        · rw [if_neg y, if_neg y1, if_neg y2, if_pos y3] at h
          have : (lnA (sp x).2 i).2.2.2.2 = 0 ∨ (lnA (sp x).2 i).2.2.2.2 = 1 := by omega
          rcases this with y9 | y9
          · rw [y9] at h ⊢
            exact ⟨fun _ => h M hR, fun y => absurd rfl y⟩
          · rw [y9] at h ⊢
            exact ⟨fun y => absurd y (by decide), fun _ => h M hR⟩
        · rw [if_neg y, if_neg y1, if_neg y2, if_neg y3] at h
          refine ⟨i, (sp x).1, (sp x).2, ⟨hi, rfl, hP, hVq.1⟩, fun y9 => ?_, fun y9 => ?_⟩
          · rw [b1_f y9] at h; exact h M hR
          · rw [b1_t y9] at h; exact h M hR
      · rw [if_neg (by omega)] at h hfd
        have hfd : fd (M 12) (nI m) (M 11 0).toNatClampNeg 0 = -4 := hfd
        have zm : (0 ≤ (nI m).toInt ∧ (nI m).toInt ≤ 3) = True := eq_true (by rw [← em]; exact z)
        refine ma_walk (mo_X0_line ms_X0_isLetter ms_X0_isIn ms_X2_lineOf ms_X2_hasProduct) hV [] (fun F hF => ?_)
        simp only [tb_X0_line, hF, in_no, in_push, in_ild, in_lld, in_ald, in_ist, in_ast, in_lst, in_inc, in_iii, in_idv, in_ldv, in_lll, in_lli, in_lil, in_ii, in_il, in_li, in_ll, in_dup, in_dp2, q_if1, q_if2, in_go, in_sw, ma_sw, in_rv, in_ri, in_rz, in_rl, in_get, in_put, in_puz, in_iar, in_bar, in_lar, in_aar, in_iaw, in_baw, in_law, in_len, in_cpy, in_s1, in_s2, in_s3, in_v1, in_v2, in_v3, in_v4, in_v5, in_v6, ma_bk, ma_gl, ma_sl, ma_nl, ma_wc, ma_wd, ma_nn, ma_en, List.mem_cons, List.not_mem_nil, or_false, or_true, true_or, false_or, true_and, and_true, false_and, and_false, if_true, if_false, forall_const, true_implies, false_implies, not_true_eq_false, not_false_eq_true, Classical.not_not, implies_true, and_self, Nat.add_zero, Nat.zero_add, eq_self, ne_eq, reduceCtorEq, Nat.reduceLT, Nat.reduceLeDiff, Nat.reduceEqDiff, Nat.reduceSub, Nat.reduceAdd, i10, i01, im10, Int32.reduceLT, Int32.reduceLE, ↓reduceIte, reduceIte, up_r, uL_r, cp_r, Int32.toInt_toInt64, Int64.reduceToInt, Int32.reduceToInt, ↓b1_or, b1_0, b1_1, lc_lt, lc_le, lc_gt, lc_ge, lc_eq, yx_0, yx_1, yx_2, yx_3, yx_4, yx_5, yx_6, yx_7, yx_8, yx_9, yx_10, yx_11, yx_12, yx_13, yx_14, yx_15, yx_16, yx_17, yx_18, yx_19, yx_20, yx_21, yx_22, yx_23, yx_24, yx_25, yx_26, yx_27, yx_28, yx_29, yx_30, yx_31, yx_32, yx_33, yx_34, yx_35, yx_36, yx_37, yx_38, yx_39, yx_40, yx_41, yx_42, yx_43, yx_44, yx_45, yx_46, yx_47, yx_48, yx_49, yx_50, yx_51, yx_52, yx_53, yx_54, yx_55, yx_56, yx_57, yx_58, yx_59, yx_60, yx_61, yx_62, yx_63, yx_64, yx_65, yx_66, yx_67, yx_68, rx_0, rx_1, rx_2, rx_3, rx_4, rx_5, rx_6, rx_7, rx_8, rx_9, rx_10, rx_11, rx_12, rx_13, rx_14, rx_15, rx_16, rx_17, rx_18, rx_19, rx_20, rx_21, rx_22, rx_23, rx_24, rx_25, rx_26, rx_27, rx_28, rx_29, rx_30, rx_31, rx_32, rx_33, rp_0, rp_1, rp_2, rp_3, rp_4, rp_5, rp_6, rp_7, rp_8, rs_0, rs_1, rs_2, rs_3, rs_4, re_0, re_1, re_2, re_3, re_4, re_5, rr_0, rr_1, rr_2, rr_3, rr_4, rk_0, rk_1, isP3, isP11, isP46, isP58, isS25, isS28, isS31, un_X0_isLetter, un_X0_isIn, un_X2_lineOf, un_X2_hasProduct, zm, eq_true z2, v5, hfd]
        try simp only [iteP, Classical.not_not, b1_0, b1_1]
        exact h M hR
    · rw [if_neg (fun y => z2 y.2)] at h
      refine ma_walk (mo_X0_line ms_X0_isLetter ms_X0_isIn ms_X2_lineOf ms_X2_hasProduct) hV [] (fun F hF => ?_)
      simp only [tb_X0_line, hF, in_no, in_push, in_ild, in_lld, in_ald, in_ist, in_ast, in_lst, in_inc, in_iii, in_idv, in_ldv, in_lll, in_lli, in_lil, in_ii, in_il, in_li, in_ll, in_dup, in_dp2, q_if1, q_if2, in_go, in_sw, ma_sw, in_rv, in_ri, in_rz, in_rl, in_get, in_put, in_puz, in_iar, in_bar, in_lar, in_aar, in_iaw, in_baw, in_law, in_len, in_cpy, in_s1, in_s2, in_s3, in_v1, in_v2, in_v3, in_v4, in_v5, in_v6, ma_bk, ma_gl, ma_sl, ma_nl, ma_wc, ma_wd, ma_nn, ma_en, List.mem_cons, List.not_mem_nil, or_false, or_true, true_or, false_or, true_and, and_true, false_and, and_false, if_true, if_false, forall_const, true_implies, false_implies, not_true_eq_false, not_false_eq_true, Classical.not_not, implies_true, and_self, Nat.add_zero, Nat.zero_add, eq_self, ne_eq, reduceCtorEq, Nat.reduceLT, Nat.reduceLeDiff, Nat.reduceEqDiff, Nat.reduceSub, Nat.reduceAdd, i10, i01, im10, Int32.reduceLT, Int32.reduceLE, ↓reduceIte, reduceIte, up_r, uL_r, cp_r, Int32.toInt_toInt64, Int64.reduceToInt, Int32.reduceToInt, ↓b1_or, b1_0, b1_1, lc_lt, lc_le, lc_gt, lc_ge, lc_eq, yx_0, yx_1, yx_2, yx_3, yx_4, yx_5, yx_6, yx_7, yx_8, yx_9, yx_10, yx_11, yx_12, yx_13, yx_14, yx_15, yx_16, yx_17, yx_18, yx_19, yx_20, yx_21, yx_22, yx_23, yx_24, yx_25, yx_26, yx_27, yx_28, yx_29, yx_30, yx_31, yx_32, yx_33, yx_34, yx_35, yx_36, yx_37, yx_38, yx_39, yx_40, yx_41, yx_42, yx_43, yx_44, yx_45, yx_46, yx_47, yx_48, yx_49, yx_50, yx_51, yx_52, yx_53, yx_54, yx_55, yx_56, yx_57, yx_58, yx_59, yx_60, yx_61, yx_62, yx_63, yx_64, yx_65, yx_66, yx_67, yx_68, rx_0, rx_1, rx_2, rx_3, rx_4, rx_5, rx_6, rx_7, rx_8, rx_9, rx_10, rx_11, rx_12, rx_13, rx_14, rx_15, rx_16, rx_17, rx_18, rx_19, rx_20, rx_21, rx_22, rx_23, rx_24, rx_25, rx_26, rx_27, rx_28, rx_29, rx_30, rx_31, rx_32, rx_33, rp_0, rp_1, rp_2, rp_3, rp_4, rp_5, rp_6, rp_7, rp_8, rs_0, rs_1, rs_2, rs_3, rs_4, re_0, re_1, re_2, re_3, re_4, re_5, rr_0, rr_1, rr_2, rr_3, rr_4, rk_0, rk_1, isP3, isP11, isP46, isP58, isS25, isS28, isS31, un_X0_isLetter, un_X0_isIn, un_X2_lineOf, un_X2_hasProduct, eq_true z, z2]
      try simp only [iteP, Classical.not_not, b1_0, b1_1]
      exact h M hR
  · rw [if_neg (fun y => z y.1)] at h
    refine ma_walk (mo_X0_line ms_X0_isLetter ms_X0_isIn ms_X2_lineOf ms_X2_hasProduct) hV [] (fun F hF => ?_)
    simp only [tb_X0_line, hF, in_no, in_push, in_ild, in_lld, in_ald, in_ist, in_ast, in_lst, in_inc, in_iii, in_idv, in_ldv, in_lll, in_lli, in_lil, in_ii, in_il, in_li, in_ll, in_dup, in_dp2, q_if1, q_if2, in_go, in_sw, ma_sw, in_rv, in_ri, in_rz, in_rl, in_get, in_put, in_puz, in_iar, in_bar, in_lar, in_aar, in_iaw, in_baw, in_law, in_len, in_cpy, in_s1, in_s2, in_s3, in_v1, in_v2, in_v3, in_v4, in_v5, in_v6, ma_bk, ma_gl, ma_sl, ma_nl, ma_wc, ma_wd, ma_nn, ma_en, List.mem_cons, List.not_mem_nil, or_false, or_true, true_or, false_or, true_and, and_true, false_and, and_false, if_true, if_false, forall_const, true_implies, false_implies, not_true_eq_false, not_false_eq_true, Classical.not_not, implies_true, and_self, Nat.add_zero, Nat.zero_add, eq_self, ne_eq, reduceCtorEq, Nat.reduceLT, Nat.reduceLeDiff, Nat.reduceEqDiff, Nat.reduceSub, Nat.reduceAdd, i10, i01, im10, Int32.reduceLT, Int32.reduceLE, ↓reduceIte, reduceIte, up_r, uL_r, cp_r, Int32.toInt_toInt64, Int64.reduceToInt, Int32.reduceToInt, ↓b1_or, b1_0, b1_1, lc_lt, lc_le, lc_gt, lc_ge, lc_eq, yx_0, yx_1, yx_2, yx_3, yx_4, yx_5, yx_6, yx_7, yx_8, yx_9, yx_10, yx_11, yx_12, yx_13, yx_14, yx_15, yx_16, yx_17, yx_18, yx_19, yx_20, yx_21, yx_22, yx_23, yx_24, yx_25, yx_26, yx_27, yx_28, yx_29, yx_30, yx_31, yx_32, yx_33, yx_34, yx_35, yx_36, yx_37, yx_38, yx_39, yx_40, yx_41, yx_42, yx_43, yx_44, yx_45, yx_46, yx_47, yx_48, yx_49, yx_50, yx_51, yx_52, yx_53, yx_54, yx_55, yx_56, yx_57, yx_58, yx_59, yx_60, yx_61, yx_62, yx_63, yx_64, yx_65, yx_66, yx_67, yx_68, rx_0, rx_1, rx_2, rx_3, rx_4, rx_5, rx_6, rx_7, rx_8, rx_9, rx_10, rx_11, rx_12, rx_13, rx_14, rx_15, rx_16, rx_17, rx_18, rx_19, rx_20, rx_21, rx_22, rx_23, rx_24, rx_25, rx_26, rx_27, rx_28, rx_29, rx_30, rx_31, rx_32, rx_33, rp_0, rp_1, rp_2, rp_3, rp_4, rp_5, rp_6, rp_7, rp_8, rs_0, rs_1, rs_2, rs_3, rs_4, re_0, re_1, re_2, re_3, re_4, re_5, rr_0, rr_1, rr_2, rr_3, rr_4, rk_0, rk_1, isP3, isP11, isP46, isP58, isS25, isS28, isS31, un_X0_isLetter, un_X0_isIn, un_X2_lineOf, un_X2_hasProduct, z]
    try simp only [iteP, Classical.not_not, b1_0, b1_1]
    exact h M hR
theorem pv_X0_line : ∀ as M L K, S_X0_line as M L K → ma_rn (tb_X0_line S_X0_isLetter S_X0_isIn S_X2_lineOf S_X2_hasProduct) 4 as M L K := by
  intro as M L K h
  unfold S_X0_line at h
  split at h
  · obtain ⟨x, h⟩ := h; exact pw_X0_line h.1 h.2
  · exact h.elim
