/-! op: kept -/
set_option maxRecDepth 100000
set_option maxHeartbeats 4000000
def kpt (x : St) (r : Ln) : Prop := ((sN x 0 2 = 0 ∧ ¬ hpr (sp x).1 r.2.1 r.2.2.1) ∧ own (sp x).1 r.1 r.2.1 r.2.2.1) ∧ fsm (sp x).1 0 r.2.1 r.2.2.1 = nI r.2.2.2.1
noncomputable def oKept (l : Int32) (x : St) : Int32 := if 0 ≤ l.toInt ∧ l.toInt ≤ 3 then (if lix (sp x).2 (nat l) < (sp x).2.length then b1 (kpt x (lnA (sp x).2 (lix (sp x).2 (nat l)))) else 1) else -1
def S_X0_kept : ma_Cs := fun as M L K => match as with
  | [.ref k, .int l] => ∃ (x : St), (k = 0 ∧ J x ∧ RX M L x) ∧ (∀ (M' : ZM), RX M' L x → K (some (.int (oKept l x))) M' L)
  | _ => False
theorem ms_X0_kept : ma_ms S_X0_kept := by
  intro as M L K K' hk h
  unfold S_X0_kept at h ⊢
  split at h
  · obtain ⟨x, h⟩ := h
    exact ⟨x, h.1, fun x0 x1 => hk _ _ _ (h.2 x0 x1)⟩
  · exact h.elim
theorem un_X0_kept {k : Nat} {l : Int32} {M : ZM} {L : ZL} {K : ma_Kt} : S_X0_kept [.ref k, .int l] M L K = (∃ (x : St), (k = 0 ∧ J x ∧ RX M L x) ∧ (∀ (M' : ZM), RX M' L x → K (some (.int (oKept l x))) M' L)) := rfl
theorem pw_X0_kept {k : Nat} {l : Int32} {x : St} {M : ZM} {L : ZL} {K : ma_Kt} (hp : k = 0 ∧ J x ∧ RX M L x) (h : (∀ (M' : ZM), RX M' L x → K (some (.int (oKept l x))) M' L)) : ma_rn (tb_X0_kept S_X0_isLetter S_X2_lineOf S_X2_hasProduct S_X2_isOwn S_X2_factors) 4 [.ref k, .int l] M L K := by
  refine ⟨Nat.le_of_ble_eq_true rfl, fun V hV => ?_⟩
  obtain ⟨rfl, hJ, hR⟩ := hp
  have hP := hR.2.2.1.1
  have hVq := hJ.2.2.1.1
  have l4 := hVq.1.2.1
  have hh := h M hR
  clear h
  have c7 := hR.1.2.2.2.1
  unfold oKept at hh
  by_cases z : 0 ≤ l.toInt ∧ l.toInt ≤ 3
  · obtain ⟨m, em, hm, bm⟩ := a_of z.1
    have nm' : nat l = m := by unfold nat; rw [em, a_cl bm]
    have hfd := fd_lix hP hVq (l := m) (by omega)
    have v5 : vp_in (M 11 0) 5 := by rw [hP.1]; exact vp_in_nI (by omega) (by decide)
    rw [if_pos z, nm'] at hh
    rw [em]
    have zm : (0 ≤ (nI m).toInt ∧ (nI m).toInt ≤ 3) = True := eq_true (by rw [← em]; exact z)
    rcases lix_s (sp x).2 m with q | q
    · rw [if_pos q.1] at hh hfd
      generalize lix (sp x).2 m = i at *
      have hi := q.1
      have hL := hP.at hi
      have hfd : fd (M 12) (nI m) (M 11 0).toNatClampNeg 0 = nI i := hfd
      have z3 : (nI i = -4) = False := eq_false fun y => by
        have z3 : (nI i).toInt = (-4 : Int32).toInt := by rw [y]
        rw [a_ti (by omega), show (-4 : Int32).toInt = -4 from rfl] at z3; omega
      have i4 : vp_in (nI i) 4 := vp_in_nI (by omega) (by decide)
      have ci := a_cl (show i < 2147483648 by omega)
      have e4 : M 14 i = nI (lnA (sp x).2 i).2.2.2.1 := hL.2.2.2.1
      unfold kpt at hh
      generalize hr : lnA (sp x).2 i = r at *
      refine ma_walk (mo_X0_kept ms_X0_isLetter ms_X2_lineOf ms_X2_hasProduct ms_X2_isOwn ms_X2_factors) hV [] (fun F hF => ?_)
      simp only [tb_X0_kept, hF, in_no, in_push, in_ild, in_lld, in_ald, in_ist, in_ast, in_lst, in_inc, in_iii, in_idv, in_ldv, in_lll, in_lli, in_lil, in_ii, in_il, in_li, in_ll, in_dup, in_dp2, q_if1, q_if2, in_go, in_sw, ma_sw, in_rv, in_ri, in_rz, in_rl, in_get, in_put, in_puz, in_iar, in_bar, in_lar, in_aar, in_iaw, in_baw, in_law, in_len, in_cpy, in_s1, in_s2, in_s3, in_v1, in_v2, in_v3, in_v4, in_v5, in_v6, ma_bk, ma_gl, ma_sl, ma_nl, ma_wc, ma_wd, ma_nn, ma_en, List.mem_cons, List.not_mem_nil, or_false, or_true, true_or, false_or, true_and, and_true, false_and, and_false, if_true, if_false, forall_const, true_implies, false_implies, not_true_eq_false, not_false_eq_true, Classical.not_not, implies_true, and_self, Nat.add_zero, Nat.zero_add, eq_self, ne_eq, reduceCtorEq, Nat.reduceLT, Nat.reduceLeDiff, Nat.reduceEqDiff, Nat.reduceSub, Nat.reduceAdd, i10, i01, im10, Int32.reduceLT, Int32.reduceLE, ↓reduceIte, reduceIte, up_r, uL_r, cp_r, Int32.toInt_toInt64, Int64.reduceToInt, Int32.reduceToInt, ↓b1_or, b1_0, b1_1, lc_lt, lc_le, lc_gt, lc_ge, lc_eq, yx_0, yx_1, yx_2, yx_3, yx_4, yx_5, yx_6, yx_7, yx_8, yx_9, yx_10, yx_11, yx_12, yx_13, yx_14, yx_15, yx_16, yx_17, yx_18, yx_19, yx_20, yx_21, yx_22, yx_23, yx_24, yx_25, yx_26, yx_27, yx_28, yx_29, yx_30, yx_31, yx_32, yx_33, yx_34, yx_35, yx_36, yx_37, yx_38, yx_39, yx_40, yx_41, yx_42, yx_43, yx_44, yx_45, yx_46, yx_47, yx_48, yx_49, yx_50, yx_51, yx_52, yx_53, yx_54, yx_55, yx_56, yx_57, yx_58, yx_59, yx_60, yx_61, yx_62, yx_63, yx_64, yx_65, yx_66, yx_67, yx_68, rx_0, rx_1, rx_2, rx_3, rx_4, rx_5, rx_6, rx_7, rx_8, rx_9, rx_10, rx_11, rx_12, rx_13, rx_14, rx_15, rx_16, rx_17, rx_18, rx_19, rx_20, rx_21, rx_22, rx_23, rx_24, rx_25, rx_26, rx_27, rx_28, rx_29, rx_30, rx_31, rx_32, rx_33, rp_0, rp_1, rp_2, rp_3, rp_4, rp_5, rp_6, rp_7, rp_8, rs_0, rs_1, rs_2, rs_3, rs_4, re_0, re_1, re_2, re_3, re_4, re_5, rr_0, rr_1, rr_2, rr_3, rr_4, rk_0, rk_1, isP3, isP11, isP46, isP58, isS25, isS28, isS31, un_X0_isLetter, un_X2_lineOf, un_X2_hasProduct, un_X2_isOwn, un_X2_factors, zm, v5, hfd, z3, i4, ci, c7, e4]
      try simp only [iteP, Classical.not_not, b1_0, b1_1]
      refine sw_n (fun y0 => ?_) (fun y0 => ?_)
      · refine ⟨i, (sp x).1, (sp x).2, ⟨hi, rfl, hP, hVq.1⟩, ?_⟩
        rw [hr]
        refine br_n (fun y1 => ?_) (fun y1 => by rw [b1_f (fun t => t.1.1.2 y1)] at hh; exact hh)
        refine ⟨i, (sp x).1, (sp x).2, ⟨hi, rfl, hP, hVq.1⟩, ?_⟩
        rw [hr]
        refine br_n (fun y2 => by rw [b1_f (fun t => y2 t.1.2)] at hh; exact hh) (fun y2 => ?_)
        refine ⟨i, (sp x).1, (sp x).2, ⟨hi, rfl, hP, hVq.1⟩, ?_⟩
        rw [hr]
        exact sw_n (fun y3 => by rw [b1_t ⟨⟨⟨y0, y1⟩, y2⟩, y3⟩] at hh; exact hh) (fun y3 => by rw [b1_f (fun t => y3 t.2)] at hh; exact hh)
      · rw [b1_f (fun t => y0 t.1.1.1)] at hh; exact hh
    · rw [if_neg (by omega)] at hh hfd
      have hfd : fd (M 12) (nI m) (M 11 0).toNatClampNeg 0 = -4 := hfd
      refine ma_walk (mo_X0_kept ms_X0_isLetter ms_X2_lineOf ms_X2_hasProduct ms_X2_isOwn ms_X2_factors) hV [] (fun F hF => ?_)
      simp only [tb_X0_kept, hF, in_no, in_push, in_ild, in_lld, in_ald, in_ist, in_ast, in_lst, in_inc, in_iii, in_idv, in_ldv, in_lll, in_lli, in_lil, in_ii, in_il, in_li, in_ll, in_dup, in_dp2, q_if1, q_if2, in_go, in_sw, ma_sw, in_rv, in_ri, in_rz, in_rl, in_get, in_put, in_puz, in_iar, in_bar, in_lar, in_aar, in_iaw, in_baw, in_law, in_len, in_cpy, in_s1, in_s2, in_s3, in_v1, in_v2, in_v3, in_v4, in_v5, in_v6, ma_bk, ma_gl, ma_sl, ma_nl, ma_wc, ma_wd, ma_nn, ma_en, List.mem_cons, List.not_mem_nil, or_false, or_true, true_or, false_or, true_and, and_true, false_and, and_false, if_true, if_false, forall_const, true_implies, false_implies, not_true_eq_false, not_false_eq_true, Classical.not_not, implies_true, and_self, Nat.add_zero, Nat.zero_add, eq_self, ne_eq, reduceCtorEq, Nat.reduceLT, Nat.reduceLeDiff, Nat.reduceEqDiff, Nat.reduceSub, Nat.reduceAdd, i10, i01, im10, Int32.reduceLT, Int32.reduceLE, ↓reduceIte, reduceIte, up_r, uL_r, cp_r, Int32.toInt_toInt64, Int64.reduceToInt, Int32.reduceToInt, ↓b1_or, b1_0, b1_1, lc_lt, lc_le, lc_gt, lc_ge, lc_eq, yx_0, yx_1, yx_2, yx_3, yx_4, yx_5, yx_6, yx_7, yx_8, yx_9, yx_10, yx_11, yx_12, yx_13, yx_14, yx_15, yx_16, yx_17, yx_18, yx_19, yx_20, yx_21, yx_22, yx_23, yx_24, yx_25, yx_26, yx_27, yx_28, yx_29, yx_30, yx_31, yx_32, yx_33, yx_34, yx_35, yx_36, yx_37, yx_38, yx_39, yx_40, yx_41, yx_42, yx_43, yx_44, yx_45, yx_46, yx_47, yx_48, yx_49, yx_50, yx_51, yx_52, yx_53, yx_54, yx_55, yx_56, yx_57, yx_58, yx_59, yx_60, yx_61, yx_62, yx_63, yx_64, yx_65, yx_66, yx_67, yx_68, rx_0, rx_1, rx_2, rx_3, rx_4, rx_5, rx_6, rx_7, rx_8, rx_9, rx_10, rx_11, rx_12, rx_13, rx_14, rx_15, rx_16, rx_17, rx_18, rx_19, rx_20, rx_21, rx_22, rx_23, rx_24, rx_25, rx_26, rx_27, rx_28, rx_29, rx_30, rx_31, rx_32, rx_33, rp_0, rp_1, rp_2, rp_3, rp_4, rp_5, rp_6, rp_7, rp_8, rs_0, rs_1, rs_2, rs_3, rs_4, re_0, re_1, re_2, re_3, re_4, re_5, rr_0, rr_1, rr_2, rr_3, rr_4, rk_0, rk_1, isP3, isP11, isP46, isP58, isS25, isS28, isS31, un_X0_isLetter, un_X2_lineOf, un_X2_hasProduct, un_X2_isOwn, un_X2_factors, zm, v5, hfd]
      try simp only [iteP, Classical.not_not, b1_0, b1_1]
      exact hh
  · rw [if_neg z] at hh
    refine ma_walk (mo_X0_kept ms_X0_isLetter ms_X2_lineOf ms_X2_hasProduct ms_X2_isOwn ms_X2_factors) hV [] (fun F hF => ?_)
    simp only [tb_X0_kept, hF, in_no, in_push, in_ild, in_lld, in_ald, in_ist, in_ast, in_lst, in_inc, in_iii, in_idv, in_ldv, in_lll, in_lli, in_lil, in_ii, in_il, in_li, in_ll, in_dup, in_dp2, q_if1, q_if2, in_go, in_sw, ma_sw, in_rv, in_ri, in_rz, in_rl, in_get, in_put, in_puz, in_iar, in_bar, in_lar, in_aar, in_iaw, in_baw, in_law, in_len, in_cpy, in_s1, in_s2, in_s3, in_v1, in_v2, in_v3, in_v4, in_v5, in_v6, ma_bk, ma_gl, ma_sl, ma_nl, ma_wc, ma_wd, ma_nn, ma_en, List.mem_cons, List.not_mem_nil, or_false, or_true, true_or, false_or, true_and, and_true, false_and, and_false, if_true, if_false, forall_const, true_implies, false_implies, not_true_eq_false, not_false_eq_true, Classical.not_not, implies_true, and_self, Nat.add_zero, Nat.zero_add, eq_self, ne_eq, reduceCtorEq, Nat.reduceLT, Nat.reduceLeDiff, Nat.reduceEqDiff, Nat.reduceSub, Nat.reduceAdd, i10, i01, im10, Int32.reduceLT, Int32.reduceLE, ↓reduceIte, reduceIte, up_r, uL_r, cp_r, Int32.toInt_toInt64, Int64.reduceToInt, Int32.reduceToInt, ↓b1_or, b1_0, b1_1, lc_lt, lc_le, lc_gt, lc_ge, lc_eq, yx_0, yx_1, yx_2, yx_3, yx_4, yx_5, yx_6, yx_7, yx_8, yx_9, yx_10, yx_11, yx_12, yx_13, yx_14, yx_15, yx_16, yx_17, yx_18, yx_19, yx_20, yx_21, yx_22, yx_23, yx_24, yx_25, yx_26, yx_27, yx_28, yx_29, yx_30, yx_31, yx_32, yx_33, yx_34, yx_35, yx_36, yx_37, yx_38, yx_39, yx_40, yx_41, yx_42, yx_43, yx_44, yx_45, yx_46, yx_47, yx_48, yx_49, yx_50, yx_51, yx_52, yx_53, yx_54, yx_55, yx_56, yx_57, yx_58, yx_59, yx_60, yx_61, yx_62, yx_63, yx_64, yx_65, yx_66, yx_67, yx_68, rx_0, rx_1, rx_2, rx_3, rx_4, rx_5, rx_6, rx_7, rx_8, rx_9, rx_10, rx_11, rx_12, rx_13, rx_14, rx_15, rx_16, rx_17, rx_18, rx_19, rx_20, rx_21, rx_22, rx_23, rx_24, rx_25, rx_26, rx_27, rx_28, rx_29, rx_30, rx_31, rx_32, rx_33, rp_0, rp_1, rp_2, rp_3, rp_4, rp_5, rp_6, rp_7, rp_8, rs_0, rs_1, rs_2, rs_3, rs_4, re_0, re_1, re_2, re_3, re_4, re_5, rr_0, rr_1, rr_2, rr_3, rr_4, rk_0, rk_1, isP3, isP11, isP46, isP58, isS25, isS28, isS31, un_X0_isLetter, un_X2_lineOf, un_X2_hasProduct, un_X2_isOwn, un_X2_factors, z]
    try simp only [iteP, Classical.not_not, b1_0, b1_1]
    exact hh
theorem pv_X0_kept : ∀ as M L K, S_X0_kept as M L K → ma_rn (tb_X0_kept S_X0_isLetter S_X2_lineOf S_X2_hasProduct S_X2_isOwn S_X2_factors) 4 as M L K := by
  intro as M L K h
  unfold S_X0_kept at h
  split at h
  · obtain ⟨x, h⟩ := h; exact pw_X0_kept h.1 h.2
  · exact h.elim
def S_X5_kept : ma_Cs := fun as M L K => match as with
  | [.ref k, .int l] => ∃ (x : St), (k = 0 ∧ J x ∧ RY M L x) ∧ (∀ (M' : ZM), RY M' L x → K (some (.int (oKept l x))) M' L)
  | _ => False
theorem ms_X5_kept : ma_ms S_X5_kept := by
  intro as M L K K' hk h
  unfold S_X5_kept at h ⊢
  split at h
  · obtain ⟨x, h⟩ := h
    exact ⟨x, h.1, fun x0 x1 => hk _ _ _ (h.2 x0 x1)⟩
  · exact h.elim
theorem un_X5_kept {k : Nat} {l : Int32} {M : ZM} {L : ZL} {K : ma_Kt} : S_X5_kept [.ref k, .int l] M L K = (∃ (x : St), (k = 0 ∧ J x ∧ RY M L x) ∧ (∀ (M' : ZM), RY M' L x → K (some (.int (oKept l x))) M' L)) := rfl
theorem pw_X5_kept {k : Nat} {l : Int32} {x : St} {M : ZM} {L : ZL} {K : ma_Kt} (hp : k = 0 ∧ J x ∧ RY M L x) (h : (∀ (M' : ZM), RY M' L x → K (some (.int (oKept l x))) M' L)) : ma_rn (tb_X5_kept S_X5_isLetter S_X5_hasProduct) 5 [.ref k, .int l] M L K := by
  refine ⟨Nat.le_of_ble_eq_true rfl, fun V hV => ?_⟩
  obtain ⟨rfl, hJ, hR⟩ := hp
  have hP := hR.2.2.1
  have hVq := hJ.2.2.1.1
  have l4 := hVq.1.2.1
  have hh := h M hR
  clear h
  have c2 := hR.1.2.2.1
  unfold oKept at hh
  by_cases z : 0 ≤ l.toInt ∧ l.toInt ≤ 3
  · obtain ⟨m, em, hm, bm⟩ := a_of z.1
    have nm' : nat l = m := by unfold nat; rw [em, a_cl bm]
    have m4 : m < 4 := by omega
    have l8 : vp_in (nI m) 8 := vp_in_nI (by omega) (by decide)
    have cl := a_cl (show m < 2147483648 by omega)
    rw [if_pos z, nm'] at hh
    rw [em]
    have zm : (0 ≤ (nI m).toInt ∧ (nI m).toInt ≤ 3) = True := eq_true (by rw [← em]; exact z)
    rcases lix_s (sp x).2 m with q | q
    · rw [if_pos q.1] at hh
      generalize lix (sp x).2 m = i at *
      have hi := q.1
      have hL := hP.ln hi
      have hb := hVq.1.2.2.2 i hi
      have hb : (lnA (sp x).2 i).2.1 + (lnA (sp x).2 i).2.2.1 ≤ (sp x).1.length := hb.1
      have t80 := hVq.1.1
      rw [q.2] at hL
      obtain ⟨e1, e2, e3, e4, e5, e6⟩ := hL
      unfold kpt at hh
      have q2 := q.2
      rw [q2] at hh
      generalize hr : lnA (sp x).2 i = r at *
      have z3 : (0 : Int32) ≤ nI i := nI_pos' (by omega)
      have lp : ∀ j, j ≤ r.2.2.1 → V 51 [some (.ref 0), some (.int (nI m)), some (.int (fsm (sp x).1 0 r.2.1 j)), some (.int (b1 ((sN x 0 2 = 0 ∧ ¬ hpr (sp x).1 r.2.1 r.2.2.1) ∧ own (sp x).1 m r.2.1 j))), some (.int (nI (r.2.1 + j)))] [] M L := by
        refine lp_up ?_ ?_
        · have w1 : nI (r.2.1 + r.2.2.1) ≤ nI (r.2.1 + r.2.2.1) := Int32.le_refl _
          refine ma_walk (mo_X5_kept ms_X5_isLetter ms_X5_hasProduct) hV [51] (fun F hF => ?_)
          simp only [tb_X5_kept, hF, in_no, in_push, in_ild, in_lld, in_ald, in_ist, in_ast, in_lst, in_inc, in_iii, in_idv, in_ldv, in_lll, in_lli, in_lil, in_ii, in_il, in_li, in_ll, in_dup, in_dp2, q_if1, q_if2, in_go, in_sw, ma_sw, in_rv, in_ri, in_rz, in_rl, in_get, in_put, in_puz, in_iar, in_bar, in_lar, in_aar, in_iaw, in_baw, in_law, in_len, in_cpy, in_s1, in_s2, in_s3, in_v1, in_v2, in_v3, in_v4, in_v5, in_v6, ma_bk, ma_gl, ma_sl, ma_nl, ma_wc, ma_wd, ma_nn, ma_en, List.mem_cons, List.not_mem_nil, or_false, or_true, true_or, false_or, true_and, and_true, false_and, and_false, if_true, if_false, forall_const, true_implies, false_implies, not_true_eq_false, not_false_eq_true, Classical.not_not, implies_true, and_self, Nat.add_zero, Nat.zero_add, eq_self, ne_eq, reduceCtorEq, Nat.reduceLT, Nat.reduceLeDiff, Nat.reduceEqDiff, Nat.reduceSub, Nat.reduceAdd, i10, i01, im10, Int32.reduceLT, Int32.reduceLE, ↓reduceIte, reduceIte, up_r, uL_r, cp_r, Int32.toInt_toInt64, Int64.reduceToInt, Int32.reduceToInt, ↓b1_or, b1_0, b1_1, lc_lt, lc_le, lc_gt, lc_ge, lc_eq, ym_0, ym_1, ym_2, ym_3, ym_4, ym_5, ym_6, ym_7, ym_8, ym_9, ym_10, ym_11, ym_12, ym_13, ym_14, ym_15, ym_16, ym_17, ym_18, ym_19, ym_20, ym_21, ym_22, ym_23, ym_24, ym_25, ym_26, ym_27, ym_28, ym_29, ym_30, rm__0, rm__1, rm__2, rm__3, rm__4, rm__5, rm__6, rm__7, rm__8, rm__9, rm__10, rm__11, rm__12, rm__13, rm__14, rm__15, rm__16, rm__17, rm__18, rm__19, rm__20, rm__21, rm__22, rm__23, rm__24, rm__25, rm__26, rm__27, rm__28, rm__29, rm__30, rm__31, rm__32, rm__33, rm__34, rm__35, rm__36, rm__37, rm__38, rm__39, rm__40, rm__41, rm__42, rm__43, rm__44, rm__45, un_X5_isLetter, un_X5_hasProduct, l8, cl, e3, e4, e5, nI_add, w1]
          try simp only [iteP, Classical.not_not, b1_0, b1_1]
          refine br_n (fun y => by rw [b1_f (fun t => y t.1)] at hh; exact hh) (fun y => ?_)
          exact sw_n (fun y3 => by rw [b1_t ⟨y, y3⟩] at hh; exact hh) (fun y3 => by rw [b1_f (fun t => y3 t.2)] at hh; exact hh)
        · intro j hj ih
          have ht : r.2.1 + j < (sp x).1.length := by omega
          have hT := hP.tm ht
          have hq := (hVq.1.2.2.1 _ ht).1
          rw [fsm, b1_c (show ((sN x 0 2 = 0 ∧ ¬ hpr (sp x).1 r.2.1 r.2.2.1) ∧ own (sp x).1 m r.2.1 (j + 1)) ↔ _ from and_congr_right fun _ => own_s)] at ih
          generalize (sp x).1.getD (r.2.1 + j) (0, 0, none) = tm at *
          obtain ⟨t1, t2, t3⟩ := hT
          have v160 : vp_in (nI (r.2.1 + j)) 160 := vp_in_nI (by omega) (by decide)
          have ct := a_cl (show r.2.1 + j < 2147483648 by omega)
          have w1 : ¬ nI (r.2.1 + r.2.2.1) ≤ nI (r.2.1 + j) := fun y => by rw [a_le (by omega) (by omega)] at y; omega
          have i1 : nI tm.2.1 / 4 = nI (tm.2.1 / 4) := pk_div (d := 4) (by omega) (by omega) (by omega)
          have i2 : nI tm.2.1 - nI (tm.2.1 / 4) * 4 = nI (tm.2.1 % 4) := by
            rw [show (4 : Int32) = nI 4 from rfl, pk_mul, pk_sub (by omega)]; congr 1; omega
          have i3 : (nI (tm.2.1 % 4) = nI m) = (tm.2.1 % 4 = m) := a_eq (by omega) (by omega)
          have i4 : ((5 : Int32) ≤ nI (tm.2.1 / 4)) = (5 ≤ tm.2.1 / 4) := a_le (a := 5) (by omega) (by omega)
          have v3 : nI (r.2.1 + j) + 1 = nI (r.2.1 + (j + 1)) := by rw [show (1 : Int32) = nI 1 from rfl, nI_add]; rfl
          have fa : fa1 0 tm.1 = tm.1 := if_pos rfl
          rw [fa] at ih
          refine ma_walk (mo_X5_kept ms_X5_isLetter ms_X5_hasProduct) hV [51] (fun F hF => ?_)
          simp only [tb_X5_kept, hF, in_no, in_push, in_ild, in_lld, in_ald, in_ist, in_ast, in_lst, in_inc, in_iii, in_idv, in_ldv, in_lll, in_lli, in_lil, in_ii, in_il, in_li, in_ll, in_dup, in_dp2, q_if1, q_if2, in_go, in_sw, ma_sw, in_rv, in_ri, in_rz, in_rl, in_get, in_put, in_puz, in_iar, in_bar, in_lar, in_aar, in_iaw, in_baw, in_law, in_len, in_cpy, in_s1, in_s2, in_s3, in_v1, in_v2, in_v3, in_v4, in_v5, in_v6, ma_bk, ma_gl, ma_sl, ma_nl, ma_wc, ma_wd, ma_nn, ma_en, List.mem_cons, List.not_mem_nil, or_false, or_true, true_or, false_or, true_and, and_true, false_and, and_false, if_true, if_false, forall_const, true_implies, false_implies, not_true_eq_false, not_false_eq_true, Classical.not_not, implies_true, and_self, Nat.add_zero, Nat.zero_add, eq_self, ne_eq, reduceCtorEq, Nat.reduceLT, Nat.reduceLeDiff, Nat.reduceEqDiff, Nat.reduceSub, Nat.reduceAdd, i10, i01, im10, Int32.reduceLT, Int32.reduceLE, ↓reduceIte, reduceIte, up_r, uL_r, cp_r, Int32.toInt_toInt64, Int64.reduceToInt, Int32.reduceToInt, ↓b1_or, b1_0, b1_1, lc_lt, lc_le, lc_gt, lc_ge, lc_eq, ym_0, ym_1, ym_2, ym_3, ym_4, ym_5, ym_6, ym_7, ym_8, ym_9, ym_10, ym_11, ym_12, ym_13, ym_14, ym_15, ym_16, ym_17, ym_18, ym_19, ym_20, ym_21, ym_22, ym_23, ym_24, ym_25, ym_26, ym_27, ym_28, ym_29, ym_30, rm__0, rm__1, rm__2, rm__3, rm__4, rm__5, rm__6, rm__7, rm__8, rm__9, rm__10, rm__11, rm__12, rm__13, rm__14, rm__15, rm__16, rm__17, rm__18, rm__19, rm__20, rm__21, rm__22, rm__23, rm__24, rm__25, rm__26, rm__27, rm__28, rm__29, rm__30, rm__31, rm__32, rm__33, rm__34, rm__35, rm__36, rm__37, rm__38, rm__39, rm__40, rm__41, rm__42, rm__43, rm__44, rm__45, un_X5_isLetter, un_X5_hasProduct, l8, cl, e3, e4, nI_add, w1, v160, ct, t1, t2, i1, i2, i3, i4, v3]
          try simp only [iteP, Classical.not_not, b1_0, b1_1]
          refine br_n (fun y => by rw [b1_f (fun t => y ⟨t.1, t.2.1⟩)] at ih; exact ih) (fun y => ⟨by decide, ?_⟩)
          refine sw_n (fun y1 => ⟨by decide, ?_⟩) (fun y1 => by rw [b1_f (fun t => y1 t.2.2.1)] at ih; exact ih)
          exact sw_n (fun y2 => by rw [b1_f (fun t => t.2.2.2 (by omega))] at ih; exact ih) (fun y2 => by rw [b1_t ⟨y.1, y.2, y1, by omega⟩] at ih; exact ih)
      have lq := lp 0 (Nat.zero_le _)
      refine ma_walk (mo_X5_kept ms_X5_isLetter ms_X5_hasProduct) hV [51] (fun F hF => ?_)
      simp only [tb_X5_kept, hF, in_no, in_push, in_ild, in_lld, in_ald, in_ist, in_ast, in_lst, in_inc, in_iii, in_idv, in_ldv, in_lll, in_lli, in_lil, in_ii, in_il, in_li, in_ll, in_dup, in_dp2, q_if1, q_if2, in_go, in_sw, ma_sw, in_rv, in_ri, in_rz, in_rl, in_get, in_put, in_puz, in_iar, in_bar, in_lar, in_aar, in_iaw, in_baw, in_law, in_len, in_cpy, in_s1, in_s2, in_s3, in_v1, in_v2, in_v3, in_v4, in_v5, in_v6, ma_bk, ma_gl, ma_sl, ma_nl, ma_wc, ma_wd, ma_nn, ma_en, List.mem_cons, List.not_mem_nil, or_false, or_true, true_or, false_or, true_and, and_true, false_and, and_false, if_true, if_false, forall_const, true_implies, false_implies, not_true_eq_false, not_false_eq_true, Classical.not_not, implies_true, and_self, Nat.add_zero, Nat.zero_add, eq_self, ne_eq, reduceCtorEq, Nat.reduceLT, Nat.reduceLeDiff, Nat.reduceEqDiff, Nat.reduceSub, Nat.reduceAdd, i10, i01, im10, Int32.reduceLT, Int32.reduceLE, ↓reduceIte, reduceIte, up_r, uL_r, cp_r, Int32.toInt_toInt64, Int64.reduceToInt, Int32.reduceToInt, ↓b1_or, b1_0, b1_1, lc_lt, lc_le, lc_gt, lc_ge, lc_eq, ym_0, ym_1, ym_2, ym_3, ym_4, ym_5, ym_6, ym_7, ym_8, ym_9, ym_10, ym_11, ym_12, ym_13, ym_14, ym_15, ym_16, ym_17, ym_18, ym_19, ym_20, ym_21, ym_22, ym_23, ym_24, ym_25, ym_26, ym_27, ym_28, ym_29, ym_30, rm__0, rm__1, rm__2, rm__3, rm__4, rm__5, rm__6, rm__7, rm__8, rm__9, rm__10, rm__11, rm__12, rm__13, rm__14, rm__15, rm__16, rm__17, rm__18, rm__19, rm__20, rm__21, rm__22, rm__23, rm__24, rm__25, rm__26, rm__27, rm__28, rm__29, rm__30, rm__31, rm__32, rm__33, rm__34, rm__35, rm__36, rm__37, rm__38, rm__39, rm__40, rm__41, rm__42, rm__43, rm__44, rm__45, un_X5_isLetter, un_X5_hasProduct, zm, l8, cl, e2, e3, z3, c2]
      try simp only [iteP, Classical.not_not, b1_0, b1_1]
      refine sw_n (fun y0 => ?_) (fun y0 => ?_)
      · refine ⟨i, (sp x).1, (sp x).2, ⟨hi, by rw [hr, q2], hP, hVq.1⟩, ?_⟩
        rw [hr]
        refine br_n (fun y1 => ?_) (fun y1 => ?_)
        · rw [b1_t ⟨⟨y0, y1⟩, own_0⟩] at lq; exact lq
        · rw [b1_f (fun t => t.1.2 y1)] at lq; exact lq
      · rw [b1_f (fun t => y0 t.1.1)] at lq; exact lq
    · rw [if_neg (by omega)] at hh
      have e2 := hP.no m4 q.2
      have g4 : ¬ (0 : Int32) ≤ -4 := by decide
      refine ma_walk (mo_X5_kept ms_X5_isLetter ms_X5_hasProduct) hV [51] (fun F hF => ?_)
      simp only [tb_X5_kept, hF, in_no, in_push, in_ild, in_lld, in_ald, in_ist, in_ast, in_lst, in_inc, in_iii, in_idv, in_ldv, in_lll, in_lli, in_lil, in_ii, in_il, in_li, in_ll, in_dup, in_dp2, q_if1, q_if2, in_go, in_sw, ma_sw, in_rv, in_ri, in_rz, in_rl, in_get, in_put, in_puz, in_iar, in_bar, in_lar, in_aar, in_iaw, in_baw, in_law, in_len, in_cpy, in_s1, in_s2, in_s3, in_v1, in_v2, in_v3, in_v4, in_v5, in_v6, ma_bk, ma_gl, ma_sl, ma_nl, ma_wc, ma_wd, ma_nn, ma_en, List.mem_cons, List.not_mem_nil, or_false, or_true, true_or, false_or, true_and, and_true, false_and, and_false, if_true, if_false, forall_const, true_implies, false_implies, not_true_eq_false, not_false_eq_true, Classical.not_not, implies_true, and_self, Nat.add_zero, Nat.zero_add, eq_self, ne_eq, reduceCtorEq, Nat.reduceLT, Nat.reduceLeDiff, Nat.reduceEqDiff, Nat.reduceSub, Nat.reduceAdd, i10, i01, im10, Int32.reduceLT, Int32.reduceLE, ↓reduceIte, reduceIte, up_r, uL_r, cp_r, Int32.toInt_toInt64, Int64.reduceToInt, Int32.reduceToInt, ↓b1_or, b1_0, b1_1, lc_lt, lc_le, lc_gt, lc_ge, lc_eq, ym_0, ym_1, ym_2, ym_3, ym_4, ym_5, ym_6, ym_7, ym_8, ym_9, ym_10, ym_11, ym_12, ym_13, ym_14, ym_15, ym_16, ym_17, ym_18, ym_19, ym_20, ym_21, ym_22, ym_23, ym_24, ym_25, ym_26, ym_27, ym_28, ym_29, ym_30, rm__0, rm__1, rm__2, rm__3, rm__4, rm__5, rm__6, rm__7, rm__8, rm__9, rm__10, rm__11, rm__12, rm__13, rm__14, rm__15, rm__16, rm__17, rm__18, rm__19, rm__20, rm__21, rm__22, rm__23, rm__24, rm__25, rm__26, rm__27, rm__28, rm__29, rm__30, rm__31, rm__32, rm__33, rm__34, rm__35, rm__36, rm__37, rm__38, rm__39, rm__40, rm__41, rm__42, rm__43, rm__44, rm__45, un_X5_isLetter, un_X5_hasProduct, zm, l8, cl, e2, g4]
      try simp only [iteP, Classical.not_not, b1_0, b1_1]
      exact hh
  · rw [if_neg z] at hh
    refine ma_walk (mo_X5_kept ms_X5_isLetter ms_X5_hasProduct) hV [51] (fun F hF => ?_)
    simp only [tb_X5_kept, hF, in_no, in_push, in_ild, in_lld, in_ald, in_ist, in_ast, in_lst, in_inc, in_iii, in_idv, in_ldv, in_lll, in_lli, in_lil, in_ii, in_il, in_li, in_ll, in_dup, in_dp2, q_if1, q_if2, in_go, in_sw, ma_sw, in_rv, in_ri, in_rz, in_rl, in_get, in_put, in_puz, in_iar, in_bar, in_lar, in_aar, in_iaw, in_baw, in_law, in_len, in_cpy, in_s1, in_s2, in_s3, in_v1, in_v2, in_v3, in_v4, in_v5, in_v6, ma_bk, ma_gl, ma_sl, ma_nl, ma_wc, ma_wd, ma_nn, ma_en, List.mem_cons, List.not_mem_nil, or_false, or_true, true_or, false_or, true_and, and_true, false_and, and_false, if_true, if_false, forall_const, true_implies, false_implies, not_true_eq_false, not_false_eq_true, Classical.not_not, implies_true, and_self, Nat.add_zero, Nat.zero_add, eq_self, ne_eq, reduceCtorEq, Nat.reduceLT, Nat.reduceLeDiff, Nat.reduceEqDiff, Nat.reduceSub, Nat.reduceAdd, i10, i01, im10, Int32.reduceLT, Int32.reduceLE, ↓reduceIte, reduceIte, up_r, uL_r, cp_r, Int32.toInt_toInt64, Int64.reduceToInt, Int32.reduceToInt, ↓b1_or, b1_0, b1_1, lc_lt, lc_le, lc_gt, lc_ge, lc_eq, ym_0, ym_1, ym_2, ym_3, ym_4, ym_5, ym_6, ym_7, ym_8, ym_9, ym_10, ym_11, ym_12, ym_13, ym_14, ym_15, ym_16, ym_17, ym_18, ym_19, ym_20, ym_21, ym_22, ym_23, ym_24, ym_25, ym_26, ym_27, ym_28, ym_29, ym_30, rm__0, rm__1, rm__2, rm__3, rm__4, rm__5, rm__6, rm__7, rm__8, rm__9, rm__10, rm__11, rm__12, rm__13, rm__14, rm__15, rm__16, rm__17, rm__18, rm__19, rm__20, rm__21, rm__22, rm__23, rm__24, rm__25, rm__26, rm__27, rm__28, rm__29, rm__30, rm__31, rm__32, rm__33, rm__34, rm__35, rm__36, rm__37, rm__38, rm__39, rm__40, rm__41, rm__42, rm__43, rm__44, rm__45, un_X5_isLetter, un_X5_hasProduct, z]
    try simp only [iteP, Classical.not_not, b1_0, b1_1]
    exact hh
theorem pv_X5_kept : ∀ as M L K, S_X5_kept as M L K → ma_rn (tb_X5_kept S_X5_isLetter S_X5_hasProduct) 5 as M L K := by
  intro as M L K h
  unfold S_X5_kept at h
  split at h
  · obtain ⟨x, h⟩ := h; exact pw_X5_kept h.1 h.2
  · exact h.elim
