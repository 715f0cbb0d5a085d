/-! a number made anew -/
set_option maxRecDepth 100000
set_option maxHeartbeats 4000000
def anw (x : St) (s c l : Nat) : Int32 := if lix (sp x).2 l < (sp x).2.length then mdv (nv (sN x 1) (nat (sN x 0 0)) (nat (sN x 0 1)) (nat (sN x 0 2)) (hv x sAll (s - 1)) (hv x sAll s c) c) (sp x).1 (lnA (sp x).2 (lix (sp x).2 l)) else hv x sAll (s - 1) c l
theorem anw_c {x : St} {r r' : Nat → Int32} {w u e c s i : Nat} {f : Nat → Int32} (hr : r = r') (hP : Vp (sp x).1 (sp x).2) (hi : i < (sp x).2.length) (hw : w < 7) (hu : u < 7) (hc : c < w * u) (hs : 0 < s) (hf : ∀ s' c' l', s' ≤ s → c' < w * u → l' < 4 → f (144 * s' + 4 * c' + l') = hv x sAll s' c' l') : mdv (nv r w u e (rwv f (s - 1)) (rwv f s c) c) (sp x).1 (lnA (sp x).2 i) = mdv (nv r' w u e (hv x sAll (s - 1)) (hv x sAll s c) c) (sp x).1 (lnA (sp x).2 i) := by
  subst hr
  refine mdv_c fun t q _ _ _ => nv_c hw hu hc (fun _ => hf s c (q % 4) (Nat.le_refl _) hc (Nat.mod_lt _ (by decide))) (fun c' l' h1 h2 => hf (s - 1) c' l' (by omega) h1 h2)
def S_X0_anew : ma_Cs := fun as M L K => match as with
  | [.ref k, .int ss, .int cc, .int ll] => ∃ (x : St) (s : Nat) (c : Nat) (l : Nat), (k = 0 ∧ J x ∧ RX M L x ∧ Xh M x ∧ ss = nI s ∧ cc = nI c ∧ ll = nI l ∧ 0 < s ∧ s < 13 ∧ c < nat (sN x 0 0) * nat (sN x 0 1) ∧ l < 4) ∧ (K (some (.int (anw x s c l))) M L)
  | _ => False
theorem ms_X0_anew : ma_ms S_X0_anew := by
  intro as M L K K' hk h
  unfold S_X0_anew at h ⊢
  split at h
  · obtain ⟨x, s, c, l, h⟩ := h
    exact ⟨x, s, c, l, h.1, hk _ _ _ h.2⟩
  · exact h.elim
theorem un_X0_anew {k : Nat} {ss : Int32} {cc : Int32} {ll : Int32} {M : ZM} {L : ZL} {K : ma_Kt} : S_X0_anew [.ref k, .int ss, .int cc, .int ll] M L K = (∃ (x : St) (s : Nat) (c : Nat) (l : Nat), (k = 0 ∧ J x ∧ RX M L x ∧ Xh M x ∧ ss = nI s ∧ cc = nI c ∧ ll = nI l ∧ 0 < s ∧ s < 13 ∧ c < nat (sN x 0 0) * nat (sN x 0 1) ∧ l < 4) ∧ (K (some (.int (anw x s c l))) M L)) := rfl
theorem pw_X0_anew {k : Nat} {ss : Int32} {cc : Int32} {ll : Int32} {x : St} {s : Nat} {c : Nat} {l : Nat} {M : ZM} {L : ZL} {K : ma_Kt} (hp : k = 0 ∧ J x ∧ RX M L x ∧ Xh M x ∧ ss = nI s ∧ cc = nI c ∧ ll = nI l ∧ 0 < s ∧ s < 13 ∧ c < nat (sN x 0 0) * nat (sN x 0 1) ∧ l < 4) (h : (K (some (.int (anw x s c l))) M L)) : ma_rn (tb_X0_anew S_X2_lineOf S_X3_at S_X3_made) 5 [.ref k, .int ss, .int cc, .int ll] M L K := by
  refine ⟨Nat.le_of_ble_eq_true rfl, fun V hV => ?_⟩
  obtain ⟨rfl, hJ, hR, hX, rfl, rfl, rfl, s0, s13, hc, l4'⟩ := hp
  obtain ⟨w, u, e, wk, h1, h2, h3, h4, hs, hPe, hb, hpc, he, hlt, q0, q36, hn⟩ := hJ.people
  have hP := hR.2.2.1.1
  have hVq := hJ.2.2.1.1
  have l4 := hVq.1.2.1
  have c7 := hR.1.2.2.2.1
  have a19 := hR.2.1.1
  obtain ⟨x0, x1, x2, x3, x4⟩ := hX
  obtain ⟨s1, s2, s3, s4, s5, s6, s7⟩ := id hs
  have n1 : nat (sN x 0 0) = w := by unfold nat; rw [h1, a_cl (by omega)]
  have n2 : nat (sN x 0 1) = u := by unfold nat; rw [h2, a_cl (by omega)]
  have n3 : nat (sN x 0 2) = e := by unfold nat; rw [h3, a_cl (by omega)]
  unfold anw at h
  rw [n1, n2, n3] at h
  rw [n1, n2] at x4 hc
  have hfd := fd_lix hP hVq (l := l) l4'
  have v5 : vp_in (M 11 0) 5 := by rw [hP.1]; exact vp_in_nI (by omega) (by decide)
  rcases lix_s (sp x).2 l with q | q
  · rw [if_pos q.1] at h hfd
    generalize lix (sp x).2 l = i at *
    have hi := q.1
    have hfd : fd (M 12) (nI l) (M 11 0).toNatClampNeg 0 = nI i := hfd
    have z3 : (nI i = -4) = False := eq_false fun y => by
      have z3 : (nI i).toInt = (-4 : Int32).toInt := by rw [y]
      rw [a_ti (by omega), show (-4 : Int32).toInt = -4 from rfl] at z3; omega
    refine ma_walk (mo_X0_anew ms_X2_lineOf ms_X3_at ms_X3_made) hV [] (fun F hF => ?_)
    simp only [tb_X0_anew, hF, in_no, in_push, in_ild, in_lld, in_ald, in_ist, in_ast, in_lst, in_inc, in_iii, in_idv, in_ldv, in_lll, in_lli, in_lil, in_ii, in_il, in_li, in_ll, in_dup, in_dp2, q_if1, q_if2, in_go, in_sw, ma_sw, in_rv, in_ri, in_rz, in_rl, in_get, in_put, in_puz, in_iar, in_bar, in_lar, in_aar, in_iaw, in_baw, in_law, in_len, in_cpy, in_s1, in_s2, in_s3, in_v1, in_v2, in_v3, in_v4, in_v5, in_v6, ma_bk, ma_gl, ma_sl, ma_nl, ma_wc, ma_wd, ma_nn, ma_en, List.mem_cons, List.not_mem_nil, or_false, or_true, true_or, false_or, true_and, and_true, false_and, and_false, if_true, if_false, forall_const, true_implies, false_implies, not_true_eq_false, not_false_eq_true, Classical.not_not, implies_true, and_self, Nat.add_zero, Nat.zero_add, eq_self, ne_eq, reduceCtorEq, Nat.reduceLT, Nat.reduceLeDiff, Nat.reduceEqDiff, Nat.reduceSub, Nat.reduceAdd, i10, i01, im10, Int32.reduceLT, Int32.reduceLE, ↓reduceIte, reduceIte, up_r, uL_r, cp_r, Int32.toInt_toInt64, Int64.reduceToInt, Int32.reduceToInt, ↓b1_or, b1_0, b1_1, lc_lt, lc_le, lc_gt, lc_ge, lc_eq, yx_0, yx_1, yx_2, yx_3, yx_4, yx_5, yx_6, yx_7, yx_8, yx_9, yx_10, yx_11, yx_12, yx_13, yx_14, yx_15, yx_16, yx_17, yx_18, yx_19, yx_20, yx_21, yx_22, yx_23, yx_24, yx_25, yx_26, yx_27, yx_28, yx_29, yx_30, yx_31, yx_32, yx_33, yx_34, yx_35, yx_36, yx_37, yx_38, yx_39, yx_40, yx_41, yx_42, yx_43, yx_44, yx_45, yx_46, yx_47, yx_48, yx_49, yx_50, yx_51, yx_52, yx_53, yx_54, yx_55, yx_56, yx_57, yx_58, yx_59, yx_60, yx_61, yx_62, yx_63, yx_64, yx_65, yx_66, yx_67, yx_68, rx_0, rx_1, rx_2, rx_3, rx_4, rx_5, rx_6, rx_7, rx_8, rx_9, rx_10, rx_11, rx_12, rx_13, rx_14, rx_15, rx_16, rx_17, rx_18, rx_19, rx_20, rx_21, rx_22, rx_23, rx_24, rx_25, rx_26, rx_27, rx_28, rx_29, rx_30, rx_31, rx_32, rx_33, rp_0, rp_1, rp_2, rp_3, rp_4, rp_5, rp_6, rp_7, rp_8, rs_0, rs_1, rs_2, rs_3, rs_4, re_0, re_1, re_2, re_3, re_4, re_5, rr_0, rr_1, rr_2, rr_3, rr_4, rk_0, rk_1, isP3, isP11, isP46, isP58, isS25, isS28, isS31, un_X2_lineOf, un_X3_at, un_X3_made, v5, hfd, z3]
    try simp only [iteP, Classical.not_not, b1_0, b1_1]
    refine ⟨w, u, e, c, s, i, (sp x).1, (sp x).2, ⟨⟨⟨rfl, rfl, rfl⟩, by rw [x2, h1], by rw [x3, h2], by rw [c7, h3], ⟨s1, s2, s3, s4, s5, hc, by omega⟩, s13⟩, s0, rfl, rfl, rfl, hi, hP, hVq.1⟩, ?_⟩
    rw [← anw_c (r := M 19) a19 hVq.1 hi s2 s4 hc s0 (fun s' c' l' y1 y2 y3 => (x4 s' c' l' (by omega) y2 y3).2.1)] at h
    exact h
  · rw [if_neg (by omega)] at h hfd
    have hfd : fd (M 12) (nI l) (M 11 0).toNatClampNeg 0 = -4 := hfd
    have es : nI s - 1 = nI (s - 1) := by rw [show (1 : Int32) = nI 1 from rfl, pk_sub (by omega)]
    refine ma_walk (mo_X0_anew ms_X2_lineOf ms_X3_at ms_X3_made) hV [] (fun F hF => ?_)
    simp only [tb_X0_anew, hF, in_no, in_push, in_ild, in_lld, in_ald, in_ist, in_ast, in_lst, in_inc, in_iii, in_idv, in_ldv, in_lll, in_lli, in_lil, in_ii, in_il, in_li, in_ll, in_dup, in_dp2, q_if1, q_if2, in_go, in_sw, ma_sw, in_rv, in_ri, in_rz, in_rl, in_get, in_put, in_puz, in_iar, in_bar, in_lar, in_aar, in_iaw, in_baw, in_law, in_len, in_cpy, in_s1, in_s2, in_s3, in_v1, in_v2, in_v3, in_v4, in_v5, in_v6, ma_bk, ma_gl, ma_sl, ma_nl, ma_wc, ma_wd, ma_nn, ma_en, List.mem_cons, List.not_mem_nil, or_false, or_true, true_or, false_or, true_and, and_true, false_and, and_false, if_true, if_false, forall_const, true_implies, false_implies, not_true_eq_false, not_false_eq_true, Classical.not_not, implies_true, and_self, Nat.add_zero, Nat.zero_add, eq_self, ne_eq, reduceCtorEq, Nat.reduceLT, Nat.reduceLeDiff, Nat.reduceEqDiff, Nat.reduceSub, Nat.reduceAdd, i10, i01, im10, Int32.reduceLT, Int32.reduceLE, ↓reduceIte, reduceIte, up_r, uL_r, cp_r, Int32.toInt_toInt64, Int64.reduceToInt, Int32.reduceToInt, ↓b1_or, b1_0, b1_1, lc_lt, lc_le, lc_gt, lc_ge, lc_eq, yx_0, yx_1, yx_2, yx_3, yx_4, yx_5, yx_6, yx_7, yx_8, yx_9, yx_10, yx_11, yx_12, yx_13, yx_14, yx_15, yx_16, yx_17, yx_18, yx_19, yx_20, yx_21, yx_22, yx_23, yx_24, yx_25, yx_26, yx_27, yx_28, yx_29, yx_30, yx_31, yx_32, yx_33, yx_34, yx_35, yx_36, yx_37, yx_38, yx_39, yx_40, yx_41, yx_42, yx_43, yx_44, yx_45, yx_46, yx_47, yx_48, yx_49, yx_50, yx_51, yx_52, yx_53, yx_54, yx_55, yx_56, yx_57, yx_58, yx_59, yx_60, yx_61, yx_62, yx_63, yx_64, yx_65, yx_66, yx_67, yx_68, rx_0, rx_1, rx_2, rx_3, rx_4, rx_5, rx_6, rx_7, rx_8, rx_9, rx_10, rx_11, rx_12, rx_13, rx_14, rx_15, rx_16, rx_17, rx_18, rx_19, rx_20, rx_21, rx_22, rx_23, rx_24, rx_25, rx_26, rx_27, rx_28, rx_29, rx_30, rx_31, rx_32, rx_33, rp_0, rp_1, rp_2, rp_3, rp_4, rp_5, rp_6, rp_7, rp_8, rs_0, rs_1, rs_2, rs_3, rs_4, re_0, re_1, re_2, re_3, re_4, re_5, rr_0, rr_1, rr_2, rr_3, rr_4, rk_0, rk_1, isP3, isP11, isP46, isP58, isS25, isS28, isS31, un_X2_lineOf, un_X3_at, un_X3_made, v5, hfd, es]
    try simp only [iteP, Classical.not_not, b1_0, b1_1]
    refine ⟨s - 1, c, l, ⟨rfl, rfl, rfl, by omega, by omega, l4'⟩, ?_⟩
    rw [(x4 (s - 1) c l (by omega) hc l4').2.1]
    exact h
theorem pv_X0_anew : ∀ as M L K, S_X0_anew as M L K → ma_rn (tb_X0_anew S_X2_lineOf S_X3_at S_X3_made) 5 as M L K := by
  intro as M L K h
  unfold S_X0_anew at h
  split at h
  · obtain ⟨x, s, c, l, h⟩ := h; exact pw_X0_anew h.1 h.2
  · exact h.elim
