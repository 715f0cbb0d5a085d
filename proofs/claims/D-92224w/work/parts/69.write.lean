/-! op: write -/
set_option maxRecDepth 100000
set_option maxHeartbeats 4000000
theorem by_b (w : Int64) : ∃ b : Nat, b < 256 ∧ (w &&& 255).toInt32 = nI b ∧ w.toInt32.toInt8.toInt32 = sb b := by
  refine ⟨w.toBitVec.toNat % 256, by omega, ?_, ?_⟩
  · apply i_ext
    rw [a_ti (by omega), Int64.toInt_toInt32]
    have e : (w &&& 255).toBitVec.toNat = w.toBitVec.toNat % 256 := by
      rw [Int64.toBitVec_and, BitVec.toNat_and]
      exact Nat.and_two_pow_sub_one_eq_mod _ 8
    have e2 : (w &&& 255).toInt = ((w.toBitVec.toNat % 256 : Nat) : Int) := by
      rw [← Int64.toInt_toBitVec, BitVec.toInt_eq_toNat_of_lt (by omega), e]
    rw [e2]; exact Int.bmod_eq_of_le_mul_two (by omega) (by omega)
  · unfold sb
    congr 1
    apply Int8.toInt_inj.1
    rw [Int32.toInt_toInt8, Int32.toInt_toInt8, a_ti (by omega), Int64.toInt_toInt32, Int.bmod_bmod_of_dvd (by decide), ← Int64.toInt_toBitVec, BitVec.toInt_eq_toNat_bmod, Int.bmod_bmod_of_dvd (by decide)]
    rw [show ((w.toBitVec.toNat % 256 : Nat) : Int) = (w.toBitVec.toNat : Int) % (2 ^ 8 : Nat) from by omega, Int.emod_bmod]
def wB (v : Int64) (j : Nat) : Int64 := v >>> (((8 : Int32) * nI j).toInt64 &&& 63)
def wr1 (v : Int64) (j : Nat) (x : St) : St := wN x (ma_up (ma_up (sN x) 2 (nat (sN x 0 5)) (wB v j &&& 255).toInt32) 0 5 (sN x 0 5 + 1))
def wr (v : Int64) : Nat → St → St
  | 0, x => x
  | j + 1, x => wr v j (wr1 v j x)
def oWrite (n : Int32) (v : Int64) (x : St) : Int32 × St := if 1 ≤ n.toInt ∧ n.toInt ≤ 8 then (if sN x 0 5 + n ≤ 160 then (sN (wr v (nat n) x) 0 5, wr v (nat n) x) else (-3, x)) else (-1, x)
theorem J_wr1 {v : Int64} {j : Nat} {x : St} {m : Nat} (h : J x) (e : sN x 0 5 = nI m) (hm : m < 160) : J (wr1 v j x) := by
  obtain ⟨⟨w, u, e', wk, n, ns, a, b, km, h1, h2, h3, h4, h5, h6, h7, h8, h9, g1, g2, g3, g4, g5, g6, g7, g8, g9, f1, f2⟩, ⟨j1, j2⟩, jp, jk⟩ := h
  refine ⟨⟨w, u, e', wk, m + 1, ns, a, b, km, h1, h2, h3, h4, ?_, h6, h7, h8, h9, g1, g2, g3, g4, g5, g6, by omega, g8, g9, f1, f2⟩, ⟨fun i => ?_, j2⟩, jp, jk⟩
  · show sN x 0 5 + 1 = nI (m + 1)
    rw [e, show (1 : Int32) = nI 1 from rfl, nI_add]
  · show ∃ b : Nat, b < 256 ∧ ma_up (sN x) 2 (nat (sN x 0 5)) (wB v j &&& 255).toInt32 2 i = nI b
    rw [ma_up_at]
    by_cases c : i = nat (sN x 0 5)
    · obtain ⟨b, b1, b2, b3⟩ := by_b (wB v j)
      exact ⟨b, b1, by rw [c, pk_us]; exact b2⟩
    · rw [pk_un c]; exact j1 i
theorem wr_l {v : Int64} : ∀ {j : Nat} {x : St} {m : Nat}, sN x 0 5 = nI m → sN (wr v j x) 0 5 = nI (m + j) := by
  intro j
  induction j with
  | zero => intro x m e; exact e
  | succ j ih =>
    intro x m e
    show sN (wr v j (wr1 v j x)) 0 5 = _
    rw [ih (m := m + 1) (by show sN x 0 5 + 1 = nI (m + 1); rw [e, show (1 : Int32) = nI 1 from rfl, nI_add]), show m + 1 + j = m + (j + 1) from by omega]
theorem J_wr {v : Int64} : ∀ {j : Nat} {x : St} {m : Nat}, J x → sN x 0 5 = nI m → m + j ≤ 160 → J (wr v j x) := by
  intro j
  induction j with
  | zero => intro x m h _ _; exact h
  | succ j ih =>
    intro x m h e hm
    exact ih (x := wr1 v j x) (m := m + 1) (J_wr1 h e (by omega)) (by show sN x 0 5 + 1 = nI (m + 1); rw [e, show (1 : Int32) = nI 1 from rfl, nI_add]) (by omega)
theorem wr_c {x : St} {n : Int32} (hJ : J x) (h : 1 ≤ n.toInt ∧ n.toInt ≤ 8) : ∃ m j : Nat, sN x 0 5 = nI m ∧ n = nI (j + 1) ∧ nat n = j + 1 ∧ j < 8 ∧ m ≤ 160 ∧ (sN x 0 5 + n ≤ 160) = (m + (j + 1) ≤ 160) := by
  obtain ⟨⟨w, u, e', wk, m, ns, a, b, km, h1, h2, h3, h4, h5, h6, h7, h8, h9, g1, g2, g3, g4, g5, g6, g7, g8, g9, f1, f2⟩, ja, jp, jk⟩ := hJ
  obtain ⟨i, ei, hi, bi⟩ := a_of (x := n) (by omega)
  obtain ⟨j, rfl⟩ : ∃ j, i = j + 1 := ⟨i - 1, by omega⟩
  refine ⟨m, j, h5, ei, by unfold nat; rw [ei, a_cl bi], by omega, g7, ?_⟩
  rw [h5, ei, nI_add, show (160 : Int32) = nI 160 from rfl, a_le (by omega) (by omega)]
theorem J_write {n : Int32} {v : Int64} {x : St} (h : J x) : J (oWrite n v x).2 := by
  unfold oWrite
  by_cases c : 1 ≤ n.toInt ∧ n.toInt ≤ 8
  · obtain ⟨m, j, e1, e2, e3, e4, e5, e6⟩ := wr_c h c
    rw [if_pos c]
    split
    · next c2 => rw [e3]; exact J_wr h e1 (e6 ▸ c2)
    · exact h
  · rw [if_neg c]; exact h
def S_X0_write : ma_Cs := fun as M L K => match as with
  | [.ref k, .int n, .long v] => ∃ (x : St), (k = 0 ∧ J x ∧ RX M L x) ∧ (∀ (M' : ZM) (L' : ZL), RX M' L' (oWrite n v x).2 → K (some (.int (oWrite n v x).1)) M' L')
  | _ => False
theorem ms_X0_write : ma_ms S_X0_write := by
  intro as M L K K' hk h
  unfold S_X0_write at h ⊢
  split at h
  · obtain ⟨x, h⟩ := h
    exact ⟨x, h.1, fun x0 x1 x2 => hk _ _ _ (h.2 x0 x1 x2)⟩
  · exact h.elim
theorem un_X0_write {k : Nat} {n : Int32} {v : Int64} {M : ZM} {L : ZL} {K : ma_Kt} : S_X0_write [.ref k, .int n, .long v] M L K = (∃ (x : St), (k = 0 ∧ J x ∧ RX M L x) ∧ (∀ (M' : ZM) (L' : ZL), RX M' L' (oWrite n v x).2 → K (some (.int (oWrite n v x).1)) M' L')) := rfl
theorem pw_X0_write {k : Nat} {n : Int32} {v : Int64} {x : St} {M : ZM} {L : ZL} {K : ma_Kt} (hp : k = 0 ∧ J x ∧ RX M L x) (h : (∀ (M' : ZM) (L' : ZL), RX M' L' (oWrite n v x).2 → K (some (.int (oWrite n v x).1)) M' L')) : ma_rn (tb_X0_write S_X0_isIn) 5 [.ref k, .int n, .long v] M L K := by
  refine ⟨Nat.le_of_ble_eq_true rfl, fun V hV => ?_⟩
  obtain ⟨rfl, hJ, hR⟩ := hp
  unfold oWrite at h
  have c0 := hR.1.1
  by_cases c : 1 ≤ n.toInt ∧ n.toInt ≤ 8
  · obtain ⟨m, j, e1, e2, e3, e4, e5, e6⟩ := wr_c hJ c
    rw [if_pos c, e3] at h
    rw [e2] at c e6 h ⊢
    rw [e1] at e6 h
    rw [e1] at c0
    by_cases c9 : m + (j + 1) ≤ 160
    · rw [if_pos (e6.symm ▸ c9)] at h
      have lp : ∀ i : Nat, ∀ (M : ZM) (x : St) (m : Nat), RX M L x → sN x 0 5 = nI m → m + i ≤ 160 → i ≤ 8 → (∀ (M' : ZM) (L' : ZL), RX M' L' (wr v i x) → K (some (.int (sN (wr v i x) 0 5))) M' L') → V 34 [some (.ref 0), some (.int (nI (j + 1))), some (.long v), none, some (.int (nI i - 1))] [] M L := by
        intro i
        induction i with
        | zero =>
          intro M x m hR e hm h8 h
          have q : nI 0 - 1 < 0 := by decide
          have c0 := hR.1.1
          refine ma_walk (mo_X0_write ms_X0_isIn) hV [34] (fun F hF => ?_)
          simp only [tb_X0_write, hF, in_no, in_push, in_ild, in_lld, in_ald, in_ist, in_ast, in_lst, in_inc, in_iii, in_idv, in_ldv, in_lll, in_lli, in_lil, in_ii, in_il, in_li, in_ll, in_dup, in_dp2, q_if1, q_if2, in_go, in_sw, ma_sw, in_rv, in_ri, in_rz, in_rl, in_get, in_put, in_puz, in_iar, in_bar, in_lar, in_aar, in_iaw, in_baw, in_law, in_len, in_cpy, in_s1, in_s2, in_s3, in_v1, in_v2, in_v3, in_v4, in_v5, in_v6, ma_bk, ma_gl, ma_sl, ma_nl, ma_wc, ma_wd, ma_nn, ma_en, List.mem_cons, List.not_mem_nil, or_false, or_true, true_or, false_or, true_and, and_true, false_and, and_false, if_true, if_false, forall_const, true_implies, false_implies, not_true_eq_false, not_false_eq_true, Classical.not_not, implies_true, and_self, Nat.add_zero, Nat.zero_add, eq_self, ne_eq, reduceCtorEq, Nat.reduceLT, Nat.reduceLeDiff, Nat.reduceEqDiff, Nat.reduceSub, Nat.reduceAdd, i10, i01, im10, Int32.reduceLT, Int32.reduceLE, ↓reduceIte, reduceIte, up_r, uL_r, cp_r, Int32.toInt_toInt64, Int64.reduceToInt, Int32.reduceToInt, ↓b1_or, b1_0, b1_1, lc_lt, lc_le, lc_gt, lc_ge, lc_eq, yx_0, yx_1, yx_2, yx_3, yx_4, yx_5, yx_6, yx_7, yx_8, yx_9, yx_10, yx_11, yx_12, yx_13, yx_14, yx_15, yx_16, yx_17, yx_18, yx_19, yx_20, yx_21, yx_22, yx_23, yx_24, yx_25, yx_26, yx_27, yx_28, yx_29, yx_30, yx_31, yx_32, yx_33, yx_34, yx_35, yx_36, yx_37, yx_38, yx_39, yx_40, yx_41, yx_42, yx_43, yx_44, yx_45, yx_46, yx_47, yx_48, yx_49, yx_50, yx_51, yx_52, yx_53, yx_54, yx_55, yx_56, yx_57, yx_58, yx_59, yx_60, yx_61, yx_62, yx_63, yx_64, yx_65, yx_66, yx_67, yx_68, rx_0, rx_1, rx_2, rx_3, rx_4, rx_5, rx_6, rx_7, rx_8, rx_9, rx_10, rx_11, rx_12, rx_13, rx_14, rx_15, rx_16, rx_17, rx_18, rx_19, rx_20, rx_21, rx_22, rx_23, rx_24, rx_25, rx_26, rx_27, rx_28, rx_29, rx_30, rx_31, rx_32, rx_33, rp_0, rp_1, rp_2, rp_3, rp_4, rp_5, rp_6, rp_7, rp_8, rs_0, rs_1, rs_2, rs_3, rs_4, re_0, re_1, re_2, re_3, re_4, re_5, rr_0, rr_1, rr_2, rr_3, rr_4, rk_0, rk_1, isP3, isP11, isP46, isP58, isS25, isS28, isS31, un_X0_isIn, c0, q]
          try simp only [iteP, Classical.not_not, b1_0, b1_1]
          exact h M L hR
        | succ i ih =>
          intro M x m hR e hm h8 h
          have q1 : nI (i + 1) - 1 = nI i := by rw [show (1 : Int32) = nI 1 from rfl, pk_sub (by omega)]; rfl
          have q2 : nI i + -1 = nI i - 1 := (Int32.sub_eq_add_neg ..).symm
          have q3 : vp_in (nI m) 160 := vp_in_nI (by omega) (by decide)
          have c0 := hR.1.1
          rw [e] at c0
          rw [q1]
          refine ma_walk (mo_X0_write ms_X0_isIn) hV [34] (fun F hF => ?_)
          simp only [tb_X0_write, hF, in_no, in_push, in_ild, in_lld, in_ald, in_ist, in_ast, in_lst, in_inc, in_iii, in_idv, in_ldv, in_lll, in_lli, in_lil, in_ii, in_il, in_li, in_ll, in_dup, in_dp2, q_if1, q_if2, in_go, in_sw, ma_sw, in_rv, in_ri, in_rz, in_rl, in_get, in_put, in_puz, in_iar, in_bar, in_lar, in_aar, in_iaw, in_baw, in_law, in_len, in_cpy, in_s1, in_s2, in_s3, in_v1, in_v2, in_v3, in_v4, in_v5, in_v6, ma_bk, ma_gl, ma_sl, ma_nl, ma_wc, ma_wd, ma_nn, ma_en, List.mem_cons, List.not_mem_nil, or_false, or_true, true_or, false_or, true_and, and_true, false_and, and_false, if_true, if_false, forall_const, true_implies, false_implies, not_true_eq_false, not_false_eq_true, Classical.not_not, implies_true, and_self, Nat.add_zero, Nat.zero_add, eq_self, ne_eq, reduceCtorEq, Nat.reduceLT, Nat.reduceLeDiff, Nat.reduceEqDiff, Nat.reduceSub, Nat.reduceAdd, i10, i01, im10, Int32.reduceLT, Int32.reduceLE, ↓reduceIte, reduceIte, up_r, uL_r, cp_r, Int32.toInt_toInt64, Int64.reduceToInt, Int32.reduceToInt, ↓b1_or, b1_0, b1_1, lc_lt, lc_le, lc_gt, lc_ge, lc_eq, yx_0, yx_1, yx_2, yx_3, yx_4, yx_5, yx_6, yx_7, yx_8, yx_9, yx_10, yx_11, yx_12, yx_13, yx_14, yx_15, yx_16, yx_17, yx_18, yx_19, yx_20, yx_21, yx_22, yx_23, yx_24, yx_25, yx_26, yx_27, yx_28, yx_29, yx_30, yx_31, yx_32, yx_33, yx_34, yx_35, yx_36, yx_37, yx_38, yx_39, yx_40, yx_41, yx_42, yx_43, yx_44, yx_45, yx_46, yx_47, yx_48, yx_49, yx_50, yx_51, yx_52, yx_53, yx_54, yx_55, yx_56, yx_57, yx_58, yx_59, yx_60, yx_61, yx_62, yx_63, yx_64, yx_65, yx_66, yx_67, yx_68, rx_0, rx_1, rx_2, rx_3, rx_4, rx_5, rx_6, rx_7, rx_8, rx_9, rx_10, rx_11, rx_12, rx_13, rx_14, rx_15, rx_16, rx_17, rx_18, rx_19, rx_20, rx_21, rx_22, rx_23, rx_24, rx_25, rx_26, rx_27, rx_28, rx_29, rx_30, rx_31, rx_32, rx_33, rp_0, rp_1, rp_2, rp_3, rp_4, rp_5, rp_6, rp_7, rp_8, rs_0, rs_1, rs_2, rs_3, rs_4, re_0, re_1, re_2, re_3, re_4, re_5, rr_0, rr_1, rr_2, rr_3, rr_4, rk_0, rk_1, isP3, isP11, isP46, isP58, isS25, isS28, isS31, un_X0_isIn, c0, q2, q3]
          try simp only [iteP, Classical.not_not, b1_0, b1_1]
          refine ⟨fun z => absurd z (nI_pos (by omega)), fun _ => ?_⟩
          obtain ⟨⟨d0, d5, d6, d7, d10, d19, d20, d25, d33⟩, ⟨a19, a1, a2⟩, r3, r4⟩ := hR
          have k1 : nI m + 1 = nI (m + 1) := by rw [show (1 : Int32) = nI 1 from rfl, nI_add]
          refine ih _ (wr1 v i x) (m + 1) ⟨⟨?_, d5, d6, d7, d10, d19, d20, d25, d33⟩, ⟨a19, fun p => ?_, a2⟩, r3.to (fun a ha => by rw [up_c (by omega), up_c (by omega)]) rfl, r4⟩ (by show sN x 0 5 + 1 = _; rw [e, k1]) (by omega) (by omega) h
          · show nI m + 1 = sN x 0 5 + 1
            rw [e]
          · obtain ⟨b, b1, b2, b3⟩ := by_b (wB v i)
            show ma_up M 1 (nI m).toNatClampNeg (wB v i).toInt32.toInt8.toInt32.toInt8.toInt32 1 p = sb (nat (ma_up (sN x) 2 (nat (sN x 0 5)) (wB v i &&& 255).toInt32 2 p))
            rw [ma_up_at, ma_up_at, Int8.toInt8_toInt32, b3, b2, e]
            by_cases cp : p = (nI m).toNatClampNeg
            · rw [cp, pk_us, show nat (nI m) = (nI m).toNatClampNeg from rfl, pk_us]
              unfold nat; rw [a_cl (by omega)]
            · rw [pk_un cp, show nat (nI m) = (nI m).toNatClampNeg from rfl, pk_un cp]; exact a1 p
      refine ma_walk (mo_X0_write ms_X0_isIn) hV [34] (fun F hF => ?_)
      simp only [tb_X0_write, hF, in_no, in_push, in_ild, in_lld, in_ald, in_ist, in_ast, in_lst, in_inc, in_iii, in_idv, in_ldv, in_lll, in_lli, in_lil, in_ii, in_il, in_li, in_ll, in_dup, in_dp2, q_if1, q_if2, in_go, in_sw, ma_sw, in_rv, in_ri, in_rz, in_rl, in_get, in_put, in_puz, in_iar, in_bar, in_lar, in_aar, in_iaw, in_baw, in_law, in_len, in_cpy, in_s1, in_s2, in_s3, in_v1, in_v2, in_v3, in_v4, in_v5, in_v6, ma_bk, ma_gl, ma_sl, ma_nl, ma_wc, ma_wd, ma_nn, ma_en, List.mem_cons, List.not_mem_nil, or_false, or_true, true_or, false_or, true_and, and_true, false_and, and_false, if_true, if_false, forall_const, true_implies, false_implies, not_true_eq_false, not_false_eq_true, Classical.not_not, implies_true, and_self, Nat.add_zero, Nat.zero_add, eq_self, ne_eq, reduceCtorEq, Nat.reduceLT, Nat.reduceLeDiff, Nat.reduceEqDiff, Nat.reduceSub, Nat.reduceAdd, i10, i01, im10, Int32.reduceLT, Int32.reduceLE, ↓reduceIte, reduceIte, up_r, uL_r, cp_r, Int32.toInt_toInt64, Int64.reduceToInt, Int32.reduceToInt, ↓b1_or, b1_0, b1_1, lc_lt, lc_le, lc_gt, lc_ge, lc_eq, yx_0, yx_1, yx_2, yx_3, yx_4, yx_5, yx_6, yx_7, yx_8, yx_9, yx_10, yx_11, yx_12, yx_13, yx_14, yx_15, yx_16, yx_17, yx_18, yx_19, yx_20, yx_21, yx_22, yx_23, yx_24, yx_25, yx_26, yx_27, yx_28, yx_29, yx_30, yx_31, yx_32, yx_33, yx_34, yx_35, yx_36, yx_37, yx_38, yx_39, yx_40, yx_41, yx_42, yx_43, yx_44, yx_45, yx_46, yx_47, yx_48, yx_49, yx_50, yx_51, yx_52, yx_53, yx_54, yx_55, yx_56, yx_57, yx_58, yx_59, yx_60, yx_61, yx_62, yx_63, yx_64, yx_65, yx_66, yx_67, yx_68, rx_0, rx_1, rx_2, rx_3, rx_4, rx_5, rx_6, rx_7, rx_8, rx_9, rx_10, rx_11, rx_12, rx_13, rx_14, rx_15, rx_16, rx_17, rx_18, rx_19, rx_20, rx_21, rx_22, rx_23, rx_24, rx_25, rx_26, rx_27, rx_28, rx_29, rx_30, rx_31, rx_32, rx_33, rp_0, rp_1, rp_2, rp_3, rp_4, rp_5, rp_6, rp_7, rp_8, rs_0, rs_1, rs_2, rs_3, rs_4, re_0, re_1, re_2, re_3, re_4, re_5, rr_0, rr_1, rr_2, rr_3, rr_4, rk_0, rk_1, isP3, isP11, isP46, isP58, isS25, isS28, isS31, un_X0_isIn, c0, eq_true c, eq_true (e6.symm ▸ c9)]
      try simp only [iteP, Classical.not_not, b1_0, b1_1]
      exact lp (j + 1) M x m hR e1 c9 (by omega) h
    · rw [if_neg (fun q => c9 (e6 ▸ q))] at h
      refine ma_walk (mo_X0_write ms_X0_isIn) hV [34] (fun F hF => ?_)
      simp only [tb_X0_write, hF, in_no, in_push, in_ild, in_lld, in_ald, in_ist, in_ast, in_lst, in_inc, in_iii, in_idv, in_ldv, in_lll, in_lli, in_lil, in_ii, in_il, in_li, in_ll, in_dup, in_dp2, q_if1, q_if2, in_go, in_sw, ma_sw, in_rv, in_ri, in_rz, in_rl, in_get, in_put, in_puz, in_iar, in_bar, in_lar, in_aar, in_iaw, in_baw, in_law, in_len, in_cpy, in_s1, in_s2, in_s3, in_v1, in_v2, in_v3, in_v4, in_v5, in_v6, ma_bk, ma_gl, ma_sl, ma_nl, ma_wc, ma_wd, ma_nn, ma_en, List.mem_cons, List.not_mem_nil, or_false, or_true, true_or, false_or, true_and, and_true, false_and, and_false, if_true, if_false, forall_const, true_implies, false_implies, not_true_eq_false, not_false_eq_true, Classical.not_not, implies_true, and_self, Nat.add_zero, Nat.zero_add, eq_self, ne_eq, reduceCtorEq, Nat.reduceLT, Nat.reduceLeDiff, Nat.reduceEqDiff, Nat.reduceSub, Nat.reduceAdd, i10, i01, im10, Int32.reduceLT, Int32.reduceLE, ↓reduceIte, reduceIte, up_r, uL_r, cp_r, Int32.toInt_toInt64, Int64.reduceToInt, Int32.reduceToInt, ↓b1_or, b1_0, b1_1, lc_lt, lc_le, lc_gt, lc_ge, lc_eq, yx_0, yx_1, yx_2, yx_3, yx_4, yx_5, yx_6, yx_7, yx_8, yx_9, yx_10, yx_11, yx_12, yx_13, yx_14, yx_15, yx_16, yx_17, yx_18, yx_19, yx_20, yx_21, yx_22, yx_23, yx_24, yx_25, yx_26, yx_27, yx_28, yx_29, yx_30, yx_31, yx_32, yx_33, yx_34, yx_35, yx_36, yx_37, yx_38, yx_39, yx_40, yx_41, yx_42, yx_43, yx_44, yx_45, yx_46, yx_47, yx_48, yx_49, yx_50, yx_51, yx_52, yx_53, yx_54, yx_55, yx_56, yx_57, yx_58, yx_59, yx_60, yx_61, yx_62, yx_63, yx_64, yx_65, yx_66, yx_67, yx_68, rx_0, rx_1, rx_2, rx_3, rx_4, rx_5, rx_6, rx_7, rx_8, rx_9, rx_10, rx_11, rx_12, rx_13, rx_14, rx_15, rx_16, rx_17, rx_18, rx_19, rx_20, rx_21, rx_22, rx_23, rx_24, rx_25, rx_26, rx_27, rx_28, rx_29, rx_30, rx_31, rx_32, rx_33, rp_0, rp_1, rp_2, rp_3, rp_4, rp_5, rp_6, rp_7, rp_8, rs_0, rs_1, rs_2, rs_3, rs_4, re_0, re_1, re_2, re_3, re_4, re_5, rr_0, rr_1, rr_2, rr_3, rr_4, rk_0, rk_1, isP3, isP11, isP46, isP58, isS25, isS28, isS31, un_X0_isIn, c0, eq_true c, eq_false (fun q => c9 (e6 ▸ q))]
      try simp only [iteP, Classical.not_not, b1_0, b1_1]
      exact h M L hR
  · rw [if_neg c] at h
    refine ma_walk (mo_X0_write ms_X0_isIn) hV [34] (fun F hF => ?_)
    simp only [tb_X0_write, hF, in_no, in_push, in_ild, in_lld, in_ald, in_ist, in_ast, in_lst, in_inc, in_iii, in_idv, in_ldv, in_lll, in_lli, in_lil, in_ii, in_il, in_li, in_ll, in_dup, in_dp2, q_if1, q_if2, in_go, in_sw, ma_sw, in_rv, in_ri, in_rz, in_rl, in_get, in_put, in_puz, in_iar, in_bar, in_lar, in_aar, in_iaw, in_baw, in_law, in_len, in_cpy, in_s1, in_s2, in_s3, in_v1, in_v2, in_v3, in_v4, in_v5, in_v6, ma_bk, ma_gl, ma_sl, ma_nl, ma_wc, ma_wd, ma_nn, ma_en, List.mem_cons, List.not_mem_nil, or_false, or_true, true_or, false_or, true_and, and_true, false_and, and_false, if_true, if_false, forall_const, true_implies, false_implies, not_true_eq_false, not_false_eq_true, Classical.not_not, implies_true, and_self, Nat.add_zero, Nat.zero_add, eq_self, ne_eq, reduceCtorEq, Nat.reduceLT, Nat.reduceLeDiff, Nat.reduceEqDiff, Nat.reduceSub, Nat.reduceAdd, i10, i01, im10, Int32.reduceLT, Int32.reduceLE, ↓reduceIte, reduceIte, up_r, uL_r, cp_r, Int32.toInt_toInt64, Int64.reduceToInt, Int32.reduceToInt, ↓b1_or, b1_0, b1_1, lc_lt, lc_le, lc_gt, lc_ge, lc_eq, yx_0, yx_1, yx_2, yx_3, yx_4, yx_5, yx_6, yx_7, yx_8, yx_9, yx_10, yx_11, yx_12, yx_13, yx_14, yx_15, yx_16, yx_17, yx_18, yx_19, yx_20, yx_21, yx_22, yx_23, yx_24, yx_25, yx_26, yx_27, yx_28, yx_29, yx_30, yx_31, yx_32, yx_33, yx_34, yx_35, yx_36, yx_37, yx_38, yx_39, yx_40, yx_41, yx_42, yx_43, yx_44, yx_45, yx_46, yx_47, yx_48, yx_49, yx_50, yx_51, yx_52, yx_53, yx_54, yx_55, yx_56, yx_57, yx_58, yx_59, yx_60, yx_61, yx_62, yx_63, yx_64, yx_65, yx_66, yx_67, yx_68, rx_0, rx_1, rx_2, rx_3, rx_4, rx_5, rx_6, rx_7, rx_8, rx_9, rx_10, rx_11, rx_12, rx_13, rx_14, rx_15, rx_16, rx_17, rx_18, rx_19, rx_20, rx_21, rx_22, rx_23, rx_24, rx_25, rx_26, rx_27, rx_28, rx_29, rx_30, rx_31, rx_32, rx_33, rp_0, rp_1, rp_2, rp_3, rp_4, rp_5, rp_6, rp_7, rp_8, rs_0, rs_1, rs_2, rs_3, rs_4, re_0, re_1, re_2, re_3, re_4, re_5, rr_0, rr_1, rr_2, rr_3, rr_4, rk_0, rk_1, isP3, isP11, isP46, isP58, isS25, isS28, isS31, un_X0_isIn, c]
    try simp only [iteP, Classical.not_not, b1_0, b1_1]
    exact h M L hR
theorem pv_X0_write : ∀ as M L K, S_X0_write as M L K → ma_rn (tb_X0_write S_X0_isIn) 5 as M L K := by
  intro as M L K h
  unfold S_X0_write at h
  split at h
  · obtain ⟨x, h⟩ := h; exact pw_X0_write h.1 h.2
  · exact h.elim
def S_X5_write : ma_Cs := fun as M L K => match as with
  | [.ref k, .int n, .long v] => ∃ (x : St), (k = 0 ∧ J x ∧ RY M L x) ∧ (∀ (M' : ZM) (L' : ZL), RY M' L' (oWrite n v x).2 → K (some (.int (oWrite n v x).1)) M' L')
  | _ => False
theorem ms_X5_write : ma_ms S_X5_write := by
  intro as M L K K' hk h
  unfold S_X5_write at h ⊢
  split at h
  · obtain ⟨x, h⟩ := h
    exact ⟨x, h.1, fun x0 x1 x2 => hk _ _ _ (h.2 x0 x1 x2)⟩
  · exact h.elim
theorem un_X5_write {k : Nat} {n : Int32} {v : Int64} {M : ZM} {L : ZL} {K : ma_Kt} : S_X5_write [.ref k, .int n, .long v] M L K = (∃ (x : St), (k = 0 ∧ J x ∧ RY M L x) ∧ (∀ (M' : ZM) (L' : ZL), RY M' L' (oWrite n v x).2 → K (some (.int (oWrite n v x).1)) M' L')) := rfl
theorem pw_X5_write {k : Nat} {n : Int32} {v : Int64} {x : St} {M : ZM} {L : ZL} {K : ma_Kt} (hp : k = 0 ∧ J x ∧ RY M L x) (h : (∀ (M' : ZM) (L' : ZL), RY M' L' (oWrite n v x).2 → K (some (.int (oWrite n v x).1)) M' L')) : ma_rn (tb_X5_write S_X5_in) 5 [.ref k, .int n, .long v] M L K := by
  refine ⟨Nat.le_of_ble_eq_true rfl, fun V hV => ?_⟩
  obtain ⟨rfl, hJ, hR⟩ := hp
  unfold oWrite at h
  have c0 := hR.1.2.2.2.2.1
  by_cases c : 1 ≤ n.toInt ∧ n.toInt ≤ 8
  · obtain ⟨m, j, e1, e2, e3, e4, e5, e6⟩ := wr_c hJ c
    rw [if_pos c, e3] at h
    rw [e2] at c e6 h ⊢
    rw [e1] at e6 h
    rw [e1] at c0
    by_cases c9 : m + (j + 1) ≤ 160
    · rw [if_pos (e6.symm ▸ c9)] at h
      have lp : ∀ i : Nat, ∀ (M : ZM) (x : St) (m : Nat), RY M L x → sN x 0 5 = nI m → m + i ≤ 160 → i ≤ 8 → (∀ (M' : ZM) (L' : ZL), RY M' L' (wr v i x) → K (some (.int (sN (wr v i x) 0 5))) M' L') → V 34 [some (.ref 0), some (.int (nI (j + 1))), some (.long v), none, some (.int (nI i - 1))] [] M L := by
        intro i
        induction i with
        | zero =>
          intro M x m hR e hm h8 h
          have q : nI 0 - 1 < 0 := by decide
          have c0 := hR.1.2.2.2.2.1
          refine ma_walk (mo_X5_write ms_X5_in) hV [34] (fun F hF => ?_)
          simp only [tb_X5_write, hF, in_no, in_push, in_ild, in_lld, in_ald, in_ist, in_ast, in_lst, in_inc, in_iii, in_idv, in_ldv, in_lll, in_lli, in_lil, in_ii, in_il, in_li, in_ll, in_dup, in_dp2, q_if1, q_if2, in_go, in_sw, ma_sw, in_rv, in_ri, in_rz, in_rl, in_get, in_put, in_puz, in_iar, in_bar, in_lar, in_aar, in_iaw, in_baw, in_law, in_len, in_cpy, in_s1, in_s2, in_s3, in_v1, in_v2, in_v3, in_v4, in_v5, in_v6, ma_bk, ma_gl, ma_sl, ma_nl, ma_wc, ma_wd, ma_nn, ma_en, List.mem_cons, List.not_mem_nil, or_false, or_true, true_or, false_or, true_and, and_true, false_and, and_false, if_true, if_false, forall_const, true_implies, false_implies, not_true_eq_false, not_false_eq_true, Classical.not_not, implies_true, and_self, Nat.add_zero, Nat.zero_add, eq_self, ne_eq, reduceCtorEq, Nat.reduceLT, Nat.reduceLeDiff, Nat.reduceEqDiff, Nat.reduceSub, Nat.reduceAdd, i10, i01, im10, Int32.reduceLT, Int32.reduceLE, ↓reduceIte, reduceIte, up_r, uL_r, cp_r, Int32.toInt_toInt64, Int64.reduceToInt, Int32.reduceToInt, ↓b1_or, b1_0, b1_1, lc_lt, lc_le, lc_gt, lc_ge, lc_eq, ym_0, ym_1, ym_2, ym_3, ym_4, ym_5, ym_6, ym_7, ym_8, ym_9, ym_10, ym_11, ym_12, ym_13, ym_14, ym_15, ym_16, ym_17, ym_18, ym_19, ym_20, ym_21, ym_22, ym_23, ym_24, ym_25, ym_26, ym_27, ym_28, ym_29, ym_30, rm__0, rm__1, rm__2, rm__3, rm__4, rm__5, rm__6, rm__7, rm__8, rm__9, rm__10, rm__11, rm__12, rm__13, rm__14, rm__15, rm__16, rm__17, rm__18, rm__19, rm__20, rm__21, rm__22, rm__23, rm__24, rm__25, rm__26, rm__27, rm__28, rm__29, rm__30, rm__31, rm__32, rm__33, rm__34, rm__35, rm__36, rm__37, rm__38, rm__39, rm__40, rm__41, rm__42, rm__43, rm__44, rm__45, un_X5_in, c0, q]
          try simp only [iteP, Classical.not_not, b1_0, b1_1]
          exact h M L hR
        | succ i ih =>
          intro M x m hR e hm h8 h
          have q1 : nI (i + 1) - 1 = nI i := by rw [show (1 : Int32) = nI 1 from rfl, pk_sub (by omega)]; rfl
          have q2 : nI i + -1 = nI i - 1 := (Int32.sub_eq_add_neg ..).symm
          have q3 : vp_in (nI m) 160 := vp_in_nI (by omega) (by decide)
          have c0 := hR.1.2.2.2.2.1
          rw [e] at c0
          rw [q1]
          refine ma_walk (mo_X5_write ms_X5_in) hV [34] (fun F hF => ?_)
          simp only [tb_X5_write, hF, in_no, in_push, in_ild, in_lld, in_ald, in_ist, in_ast, in_lst, in_inc, in_iii, in_idv, in_ldv, in_lll, in_lli, in_lil, in_ii, in_il, in_li, in_ll, in_dup, in_dp2, q_if1, q_if2, in_go, in_sw, ma_sw, in_rv, in_ri, in_rz, in_rl, in_get, in_put, in_puz, in_iar, in_bar, in_lar, in_aar, in_iaw, in_baw, in_law, in_len, in_cpy, in_s1, in_s2, in_s3, in_v1, in_v2, in_v3, in_v4, in_v5, in_v6, ma_bk, ma_gl, ma_sl, ma_nl, ma_wc, ma_wd, ma_nn, ma_en, List.mem_cons, List.not_mem_nil, or_false, or_true, true_or, false_or, true_and, and_true, false_and, and_false, if_true, if_false, forall_const, true_implies, false_implies, not_true_eq_false, not_false_eq_true, Classical.not_not, implies_true, and_self, Nat.add_zero, Nat.zero_add, eq_self, ne_eq, reduceCtorEq, Nat.reduceLT, Nat.reduceLeDiff, Nat.reduceEqDiff, Nat.reduceSub, Nat.reduceAdd, i10, i01, im10, Int32.reduceLT, Int32.reduceLE, ↓reduceIte, reduceIte, up_r, uL_r, cp_r, Int32.toInt_toInt64, Int64.reduceToInt, Int32.reduceToInt, ↓b1_or, b1_0, b1_1, lc_lt, lc_le, lc_gt, lc_ge, lc_eq, ym_0, ym_1, ym_2, ym_3, ym_4, ym_5, ym_6, ym_7, ym_8, ym_9, ym_10, ym_11, ym_12, ym_13, ym_14, ym_15, ym_16, ym_17, ym_18, ym_19, ym_20, ym_21, ym_22, ym_23, ym_24, ym_25, ym_26, ym_27, ym_28, ym_29, ym_30, rm__0, rm__1, rm__2, rm__3, rm__4, rm__5, rm__6, rm__7, rm__8, rm__9, rm__10, rm__11, rm__12, rm__13, rm__14, rm__15, rm__16, rm__17, rm__18, rm__19, rm__20, rm__21, rm__22, rm__23, rm__24, rm__25, rm__26, rm__27, rm__28, rm__29, rm__30, rm__31, rm__32, rm__33, rm__34, rm__35, rm__36, rm__37, rm__38, rm__39, rm__40, rm__41, rm__42, rm__43, rm__44, rm__45, un_X5_in, c0, q2, q3]
          try simp only [iteP, Classical.not_not, b1_0, b1_1]
          refine ⟨fun z => absurd z (nI_pos (by omega)), fun _ => ?_⟩
          obtain ⟨⟨d0, d1, d2, d3, d5, d19, d24, d25, d30⟩, ⟨a1, a2, a12⟩, r3, r4⟩ := hR
          have k1 : nI m + 1 = nI (m + 1) := by rw [show (1 : Int32) = nI 1 from rfl, nI_add]
          refine ih _ (wr1 v i x) (m + 1) ⟨⟨d0, d1, d2, d3, ?_, d19, d24, d25, d30⟩, ⟨a1, ?_, a12⟩, r3.to rfl (fun a z1 z2 => by rw [up_c (by omega), up_c (by omega)]), r4.1, r4.2.to rfl rfl⟩ (by show sN x 0 5 + 1 = _; rw [e, k1]) (by omega) (by omega) h
          · show nI m + 1 = sN x 0 5 + 1
            rw [e]
          · show ma_up M 2 (nI m).toNatClampNeg (wB v i &&& 255).toInt32 2 = ma_up (sN x) 2 (nat (sN x 0 5)) (wB v i &&& 255).toInt32 2
            rw [ma_up_at, ma_up_at, a2, e]; rfl
      refine ma_walk (mo_X5_write ms_X5_in) hV [34] (fun F hF => ?_)
      simp only [tb_X5_write, hF, in_no, in_push, in_ild, in_lld, in_ald, in_ist, in_ast, in_lst, in_inc, in_iii, in_idv, in_ldv, in_lll, in_lli, in_lil, in_ii, in_il, in_li, in_ll, in_dup, in_dp2, q_if1, q_if2, in_go, in_sw, ma_sw, in_rv, in_ri, in_rz, in_rl, in_get, in_put, in_puz, in_iar, in_bar, in_lar, in_aar, in_iaw, in_baw, in_law, in_len, in_cpy, in_s1, in_s2, in_s3, in_v1, in_v2, in_v3, in_v4, in_v5, in_v6, ma_bk, ma_gl, ma_sl, ma_nl, ma_wc, ma_wd, ma_nn, ma_en, List.mem_cons, List.not_mem_nil, or_false, or_true, true_or, false_or, true_and, and_true, false_and, and_false, if_true, if_false, forall_const, true_implies, false_implies, not_true_eq_false, not_false_eq_true, Classical.not_not, implies_true, and_self, Nat.add_zero, Nat.zero_add, eq_self, ne_eq, reduceCtorEq, Nat.reduceLT, Nat.reduceLeDiff, Nat.reduceEqDiff, Nat.reduceSub, Nat.reduceAdd, i10, i01, im10, Int32.reduceLT, Int32.reduceLE, ↓reduceIte, reduceIte, up_r, uL_r, cp_r, Int32.toInt_toInt64, Int64.reduceToInt, Int32.reduceToInt, ↓b1_or, b1_0, b1_1, lc_lt, lc_le, lc_gt, lc_ge, lc_eq, ym_0, ym_1, ym_2, ym_3, ym_4, ym_5, ym_6, ym_7, ym_8, ym_9, ym_10, ym_11, ym_12, ym_13, ym_14, ym_15, ym_16, ym_17, ym_18, ym_19, ym_20, ym_21, ym_22, ym_23, ym_24, ym_25, ym_26, ym_27, ym_28, ym_29, ym_30, rm__0, rm__1, rm__2, rm__3, rm__4, rm__5, rm__6, rm__7, rm__8, rm__9, rm__10, rm__11, rm__12, rm__13, rm__14, rm__15, rm__16, rm__17, rm__18, rm__19, rm__20, rm__21, rm__22, rm__23, rm__24, rm__25, rm__26, rm__27, rm__28, rm__29, rm__30, rm__31, rm__32, rm__33, rm__34, rm__35, rm__36, rm__37, rm__38, rm__39, rm__40, rm__41, rm__42, rm__43, rm__44, rm__45, un_X5_in, c0, eq_true c, eq_true (e6.symm ▸ c9)]
      try simp only [iteP, Classical.not_not, b1_0, b1_1]
      exact lp (j + 1) M x m hR e1 c9 (by omega) h
    · rw [if_neg (fun q => c9 (e6 ▸ q))] at h
      refine ma_walk (mo_X5_write ms_X5_in) hV [34] (fun F hF => ?_)
      simp only [tb_X5_write, hF, in_no, in_push, in_ild, in_lld, in_ald, in_ist, in_ast, in_lst, in_inc, in_iii, in_idv, in_ldv, in_lll, in_lli, in_lil, in_ii, in_il, in_li, in_ll, in_dup, in_dp2, q_if1, q_if2, in_go, in_sw, ma_sw, in_rv, in_ri, in_rz, in_rl, in_get, in_put, in_puz, in_iar, in_bar, in_lar, in_aar, in_iaw, in_baw, in_law, in_len, in_cpy, in_s1, in_s2, in_s3, in_v1, in_v2, in_v3, in_v4, in_v5, in_v6, ma_bk, ma_gl, ma_sl, ma_nl, ma_wc, ma_wd, ma_nn, ma_en, List.mem_cons, List.not_mem_nil, or_false, or_true, true_or, false_or, true_and, and_true, false_and, and_false, if_true, if_false, forall_const, true_implies, false_implies, not_true_eq_false, not_false_eq_true, Classical.not_not, implies_true, and_self, Nat.add_zero, Nat.zero_add, eq_self, ne_eq, reduceCtorEq, Nat.reduceLT, Nat.reduceLeDiff, Nat.reduceEqDiff, Nat.reduceSub, Nat.reduceAdd, i10, i01, im10, Int32.reduceLT, Int32.reduceLE, ↓reduceIte, reduceIte, up_r, uL_r, cp_r, Int32.toInt_toInt64, Int64.reduceToInt, Int32.reduceToInt, ↓b1_or, b1_0, b1_1, lc_lt, lc_le, lc_gt, lc_ge, lc_eq, ym_0, ym_1, ym_2, ym_3, ym_4, ym_5, ym_6, ym_7, ym_8, ym_9, ym_10, ym_11, ym_12, ym_13, ym_14, ym_15, ym_16, ym_17, ym_18, ym_19, ym_20, ym_21, ym_22, ym_23, ym_24, ym_25, ym_26, ym_27, ym_28, ym_29, ym_30, rm__0, rm__1, rm__2, rm__3, rm__4, rm__5, rm__6, rm__7, rm__8, rm__9, rm__10, rm__11, rm__12, rm__13, rm__14, rm__15, rm__16, rm__17, rm__18, rm__19, rm__20, rm__21, rm__22, rm__23, rm__24, rm__25, rm__26, rm__27, rm__28, rm__29, rm__30, rm__31, rm__32, rm__33, rm__34, rm__35, rm__36, rm__37, rm__38, rm__39, rm__40, rm__41, rm__42, rm__43, rm__44, rm__45, un_X5_in, c0, eq_true c, eq_false (fun q => c9 (e6 ▸ q))]
      try simp only [iteP, Classical.not_not, b1_0, b1_1]
      exact h M L hR
  · rw [if_neg c] at h
    refine ma_walk (mo_X5_write ms_X5_in) hV [34] (fun F hF => ?_)
    simp only [tb_X5_write, hF, in_no, in_push, in_ild, in_lld, in_ald, in_ist, in_ast, in_lst, in_inc, in_iii, in_idv, in_ldv, in_lll, in_lli, in_lil, in_ii, in_il, in_li, in_ll, in_dup, in_dp2, q_if1, q_if2, in_go, in_sw, ma_sw, in_rv, in_ri, in_rz, in_rl, in_get, in_put, in_puz, in_iar, in_bar, in_lar, in_aar, in_iaw, in_baw, in_law, in_len, in_cpy, in_s1, in_s2, in_s3, in_v1, in_v2, in_v3, in_v4, in_v5, in_v6, ma_bk, ma_gl, ma_sl, ma_nl, ma_wc, ma_wd, ma_nn, ma_en, List.mem_cons, List.not_mem_nil, or_false, or_true, true_or, false_or, true_and, and_true, false_and, and_false, if_true, if_false, forall_const, true_implies, false_implies, not_true_eq_false, not_false_eq_true, Classical.not_not, implies_true, and_self, Nat.add_zero, Nat.zero_add, eq_self, ne_eq, reduceCtorEq, Nat.reduceLT, Nat.reduceLeDiff, Nat.reduceEqDiff, Nat.reduceSub, Nat.reduceAdd, i10, i01, im10, Int32.reduceLT, Int32.reduceLE, ↓reduceIte, reduceIte, up_r, uL_r, cp_r, Int32.toInt_toInt64, Int64.reduceToInt, Int32.reduceToInt, ↓b1_or, b1_0, b1_1, lc_lt, lc_le, lc_gt, lc_ge, lc_eq, ym_0, ym_1, ym_2, ym_3, ym_4, ym_5, ym_6, ym_7, ym_8, ym_9, ym_10, ym_11, ym_12, ym_13, ym_14, ym_15, ym_16, ym_17, ym_18, ym_19, ym_20, ym_21, ym_22, ym_23, ym_24, ym_25, ym_26, ym_27, ym_28, ym_29, ym_30, rm__0, rm__1, rm__2, rm__3, rm__4, rm__5, rm__6, rm__7, rm__8, rm__9, rm__10, rm__11, rm__12, rm__13, rm__14, rm__15, rm__16, rm__17, rm__18, rm__19, rm__20, rm__21, rm__22, rm__23, rm__24, rm__25, rm__26, rm__27, rm__28, rm__29, rm__30, rm__31, rm__32, rm__33, rm__34, rm__35, rm__36, rm__37, rm__38, rm__39, rm__40, rm__41, rm__42, rm__43, rm__44, rm__45, un_X5_in, c]
    try simp only [iteP, Classical.not_not, b1_0, b1_1]
    exact h M L hR
theorem pv_X5_write : ∀ as M L K, S_X5_write as M L K → ma_rn (tb_X5_write S_X5_in) 5 as M L K := by
  intro as M L K h
  unfold S_X5_write at h
  split at h
  · obtain ⟨x, h⟩ := h; exact pw_X5_write h.1 h.2
  · exact h.elim
