/-! op: tell -/
set_option maxRecDepth 100000
set_option maxHeartbeats 4000000
abbrev cTell (s l b i : Int32) (v : Int64) (x : St) : Prop := (0 ≤ s.toInt ∧ s.toInt ≤ 12) ∧ (0 ≤ l.toInt ∧ l.toInt ≤ 3) ∧ (0 ≤ i.toInt ∧ i.toInt ≤ ((if b = 0 then sN x 0 1 else sN x 0 0) - 1).toInt) ∧ ((-1000000000000 ≤ v.toInt ∧ v.toInt ≤ 1000000000000) ∨ v = 2000000000000)
theorem br_n {c A B : Prop} (a : ¬ c → A) (b : c → B) : (¬ c → A) ∧ (c → B) := ⟨a, b⟩
def tIx (b i : Int32) : Nat := nat (if b = 0 then i else 6 + i)
def nTell (s l b i : Int32) (v : Int64) (x : St) : St := (ma_up (ma_up (sN x) 0 24 s) 0 25 l, ma_uL (if s = sN x 0 24 ∧ l = sN x 0 25 then sP x else fL (sP x) 17 12 2000000000000) 17 (tIx b i) v, sp x, sk x)
def oTell (s l b i : Int32) (v : Int64) (x : St) : Int32 × St := if cTell s l b i v x then (0, nTell s l b i v x) else (-1, x)
theorem tIx_v {b i : Int32} {x : St} (hJ : J x) (h : 0 ≤ i.toInt ∧ i.toInt ≤ ((if b = 0 then sN x 0 1 else sN x 0 0) - 1).toInt) : vp_in (if b = 0 then i else 6 + i) 12 := by
  obtain ⟨⟨w, u, e, wk, n, ns, a', b', km, h1, h2, h3, h4, h5, h6, h7, h8, h9, g1, g2, g3, g4, g5, g6, g7, g8, g9, f1, f2⟩, ja, jp, jk⟩ := hJ
  obtain ⟨m, em, hm, bm⟩ := a_of h.1
  have t : ∀ y : Nat, 1 ≤ y → y ≤ 6 → (nI y - 1).toInt = (y : Int) - 1 := fun y y1 y2 => by
    rw [show (1 : Int32) = nI 1 from rfl, pk_sub y1, a_ti (by omega)]; omega
  have q := h.2
  by_cases c : b = 0
  · rw [if_pos c] at q ⊢
    rw [h2, t u (by omega) g4] at q
    rw [em]; exact vp_in_nI (by omega) (by decide)
  · rw [if_neg c] at q ⊢
    rw [h1, t w (by omega) g2] at q
    rw [em, show (6 : Int32) = nI 6 from rfl, nI_add]; exact vp_in_nI (by omega) (by decide)
def S_X0_tell : ma_Cs := fun as M L K => match as with
  | [.ref k, .int s, .int l, .int b, .int i, .long v] => ∃ (x : St), (k = 0 ∧ J x ∧ RX M L x) ∧ (∀ (M' : ZM) (L' : ZL), RX M' L' (oTell s l b i v x).2 → K (some (.int (oTell s l b i v x).1)) M' L')
  | _ => False
theorem ms_X0_tell : ma_ms S_X0_tell := by
  intro as M L K K' hk h
  unfold S_X0_tell at h ⊢
  split at h
  · obtain ⟨x, h⟩ := h
    exact ⟨x, h.1, fun x0 x1 x2 => hk _ _ _ (h.2 x0 x1 x2)⟩
  · exact h.elim
theorem un_X0_tell {k : Nat} {s : Int32} {l : Int32} {b : Int32} {i : Int32} {v : Int64} {M : ZM} {L : ZL} {K : ma_Kt} : S_X0_tell [.ref k, .int s, .int l, .int b, .int i, .long v] M L K = (∃ (x : St), (k = 0 ∧ J x ∧ RX M L x) ∧ (∀ (M' : ZM) (L' : ZL), RX M' L' (oTell s l b i v x).2 → K (some (.int (oTell s l b i v x).1)) M' L')) := rfl
theorem pw_X0_tell {k : Nat} {s : Int32} {l : Int32} {b : Int32} {i : Int32} {v : Int64} {x : St} {M : ZM} {L : ZL} {K : ma_Kt} (hp : k = 0 ∧ J x ∧ RX M L x) (h : (∀ (M' : ZM) (L' : ZL), RX M' L' (oTell s l b i v x).2 → K (some (.int (oTell s l b i v x).1)) M' L')) : ma_rn (tb_X0_tell S_X0_isStep S_X0_isLetter S_X0_isIn S_X0_clearTold) 8 [.ref k, .int s, .int l, .int b, .int i, .long v] M L K := by
  refine ⟨Nat.le_of_ble_eq_true rfl, fun V hV => ?_⟩
  obtain ⟨rfl, hJ, hR⟩ := hp
  obtain ⟨⟨c0, c5, c6, c7, c10, c19, c20, c25, c33⟩, ⟨a19, a1, a20, a21, a22, a23, a24, a34, a37, a38, a39⟩, r3, r4⟩ := id hR
  unfold oTell at h
  have no : ¬ cTell s l b i v x → K (some (.int (-1))) M L := fun z => by rw [if_neg z] at h; exact h M L hR
  have yes : cTell s l b i v x → ∀ (ix : Int32) (L1 : ZL), ix = (if b = 0 then i else 6 + i) → L1 = (if s = sN x 0 24 ∧ l = sN x 0 25 then L else fL L 34 12 2000000000000) → vp_in ix 12 ∧ K (some (.int 0)) (ma_up (ma_up M 0 19 s) 0 20 l) (ma_uL L1 34 ix.toNatClampNeg v) := by
    intro z ix L1 hx hL
    rw [if_pos z] at h
    refine ⟨by rw [hx]; exact tIx_v hJ z.2.2.1, h _ _ ⟨⟨c0, c5, c6, c7, c10, rfl, rfl, c25, c33⟩, ⟨a19, a1, a20, a21, a22, a23, a24, ?_, a37, a38, a39⟩, r3.to (fun a ha => by rw [up_c (by omega), up_c (by omega)]) rfl, r4⟩⟩
    show _ = ma_uL (if s = sN x 0 24 ∧ l = sN x 0 25 then sP x else fL (sP x) 17 12 2000000000000) 17 (tIx b i) v 17
    rw [ma_uL_at, ma_uL_at, hL, hx]
    by_cases c : s = sN x 0 24 ∧ l = sN x 0 25
    · rw [if_pos c, if_pos c, a34]; rfl
    · rw [if_neg c, if_neg c, fL_at, fL_at, a34]; rfl
  clear h hR r3 r4 a1 hJ
  refine ma_walk (mo_X0_tell ms_X0_isStep ms_X0_isLetter ms_X0_isIn ms_X0_clearTold) hV [] (fun F hF => ?_)
  simp only [tb_X0_tell, hF, in_no, in_push, in_ild, in_lld, in_ald, in_ist, in_ast, in_lst, in_inc, in_iii, in_idv, in_ldv, in_lll, in_lli, in_lil, in_ii, in_il, in_li, in_ll, in_dup, in_dp2, q_if1, q_if2, in_go, in_sw, ma_sw, in_rv, in_ri, in_rz, in_rl, in_get, in_put, in_puz, in_iar, in_bar, in_lar, in_aar, in_iaw, in_baw, in_law, in_len, in_cpy, in_s1, in_s2, in_s3, in_v1, in_v2, in_v3, in_v4, in_v5, in_v6, ma_bk, ma_gl, ma_sl, ma_nl, ma_wc, ma_wd, ma_nn, ma_en, List.mem_cons, List.not_mem_nil, or_false, or_true, true_or, false_or, true_and, and_true, false_and, and_false, if_true, if_false, forall_const, true_implies, false_implies, not_true_eq_false, not_false_eq_true, Classical.not_not, implies_true, and_self, Nat.add_zero, Nat.zero_add, eq_self, ne_eq, reduceCtorEq, Nat.reduceLT, Nat.reduceLeDiff, Nat.reduceEqDiff, Nat.reduceSub, Nat.reduceAdd, i10, i01, im10, Int32.reduceLT, Int32.reduceLE, ↓reduceIte, reduceIte, up_r, uL_r, cp_r, Int32.toInt_toInt64, Int64.reduceToInt, Int32.reduceToInt, ↓b1_or, b1_0, b1_1, lc_lt, lc_le, lc_gt, lc_ge, lc_eq, yx_0, yx_1, yx_2, yx_3, yx_4, yx_5, yx_6, yx_7, yx_8, yx_9, yx_10, yx_11, yx_12, yx_13, yx_14, yx_15, yx_16, yx_17, yx_18, yx_19, yx_20, yx_21, yx_22, yx_23, yx_24, yx_25, yx_26, yx_27, yx_28, yx_29, yx_30, yx_31, yx_32, yx_33, yx_34, yx_35, yx_36, yx_37, yx_38, yx_39, yx_40, yx_41, yx_42, yx_43, yx_44, yx_45, yx_46, yx_47, yx_48, yx_49, yx_50, yx_51, yx_52, yx_53, yx_54, yx_55, yx_56, yx_57, yx_58, yx_59, yx_60, yx_61, yx_62, yx_63, yx_64, yx_65, yx_66, yx_67, yx_68, rx_0, rx_1, rx_2, rx_3, rx_4, rx_5, rx_6, rx_7, rx_8, rx_9, rx_10, rx_11, rx_12, rx_13, rx_14, rx_15, rx_16, rx_17, rx_18, rx_19, rx_20, rx_21, rx_22, rx_23, rx_24, rx_25, rx_26, rx_27, rx_28, rx_29, rx_30, rx_31, rx_32, rx_33, rp_0, rp_1, rp_2, rp_3, rp_4, rp_5, rp_6, rp_7, rp_8, rs_0, rs_1, rs_2, rs_3, rs_4, re_0, re_1, re_2, re_3, re_4, re_5, rr_0, rr_1, rr_2, rr_3, rr_4, rk_0, rk_1, isP3, isP11, isP46, isP58, isS25, isS28, isS31, un_X0_isStep, un_X0_isLetter, un_X0_isIn, un_X0_clearTold, c5, c6, c19, c20]
  try simp only [iteP, Classical.not_not, b1_0, b1_1]
  clear hF
  repeat' ((first | apply br_n | apply br_c) <;> intro _)
  all_goals first
    | exact no (by unfold cTell; omega)
    | exact no (by unfold cTell; grind)
    | exact no (fun q => by unfold cTell at q; simp_all)
    | exact yes (by unfold cTell; grind) _ _ (by grind) (by grind)
theorem pv_X0_tell : ∀ as M L K, S_X0_tell as M L K → ma_rn (tb_X0_tell S_X0_isStep S_X0_isLetter S_X0_isIn S_X0_clearTold) 8 as M L K := by
  intro as M L K h
  unfold S_X0_tell at h
  split at h
  · obtain ⟨x, h⟩ := h; exact pw_X0_tell h.1 h.2
  · exact h.elim
