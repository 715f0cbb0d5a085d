/-! op: tell (the model) -/
set_option maxRecDepth 100000
set_option maxHeartbeats 4000000
theorem J_tell {s l b i : Int32} {v : Int64} {x : St} (h : J x) : J (oTell s l b i v x).2 := by
  unfold oTell
  split
  · next c =>
    obtain ⟨⟨w, u, e, wk, n, ns, a', b', km, h1, h2, h3, h4, h5, h6, h7, h8, h9, g⟩, h2', h3', h4'⟩ := h
    obtain ⟨c1, c2, c3, c4⟩ := c
    obtain ⟨ms, es, hs, bs⟩ := a_of c1.1
    obtain ⟨ml, el, hl, bl⟩ := a_of c2.1
    refine ⟨⟨w, u, e, wk, n, ns, ms, ml, km, h1, h2, h3, h4, h5, h6, es, el, h9, ?_⟩, h2', h3', h4'⟩
    omega
  · exact h
def S_X5_tell : ma_Cs := fun as M L K => match as with
  | [.ref k, .int s, .int l, .int b, .int i, .long v] => ∃ (x : St), (k = 0 ∧ J x ∧ RY M L x) ∧ (∀ (M' : ZM) (L' : ZL), RY M' L' (oTell s l b i v x).2 → K (some (.int (oTell s l b i v x).1)) M' L')
  | _ => False
theorem ms_X5_tell : ma_ms S_X5_tell := by
  intro as M L K K' hk h
  unfold S_X5_tell at h ⊢
  split at h
  · obtain ⟨x, h⟩ := h
    exact ⟨x, h.1, fun x0 x1 x2 => hk _ _ _ (h.2 x0 x1 x2)⟩
  · exact h.elim
theorem un_X5_tell {k : Nat} {s : Int32} {l : Int32} {b : Int32} {i : Int32} {v : Int64} {M : ZM} {L : ZL} {K : ma_Kt} : S_X5_tell [.ref k, .int s, .int l, .int b, .int i, .long v] M L K = (∃ (x : St), (k = 0 ∧ J x ∧ RY M L x) ∧ (∀ (M' : ZM) (L' : ZL), RY M' L' (oTell s l b i v x).2 → K (some (.int (oTell s l b i v x).1)) M' L')) := rfl
theorem pw_X5_tell {k : Nat} {s : Int32} {l : Int32} {b : Int32} {i : Int32} {v : Int64} {x : St} {M : ZM} {L : ZL} {K : ma_Kt} (hp : k = 0 ∧ J x ∧ RY M L x) (h : (∀ (M' : ZM) (L' : ZL), RY M' L' (oTell s l b i v x).2 → K (some (.int (oTell s l b i v x).1)) M' L')) : ma_rn (tb_X5_tell S_X5_in S_X5_isLetter S_X5_clears) 8 [.ref k, .int s, .int l, .int b, .int i, .long v] M L K := by
  refine ⟨Nat.le_of_ble_eq_true rfl, fun V hV => ?_⟩
  obtain ⟨rfl, hJ, hR⟩ := hp
  obtain ⟨⟨c0, c1, c2, c3, c5, c19, c24, c25, c30⟩, ⟨a1, a2, a12, a13, a14, a15, a16, a17, a18, a19, a20⟩, r3, r4⟩ := id hR
  unfold oTell at h
  have no : ¬ cTell s l b i v x → K (some (.int (-1))) M L := fun z => by rw [if_neg z] at h; exact h M L hR
  have yes : cTell s l b i v x → ∀ (ix : Int32) (L1 : ZL), ix = (if b = 0 then i else 6 + i) → L1 = (if s = sN x 0 24 ∧ l = sN x 0 25 then L else fL L 17 12 2000000000000) → vp_in ix 12 ∧ K (some (.int 0)) (ma_up (ma_up M 0 24 s) 0 25 l) (ma_uL L1 17 ix.toNatClampNeg v) := by
    intro z ix L1 hx hL
    rw [if_pos z] at h
    refine ⟨by rw [hx]; exact tIx_v hJ z.2.2.1, h _ _ ⟨⟨c0, c1, c2, c3, c5, c19, rfl, rfl, c30⟩, ⟨a1, a2, a12, a13, a14, a15, a16, ?_, a18, a19, a20⟩, r3.to (by rfl) (fun a z1 z2 => by rw [up_c (by omega), up_c (by omega)]), r4.1, r4.2.to rfl rfl⟩⟩
    show _ = ma_uL (if s = sN x 0 24 ∧ l = sN x 0 25 then sP x else fL (sP x) 17 12 2000000000000) 17 (tIx b i) v 17
    rw [ma_uL_at, ma_uL_at, hL, hx]
    by_cases c : s = sN x 0 24 ∧ l = sN x 0 25
    · rw [if_pos c, if_pos c, a17]; rfl
    · rw [if_neg c, if_neg c, fL_at, fL_at, a17]; rfl
  have z0 : (0 : Int32) + i = i := Int32.zero_add i
  clear h hR r3 r4 a1 hJ
  refine ma_walk (mo_X5_tell ms_X5_in ms_X5_isLetter ms_X5_clears) hV [] (fun F hF => ?_)
  simp only [tb_X5_tell, hF, in_no, in_push, in_ild, in_lld, in_ald, in_ist, in_ast, in_lst, in_inc, in_iii, in_idv, in_ldv, in_lll, in_lli, in_lil, in_ii, in_il, in_li, in_ll, in_dup, in_dp2, q_if1, q_if2, in_go, in_sw, ma_sw, in_rv, in_ri, in_rz, in_rl, in_get, in_put, in_puz, in_iar, in_bar, in_lar, in_aar, in_iaw, in_baw, in_law, in_len, in_cpy, in_s1, in_s2, in_s3, in_v1, in_v2, in_v3, in_v4, in_v5, in_v6, ma_bk, ma_gl, ma_sl, ma_nl, ma_wc, ma_wd, ma_nn, ma_en, List.mem_cons, List.not_mem_nil, or_false, or_true, true_or, false_or, true_and, and_true, false_and, and_false, if_true, if_false, forall_const, true_implies, false_implies, not_true_eq_false, not_false_eq_true, Classical.not_not, implies_true, and_self, Nat.add_zero, Nat.zero_add, eq_self, ne_eq, reduceCtorEq, Nat.reduceLT, Nat.reduceLeDiff, Nat.reduceEqDiff, Nat.reduceSub, Nat.reduceAdd, i10, i01, im10, Int32.reduceLT, Int32.reduceLE, ↓reduceIte, reduceIte, up_r, uL_r, cp_r, Int32.toInt_toInt64, Int64.reduceToInt, Int32.reduceToInt, ↓b1_or, b1_0, b1_1, lc_lt, lc_le, lc_gt, lc_ge, lc_eq, ym_0, ym_1, ym_2, ym_3, ym_4, ym_5, ym_6, ym_7, ym_8, ym_9, ym_10, ym_11, ym_12, ym_13, ym_14, ym_15, ym_16, ym_17, ym_18, ym_19, ym_20, ym_21, ym_22, ym_23, ym_24, ym_25, ym_26, ym_27, ym_28, ym_29, ym_30, rm__0, rm__1, rm__2, rm__3, rm__4, rm__5, rm__6, rm__7, rm__8, rm__9, rm__10, rm__11, rm__12, rm__13, rm__14, rm__15, rm__16, rm__17, rm__18, rm__19, rm__20, rm__21, rm__22, rm__23, rm__24, rm__25, rm__26, rm__27, rm__28, rm__29, rm__30, rm__31, rm__32, rm__33, rm__34, rm__35, rm__36, rm__37, rm__38, rm__39, rm__40, rm__41, rm__42, rm__43, rm__44, rm__45, un_X5_in, un_X5_isLetter, un_X5_clears, c0, c1, c24, c25, z0]
  try simp only [iteP, Classical.not_not, b1_0, b1_1]
  clear hF
  repeat' ((first | apply br_n | apply br_c) <;> intro _)
  all_goals first
    | exact no (by unfold cTell; omega)
    | exact no (by unfold cTell; grind)
    | exact no (fun q => by unfold cTell at q; simp_all)
    | exact yes (by unfold cTell; grind) _ _ (by grind) (by grind)
theorem pv_X5_tell : ∀ as M L K, S_X5_tell as M L K → ma_rn (tb_X5_tell S_X5_in S_X5_isLetter S_X5_clears) 8 as M L K := by
  intro as M L K h
  unfold S_X5_tell at h
  split at h
  · obtain ⟨x, h⟩ := h; exact pw_X5_tell h.1 h.2
  · exact h.elim
