/-! the model's reading: byteAt, number, name -/
set_option maxRecDepth 100000
set_option maxHeartbeats 4000000
def Ty (M : ZM) (g : Nat → Nat) (n : Nat) : Prop := M 0 5 = nI n ∧ n ≤ 160 ∧ (∀ i, i < n → M 2 i = nI (g i)) ∧ (∀ i, g i < 256) ∧ (∀ i, n ≤ i → g i = 0)
theorem Ty.to {M M' : ZM} {g : Nat → Nat} {n : Nat} (h : Ty M g n) (h0 : M' 0 5 = M 0 5) (h1 : M' 2 = M 2) : Ty M' g n := by
  unfold Ty; rw [h0, h1]; exact h
def byY (g : Nat → Nat) (n p : Nat) : Int32 := if p < n then nI (g p) else -1
theorem by_ti {g : Nat → Nat} {n p : Nat} (h6 : ∀ i, g i < 256) : (byY g n p).toInt = if p < n then (g p : Int) else -1 := by
  unfold byY
  split
  · exact a_ti (by have := h6 p; omega)
  · rfl
theorem byq {g : Nat → Nat} {n : Nat} (h6 : ∀ i, g i < 256) (h7 : ∀ i, n ≤ i → g i = 0) {p c : Nat} (h0 : 0 < c) (hc : c < 256) : (byY g n p = nI c) = (g p = c) := by
  unfold byY
  by_cases e : p < n
  · rw [if_pos e]; exact a_eq (by have := h6 p; omega) (by omega)
  · rw [if_neg e]
    have e2 := h7 p (by omega)
    refine propext ⟨fun z => ?_, fun z => by omega⟩
    have z2 : (-1 : Int32).toInt = (nI c).toInt := by rw [z]
    rw [a_ti (by omega)] at z2
    have z3 : (-1 : Int32).toInt = -1 := rfl
    omega
theorem by_dg {g : Nat → Nat} {n : Nat} (h6 : ∀ i, g i < 256) (h7 : ∀ i, n ≤ i → g i = 0) {p : Nat} : (48 ≤ (byY g n p).toInt ∧ (byY g n p).toInt ≤ 57) = (48 ≤ g p ∧ g p ≤ 57) := by
  rw [by_ti h6]
  by_cases e : p < n
  · rw [if_pos e]; exact propext (by omega)
  · rw [if_neg e]; have := h7 p (by omega); exact propext (by omega)
theorem by_in {g : Nat → Nat} {n p : Nat} (h7 : ∀ i, n ≤ i → g i = 0) (h : g p ≠ 0) : byY g n p = nI (g p) := if_pos (Nat.lt_of_not_le fun e => h (h7 p e))
theorem by_l {g : Nat → Nat} {n : Nat} (h6 : ∀ i, g i < 256) (h7 : ∀ i, n ≤ i → g i = 0) {p : Nat} : (0 ≤ (byY g n p - 97).toInt ∧ (byY g n p - 97).toInt ≤ 3) = (97 ≤ g p ∧ g p ≤ 100) := by
  have e : ∀ b : Fin 256, (0 ≤ (nI b.val - 97).toInt ∧ (nI b.val - 97).toInt ≤ 3) ↔ (97 ≤ b.val ∧ b.val ≤ 100) := by decide +kernel
  unfold byY
  by_cases c : p < n
  · rw [if_pos c]; exact propext (e ⟨g p, h6 p⟩)
  · rw [if_neg c]; have := h7 p (by omega)
    refine propext ⟨fun z => absurd z (by decide), fun z => by omega⟩
def S_X5_byteAt : ma_Cs := fun as M L K => match as with
  | [.ref k, .int x] => ∃ (g : Nat → Nat) (n : Nat) (p : Nat), (k = 0 ∧ Ty M g n ∧ x = nI p ∧ p < 100000) ∧ (K (some (.int (byY g n p))) M L)
  | _ => False
theorem ms_X5_byteAt : ma_ms S_X5_byteAt := by
  intro as M L K K' hk h
  unfold S_X5_byteAt at h ⊢
  split at h
  · obtain ⟨g, n, p, h⟩ := h
    exact ⟨g, n, p, h.1, hk _ _ _ h.2⟩
  · exact h.elim
theorem un_X5_byteAt {k : Nat} {x : Int32} {M : ZM} {L : ZL} {K : ma_Kt} : S_X5_byteAt [.ref k, .int x] M L K = (∃ (g : Nat → Nat) (n : Nat) (p : Nat), (k = 0 ∧ Ty M g n ∧ x = nI p ∧ p < 100000) ∧ (K (some (.int (byY g n p))) M L)) := rfl
theorem pw_X5_byteAt {k : Nat} {x : Int32} {g : Nat → Nat} {n : Nat} {p : Nat} {M : ZM} {L : ZL} {K : ma_Kt} (hp : k = 0 ∧ Ty M g n ∧ x = nI p ∧ p < 100000) (h : (K (some (.int (byY g n p))) M L)) : ma_rn tb_X5_byteAt 2 [.ref k, .int x] M L K := by
  refine ⟨Nat.le_of_ble_eq_true rfl, fun V hV => ?_⟩
  obtain ⟨rfl, ⟨h1, h2, h3, h4, h5⟩, rfl, h6⟩ := hp
  refine ma_walk mo_X5_byteAt hV [] (fun F hF => ?_)
  simp only [tb_X5_byteAt, hF, in_no, in_push, in_ild, in_lld, in_ald, in_ist, in_ast, in_lst, in_inc, in_iii, in_idv, in_ldv, in_lll, in_lli, in_lil, in_ii, in_il, in_li, in_ll, in_dup, in_dp2, q_if1, q_if2, in_go, in_sw, ma_sw, in_rv, in_ri, in_rz, in_rl, in_get, in_put, in_puz, in_iar, in_bar, in_lar, in_aar, in_iaw, in_baw, in_law, in_len, in_cpy, in_s1, in_s2, in_s3, in_v1, in_v2, in_v3, in_v4, in_v5, in_v6, ma_bk, ma_gl, ma_sl, ma_nl, ma_wc, ma_wd, ma_nn, ma_en, List.mem_cons, List.not_mem_nil, or_false, or_true, true_or, false_or, true_and, and_true, false_and, and_false, if_true, if_false, forall_const, true_implies, false_implies, not_true_eq_false, not_false_eq_true, Classical.not_not, implies_true, and_self, Nat.add_zero, Nat.zero_add, eq_self, ne_eq, reduceCtorEq, Nat.reduceLT, Nat.reduceLeDiff, Nat.reduceEqDiff, Nat.reduceSub, Nat.reduceAdd, i10, i01, im10, Int32.reduceLT, Int32.reduceLE, ↓reduceIte, reduceIte, up_r, uL_r, cp_r, Int32.toInt_toInt64, Int64.reduceToInt, Int32.reduceToInt, ↓b1_or, b1_0, b1_1, lc_lt, lc_le, lc_gt, lc_ge, lc_eq, ym_0, ym_1, ym_2, ym_3, ym_4, ym_5, ym_6, ym_7, ym_8, ym_9, ym_10, ym_11, ym_12, ym_13, ym_14, ym_15, ym_16, ym_17, ym_18, ym_19, ym_20, ym_21, ym_22, ym_23, ym_24, ym_25, ym_26, ym_27, ym_28, ym_29, ym_30, rm__0, rm__1, rm__2, rm__3, rm__4, rm__5, rm__6, rm__7, rm__8, rm__9, rm__10, rm__11, rm__12, rm__13, rm__14, rm__15, rm__16, rm__17, rm__18, rm__19, rm__20, rm__21, rm__22, rm__23, rm__24, rm__25, rm__26, rm__27, rm__28, rm__29, rm__30, rm__31, rm__32, rm__33, rm__34, rm__35, rm__36, rm__37, rm__38, rm__39, rm__40, rm__41, rm__42, rm__43, rm__44, rm__45, h1]
  try simp only [iteP, Classical.not_not]
  simp (disch := omega) only [a_le, a_vi, a_cl]
  unfold byY at h
  refine ⟨fun c => ?_, fun c => ⟨by omega, ?_⟩⟩
  · rw [if_neg (by omega)] at h; exact h
  · rw [if_pos (by omega)] at h; rw [h3 p (by omega)]; exact h
theorem pv_X5_byteAt : ∀ as M L K, S_X5_byteAt as M L K → ma_rn tb_X5_byteAt 2 as M L K := by
  intro as M L K h
  unfold S_X5_byteAt at h
  split at h
  · obtain ⟨g, n, p, h⟩ := h; exact pw_X5_byteAt h.1 h.2
  · exact h.elim
def S_X5_number : ma_Cs := fun as M L K => match as with
  | [.ref k, .int o] => ∃ (g : Nat → Nat) (n : Nat) (p : Nat) (w : Nat), (k = 0 ∧ Ty M g n ∧ M 0 32 = nI p ∧ p ≤ n ∧ o = nI w ∧ w < 2000 ∧ M 0 33 = -1) ∧ (¬ (48 ≤ g p ∧ g p ≤ 57) → K (some (.int 0)) M L) ∧ (((48 ≤ g p ∧ g p ≤ 57) ∧ ¬ g p = 48 ∧ (nu g 200 p 0).2 ≤ w) → K (some (.int (nI (nu g 200 p 0).2))) (ma_up M 0 32 (nI (nu g 200 p 0).1)) L) ∧ (∀ v : Int32, ((48 ≤ g p ∧ g p ≤ 57) ∧ ¬ (¬ g p = 48 ∧ (nu g 200 p 0).2 ≤ w)) → K (some (.int v)) (ma_up (ma_up M 0 32 (nI (nu g 200 p 0).1)) 0 33 (nI p)) L)
  | _ => False
theorem ms_X5_number : ma_ms S_X5_number := by
  intro as M L K K' hk h
  unfold S_X5_number at h ⊢
  split at h
  · obtain ⟨g, n, p, w, h⟩ := h
    exact ⟨g, n, p, w, h.1, fun x0 => hk _ _ _ (h.2.1 x0), fun x0 => hk _ _ _ (h.2.2.1 x0), fun x0 x1 => hk _ _ _ (h.2.2.2 x0 x1)⟩
  · exact h.elim
theorem un_X5_number {k : Nat} {o : Int32} {M : ZM} {L : ZL} {K : ma_Kt} : S_X5_number [.ref k, .int o] M L K = (∃ (g : Nat → Nat) (n : Nat) (p : Nat) (w : Nat), (k = 0 ∧ Ty M g n ∧ M 0 32 = nI p ∧ p ≤ n ∧ o = nI w ∧ w < 2000 ∧ M 0 33 = -1) ∧ (¬ (48 ≤ g p ∧ g p ≤ 57) → K (some (.int 0)) M L) ∧ (((48 ≤ g p ∧ g p ≤ 57) ∧ ¬ g p = 48 ∧ (nu g 200 p 0).2 ≤ w) → K (some (.int (nI (nu g 200 p 0).2))) (ma_up M 0 32 (nI (nu g 200 p 0).1)) L) ∧ (∀ v : Int32, ((48 ≤ g p ∧ g p ≤ 57) ∧ ¬ (¬ g p = 48 ∧ (nu g 200 p 0).2 ≤ w)) → K (some (.int v)) (ma_up (ma_up M 0 32 (nI (nu g 200 p 0).1)) 0 33 (nI p)) L)) := rfl
theorem pw_X5_number {k : Nat} {o : Int32} {g : Nat → Nat} {n : Nat} {p : Nat} {w : Nat} {M : ZM} {L : ZL} {K : ma_Kt} (hp : k = 0 ∧ Ty M g n ∧ M 0 32 = nI p ∧ p ≤ n ∧ o = nI w ∧ w < 2000 ∧ M 0 33 = -1) (h : (¬ (48 ≤ g p ∧ g p ≤ 57) → K (some (.int 0)) M L) ∧ (((48 ≤ g p ∧ g p ≤ 57) ∧ ¬ g p = 48 ∧ (nu g 200 p 0).2 ≤ w) → K (some (.int (nI (nu g 200 p 0).2))) (ma_up M 0 32 (nI (nu g 200 p 0).1)) L) ∧ (∀ v : Int32, ((48 ≤ g p ∧ g p ≤ 57) ∧ ¬ (¬ g p = 48 ∧ (nu g 200 p 0).2 ≤ w)) → K (some (.int v)) (ma_up (ma_up M 0 32 (nI (nu g 200 p 0).1)) 0 33 (nI p)) L)) : ma_rn (tb_X5_number S_X5_byteAt S_X5_in S_X5_fails) 4 [.ref k, .int o] M L K := by
  refine ⟨Nat.le_of_ble_eq_true rfl, fun V hV => ?_⟩
  obtain ⟨rfl, h1, h2, h3, rfl, h4, h5⟩ := hp
  obtain ⟨k1, k4, k5, k6, k7⟩ := id h1
  have lp : ∀ m f q v, n - q = m → p ≤ q → q ≤ n → f + q = 200 + p → v < 2000000 → nu g f q (min v 100000) = nu g 200 p 0 → (p < q → (48 ≤ g p ∧ g p ≤ 57)) → (p = q → v = 0) →
      V 7 [some (.ref 0), some (.int (nI w)), some (.int (nI p)), some (.int (nI v))] [] (ma_up M 0 32 (nI q)) L := by
    intro m
    induction m using Nat.strongRecOn with
    | ind m ih =>
      intro f q v e1 e2 e3 e4 e5 e6 e7 e8
      obtain ⟨f, rfl⟩ : ∃ f', f = f' + 1 := ⟨f - 1, by omega⟩
      rw [nu] at e6
      refine ma_walk (mo_X5_number ms_X5_byteAt ms_X5_in ms_X5_fails) hV [7] (fun F hF => ?_)
      simp only [tb_X5_number, hF, in_no, in_push, in_ild, in_lld, in_ald, in_ist, in_ast, in_lst, in_inc, in_iii, in_idv, in_ldv, in_lll, in_lli, in_lil, in_ii, in_il, in_li, in_ll, in_dup, in_dp2, q_if1, q_if2, in_go, in_sw, ma_sw, in_rv, in_ri, in_rz, in_rl, in_get, in_put, in_puz, in_iar, in_bar, in_lar, in_aar, in_iaw, in_baw, in_law, in_len, in_cpy, in_s1, in_s2, in_s3, in_v1, in_v2, in_v3, in_v4, in_v5, in_v6, ma_bk, ma_gl, ma_sl, ma_nl, ma_wc, ma_wd, ma_nn, ma_en, List.mem_cons, List.not_mem_nil, or_false, or_true, true_or, false_or, true_and, and_true, false_and, and_false, if_true, if_false, forall_const, true_implies, false_implies, not_true_eq_false, not_false_eq_true, Classical.not_not, implies_true, and_self, Nat.add_zero, Nat.zero_add, eq_self, ne_eq, reduceCtorEq, Nat.reduceLT, Nat.reduceLeDiff, Nat.reduceEqDiff, Nat.reduceSub, Nat.reduceAdd, i10, i01, im10, Int32.reduceLT, Int32.reduceLE, ↓reduceIte, reduceIte, up_r, uL_r, cp_r, Int32.toInt_toInt64, Int64.reduceToInt, Int32.reduceToInt, ↓b1_or, b1_0, b1_1, lc_lt, lc_le, lc_gt, lc_ge, lc_eq, ym_0, ym_1, ym_2, ym_3, ym_4, ym_5, ym_6, ym_7, ym_8, ym_9, ym_10, ym_11, ym_12, ym_13, ym_14, ym_15, ym_16, ym_17, ym_18, ym_19, ym_20, ym_21, ym_22, ym_23, ym_24, ym_25, ym_26, ym_27, ym_28, ym_29, ym_30, rm__0, rm__1, rm__2, rm__3, rm__4, rm__5, rm__6, rm__7, rm__8, rm__9, rm__10, rm__11, rm__12, rm__13, rm__14, rm__15, rm__16, rm__17, rm__18, rm__19, rm__20, rm__21, rm__22, rm__23, rm__24, rm__25, rm__26, rm__27, rm__28, rm__29, rm__30, rm__31, rm__32, rm__33, rm__34, rm__35, rm__36, rm__37, rm__38, rm__39, rm__40, rm__41, rm__42, rm__43, rm__44, rm__45, un_X5_byteAt, un_X5_in, un_X5_fails, h5]
      try simp only [iteP, Classical.not_not]
      refine ⟨g, n, q, ⟨h1.to rfl rfl, rfl, by omega⟩, ?_⟩
      rw [by_dg k6 k7]
      simp (disch := omega) only [a_le, a_lit, nI_1, nI_add, up_up]
      refine ⟨fun c => ?_, fun c => ?_⟩
      · rw [if_neg c] at e6
        rw [← e6] at h
        dsimp only at h
        refine ⟨fun c1 => ?_, fun c1 => ?_⟩
        · have e9 : q = p := by omega
          rw [e8 e9.symm, e9, up_s h2]
          exact h.1 (by rw [← e9]; exact c)
        · refine ⟨g, n, p, ⟨h1.to rfl rfl, rfl, by omega⟩, ?_⟩
          rw [byq k6 k7 (by omega) (by omega)]
          have e9 := e7 (by omega)
          refine ⟨fun c2 => h.2.2 _ ⟨e9, fun z => z.1 c2⟩, fun c2 => ⟨fun c3 => ?_, fun c3 => h.2.2 _ ⟨e9, fun z => by omega⟩⟩⟩
          have q9 := h.2.1 ⟨e9, c2, by omega⟩
          rw [Nat.min_eq_left (by omega)] at q9; exact q9
      · rw [if_pos c] at e6
        have z0 := k6 q
        have z : q < n := Nat.lt_of_not_le fun e => by have := k7 q e; omega
        have e9 : 48 ≤ g p ∧ g p ≤ 57 := by
          by_cases e9 : p = q
          · rw [e9]; exact c
          · exact e7 (by omega)
        refine ⟨fun c1 => ?_, fun c1 => ?_⟩
        · refine ih (n - (q + 1)) (by omega) f (q + 1) v rfl (by omega) (by omega) (by omega) e5 (by rw [← e6]; congr 1; omega) (fun _ => e9) (by omega)
        · refine ⟨g, n, q, ⟨h1.to rfl rfl, rfl, by omega⟩, ?_⟩
          rw [by_in k7 (by omega)]
          simp (disch := omega) only [pk_mul, nI_add, pk_sub]
          refine ih (n - (q + 1)) (by omega) f (q + 1) (10 * v + g q - 48) rfl (by omega) (by omega) (by omega) (by omega) (by rw [← e6]; congr 1; omega) (fun _ => e9) (by omega)
  refine ma_walk (mo_X5_number ms_X5_byteAt ms_X5_in ms_X5_fails) hV [7] (fun F hF => ?_)
  simp only [tb_X5_number, hF, in_no, in_push, in_ild, in_lld, in_ald, in_ist, in_ast, in_lst, in_inc, in_iii, in_idv, in_ldv, in_lll, in_lli, in_lil, in_ii, in_il, in_li, in_ll, in_dup, in_dp2, q_if1, q_if2, in_go, in_sw, ma_sw, in_rv, in_ri, in_rz, in_rl, in_get, in_put, in_puz, in_iar, in_bar, in_lar, in_aar, in_iaw, in_baw, in_law, in_len, in_cpy, in_s1, in_s2, in_s3, in_v1, in_v2, in_v3, in_v4, in_v5, in_v6, ma_bk, ma_gl, ma_sl, ma_nl, ma_wc, ma_wd, ma_nn, ma_en, List.mem_cons, List.not_mem_nil, or_false, or_true, true_or, false_or, true_and, and_true, false_and, and_false, if_true, if_false, forall_const, true_implies, false_implies, not_true_eq_false, not_false_eq_true, Classical.not_not, implies_true, and_self, Nat.add_zero, Nat.zero_add, eq_self, ne_eq, reduceCtorEq, Nat.reduceLT, Nat.reduceLeDiff, Nat.reduceEqDiff, Nat.reduceSub, Nat.reduceAdd, i10, i01, im10, Int32.reduceLT, Int32.reduceLE, ↓reduceIte, reduceIte, up_r, uL_r, cp_r, Int32.toInt_toInt64, Int64.reduceToInt, Int32.reduceToInt, ↓b1_or, b1_0, b1_1, lc_lt, lc_le, lc_gt, lc_ge, lc_eq, ym_0, ym_1, ym_2, ym_3, ym_4, ym_5, ym_6, ym_7, ym_8, ym_9, ym_10, ym_11, ym_12, ym_13, ym_14, ym_15, ym_16, ym_17, ym_18, ym_19, ym_20, ym_21, ym_22, ym_23, ym_24, ym_25, ym_26, ym_27, ym_28, ym_29, ym_30, rm__0, rm__1, rm__2, rm__3, rm__4, rm__5, rm__6, rm__7, rm__8, rm__9, rm__10, rm__11, rm__12, rm__13, rm__14, rm__15, rm__16, rm__17, rm__18, rm__19, rm__20, rm__21, rm__22, rm__23, rm__24, rm__25, rm__26, rm__27, rm__28, rm__29, rm__30, rm__31, rm__32, rm__33, rm__34, rm__35, rm__36, rm__37, rm__38, rm__39, rm__40, rm__41, rm__42, rm__43, rm__44, rm__45, un_X5_byteAt, un_X5_in, un_X5_fails]
  try simp only [iteP, Classical.not_not]
  have q := lp (n - p) 200 p 0 rfl (Nat.le_refl p) h3 rfl (by omega) rfl (by omega) (fun _ => rfl)
  rw [up_s h2] at q
  rw [h2]; exact q
theorem pv_X5_number : ∀ as M L K, S_X5_number as M L K → ma_rn (tb_X5_number S_X5_byteAt S_X5_in S_X5_fails) 4 as M L K := by
  intro as M L K h
  unfold S_X5_number at h
  split at h
  · obtain ⟨g, n, p, w, h⟩ := h; exact pw_X5_number h.1 h.2
  · exact h.elim
/-- the lines read so far, of letters ds, in the model -/
def Dy (M : ZM) (ds : List Nat) : Prop := M 0 8 = nI ds.length ∧ ds.length ≤ 4 ∧ ∀ i, i < ds.length → M 3 (4 + i) = nI (ds.getD i 0) ∧ ds.getD i 0 < 4
theorem Dy.to {M M' : ZM} {ds : List Nat} (h : Dy M ds) (h0 : M' 0 8 = M 0 8) (h3 : M' 3 = M 3) : Dy M' ds := by
  unfold Dy; rw [h0, h3]; exact h
theorem Dy.mem {M : ZM} {ds : List Nat} (h : Dy M ds) {l : Nat} (hl : l < 4) {k : Nat} : (∃ i, i < k ∧ k ≤ ds.length ∧ M 3 (4 + i) = nI l) → l ∈ ds := by
  intro ⟨i, h1, h2, h3⟩
  have hi : i < ds.length := by omega
  have h4 := h.2.2 i hi
  rw [h4.1, a_eq (by omega) (by omega), gd hi] at h3
  rw [← h3]; exact List.getElem_mem hi
theorem Dy.mem2 {M : ZM} {ds : List Nat} (h : Dy M ds) {l : Nat} (hl : l < 4) : (∃ i, i < ds.length ∧ M 3 (4 + i) = nI l) ↔ l ∈ ds := by
  refine ⟨fun ⟨i, h1, h2⟩ => h.mem hl ⟨i, h1, Nat.le_refl _, h2⟩, fun m => ?_⟩
  obtain ⟨i, hi, e⟩ := List.getElem_of_mem m
  exact ⟨i, hi, by rw [(h.2.2 i hi).1, gd hi, e]⟩
def S_X5_name : ma_Cs := fun as M L K => match as with
  | [.ref k] => ∃ (g : Nat → Nat) (n : Nat) (p : Nat) (ds : List Nat), (k = 0 ∧ Ty M g n ∧ M 0 32 = nI p ∧ p ≤ n ∧ M 0 33 = -1 ∧ Dy M ds) ∧ (∀ (q c : Nat), nm g ds p = some (q, c) → K (some (.int (nI c))) (ma_up M 0 32 (nI q)) L) ∧ (∀ (M' : ZM) (v : Int32), nm g ds p = none → (∀ a, a ≠ 0 → M' a = M a) → (∀ j, j ≠ 32 → j ≠ 33 → M' 0 j = M 0 j) → M' 0 33 = nI p → K (some (.int v)) M' L)
  | _ => False
theorem ms_X5_name : ma_ms S_X5_name := by
  intro as M L K K' hk h
  unfold S_X5_name at h ⊢
  split at h
  · obtain ⟨g, n, p, ds, h⟩ := h
    exact ⟨g, n, p, ds, h.1, fun x0 x1 x2 => hk _ _ _ (h.2.1 x0 x1 x2), fun x0 x1 x2 x3 x4 x5 => hk _ _ _ (h.2.2 x0 x1 x2 x3 x4 x5)⟩
  · exact h.elim
theorem un_X5_name {k : Nat} {M : ZM} {L : ZL} {K : ma_Kt} : S_X5_name [.ref k] M L K = (∃ (g : Nat → Nat) (n : Nat) (p : Nat) (ds : List Nat), (k = 0 ∧ Ty M g n ∧ M 0 32 = nI p ∧ p ≤ n ∧ M 0 33 = -1 ∧ Dy M ds) ∧ (∀ (q c : Nat), nm g ds p = some (q, c) → K (some (.int (nI c))) (ma_up M 0 32 (nI q)) L) ∧ (∀ (M' : ZM) (v : Int32), nm g ds p = none → (∀ a, a ≠ 0 → M' a = M a) → (∀ j, j ≠ 32 → j ≠ 33 → M' 0 j = M 0 j) → M' 0 33 = nI p → K (some (.int v)) M' L)) := rfl
theorem pw_X5_name {k : Nat} {g : Nat → Nat} {n : Nat} {p : Nat} {ds : List Nat} {M : ZM} {L : ZL} {K : ma_Kt} (hp : k = 0 ∧ Ty M g n ∧ M 0 32 = nI p ∧ p ≤ n ∧ M 0 33 = -1 ∧ Dy M ds) (h : (∀ (q c : Nat), nm g ds p = some (q, c) → K (some (.int (nI c))) (ma_up M 0 32 (nI q)) L) ∧ (∀ (M' : ZM) (v : Int32), nm g ds p = none → (∀ a, a ≠ 0 → M' a = M a) → (∀ j, j ≠ 32 → j ≠ 33 → M' 0 j = M 0 j) → M' 0 33 = nI p → K (some (.int v)) M' L)) : ma_rn (tb_X5_name S_X5_byteAt S_X5_isLetter S_X5_fails) 7 [.ref k] M L K := by
  refine ⟨Nat.le_of_ble_eq_true rfl, fun V hV => ?_⟩
  obtain ⟨rfl, h1, h2, h3, h4, h5⟩ := hp
  obtain ⟨k1, k4, k5, k6, k7⟩ := id h1
  have h134 : ∀ j, j ≤ ds.length → (97 ≤ g p ∧ g p ≤ 100) → g (nq g p) = 39 → V 134 [some (.ref 0), some (.int (nI p)), some (.int (nI (g p - 97))), some (.int (byY g n (p + 1))), some (.int (nI (wd (g (p + 1))))), some (.int (b1 (∃ i, i < j ∧ M 3 (4 + i) = nI (g p - 97)))), some (.int (nI j))] [] (ma_up M 0 32 (nI (nq g p))) L := by
    refine lp_up ?_ ?_
    · intro c c1
      have e3 := wd_le (g (p + 1))
      have e4 := h5.2.1
      refine ma_walk (mo_X5_name ms_X5_byteAt ms_X5_isLetter ms_X5_fails) hV [134] (fun F hF => ?_)
      simp only [tb_X5_name, hF, in_no, in_push, in_ild, in_lld, in_ald, in_ist, in_ast, in_lst, in_inc, in_iii, in_idv, in_ldv, in_lll, in_lli, in_lil, in_ii, in_il, in_li, in_ll, in_dup, in_dp2, q_if1, q_if2, in_go, in_sw, ma_sw, in_rv, in_ri, in_rz, in_rl, in_get, in_put, in_puz, in_iar, in_bar, in_lar, in_aar, in_iaw, in_baw, in_law, in_len, in_cpy, in_s1, in_s2, in_s3, in_v1, in_v2, in_v3, in_v4, in_v5, in_v6, ma_bk, ma_gl, ma_sl, ma_nl, ma_wc, ma_wd, ma_nn, ma_en, List.mem_cons, List.not_mem_nil, or_false, or_true, true_or, false_or, true_and, and_true, false_and, and_false, if_true, if_false, forall_const, true_implies, false_implies, not_true_eq_false, not_false_eq_true, Classical.not_not, implies_true, and_self, Nat.add_zero, Nat.zero_add, eq_self, ne_eq, reduceCtorEq, Nat.reduceLT, Nat.reduceLeDiff, Nat.reduceEqDiff, Nat.reduceSub, Nat.reduceAdd, i10, i01, im10, Int32.reduceLT, Int32.reduceLE, ↓reduceIte, reduceIte, up_r, uL_r, cp_r, Int32.toInt_toInt64, Int64.reduceToInt, Int32.reduceToInt, ↓b1_or, b1_0, b1_1, lc_lt, lc_le, lc_gt, lc_ge, lc_eq, ym_0, ym_1, ym_2, ym_3, ym_4, ym_5, ym_6, ym_7, ym_8, ym_9, ym_10, ym_11, ym_12, ym_13, ym_14, ym_15, ym_16, ym_17, ym_18, ym_19, ym_20, ym_21, ym_22, ym_23, ym_24, ym_25, ym_26, ym_27, ym_28, ym_29, ym_30, rm__0, rm__1, rm__2, rm__3, rm__4, rm__5, rm__6, rm__7, rm__8, rm__9, rm__10, rm__11, rm__12, rm__13, rm__14, rm__15, rm__16, rm__17, rm__18, rm__19, rm__20, rm__21, rm__22, rm__23, rm__24, rm__25, rm__26, rm__27, rm__28, rm__29, rm__30, rm__31, rm__32, rm__33, rm__34, rm__35, rm__36, rm__37, rm__38, rm__39, rm__40, rm__41, rm__42, rm__43, rm__44, rm__45, un_X5_byteAt, un_X5_isLetter, un_X5_fails, h5.1, h4]
      try simp only [iteP, Classical.not_not]
      simp (disch := omega) only [a_le, a_0lt, h5.mem2 (show g p - 97 < 4 by omega), nI_1, up_up]
      have no : nm g ds p = none → K (some (Value.int (nI (g p - 97) + 4 * 5))) (ma_up (ma_up (ma_up M 0 32 (nI (nq g p))) 0 33 (nI p)) 0 32 (nI (nq g p + 1))) L := by
        intro z
        exact h.2 _ _ z (fun a ha => by simp only [up_c ha]) (fun j z2 z3 => by simp only [up_r, z2, z3, and_false, if_false]) rfl
      refine ⟨fun _ => ⟨fun c2 => ?_, fun c2 => ⟨fun c3 => ?_, fun c3 => ?_⟩⟩, fun z => absurd (Nat.le_refl _) z⟩
      · exact no (by unfold nm; rw [if_pos c, if_pos c1, if_neg (by omega)])
      · exact no (by unfold nm; rw [if_pos c, if_pos c1, if_neg (fun z => c3 z.2)])
      · refine ki (h.1 (nq g p + 1) (g p - 97 + 20) (by unfold nm; rw [if_pos c, if_pos c1, if_pos ⟨by omega, c3⟩])) ?_ rfl rfl
        exact nI_add _ 20
    · intro j hj ih c c1
      have ih := ih c c1
      have e4 := h5.2.1
      refine ma_walk (mo_X5_name ms_X5_byteAt ms_X5_isLetter ms_X5_fails) hV [134] (fun F hF => ?_)
      simp only [tb_X5_name, hF, in_no, in_push, in_ild, in_lld, in_ald, in_ist, in_ast, in_lst, in_inc, in_iii, in_idv, in_ldv, in_lll, in_lli, in_lil, in_ii, in_il, in_li, in_ll, in_dup, in_dp2, q_if1, q_if2, in_go, in_sw, ma_sw, in_rv, in_ri, in_rz, in_rl, in_get, in_put, in_puz, in_iar, in_bar, in_lar, in_aar, in_iaw, in_baw, in_law, in_len, in_cpy, in_s1, in_s2, in_s3, in_v1, in_v2, in_v3, in_v4, in_v5, in_v6, ma_bk, ma_gl, ma_sl, ma_nl, ma_wc, ma_wd, ma_nn, ma_en, List.mem_cons, List.not_mem_nil, or_false, or_true, true_or, false_or, true_and, and_true, false_and, and_false, if_true, if_false, forall_const, true_implies, false_implies, not_true_eq_false, not_false_eq_true, Classical.not_not, implies_true, and_self, Nat.add_zero, Nat.zero_add, eq_self, ne_eq, reduceCtorEq, Nat.reduceLT, Nat.reduceLeDiff, Nat.reduceEqDiff, Nat.reduceSub, Nat.reduceAdd, i10, i01, im10, Int32.reduceLT, Int32.reduceLE, ↓reduceIte, reduceIte, up_r, uL_r, cp_r, Int32.toInt_toInt64, Int64.reduceToInt, Int32.reduceToInt, ↓b1_or, b1_0, b1_1, lc_lt, lc_le, lc_gt, lc_ge, lc_eq, ym_0, ym_1, ym_2, ym_3, ym_4, ym_5, ym_6, ym_7, ym_8, ym_9, ym_10, ym_11, ym_12, ym_13, ym_14, ym_15, ym_16, ym_17, ym_18, ym_19, ym_20, ym_21, ym_22, ym_23, ym_24, ym_25, ym_26, ym_27, ym_28, ym_29, ym_30, rm__0, rm__1, rm__2, rm__3, rm__4, rm__5, rm__6, rm__7, rm__8, rm__9, rm__10, rm__11, rm__12, rm__13, rm__14, rm__15, rm__16, rm__17, rm__18, rm__19, rm__20, rm__21, rm__22, rm__23, rm__24, rm__25, rm__26, rm__27, rm__28, rm__29, rm__30, rm__31, rm__32, rm__33, rm__34, rm__35, rm__36, rm__37, rm__38, rm__39, rm__40, rm__41, rm__42, rm__43, rm__44, rm__45, un_X5_byteAt, un_X5_isLetter, un_X5_fails, h5.1]
      try simp only [iteP, Classical.not_not]
      simp (disch := omega) only [a_le, a_lit, nI_add, a_vi, a_cl]
      refine ⟨fun c2 => absurd c2 (by omega), fun _ => ⟨fun c2 => ⟨by omega, fun c3 => ?_, fun c3 => ?_⟩, fun c2 => ?_⟩⟩
      · rw [b1_t ⟨j, by omega, c3⟩] at ih; exact ih
      · rw [b1_f] at ih
        · exact ih
        · intro ⟨i, z1, z2⟩
          by_cases z3 : i = j
          · rw [z3] at z2; exact c3 z2
          · exact c2 ⟨i, by omega, z2⟩
      · obtain ⟨i, z1, z2⟩ := c2
        rw [b1_t ⟨i, by omega, z2⟩] at ih; exact ih
  have h94 : (97 ≤ g p ∧ g p ≤ 100) → V 94 [some (.ref 0), some (.int (nI p)), some (.int (nI (g p - 97))), some (.int (byY g n (p + 1))), none, none, none] [.int (nI (wd (g (p + 1))))] (ma_up M 0 32 (nI (p + 1))) L := by
    intro c
    have e3 := wd_le (g (p + 1))
    have h134 := h134 0 (Nat.zero_le _) c
    rw [b1_f (fun z => by obtain ⟨i, z1, _⟩ := z; omega)] at h134
    have e5 : nq g p = if wd (g (p + 1)) = 0 then p + 1 else p + 2 := rfl
    have no : ¬ g (nq g p) = 39 → K (some (Value.int (nI (g p - 97) + 4 * nI (wd (g (p + 1)))))) (ma_up M 0 32 (nI (nq g p))) L := by
      intro z
      refine ki (h.1 (nq g p) (g p - 97 + 4 * wd (g (p + 1))) (by unfold nm; rw [if_pos c, if_neg z])) ?_ rfl rfl
      simp only [a_lit, pk_mul, nI_add]
    refine ma_walk (mo_X5_name ms_X5_byteAt ms_X5_isLetter ms_X5_fails) hV [134] (fun F hF => ?_)
    simp only [tb_X5_name, hF, in_no, in_push, in_ild, in_lld, in_ald, in_ist, in_ast, in_lst, in_inc, in_iii, in_idv, in_ldv, in_lll, in_lli, in_lil, in_ii, in_il, in_li, in_ll, in_dup, in_dp2, q_if1, q_if2, in_go, in_sw, ma_sw, in_rv, in_ri, in_rz, in_rl, in_get, in_put, in_puz, in_iar, in_bar, in_lar, in_aar, in_iaw, in_baw, in_law, in_len, in_cpy, in_s1, in_s2, in_s3, in_v1, in_v2, in_v3, in_v4, in_v5, in_v6, ma_bk, ma_gl, ma_sl, ma_nl, ma_wc, ma_wd, ma_nn, ma_en, List.mem_cons, List.not_mem_nil, or_false, or_true, true_or, false_or, true_and, and_true, false_and, and_false, if_true, if_false, forall_const, true_implies, false_implies, not_true_eq_false, not_false_eq_true, Classical.not_not, implies_true, and_self, Nat.add_zero, Nat.zero_add, eq_self, ne_eq, reduceCtorEq, Nat.reduceLT, Nat.reduceLeDiff, Nat.reduceEqDiff, Nat.reduceSub, Nat.reduceAdd, i10, i01, im10, Int32.reduceLT, Int32.reduceLE, ↓reduceIte, reduceIte, up_r, uL_r, cp_r, Int32.toInt_toInt64, Int64.reduceToInt, Int32.reduceToInt, ↓b1_or, b1_0, b1_1, lc_lt, lc_le, lc_gt, lc_ge, lc_eq, ym_0, ym_1, ym_2, ym_3, ym_4, ym_5, ym_6, ym_7, ym_8, ym_9, ym_10, ym_11, ym_12, ym_13, ym_14, ym_15, ym_16, ym_17, ym_18, ym_19, ym_20, ym_21, ym_22, ym_23, ym_24, ym_25, ym_26, ym_27, ym_28, ym_29, ym_30, rm__0, rm__1, rm__2, rm__3, rm__4, rm__5, rm__6, rm__7, rm__8, rm__9, rm__10, rm__11, rm__12, rm__13, rm__14, rm__15, rm__16, rm__17, rm__18, rm__19, rm__20, rm__21, rm__22, rm__23, rm__24, rm__25, rm__26, rm__27, rm__28, rm__29, rm__30, rm__31, rm__32, rm__33, rm__34, rm__35, rm__36, rm__37, rm__38, rm__39, rm__40, rm__41, rm__42, rm__43, rm__44, rm__45, un_X5_byteAt, un_X5_isLetter, un_X5_fails]
    try simp only [iteP, Classical.not_not]
    simp (disch := omega) only [a_le0, Int32.add_zero, nI_1, up_up]
    refine ⟨fun c2 => ⟨g, n, p + 1, ⟨h1.to rfl rfl, rfl, by omega⟩, ?_⟩, fun c2 => ⟨g, n, p + 2, ⟨h1.to rfl rfl, rfl, by omega⟩, ?_⟩⟩
    · rw [if_pos c2] at e5
      rw [e5] at h134 no
      rw [show (39 : Int32) = nI 39 from rfl, byq k6 k7 (by omega) (by omega)]
      exact ⟨h134, no⟩
    · rw [if_neg c2] at e5
      rw [e5] at h134 no
      rw [show (39 : Int32) = nI 39 from rfl, byq k6 k7 (by omega) (by omega)]
      exact ⟨h134, no⟩
  refine ma_walk (mo_X5_name ms_X5_byteAt ms_X5_isLetter ms_X5_fails) hV [94] (fun F hF => ?_)
  simp only [tb_X5_name, hF, in_no, in_push, in_ild, in_lld, in_ald, in_ist, in_ast, in_lst, in_inc, in_iii, in_idv, in_ldv, in_lll, in_lli, in_lil, in_ii, in_il, in_li, in_ll, in_dup, in_dp2, q_if1, q_if2, in_go, in_sw, ma_sw, in_rv, in_ri, in_rz, in_rl, in_get, in_put, in_puz, in_iar, in_bar, in_lar, in_aar, in_iaw, in_baw, in_law, in_len, in_cpy, in_s1, in_s2, in_s3, in_v1, in_v2, in_v3, in_v4, in_v5, in_v6, ma_bk, ma_gl, ma_sl, ma_nl, ma_wc, ma_wd, ma_nn, ma_en, List.mem_cons, List.not_mem_nil, or_false, or_true, true_or, false_or, true_and, and_true, false_and, and_false, if_true, if_false, forall_const, true_implies, false_implies, not_true_eq_false, not_false_eq_true, Classical.not_not, implies_true, and_self, Nat.add_zero, Nat.zero_add, eq_self, ne_eq, reduceCtorEq, Nat.reduceLT, Nat.reduceLeDiff, Nat.reduceEqDiff, Nat.reduceSub, Nat.reduceAdd, i10, i01, im10, Int32.reduceLT, Int32.reduceLE, ↓reduceIte, reduceIte, up_r, uL_r, cp_r, Int32.toInt_toInt64, Int64.reduceToInt, Int32.reduceToInt, ↓b1_or, b1_0, b1_1, lc_lt, lc_le, lc_gt, lc_ge, lc_eq, ym_0, ym_1, ym_2, ym_3, ym_4, ym_5, ym_6, ym_7, ym_8, ym_9, ym_10, ym_11, ym_12, ym_13, ym_14, ym_15, ym_16, ym_17, ym_18, ym_19, ym_20, ym_21, ym_22, ym_23, ym_24, ym_25, ym_26, ym_27, ym_28, ym_29, ym_30, rm__0, rm__1, rm__2, rm__3, rm__4, rm__5, rm__6, rm__7, rm__8, rm__9, rm__10, rm__11, rm__12, rm__13, rm__14, rm__15, rm__16, rm__17, rm__18, rm__19, rm__20, rm__21, rm__22, rm__23, rm__24, rm__25, rm__26, rm__27, rm__28, rm__29, rm__30, rm__31, rm__32, rm__33, rm__34, rm__35, rm__36, rm__37, rm__38, rm__39, rm__40, rm__41, rm__42, rm__43, rm__44, rm__45, un_X5_byteAt, un_X5_isLetter, un_X5_fails, h2, h4]
  try simp only [iteP, Classical.not_not]
  refine ⟨g, n, p, ⟨h1, rfl, by omega⟩, ?_⟩
  rw [by_l k6 k7]
  refine ⟨fun c => ?_, fun c => ?_⟩
  · exact h.2 _ 0 (by unfold nm; rw [if_neg c]) (fun a ha => up_c ha) (fun j z2 z3 => by simp only [up_r, z3, and_false, if_false]) rfl
  · have h94 := h94 c
    refine ⟨g, n, p + 1, ⟨h1.to rfl rfl, by rw [nI_1], by omega⟩, ?_⟩
    rw [by_in (p := p) k7 (by omega), show nI (g p) - (97 : Int32) = nI (g p - 97) from pk_sub c.1]
    simp only [nI_1, show (110 : Int32) = nI 110 from rfl, show (101 : Int32) = nI 101 from rfl, show (115 : Int32) = nI 115 from rfl, show (119 : Int32) = nI 119 from rfl, byq k6 k7 (show 0 < 110 by omega) (show 110 < 256 by omega), byq k6 k7 (show 0 < 101 by omega) (show 101 < 256 by omega), byq k6 k7 (show 0 < 115 by omega) (show 115 < 256 by omega), byq k6 k7 (show 0 < 119 by omega) (show 119 < 256 by omega)]
    unfold wd at h94
    refine ⟨fun c1 => ?_, fun c1 => ⟨fun c2 => ?_, fun c2 => ⟨fun c3 => ?_, fun c3 => ⟨fun c4 => ?_, fun c4 => ?_⟩⟩⟩⟩
    · rw [if_pos c1] at h94; exact h94
    · rw [if_neg c1, if_pos c2] at h94; exact h94
    · rw [if_neg c1, if_neg c2, if_pos c3] at h94; exact h94
    · rw [if_neg c1, if_neg c2, if_neg c3, if_pos c4] at h94; exact h94
    · rw [if_neg c1, if_neg c2, if_neg c3, if_neg c4] at h94; exact h94
theorem pv_X5_name : ∀ as M L K, S_X5_name as M L K → ma_rn (tb_X5_name S_X5_byteAt S_X5_isLetter S_X5_fails) 7 as M L K := by
  intro as M L K h
  unfold S_X5_name at h
  split at h
  · obtain ⟨g, n, p, ds, h⟩ := h; exact pw_X5_name h.1 h.2
  · exact h.elim
