/-! the text's reading: plain words for it, and the reader's small methods -/
set_option maxRecDepth 100000
set_option maxHeartbeats 4000000
/-- a byte as Java has it -/
def sb (b : Nat) : Int32 := (nI b).toInt8.toInt32
theorem sb_ti : ∀ b : Nat, b < 256 → (sb b).toInt = if b < 128 then (b : Int) else (b : Int) - 256 := by
  have h : ∀ b : Fin 256, (sb b.val).toInt = if b.val < 128 then (b.val : Int) else (b.val : Int) - 256 := by decide +kernel
  exact fun b hb => h ⟨b, hb⟩
theorem sb_eq {b c : Nat} (hb : b < 256) (hc : c < 128) : (sb b = nI c) = (b = c) := by
  refine propext ⟨fun e => ?_, fun e => ?_⟩
  · have e2 : (sb b).toInt = (nI c).toInt := by rw [e]
    rw [sb_ti b hb, a_ti (by omega)] at e2
    split at e2 <;> omega
  · apply i_ext
    rw [sb_ti b hb, a_ti (by omega), if_pos (by omega), e]
theorem sbq {g : Nat → Nat} (h6 : ∀ i, g i < 256) {p c : Nat} (hc : c < 128) : (sb (g p) = nI c) = (g p = c) := sb_eq (h6 p) hc
theorem sb_l : ∀ b : Nat, b < 256 → (0 ≤ (sb b - 97).toInt ∧ (sb b - 97).toInt ≤ 3) = (97 ≤ b ∧ b ≤ 100) := by
  have h : ∀ b : Fin 256, (0 ≤ (sb b.val - 97).toInt ∧ (sb b.val - 97).toInt ≤ 3) ↔ (97 ≤ b.val ∧ b.val ≤ 100) := by decide +kernel
  exact fun b hb => propext (h ⟨b, hb⟩)
theorem sb_s {b : Nat} (h : 97 ≤ b ∧ b ≤ 100) : sb b - 97 = nI (b - 97) := by
  have e : sb b = nI b := Eq.mpr (sb_eq (by omega) (by omega)) rfl
  rw [e]; exact pk_sub h.1
theorem up_up {M : ZM} {k j : Nat} {a b : Int32} : ma_up (ma_up M k j a) k j b = ma_up M k j b := by
  funext x y
  simp only [up_r]
  grind
theorem sb_0 : sb 0 = 0 := by decide
/-- the reader stands at p of a text g of n bytes -/
def Rd (M : ZM) (g : Nat → Nat) (n p : Nat) : Prop := M 0 0 = nI n ∧ M 2 0 = nI p ∧ p ≤ n ∧ n ≤ 160 ∧ (∀ i, i < n → M 1 i = sb (g i)) ∧ (∀ i, g i < 256) ∧ (∀ i, n ≤ i → g i = 0)
theorem Rd.lt {M : ZM} {g : Nat → Nat} {n p : Nat} (h : Rd M g n p) (hp : g p ≠ 0) : p < n := by
  obtain ⟨h1, h2, h3, h4, h5, h6, h7⟩ := h
  apply Nat.lt_of_not_le
  intro c; exact hp (h7 p c)
theorem Rd.to {M M' : ZM} {g : Nat → Nat} {n p q : Nat} (h : Rd M g n p) (h0 : M' 0 0 = M 0 0) (h1 : M' 1 = M 1) (h2 : M' 2 0 = nI q) (hq : q ≤ n) : Rd M' g n q := by
  obtain ⟨k1, k2, k3, k4, k5, k6, k7⟩ := h
  exact ⟨by rw [h0, k1], h2, hq, k4, by rw [h1]; exact k5, k6, k7⟩
theorem Rd.up {M : ZM} {g : Nat → Nat} {n p q : Nat} (h : Rd M g n p) (hq : q ≤ n) : Rd (ma_up M 2 0 (nI q)) g n q := h.to rfl (up_c (by decide)) rfl hq
theorem up_ov {M : ZM} {k i j : Nat} {a b c d : Int32} : ma_up (ma_up (ma_up (ma_up M k i a) k j b) k i c) k j d = ma_up (ma_up M k i c) k j d := by
  funext x y
  simp only [up_r]
  grind
/-- figures from p on: where they end, and their number -/
def nu (g : Nat → Nat) : Nat → Nat → Nat → Nat × Nat
  | 0, p, v => (p, v)
  | f + 1, p, v => if 48 ≤ g p ∧ g p ≤ 57 then nu g f (p + 1) (min 100000 (10 * v + g p - 48)) else (p, v)
def wd (b : Nat) : Nat := if b = 110 then 1 else if b = 101 then 2 else if b = 115 then 3 else if b = 119 then 4 else 0
theorem wd_le (b : Nat) : wd b ≤ 4 := by unfold wd; grind
def nq (g : Nat → Nat) (p : Nat) : Nat := if wd (g (p + 1)) = 0 then p + 1 else p + 2
/-- a name at p: where it ends, letter and 4 times where (5: at this step) -/
def nm (g : Nat → Nat) (ds : List Nat) (p : Nat) : Option (Nat × Nat) :=
  if 97 ≤ g p ∧ g p ≤ 100 then
    if g (nq g p) = 39 then (if wd (g (p + 1)) = 0 ∧ g p - 97 ∈ ds then some (nq g p + 1, g p - 97 + 20) else none)
    else some (nq g p, g p - 97 + 4 * wd (g (p + 1)))
  else none
def ex (c : Nat) : Nat := 16 * (c % 4) + (if c / 4 = 5 then 1 else 2 * (c / 4))
def S_X1_here : ma_Cs := fun as M L K => match as with
  | [.ref k] => ∃ (g : Nat → Nat) (n : Nat) (p : Nat), (k = 2 ∧ Rd M g n p) ∧ (K (some (.int (sb (g p)))) M L)
  | _ => False
theorem ms_X1_here : ma_ms S_X1_here := by
  intro as M L K K' hk h
  unfold S_X1_here at h ⊢
  split at h
  · obtain ⟨g, n, p, h⟩ := h
    exact ⟨g, n, p, h.1, hk _ _ _ h.2⟩
  · exact h.elim
theorem un_X1_here {k : Nat} {M : ZM} {L : ZL} {K : ma_Kt} : S_X1_here [.ref k] M L K = (∃ (g : Nat → Nat) (n : Nat) (p : Nat), (k = 2 ∧ Rd M g n p) ∧ (K (some (.int (sb (g p)))) M L)) := rfl
theorem pw_X1_here {k : Nat} {g : Nat → Nat} {n : Nat} {p : Nat} {M : ZM} {L : ZL} {K : ma_Kt} (hp : k = 2 ∧ Rd M g n p) (h : (K (some (.int (sb (g p)))) M L)) : ma_rn tb_X1_here 1 [.ref k] M L K := by
  refine ⟨Nat.le_of_ble_eq_true rfl, fun V hV => ?_⟩
  obtain ⟨rfl, h1, h2, h3, h4, h5, h6, h7⟩ := hp
  refine ma_walk mo_X1_here hV [] (fun F hF => ?_)
  simp only [tb_X1_here, hF, in_no, in_push, in_ild, in_lld, in_ald, in_ist, in_ast, in_lst, in_inc, in_iii, in_idv, in_ldv, in_lll, in_lli, in_lil, in_ii, in_il, in_li, in_ll, in_dup, in_dp2, q_if1, q_if2, in_go, in_sw, ma_sw, in_rv, in_ri, in_rz, in_rl, in_get, in_put, in_puz, in_iar, in_bar, in_lar, in_aar, in_iaw, in_baw, in_law, in_len, in_cpy, in_s1, in_s2, in_s3, in_v1, in_v2, in_v3, in_v4, in_v5, in_v6, ma_bk, ma_gl, ma_sl, ma_nl, ma_wc, ma_wd, ma_nn, ma_en, List.mem_cons, List.not_mem_nil, or_false, or_true, true_or, false_or, true_and, and_true, false_and, and_false, if_true, if_false, forall_const, true_implies, false_implies, not_true_eq_false, not_false_eq_true, Classical.not_not, implies_true, and_self, Nat.add_zero, Nat.zero_add, eq_self, ne_eq, reduceCtorEq, Nat.reduceLT, Nat.reduceLeDiff, Nat.reduceEqDiff, Nat.reduceSub, Nat.reduceAdd, i10, i01, im10, Int32.reduceLT, Int32.reduceLE, ↓reduceIte, reduceIte, up_r, uL_r, cp_r, Int32.toInt_toInt64, Int64.reduceToInt, Int32.reduceToInt, ↓b1_or, b1_0, b1_1, lc_lt, lc_le, lc_gt, lc_ge, lc_eq, yx_0, yx_1, yx_2, yx_3, yx_4, yx_5, yx_6, yx_7, yx_8, yx_9, yx_10, yx_11, yx_12, yx_13, yx_14, yx_15, yx_16, yx_17, yx_18, yx_19, yx_20, yx_21, yx_22, yx_23, yx_24, yx_25, yx_26, yx_27, yx_28, yx_29, yx_30, yx_31, yx_32, yx_33, yx_34, yx_35, yx_36, yx_37, yx_38, yx_39, yx_40, yx_41, yx_42, yx_43, yx_44, yx_45, yx_46, yx_47, yx_48, yx_49, yx_50, yx_51, yx_52, yx_53, yx_54, yx_55, yx_56, yx_57, yx_58, yx_59, yx_60, yx_61, yx_62, yx_63, yx_64, yx_65, yx_66, yx_67, yx_68, rx_0, rx_1, rx_2, rx_3, rx_4, rx_5, rx_6, rx_7, rx_8, rx_9, rx_10, rx_11, rx_12, rx_13, rx_14, rx_15, rx_16, rx_17, rx_18, rx_19, rx_20, rx_21, rx_22, rx_23, rx_24, rx_25, rx_26, rx_27, rx_28, rx_29, rx_30, rx_31, rx_32, rx_33, rp_0, rp_1, rp_2, rp_3, rp_4, rp_5, rp_6, rp_7, rp_8, rs_0, rs_1, rs_2, rs_3, rs_4, re_0, re_1, re_2, re_3, re_4, re_5, rr_0, rr_1, rr_2, rr_3, rr_4, rk_0, rk_1, isP3, isP11, isP46, isP58, isS25, isS28, isS31, h1, h2]
  try simp only [iteP, Classical.not_not]
  simp (disch := omega) only [a_le, a_vi, a_cl]
  refine ⟨fun c => ?_, fun c => ⟨by omega, ?_⟩⟩
  · rw [h7 p c, sb_0] at h; exact h
  · rw [h5 p (by omega)]; exact h
theorem pv_X1_here : ∀ as M L K, S_X1_here as M L K → ma_rn tb_X1_here 1 as M L K := by
  intro as M L K h
  unfold S_X1_here at h
  split at h
  · obtain ⟨g, n, p, h⟩ := h; exact pw_X1_here h.1 h.2
  · exact h.elim
def S_X1_eats : ma_Cs := fun as M L K => match as with
  | [.ref k, .int b] => ∃ (g : Nat → Nat) (n : Nat) (p : Nat) (c : Nat), (k = 2 ∧ Rd M g n p ∧ b = nI c ∧ 0 < c ∧ c < 128) ∧ (g p = c → K (some (.int 1)) (ma_up M 2 0 (nI (p + 1))) L) ∧ (¬ g p = c → K (some (.int 0)) M L)
  | _ => False
theorem ms_X1_eats : ma_ms S_X1_eats := by
  intro as M L K K' hk h
  unfold S_X1_eats at h ⊢
  split at h
  · obtain ⟨g, n, p, c, h⟩ := h
    exact ⟨g, n, p, c, h.1, fun x0 => hk _ _ _ (h.2.1 x0), fun x0 => hk _ _ _ (h.2.2 x0)⟩
  · exact h.elim
theorem un_X1_eats {k : Nat} {b : Int32} {M : ZM} {L : ZL} {K : ma_Kt} : S_X1_eats [.ref k, .int b] M L K = (∃ (g : Nat → Nat) (n : Nat) (p : Nat) (c : Nat), (k = 2 ∧ Rd M g n p ∧ b = nI c ∧ 0 < c ∧ c < 128) ∧ (g p = c → K (some (.int 1)) (ma_up M 2 0 (nI (p + 1))) L) ∧ (¬ g p = c → K (some (.int 0)) M L)) := rfl
theorem pw_X1_eats {k : Nat} {b : Int32} {g : Nat → Nat} {n : Nat} {p : Nat} {c : Nat} {M : ZM} {L : ZL} {K : ma_Kt} (hp : k = 2 ∧ Rd M g n p ∧ b = nI c ∧ 0 < c ∧ c < 128) (h : (g p = c → K (some (.int 1)) (ma_up M 2 0 (nI (p + 1))) L) ∧ (¬ g p = c → K (some (.int 0)) M L)) : ma_rn (tb_X1_eats S_X1_here) 3 [.ref k, .int b] M L K := by
  refine ⟨Nat.le_of_ble_eq_true rfl, fun V hV => ?_⟩
  obtain ⟨rfl, h1, rfl, h2, h3⟩ := hp
  refine ma_walk (mo_X1_eats ms_X1_here) hV [] (fun F hF => ?_)
  simp only [tb_X1_eats, hF, in_no, in_push, in_ild, in_lld, in_ald, in_ist, in_ast, in_lst, in_inc, in_iii, in_idv, in_ldv, in_lll, in_lli, in_lil, in_ii, in_il, in_li, in_ll, in_dup, in_dp2, q_if1, q_if2, in_go, in_sw, ma_sw, in_rv, in_ri, in_rz, in_rl, in_get, in_put, in_puz, in_iar, in_bar, in_lar, in_aar, in_iaw, in_baw, in_law, in_len, in_cpy, in_s1, in_s2, in_s3, in_v1, in_v2, in_v3, in_v4, in_v5, in_v6, ma_bk, ma_gl, ma_sl, ma_nl, ma_wc, ma_wd, ma_nn, ma_en, List.mem_cons, List.not_mem_nil, or_false, or_true, true_or, false_or, true_and, and_true, false_and, and_false, if_true, if_false, forall_const, true_implies, false_implies, not_true_eq_false, not_false_eq_true, Classical.not_not, implies_true, and_self, Nat.add_zero, Nat.zero_add, eq_self, ne_eq, reduceCtorEq, Nat.reduceLT, Nat.reduceLeDiff, Nat.reduceEqDiff, Nat.reduceSub, Nat.reduceAdd, i10, i01, im10, Int32.reduceLT, Int32.reduceLE, ↓reduceIte, reduceIte, up_r, uL_r, cp_r, Int32.toInt_toInt64, Int64.reduceToInt, Int32.reduceToInt, ↓b1_or, b1_0, b1_1, lc_lt, lc_le, lc_gt, lc_ge, lc_eq, yx_0, yx_1, yx_2, yx_3, yx_4, yx_5, yx_6, yx_7, yx_8, yx_9, yx_10, yx_11, yx_12, yx_13, yx_14, yx_15, yx_16, yx_17, yx_18, yx_19, yx_20, yx_21, yx_22, yx_23, yx_24, yx_25, yx_26, yx_27, yx_28, yx_29, yx_30, yx_31, yx_32, yx_33, yx_34, yx_35, yx_36, yx_37, yx_38, yx_39, yx_40, yx_41, yx_42, yx_43, yx_44, yx_45, yx_46, yx_47, yx_48, yx_49, yx_50, yx_51, yx_52, yx_53, yx_54, yx_55, yx_56, yx_57, yx_58, yx_59, yx_60, yx_61, yx_62, yx_63, yx_64, yx_65, yx_66, yx_67, yx_68, rx_0, rx_1, rx_2, rx_3, rx_4, rx_5, rx_6, rx_7, rx_8, rx_9, rx_10, rx_11, rx_12, rx_13, rx_14, rx_15, rx_16, rx_17, rx_18, rx_19, rx_20, rx_21, rx_22, rx_23, rx_24, rx_25, rx_26, rx_27, rx_28, rx_29, rx_30, rx_31, rx_32, rx_33, rp_0, rp_1, rp_2, rp_3, rp_4, rp_5, rp_6, rp_7, rp_8, rs_0, rs_1, rs_2, rs_3, rs_4, re_0, re_1, re_2, re_3, re_4, re_5, rr_0, rr_1, rr_2, rr_3, rr_4, rk_0, rk_1, isP3, isP11, isP46, isP58, isS25, isS28, isS31, un_X1_here]
  try simp only [iteP, Classical.not_not]
  refine ⟨g, n, p, h1, ?_⟩
  obtain ⟨k1, k2, k3, k4, k5, k6, k7⟩ := h1
  rw [sb_eq (k6 p) h3, k2]
  refine ⟨fun e => ?_, fun e => ?_⟩
  · have q := h.1 e
    rw [← nI_1] at q; exact q
  · have q := h.2 e
    have z : ma_up M 2 0 (nI p + 0) = M := up_s (by rw [k2]; exact (Int32.add_zero _).symm)
    rw [z]; exact q
theorem pv_X1_eats : ∀ as M L K, S_X1_eats as M L K → ma_rn (tb_X1_eats S_X1_here) 3 as M L K := by
  intro as M L K h
  unfold S_X1_eats at h
  split at h
  · obtain ⟨g, n, p, c, h⟩ := h; exact pw_X1_eats h.1 h.2
  · exact h.elim
def S_X1_isFigure : ma_Cs := fun as M L K => match as with
  | [.ref k] => ∃ (g : Nat → Nat) (n : Nat) (p : Nat), (k = 2 ∧ Rd M g n p) ∧ (K (some (.int (b1 (48 ≤ g p ∧ g p ≤ 57)))) M L)
  | _ => False
theorem ms_X1_isFigure : ma_ms S_X1_isFigure := by
  intro as M L K K' hk h
  unfold S_X1_isFigure at h ⊢
  split at h
  · obtain ⟨g, n, p, h⟩ := h
    exact ⟨g, n, p, h.1, hk _ _ _ h.2⟩
  · exact h.elim
theorem un_X1_isFigure {k : Nat} {M : ZM} {L : ZL} {K : ma_Kt} : S_X1_isFigure [.ref k] M L K = (∃ (g : Nat → Nat) (n : Nat) (p : Nat), (k = 2 ∧ Rd M g n p) ∧ (K (some (.int (b1 (48 ≤ g p ∧ g p ≤ 57)))) M L)) := rfl
theorem pw_X1_isFigure {k : Nat} {g : Nat → Nat} {n : Nat} {p : Nat} {M : ZM} {L : ZL} {K : ma_Kt} (hp : k = 2 ∧ Rd M g n p) (h : (K (some (.int (b1 (48 ≤ g p ∧ g p ≤ 57)))) M L)) : ma_rn (tb_X1_isFigure S_X1_here S_X0_isIn) 1 [.ref k] M L K := by
  refine ⟨Nat.le_of_ble_eq_true rfl, fun V hV => ?_⟩
  obtain ⟨rfl, h1⟩ := hp
  refine ma_walk (mo_X1_isFigure ms_X1_here ms_X0_isIn) hV [] (fun F hF => ?_)
  simp only [tb_X1_isFigure, hF, in_no, in_push, in_ild, in_lld, in_ald, in_ist, in_ast, in_lst, in_inc, in_iii, in_idv, in_ldv, in_lll, in_lli, in_lil, in_ii, in_il, in_li, in_ll, in_dup, in_dp2, q_if1, q_if2, in_go, in_sw, ma_sw, in_rv, in_ri, in_rz, in_rl, in_get, in_put, in_puz, in_iar, in_bar, in_lar, in_aar, in_iaw, in_baw, in_law, in_len, in_cpy, in_s1, in_s2, in_s3, in_v1, in_v2, in_v3, in_v4, in_v5, in_v6, ma_bk, ma_gl, ma_sl, ma_nl, ma_wc, ma_wd, ma_nn, ma_en, List.mem_cons, List.not_mem_nil, or_false, or_true, true_or, false_or, true_and, and_true, false_and, and_false, if_true, if_false, forall_const, true_implies, false_implies, not_true_eq_false, not_false_eq_true, Classical.not_not, implies_true, and_self, Nat.add_zero, Nat.zero_add, eq_self, ne_eq, reduceCtorEq, Nat.reduceLT, Nat.reduceLeDiff, Nat.reduceEqDiff, Nat.reduceSub, Nat.reduceAdd, i10, i01, im10, Int32.reduceLT, Int32.reduceLE, ↓reduceIte, reduceIte, up_r, uL_r, cp_r, Int32.toInt_toInt64, Int64.reduceToInt, Int32.reduceToInt, ↓b1_or, b1_0, b1_1, lc_lt, lc_le, lc_gt, lc_ge, lc_eq, yx_0, yx_1, yx_2, yx_3, yx_4, yx_5, yx_6, yx_7, yx_8, yx_9, yx_10, yx_11, yx_12, yx_13, yx_14, yx_15, yx_16, yx_17, yx_18, yx_19, yx_20, yx_21, yx_22, yx_23, yx_24, yx_25, yx_26, yx_27, yx_28, yx_29, yx_30, yx_31, yx_32, yx_33, yx_34, yx_35, yx_36, yx_37, yx_38, yx_39, yx_40, yx_41, yx_42, yx_43, yx_44, yx_45, yx_46, yx_47, yx_48, yx_49, yx_50, yx_51, yx_52, yx_53, yx_54, yx_55, yx_56, yx_57, yx_58, yx_59, yx_60, yx_61, yx_62, yx_63, yx_64, yx_65, yx_66, yx_67, yx_68, rx_0, rx_1, rx_2, rx_3, rx_4, rx_5, rx_6, rx_7, rx_8, rx_9, rx_10, rx_11, rx_12, rx_13, rx_14, rx_15, rx_16, rx_17, rx_18, rx_19, rx_20, rx_21, rx_22, rx_23, rx_24, rx_25, rx_26, rx_27, rx_28, rx_29, rx_30, rx_31, rx_32, rx_33, rp_0, rp_1, rp_2, rp_3, rp_4, rp_5, rp_6, rp_7, rp_8, rs_0, rs_1, rs_2, rs_3, rs_4, re_0, re_1, re_2, re_3, re_4, re_5, rr_0, rr_1, rr_2, rr_3, rr_4, rk_0, rk_1, isP3, isP11, isP46, isP58, isS25, isS28, isS31, un_X1_here, un_X0_isIn]
  try simp only [iteP, Classical.not_not]
  refine ⟨g, n, p, h1, ?_⟩
  refine ki h (b1_c ?_) rfl rfl
  have z := h1.2.2.2.2.2.1 p
  rw [sb_ti _ z]
  split <;> omega
theorem pv_X1_isFigure : ∀ as M L K, S_X1_isFigure as M L K → ma_rn (tb_X1_isFigure S_X1_here S_X0_isIn) 1 as M L K := by
  intro as M L K h
  unfold S_X1_isFigure at h
  split at h
  · obtain ⟨g, n, p, h⟩ := h; exact pw_X1_isFigure h.1 h.2
  · exact h.elim
def S_X1_number : ma_Cs := fun as M L K => match as with
  | [.ref k, .int o] => ∃ (g : Nat → Nat) (n : Nat) (p : Nat) (w : Nat), (k = 2 ∧ Rd M g n p ∧ o = nI w ∧ w < 2000) ∧ (((48 ≤ g p ∧ g p ≤ 57) ∧ ¬ g p = 48 ∧ (nu g 200 p 0).2 ≤ w) → K (some (.int 1)) (ma_up (ma_up M 2 2 (nI (nu g 200 p 0).2)) 2 0 (nI (nu g 200 p 0).1)) L) ∧ (¬ ((48 ≤ g p ∧ g p ≤ 57) ∧ ¬ g p = 48 ∧ (nu g 200 p 0).2 ≤ w) → K (some (.int 0)) (ma_up (ma_up (ma_up M 2 2 (nI (nu g 200 p 0).2)) 2 0 (nI (nu g 200 p 0).1)) 2 1 (nI p)) L)
  | _ => False
theorem ms_X1_number : ma_ms S_X1_number := by
  intro as M L K K' hk h
  unfold S_X1_number at h ⊢
  split at h
  · obtain ⟨g, n, p, w, h⟩ := h
    exact ⟨g, n, p, w, h.1, fun x0 => hk _ _ _ (h.2.1 x0), fun x0 => hk _ _ _ (h.2.2 x0)⟩
  · exact h.elim
theorem un_X1_number {k : Nat} {o : Int32} {M : ZM} {L : ZL} {K : ma_Kt} : S_X1_number [.ref k, .int o] M L K = (∃ (g : Nat → Nat) (n : Nat) (p : Nat) (w : Nat), (k = 2 ∧ Rd M g n p ∧ o = nI w ∧ w < 2000) ∧ (((48 ≤ g p ∧ g p ≤ 57) ∧ ¬ g p = 48 ∧ (nu g 200 p 0).2 ≤ w) → K (some (.int 1)) (ma_up (ma_up M 2 2 (nI (nu g 200 p 0).2)) 2 0 (nI (nu g 200 p 0).1)) L) ∧ (¬ ((48 ≤ g p ∧ g p ≤ 57) ∧ ¬ g p = 48 ∧ (nu g 200 p 0).2 ≤ w) → K (some (.int 0)) (ma_up (ma_up (ma_up M 2 2 (nI (nu g 200 p 0).2)) 2 0 (nI (nu g 200 p 0).1)) 2 1 (nI p)) L)) := rfl
theorem pw_X1_number {k : Nat} {o : Int32} {g : Nat → Nat} {n : Nat} {p : Nat} {w : Nat} {M : ZM} {L : ZL} {K : ma_Kt} (hp : k = 2 ∧ Rd M g n p ∧ o = nI w ∧ w < 2000) (h : (((48 ≤ g p ∧ g p ≤ 57) ∧ ¬ g p = 48 ∧ (nu g 200 p 0).2 ≤ w) → K (some (.int 1)) (ma_up (ma_up M 2 2 (nI (nu g 200 p 0).2)) 2 0 (nI (nu g 200 p 0).1)) L) ∧ (¬ ((48 ≤ g p ∧ g p ≤ 57) ∧ ¬ g p = 48 ∧ (nu g 200 p 0).2 ≤ w) → K (some (.int 0)) (ma_up (ma_up (ma_up M 2 2 (nI (nu g 200 p 0).2)) 2 0 (nI (nu g 200 p 0).1)) 2 1 (nI p)) L)) : ma_rn (tb_X1_number S_X1_here S_X1_isFigure S_J0_min S_X0_isIn S_X1_fails) 4 [.ref k, .int o] M L K := by
  refine ⟨Nat.le_of_ble_eq_true rfl, fun V hV => ?_⟩
  obtain ⟨rfl, h1, rfl, hw⟩ := hp
  obtain ⟨k1, k2, k3, k4, k5, k6, k7⟩ := id h1
  have lp : ∀ m f q v, n - q = m → p ≤ q → q ≤ n → f + q = 200 + p → v ≤ 100000 → nu g f q v = nu g 200 p 0 → (p < q → (48 ≤ g p ∧ g p ≤ 57) ∧ (¬ g p = 48 → 1 ≤ v)) → (p = q → v = 0) →
      V 25 [some (.ref 2), some (.int (nI w)), some (.int (nI p)), some (.int (b1 (g p = 48)))] [] (ma_up (ma_up M 2 2 (nI v)) 2 0 (nI q)) L := by
    intro m
    induction m using Nat.strongRecOn with
    | ind m ih =>
      intro f q v e1 e2 e3 e4 e5 e6 e7 e8
      obtain ⟨f, rfl⟩ : ∃ f', f = f' + 1 := ⟨f - 1, by omega⟩
      rw [nu] at e6
      refine ma_walk (mo_X1_number ms_X1_here ms_X1_isFigure ms_J0_min ms_X0_isIn ms_X1_fails) hV [25] (fun F hF => ?_)
      simp only [tb_X1_number, hF, in_no, in_push, in_ild, in_lld, in_ald, in_ist, in_ast, in_lst, in_inc, in_iii, in_idv, in_ldv, in_lll, in_lli, in_lil, in_ii, in_il, in_li, in_ll, in_dup, in_dp2, q_if1, q_if2, in_go, in_sw, ma_sw, in_rv, in_ri, in_rz, in_rl, in_get, in_put, in_puz, in_iar, in_bar, in_lar, in_aar, in_iaw, in_baw, in_law, in_len, in_cpy, in_s1, in_s2, in_s3, in_v1, in_v2, in_v3, in_v4, in_v5, in_v6, ma_bk, ma_gl, ma_sl, ma_nl, ma_wc, ma_wd, ma_nn, ma_en, List.mem_cons, List.not_mem_nil, or_false, or_true, true_or, false_or, true_and, and_true, false_and, and_false, if_true, if_false, forall_const, true_implies, false_implies, not_true_eq_false, not_false_eq_true, Classical.not_not, implies_true, and_self, Nat.add_zero, Nat.zero_add, eq_self, ne_eq, reduceCtorEq, Nat.reduceLT, Nat.reduceLeDiff, Nat.reduceEqDiff, Nat.reduceSub, Nat.reduceAdd, i10, i01, im10, Int32.reduceLT, Int32.reduceLE, ↓reduceIte, reduceIte, up_r, uL_r, cp_r, Int32.toInt_toInt64, Int64.reduceToInt, Int32.reduceToInt, ↓b1_or, b1_0, b1_1, lc_lt, lc_le, lc_gt, lc_ge, lc_eq, yx_0, yx_1, yx_2, yx_3, yx_4, yx_5, yx_6, yx_7, yx_8, yx_9, yx_10, yx_11, yx_12, yx_13, yx_14, yx_15, yx_16, yx_17, yx_18, yx_19, yx_20, yx_21, yx_22, yx_23, yx_24, yx_25, yx_26, yx_27, yx_28, yx_29, yx_30, yx_31, yx_32, yx_33, yx_34, yx_35, yx_36, yx_37, yx_38, yx_39, yx_40, yx_41, yx_42, yx_43, yx_44, yx_45, yx_46, yx_47, yx_48, yx_49, yx_50, yx_51, yx_52, yx_53, yx_54, yx_55, yx_56, yx_57, yx_58, yx_59, yx_60, yx_61, yx_62, yx_63, yx_64, yx_65, yx_66, yx_67, yx_68, rx_0, rx_1, rx_2, rx_3, rx_4, rx_5, rx_6, rx_7, rx_8, rx_9, rx_10, rx_11, rx_12, rx_13, rx_14, rx_15, rx_16, rx_17, rx_18, rx_19, rx_20, rx_21, rx_22, rx_23, rx_24, rx_25, rx_26, rx_27, rx_28, rx_29, rx_30, rx_31, rx_32, rx_33, rp_0, rp_1, rp_2, rp_3, rp_4, rp_5, rp_6, rp_7, rp_8, rs_0, rs_1, rs_2, rs_3, rs_4, re_0, re_1, re_2, re_3, re_4, re_5, rr_0, rr_1, rr_2, rr_3, rr_4, rk_0, rk_1, isP3, isP11, isP46, isP58, isS25, isS28, isS31, un_X1_here, un_X1_isFigure, un_J0_min, un_X0_isIn, un_X1_fails]
      try simp only [iteP, Classical.not_not]
      have hR : Rd (ma_up (ma_up M 2 2 (nI v)) 2 0 (nI q)) g n q := h1.to rfl ((up_c (by decide)).trans (up_c (by decide))) rfl e3
      refine ⟨g, n, q, hR, ?_⟩
      simp (disch := omega) only [a_ti, nI_add, nI_1, pk_mul, a_le, a_lt, a_eq, a_cl, a_vi, a_0le, a_lt0, a_0lt, a_le0, a_eq0, a_lit]
      refine ⟨fun c => ?_, fun c => ?_⟩
      · rw [if_neg c] at e6
        rw [← e6] at h
        dsimp only at h
        exact ⟨fun c1 => h.2 (fun z => c (by have e9 : q = p := by omega
                                             rw [e9]; exact z.1)), fun c1 => ⟨fun c2 => ⟨fun c3 => h.2 (by omega), fun c3 => h.1 (by omega)⟩, fun c2 => h.2 (by omega)⟩⟩
      · rw [if_pos c] at e6
        refine ⟨g, n, q, hR, ?_⟩
        have z := k6 q
        have e : sb (g q) = nI (g q) := Eq.mpr (sb_eq z (by omega)) rfl
        have z2 := hR.lt (by omega)
        rw [e]
        simp (disch := omega) only [nI_add, pk_sub, a_lt]
        rw [up_ov]
        refine kv (ih (n - (q + 1)) (by omega) f (q + 1) (min 100000 (10 * v + g q - 48)) rfl (by omega) (by omega) (by omega) (by omega) e6 (fun _ => ⟨?_, ?_⟩) (by omega)) rfl rfl ?_ rfl
        · by_cases e9 : p = q
          · rw [e9]; exact c
          · exact (e7 (by omega)).1
        · by_cases e9 : p = q
          · rw [e9]; omega
          · have := (e7 (by omega)).2; omega
        · have e9 : (if 10 * v + g q - 48 < 100000 then nI (10 * v + g q - 48) else nI 100000) = nI (min 100000 (10 * v + g q - 48)) := by
            split
            · rw [Nat.min_eq_right (by omega)]
            · rw [Nat.min_eq_left (by omega)]
          rw [e9]
  refine ma_walk (mo_X1_number ms_X1_here ms_X1_isFigure ms_J0_min ms_X0_isIn ms_X1_fails) hV [25] (fun F hF => ?_)
  simp only [tb_X1_number, hF, in_no, in_push, in_ild, in_lld, in_ald, in_ist, in_ast, in_lst, in_inc, in_iii, in_idv, in_ldv, in_lll, in_lli, in_lil, in_ii, in_il, in_li, in_ll, in_dup, in_dp2, q_if1, q_if2, in_go, in_sw, ma_sw, in_rv, in_ri, in_rz, in_rl, in_get, in_put, in_puz, in_iar, in_bar, in_lar, in_aar, in_iaw, in_baw, in_law, in_len, in_cpy, in_s1, in_s2, in_s3, in_v1, in_v2, in_v3, in_v4, in_v5, in_v6, ma_bk, ma_gl, ma_sl, ma_nl, ma_wc, ma_wd, ma_nn, ma_en, List.mem_cons, List.not_mem_nil, or_false, or_true, true_or, false_or, true_and, and_true, false_and, and_false, if_true, if_false, forall_const, true_implies, false_implies, not_true_eq_false, not_false_eq_true, Classical.not_not, implies_true, and_self, Nat.add_zero, Nat.zero_add, eq_self, ne_eq, reduceCtorEq, Nat.reduceLT, Nat.reduceLeDiff, Nat.reduceEqDiff, Nat.reduceSub, Nat.reduceAdd, i10, i01, im10, Int32.reduceLT, Int32.reduceLE, ↓reduceIte, reduceIte, up_r, uL_r, cp_r, Int32.toInt_toInt64, Int64.reduceToInt, Int32.reduceToInt, ↓b1_or, b1_0, b1_1, lc_lt, lc_le, lc_gt, lc_ge, lc_eq, yx_0, yx_1, yx_2, yx_3, yx_4, yx_5, yx_6, yx_7, yx_8, yx_9, yx_10, yx_11, yx_12, yx_13, yx_14, yx_15, yx_16, yx_17, yx_18, yx_19, yx_20, yx_21, yx_22, yx_23, yx_24, yx_25, yx_26, yx_27, yx_28, yx_29, yx_30, yx_31, yx_32, yx_33, yx_34, yx_35, yx_36, yx_37, yx_38, yx_39, yx_40, yx_41, yx_42, yx_43, yx_44, yx_45, yx_46, yx_47, yx_48, yx_49, yx_50, yx_51, yx_52, yx_53, yx_54, yx_55, yx_56, yx_57, yx_58, yx_59, yx_60, yx_61, yx_62, yx_63, yx_64, yx_65, yx_66, yx_67, yx_68, rx_0, rx_1, rx_2, rx_3, rx_4, rx_5, rx_6, rx_7, rx_8, rx_9, rx_10, rx_11, rx_12, rx_13, rx_14, rx_15, rx_16, rx_17, rx_18, rx_19, rx_20, rx_21, rx_22, rx_23, rx_24, rx_25, rx_26, rx_27, rx_28, rx_29, rx_30, rx_31, rx_32, rx_33, rp_0, rp_1, rp_2, rp_3, rp_4, rp_5, rp_6, rp_7, rp_8, rs_0, rs_1, rs_2, rs_3, rs_4, re_0, re_1, re_2, re_3, re_4, re_5, rr_0, rr_1, rr_2, rr_3, rr_4, rk_0, rk_1, isP3, isP11, isP46, isP58, isS25, isS28, isS31, un_X1_here, un_X1_isFigure, un_J0_min, un_X0_isIn, un_X1_fails]
  try simp only [iteP, Classical.not_not]
  refine ⟨g, n, p, h1.to rfl (up_c (by decide)) k2 k3, ?_⟩
  have q := lp (n - p) 200 p 0 rfl (Nat.le_refl p) k3 rfl (by omega) rfl (by omega) (fun _ => rfl)
  rw [up_s (show ma_up M 2 2 (nI 0) 2 0 = nI p from k2)] at q
  rw [k2, show (48 : Int32) = nI 48 from rfl, sbq k6 (by omega)]
  refine ⟨fun e => ?_, fun e => ?_⟩
  · rw [b1_t e] at q; exact q
  · rw [b1_f e] at q; exact q
theorem pv_X1_number : ∀ as M L K, S_X1_number as M L K → ma_rn (tb_X1_number S_X1_here S_X1_isFigure S_J0_min S_X0_isIn S_X1_fails) 4 as M L K := by
  intro as M L K h
  unfold S_X1_number at h
  split at h
  · obtain ⟨g, n, p, w, h⟩ := h; exact pw_X1_number h.1 h.2
  · exact h.elim
/-- the lines read so far, of letters ds, in the draft -/
def Dl (M : ZM) (ds : List Nat) : Prop := M 3 0 = nI ds.length ∧ ds.length ≤ 4 ∧ ∀ i, i < ds.length → M 4 i = nI (ds.getD i 0) ∧ ds.getD i 0 < 4
theorem gd {α : Type} {l : List α} {i : Nat} {d : α} (h : i < l.length) : l.getD i d = l[i] := by
  rw [List.getD_eq_getElem?_getD, List.getElem?_eq_getElem h]; rfl
theorem fd_no {f : Nat → Int32} {l : Int32} : ∀ (n k : Nat), (∀ i, k ≤ i → i < k + n → ¬ f i = l) → fd f l n k = -4
  | 0, _, _ => rfl
  | n + 1, k, h => by
    rw [fd, if_neg (h k (by omega) (by omega))]
    exact fd_no n (k + 1) (fun i h1 h2 => h i (by omega) (by omega))
theorem fd_at {f : Nat → Int32} {l : Int32} : ∀ (n k j : Nat), k ≤ j → j < k + n → f j = l → (∀ i, k ≤ i → i < j → ¬ f i = l) → fd f l n k = nI j
  | 0, k, j, h1, h2, _, _ => by omega
  | n + 1, k, j, h1, h2, h3, h4 => by
    rw [fd]
    by_cases e : f k = l
    · rw [if_pos e]
      by_cases e2 : k = j
      · rw [e2]
      · exact absurd e (h4 k (by omega) (by omega))
    · rw [if_neg e]
      have e2 : k ≠ j := fun q => e (by rw [q]; exact h3)
      exact fd_at n (k + 1) j (by omega) (by omega) h3 (fun i h5 h6 => h4 i (by omega) h6)
theorem fd_yes {f : Nat → Int32} {l : Int32} : ∀ (n k : Nat), k + n < 100 → (∃ i, k ≤ i ∧ i < k + n ∧ f i = l) → ¬ fd f l n k = -4
  | 0, k, _, ⟨i, h1, h2, _⟩ => by omega
  | n + 1, k, hn, ⟨i, h1, h2, h3⟩ => by
    rw [fd]
    by_cases e : f k = l
    · rw [if_pos e]
      intro q
      have q2 : (nI k).toInt = (-4 : Int32).toInt := by rw [q]
      rw [a_ti (by omega)] at q2
      have q3 : (-4 : Int32).toInt = -4 := rfl
      omega
    · rw [if_neg e]
      have e2 : k ≠ i := fun q => e (by rw [q]; exact h3)
      exact fd_yes n (k + 1) (by omega) ⟨i, by omega, by omega, h3⟩
theorem Dl.fd {M : ZM} {ds : List Nat} (h : Dl M ds) {l : Nat} (hl : l < 4) : (fd (M 4) (nI l) (M 3 0).toNatClampNeg 0 = -4) = ¬ l ∈ ds := by
  obtain ⟨h1, h2, h3⟩ := h
  rw [h1, a_cl (by omega)]
  refine propext ⟨fun q m => ?_, fun q => ?_⟩
  · obtain ⟨i, hi, e⟩ := List.getElem_of_mem m
    refine fd_yes _ 0 (by omega) ⟨i, by omega, by omega, ?_⟩ q
    rw [(h3 i hi).1, gd hi, e]
  · refine fd_no _ 0 (fun i _ hi e => q ?_)
    have hi : i < ds.length := by omega
    rw [(h3 i hi).1, a_eq (by have := (h3 i hi).2; omega) (by omega), gd hi] at e
    rw [← e]; exact List.getElem_mem hi
def S_X1_name : ma_Cs := fun as M L K => match as with
  | [.ref k] => ∃ (g : Nat → Nat) (n : Nat) (p : Nat) (ds : List Nat), (k = 2 ∧ Rd M g n p ∧ Dl M ds) ∧ (∀ (q c : Nat), nm g ds p = some (q, c) → K (some (.int 1)) (ma_up (ma_up M 2 0 (nI q)) 2 3 (nI (ex c))) L) ∧ (∀ (M' : ZM), nm g ds p = none → (∀ a, ¬ a = 2 → M' a = M a) → M' 2 1 = nI p → K (some (.int 0)) M' L)
  | _ => False
theorem ms_X1_name : ma_ms S_X1_name := by
  intro as M L K K' hk h
  unfold S_X1_name at h ⊢
  split at h
  · obtain ⟨g, n, p, ds, h⟩ := h
    exact ⟨g, n, p, ds, h.1, fun x0 x1 x2 => hk _ _ _ (h.2.1 x0 x1 x2), fun x0 x1 x2 x3 => hk _ _ _ (h.2.2 x0 x1 x2 x3)⟩
  · exact h.elim
theorem un_X1_name {k : Nat} {M : ZM} {L : ZL} {K : ma_Kt} : S_X1_name [.ref k] M L K = (∃ (g : Nat → Nat) (n : Nat) (p : Nat) (ds : List Nat), (k = 2 ∧ Rd M g n p ∧ Dl M ds) ∧ (∀ (q c : Nat), nm g ds p = some (q, c) → K (some (.int 1)) (ma_up (ma_up M 2 0 (nI q)) 2 3 (nI (ex c))) L) ∧ (∀ (M' : ZM), nm g ds p = none → (∀ a, ¬ a = 2 → M' a = M a) → M' 2 1 = nI p → K (some (.int 0)) M' L)) := rfl
theorem pw_X1_name {k : Nat} {g : Nat → Nat} {n : Nat} {p : Nat} {ds : List Nat} {M : ZM} {L : ZL} {K : ma_Kt} (hp : k = 2 ∧ Rd M g n p ∧ Dl M ds) (h : (∀ (q c : Nat), nm g ds p = some (q, c) → K (some (.int 1)) (ma_up (ma_up M 2 0 (nI q)) 2 3 (nI (ex c))) L) ∧ (∀ (M' : ZM), nm g ds p = none → (∀ a, ¬ a = 2 → M' a = M a) → M' 2 1 = nI p → K (some (.int 0)) M' L)) : ma_rn (tb_X1_name S_X1_here S_X0_isLetter S_X1_fails S_X1_eats S_X2_lineOf) 5 [.ref k] M L K := by
  refine ⟨Nat.le_of_ble_eq_true rfl, fun V hV => ?_⟩
  obtain ⟨rfl, h1, h2⟩ := hp
  obtain ⟨k1, k2, k3, k4, k5, k6, k7⟩ := id h1
  have h92 : (97 ≤ g p ∧ g p ≤ 100) → V 92 [some (.ref 2), some (.int (nI p)), some (.int (nI (g p - 97))), none, none] [.int (nI (wd (g (p + 1))))] (ma_up M 2 0 (nI (nq g p))) L := by
    intro e2
    have e3 := wd_le (g (p + 1))
    have hq : nq g p ≤ n := by
      have := h1.lt (by omega)
      unfold nq
      split
      · omega
      · next e4 =>
        apply Nat.lt_of_not_le
        intro e5
        exact e4 (by rw [k7 (p + 1) (by omega)]; rfl)
    refine ma_walk (mo_X1_name ms_X1_here ms_X0_isLetter ms_X1_fails ms_X1_eats ms_X2_lineOf) hV [] (fun F hF => ?_)
    simp only [tb_X1_name, hF, in_no, in_push, in_ild, in_lld, in_ald, in_ist, in_ast, in_lst, in_inc, in_iii, in_idv, in_ldv, in_lll, in_lli, in_lil, in_ii, in_il, in_li, in_ll, in_dup, in_dp2, q_if1, q_if2, in_go, in_sw, ma_sw, in_rv, in_ri, in_rz, in_rl, in_get, in_put, in_puz, in_iar, in_bar, in_lar, in_aar, in_iaw, in_baw, in_law, in_len, in_cpy, in_s1, in_s2, in_s3, in_v1, in_v2, in_v3, in_v4, in_v5, in_v6, ma_bk, ma_gl, ma_sl, ma_nl, ma_wc, ma_wd, ma_nn, ma_en, List.mem_cons, List.not_mem_nil, or_false, or_true, true_or, false_or, true_and, and_true, false_and, and_false, if_true, if_false, forall_const, true_implies, false_implies, not_true_eq_false, not_false_eq_true, Classical.not_not, implies_true, and_self, Nat.add_zero, Nat.zero_add, eq_self, ne_eq, reduceCtorEq, Nat.reduceLT, Nat.reduceLeDiff, Nat.reduceEqDiff, Nat.reduceSub, Nat.reduceAdd, i10, i01, im10, Int32.reduceLT, Int32.reduceLE, ↓reduceIte, reduceIte, up_r, uL_r, cp_r, Int32.toInt_toInt64, Int64.reduceToInt, Int32.reduceToInt, ↓b1_or, b1_0, b1_1, lc_lt, lc_le, lc_gt, lc_ge, lc_eq, yx_0, yx_1, yx_2, yx_3, yx_4, yx_5, yx_6, yx_7, yx_8, yx_9, yx_10, yx_11, yx_12, yx_13, yx_14, yx_15, yx_16, yx_17, yx_18, yx_19, yx_20, yx_21, yx_22, yx_23, yx_24, yx_25, yx_26, yx_27, yx_28, yx_29, yx_30, yx_31, yx_32, yx_33, yx_34, yx_35, yx_36, yx_37, yx_38, yx_39, yx_40, yx_41, yx_42, yx_43, yx_44, yx_45, yx_46, yx_47, yx_48, yx_49, yx_50, yx_51, yx_52, yx_53, yx_54, yx_55, yx_56, yx_57, yx_58, yx_59, yx_60, yx_61, yx_62, yx_63, yx_64, yx_65, yx_66, yx_67, yx_68, rx_0, rx_1, rx_2, rx_3, rx_4, rx_5, rx_6, rx_7, rx_8, rx_9, rx_10, rx_11, rx_12, rx_13, rx_14, rx_15, rx_16, rx_17, rx_18, rx_19, rx_20, rx_21, rx_22, rx_23, rx_24, rx_25, rx_26, rx_27, rx_28, rx_29, rx_30, rx_31, rx_32, rx_33, rp_0, rp_1, rp_2, rp_3, rp_4, rp_5, rp_6, rp_7, rp_8, rs_0, rs_1, rs_2, rs_3, rs_4, re_0, re_1, re_2, re_3, re_4, re_5, rr_0, rr_1, rr_2, rr_3, rr_4, rk_0, rk_1, isP3, isP11, isP46, isP58, isS25, isS28, isS31, un_X1_here, un_X0_isLetter, un_X1_fails, un_X1_eats, un_X2_lineOf]
    try simp only [iteP, Classical.not_not]
    refine ⟨g, n, nq g p, 39, ⟨h1.up hq, rfl, by omega, by omega⟩, ?_⟩
    simp only [up_c (show (4 : Nat) ≠ 2 by decide), h2.fd (show g p - 97 < 4 by omega), a_0lt (show wd (g (p + 1)) < 2147483648 by omega), up_up]
    refine ⟨fun c => ⟨fun c1 => ?_, fun c1 => ⟨?_, fun c2 => ?_, fun c2 => ?_⟩⟩, fun c => ?_⟩
    · refine h.2 _ ?_ (fun a ha => (up_c ha).trans (up_c ha)) rfl
      unfold nm; rw [if_pos e2, if_pos c, if_neg (by omega)]
    · rw [h2.1]; exact vp_in_nI (by have := h2.2.1; omega) (by decide)
    · refine h.2 _ ?_ (fun a ha => (up_c ha).trans (up_c ha)) rfl
      unfold nm; rw [if_pos e2, if_pos c, if_neg (fun z => c2 z.2)]
    · refine kk (h.1 (nq g p + 1) (g p - 97 + 20) ?_) rfl ?_ rfl
      · unfold nm; rw [if_pos e2, if_pos c, if_pos ⟨by omega, Classical.not_not.1 c2⟩]
      · have e4 : wd (g (p + 1)) = 0 := by omega
        have e5 : (16 : Int32) * nI (g p - 97) + 2 * nI (wd (g (p + 1))) + 1 = nI (ex (g p - 97 + 20)) := by
          simp only [a_lit, pk_mul, nI_add]
          unfold ex; rw [if_pos (by omega), e4]; congr 1; omega
        rw [e5]
    · refine kk (h.1 (nq g p) (g p - 97 + 4 * wd (g (p + 1))) ?_) rfl ?_ rfl
      · unfold nm; rw [if_pos e2, if_neg c]
      · have e5 : (16 : Int32) * nI (g p - 97) + 2 * nI (wd (g (p + 1))) + 0 = nI (ex (g p - 97 + 4 * wd (g (p + 1)))) := by
          simp only [a_lit, pk_mul, nI_add]
          unfold ex; rw [if_neg (by omega)]; congr 1; omega
        rw [e5]
  refine ma_walk (mo_X1_name ms_X1_here ms_X0_isLetter ms_X1_fails ms_X1_eats ms_X2_lineOf) hV [92] (fun F hF => ?_)
  simp only [tb_X1_name, hF, in_no, in_push, in_ild, in_lld, in_ald, in_ist, in_ast, in_lst, in_inc, in_iii, in_idv, in_ldv, in_lll, in_lli, in_lil, in_ii, in_il, in_li, in_ll, in_dup, in_dp2, q_if1, q_if2, in_go, in_sw, ma_sw, in_rv, in_ri, in_rz, in_rl, in_get, in_put, in_puz, in_iar, in_bar, in_lar, in_aar, in_iaw, in_baw, in_law, in_len, in_cpy, in_s1, in_s2, in_s3, in_v1, in_v2, in_v3, in_v4, in_v5, in_v6, ma_bk, ma_gl, ma_sl, ma_nl, ma_wc, ma_wd, ma_nn, ma_en, List.mem_cons, List.not_mem_nil, or_false, or_true, true_or, false_or, true_and, and_true, false_and, and_false, if_true, if_false, forall_const, true_implies, false_implies, not_true_eq_false, not_false_eq_true, Classical.not_not, implies_true, and_self, Nat.add_zero, Nat.zero_add, eq_self, ne_eq, reduceCtorEq, Nat.reduceLT, Nat.reduceLeDiff, Nat.reduceEqDiff, Nat.reduceSub, Nat.reduceAdd, i10, i01, im10, Int32.reduceLT, Int32.reduceLE, ↓reduceIte, reduceIte, up_r, uL_r, cp_r, Int32.toInt_toInt64, Int64.reduceToInt, Int32.reduceToInt, ↓b1_or, b1_0, b1_1, lc_lt, lc_le, lc_gt, lc_ge, lc_eq, yx_0, yx_1, yx_2, yx_3, yx_4, yx_5, yx_6, yx_7, yx_8, yx_9, yx_10, yx_11, yx_12, yx_13, yx_14, yx_15, yx_16, yx_17, yx_18, yx_19, yx_20, yx_21, yx_22, yx_23, yx_24, yx_25, yx_26, yx_27, yx_28, yx_29, yx_30, yx_31, yx_32, yx_33, yx_34, yx_35, yx_36, yx_37, yx_38, yx_39, yx_40, yx_41, yx_42, yx_43, yx_44, yx_45, yx_46, yx_47, yx_48, yx_49, yx_50, yx_51, yx_52, yx_53, yx_54, yx_55, yx_56, yx_57, yx_58, yx_59, yx_60, yx_61, yx_62, yx_63, yx_64, yx_65, yx_66, yx_67, yx_68, rx_0, rx_1, rx_2, rx_3, rx_4, rx_5, rx_6, rx_7, rx_8, rx_9, rx_10, rx_11, rx_12, rx_13, rx_14, rx_15, rx_16, rx_17, rx_18, rx_19, rx_20, rx_21, rx_22, rx_23, rx_24, rx_25, rx_26, rx_27, rx_28, rx_29, rx_30, rx_31, rx_32, rx_33, rp_0, rp_1, rp_2, rp_3, rp_4, rp_5, rp_6, rp_7, rp_8, rs_0, rs_1, rs_2, rs_3, rs_4, re_0, re_1, re_2, re_3, re_4, re_5, rr_0, rr_1, rr_2, rr_3, rr_4, rk_0, rk_1, isP3, isP11, isP46, isP58, isS25, isS28, isS31, un_X1_here, un_X0_isLetter, un_X1_fails, un_X1_eats, un_X2_lineOf, k2]
  try simp only [iteP, Classical.not_not]
  refine ⟨g, n, p, h1, ?_⟩
  rw [sb_l _ (k6 p)]
  refine ⟨fun c => ?_, fun c => ?_⟩
  · refine h.2 _ ?_ (fun a ha => up_c ha) rfl
    unfold nm; rw [if_neg c]
  · have h92 := h92 c
    have e0 : p < n := h1.lt (by omega)
    rw [sb_s c]
    simp only [nI_1, up_up]
    have hR := h1.up (q := p + 1) (by omega)
    unfold nq wd at h92
    refine ⟨g, n, p + 1, 110, ⟨hR, rfl, by omega, by omega⟩, fun c1 => ?_, fun c1 => ?_⟩
    · simp only [c1, if_true] at h92; exact h92
    refine ⟨g, n, p + 1, 101, ⟨hR, rfl, by omega, by omega⟩, fun c2 => ?_, fun c2 => ?_⟩
    · simp only [c2, if_true] at h92; exact h92
    refine ⟨g, n, p + 1, 115, ⟨hR, rfl, by omega, by omega⟩, fun c3 => ?_, fun c3 => ?_⟩
    · simp only [c3, if_true] at h92; exact h92
    refine ⟨g, n, p + 1, 119, ⟨hR, rfl, by omega, by omega⟩, fun c4 => ?_, fun c4 => ?_⟩
    · simp only [c4, if_true] at h92; exact h92
    · simp only [c1, c2, c3, c4, if_true, if_false] at h92; exact h92
theorem pv_X1_name : ∀ as M L K, S_X1_name as M L K → ma_rn (tb_X1_name S_X1_here S_X0_isLetter S_X1_fails S_X1_eats S_X2_lineOf) 5 as M L K := by
  intro as M L K h
  unfold S_X1_name at h
  split at h
  · obtain ⟨g, n, p, ds, h⟩ := h; exact pw_X1_name h.1 h.2
  · exact h.elim
