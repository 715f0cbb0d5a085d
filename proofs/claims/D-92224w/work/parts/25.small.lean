/-! small methods of both sides: their specs -/
set_option maxRecDepth 100000
set_option maxHeartbeats 4000000
theorem i10 : ((1 : Int32) = 0) = False := eq_false (by decide)
theorem i01 : ((0 : Int32) = 1) = False := eq_false (by decide)
theorem im10 : ((-1 : Int32) = 0) = False := eq_false (by decide)
def S_J0_min : ma_Cs := fun as M L K => match as with
  | [.int a, .int b] => (K (some (.int (if b < a then b else a))) M L)
  | _ => False
theorem ms_J0_min : ma_ms S_J0_min := by
  intro as M L K K' hk h
  unfold S_J0_min at h ⊢
  split at h
  · exact hk _ _ _ h
  · exact h.elim
theorem un_J0_min {a : Int32} {b : Int32} {M : ZM} {L : ZL} {K : ma_Kt} : S_J0_min [.int a, .int b] M L K = ((K (some (.int (if b < a then b else a))) M L)) := rfl
theorem pw_J0_min {a : Int32} {b : Int32}  {M : ZM} {L : ZL} {K : ma_Kt} (h : (K (some (.int (if b < a then b else a))) M L)) : ma_rn tb_J0_min 2 [.int a, .int b] M L K := by
  refine ⟨Nat.le_of_ble_eq_true rfl, fun V hV => ?_⟩
  refine ma_walk mo_J0_min hV [] (fun F hF => ?_)
  simp only [tb_J0_min, hF, in_no, in_push, in_ild, in_lld, in_ald, in_ist, in_ast, in_lst, in_inc, in_iii, in_idv, in_ldv, in_lll, in_lli, in_lil, in_ii, in_il, in_li, in_ll, in_dup, in_dp2, q_if1, q_if2, in_go, in_sw, ma_sw, in_rv, in_ri, in_rz, in_rl, in_get, in_put, in_puz, in_iar, in_bar, in_lar, in_aar, in_iaw, in_baw, in_law, in_len, in_cpy, in_s1, in_s2, in_s3, in_v1, in_v2, in_v3, in_v4, in_v5, in_v6, ma_bk, ma_gl, ma_sl, ma_nl, ma_wc, ma_wd, ma_nn, ma_en, List.mem_cons, List.not_mem_nil, or_false, or_true, true_or, false_or, true_and, and_true, false_and, and_false, if_true, if_false, forall_const, true_implies, false_implies, not_true_eq_false, not_false_eq_true, Classical.not_not, implies_true, and_self, Nat.add_zero, Nat.zero_add, eq_self, ne_eq, reduceCtorEq, Nat.reduceLT, Nat.reduceLeDiff, Nat.reduceEqDiff, Nat.reduceSub, Nat.reduceAdd, i10, i01, im10, Int32.reduceLT, Int32.reduceLE, ↓reduceIte, reduceIte, up_r, uL_r, cp_r, Int32.toInt_toInt64, Int64.reduceToInt, Int32.reduceToInt, ↓b1_or, b1_0, b1_1, lc_lt, lc_le, lc_gt, lc_ge, lc_eq]
  try simp only [iteP, Classical.not_not]
  refine ⟨fun c => ?_, fun c => ?_⟩
  · rw [if_pos c] at h; exact h
  · rw [if_neg c] at h; exact h
theorem pv_J0_min : ∀ as M L K, S_J0_min as M L K → ma_rn tb_J0_min 2 as M L K := by
  intro as M L K h
  unfold S_J0_min at h
  split at h
  · exact pw_J0_min h
  · exact h.elim
def S_J0_max : ma_Cs := fun as M L K => match as with
  | [.int a, .int b] => (K (some (.int (if a < b then b else a))) M L)
  | _ => False
theorem ms_J0_max : ma_ms S_J0_max := by
  intro as M L K K' hk h
  unfold S_J0_max at h ⊢
  split at h
  · exact hk _ _ _ h
  · exact h.elim
theorem un_J0_max {a : Int32} {b : Int32} {M : ZM} {L : ZL} {K : ma_Kt} : S_J0_max [.int a, .int b] M L K = ((K (some (.int (if a < b then b else a))) M L)) := rfl
theorem pw_J0_max {a : Int32} {b : Int32}  {M : ZM} {L : ZL} {K : ma_Kt} (h : (K (some (.int (if a < b then b else a))) M L)) : ma_rn tb_J0_max 2 [.int a, .int b] M L K := by
  refine ⟨Nat.le_of_ble_eq_true rfl, fun V hV => ?_⟩
  refine ma_walk mo_J0_max hV [] (fun F hF => ?_)
  simp only [tb_J0_max, hF, in_no, in_push, in_ild, in_lld, in_ald, in_ist, in_ast, in_lst, in_inc, in_iii, in_idv, in_ldv, in_lll, in_lli, in_lil, in_ii, in_il, in_li, in_ll, in_dup, in_dp2, q_if1, q_if2, in_go, in_sw, ma_sw, in_rv, in_ri, in_rz, in_rl, in_get, in_put, in_puz, in_iar, in_bar, in_lar, in_aar, in_iaw, in_baw, in_law, in_len, in_cpy, in_s1, in_s2, in_s3, in_v1, in_v2, in_v3, in_v4, in_v5, in_v6, ma_bk, ma_gl, ma_sl, ma_nl, ma_wc, ma_wd, ma_nn, ma_en, List.mem_cons, List.not_mem_nil, or_false, or_true, true_or, false_or, true_and, and_true, false_and, and_false, if_true, if_false, forall_const, true_implies, false_implies, not_true_eq_false, not_false_eq_true, Classical.not_not, implies_true, and_self, Nat.add_zero, Nat.zero_add, eq_self, ne_eq, reduceCtorEq, Nat.reduceLT, Nat.reduceLeDiff, Nat.reduceEqDiff, Nat.reduceSub, Nat.reduceAdd, i10, i01, im10, Int32.reduceLT, Int32.reduceLE, ↓reduceIte, reduceIte, up_r, uL_r, cp_r, Int32.toInt_toInt64, Int64.reduceToInt, Int32.reduceToInt, ↓b1_or, b1_0, b1_1, lc_lt, lc_le, lc_gt, lc_ge, lc_eq]
  try simp only [iteP, Classical.not_not]
  refine ⟨fun c => ?_, fun c => ?_⟩
  · rw [if_pos c] at h; exact h
  · rw [if_neg c] at h; exact h
theorem pv_J0_max : ∀ as M L K, S_J0_max as M L K → ma_rn tb_J0_max 2 as M L K := by
  intro as M L K h
  unfold S_J0_max at h
  split at h
  · exact pw_J0_max h
  · exact h.elim
def S_J0_abs : ma_Cs := fun as M L K => match as with
  | [.long a] => (K (some (.long (if 0 ≤ a then a else -a))) M L)
  | _ => False
theorem ms_J0_abs : ma_ms S_J0_abs := by
  intro as M L K K' hk h
  unfold S_J0_abs at h ⊢
  split at h
  · exact hk _ _ _ h
  · exact h.elim
theorem un_J0_abs {a : Int64} {M : ZM} {L : ZL} {K : ma_Kt} : S_J0_abs [.long a] M L K = ((K (some (.long (if 0 ≤ a then a else -a))) M L)) := rfl
theorem pw_J0_abs {a : Int64}  {M : ZM} {L : ZL} {K : ma_Kt} (h : (K (some (.long (if 0 ≤ a then a else -a))) M L)) : ma_rn tb_J0_abs 2 [.long a] M L K := by
  refine ⟨Nat.le_of_ble_eq_true rfl, fun V hV => ?_⟩
  refine ma_walk mo_J0_abs hV [] (fun F hF => ?_)
  simp only [tb_J0_abs, hF, in_no, in_push, in_ild, in_lld, in_ald, in_ist, in_ast, in_lst, in_inc, in_iii, in_idv, in_ldv, in_lll, in_lli, in_lil, in_ii, in_il, in_li, in_ll, in_dup, in_dp2, q_if1, q_if2, in_go, in_sw, ma_sw, in_rv, in_ri, in_rz, in_rl, in_get, in_put, in_puz, in_iar, in_bar, in_lar, in_aar, in_iaw, in_baw, in_law, in_len, in_cpy, in_s1, in_s2, in_s3, in_v1, in_v2, in_v3, in_v4, in_v5, in_v6, ma_bk, ma_gl, ma_sl, ma_nl, ma_wc, ma_wd, ma_nn, ma_en, List.mem_cons, List.not_mem_nil, or_false, or_true, true_or, false_or, true_and, and_true, false_and, and_false, if_true, if_false, forall_const, true_implies, false_implies, not_true_eq_false, not_false_eq_true, Classical.not_not, implies_true, and_self, Nat.add_zero, Nat.zero_add, eq_self, ne_eq, reduceCtorEq, Nat.reduceLT, Nat.reduceLeDiff, Nat.reduceEqDiff, Nat.reduceSub, Nat.reduceAdd, i10, i01, im10, Int32.reduceLT, Int32.reduceLE, ↓reduceIte, reduceIte, up_r, uL_r, cp_r, Int32.toInt_toInt64, Int64.reduceToInt, Int32.reduceToInt, ↓b1_or, b1_0, b1_1, lc_lt, lc_le, lc_gt, lc_ge, lc_eq]
  try simp only [iteP, Classical.not_not]
  refine ⟨fun c => ?_, fun c => ?_⟩
  · rw [if_pos c] at h; exact h
  · rw [if_neg c] at h; exact h
theorem pv_J0_abs : ∀ as M L K, S_J0_abs as M L K → ma_rn tb_J0_abs 2 as M L K := by
  intro as M L K h
  unfold S_J0_abs at h
  split at h
  · exact pw_J0_abs h
  · exact h.elim
def S_J0_abs_2 : ma_Cs := fun as M L K => match as with
  | [.int a] => (K (some (.int (if 0 ≤ a then a else -a))) M L)
  | _ => False
theorem ms_J0_abs_2 : ma_ms S_J0_abs_2 := by
  intro as M L K K' hk h
  unfold S_J0_abs_2 at h ⊢
  split at h
  · exact hk _ _ _ h
  · exact h.elim
theorem un_J0_abs_2 {a : Int32} {M : ZM} {L : ZL} {K : ma_Kt} : S_J0_abs_2 [.int a] M L K = ((K (some (.int (if 0 ≤ a then a else -a))) M L)) := rfl
theorem pw_J0_abs_2 {a : Int32}  {M : ZM} {L : ZL} {K : ma_Kt} (h : (K (some (.int (if 0 ≤ a then a else -a))) M L)) : ma_rn tb_J0_abs_2 1 [.int a] M L K := by
  refine ⟨Nat.le_of_ble_eq_true rfl, fun V hV => ?_⟩
  refine ma_walk mo_J0_abs_2 hV [] (fun F hF => ?_)
  simp only [tb_J0_abs_2, hF, in_no, in_push, in_ild, in_lld, in_ald, in_ist, in_ast, in_lst, in_inc, in_iii, in_idv, in_ldv, in_lll, in_lli, in_lil, in_ii, in_il, in_li, in_ll, in_dup, in_dp2, q_if1, q_if2, in_go, in_sw, ma_sw, in_rv, in_ri, in_rz, in_rl, in_get, in_put, in_puz, in_iar, in_bar, in_lar, in_aar, in_iaw, in_baw, in_law, in_len, in_cpy, in_s1, in_s2, in_s3, in_v1, in_v2, in_v3, in_v4, in_v5, in_v6, ma_bk, ma_gl, ma_sl, ma_nl, ma_wc, ma_wd, ma_nn, ma_en, List.mem_cons, List.not_mem_nil, or_false, or_true, true_or, false_or, true_and, and_true, false_and, and_false, if_true, if_false, forall_const, true_implies, false_implies, not_true_eq_false, not_false_eq_true, Classical.not_not, implies_true, and_self, Nat.add_zero, Nat.zero_add, eq_self, ne_eq, reduceCtorEq, Nat.reduceLT, Nat.reduceLeDiff, Nat.reduceEqDiff, Nat.reduceSub, Nat.reduceAdd, i10, i01, im10, Int32.reduceLT, Int32.reduceLE, ↓reduceIte, reduceIte, up_r, uL_r, cp_r, Int32.toInt_toInt64, Int64.reduceToInt, Int32.reduceToInt, ↓b1_or, b1_0, b1_1, lc_lt, lc_le, lc_gt, lc_ge, lc_eq]
  try simp only [iteP, Classical.not_not]
  refine ⟨fun c => ?_, fun c => ?_⟩
  · rw [if_pos c] at h; exact h
  · rw [if_neg c] at h; exact h
theorem pv_J0_abs_2 : ∀ as M L K, S_J0_abs_2 as M L K → ma_rn tb_J0_abs_2 1 as M L K := by
  intro as M L K h
  unfold S_J0_abs_2 at h
  split at h
  · exact pw_J0_abs_2 h
  · exact h.elim
def fdI (a b : Int32) : Int32 := if 0 ≤ a ^^^ b then a / b else if a / b * b = a then a / b else a / b - 1
def fdL (a b : Int64) : Int64 := if 0 ≤ a ^^^ b then a / b else if a / b * b = a then a / b else a / b - 1
def S_J0_floorDiv : ma_Cs := fun as M L K => match as with
  | [.int a, .int b] => (¬ b = 0) ∧ (K (some (.int (fdI a b))) M L)
  | _ => False
theorem ms_J0_floorDiv : ma_ms S_J0_floorDiv := by
  intro as M L K K' hk h
  unfold S_J0_floorDiv at h ⊢
  split at h
  · exact ⟨h.1, hk _ _ _ h.2⟩
  · exact h.elim
theorem un_J0_floorDiv {a : Int32} {b : Int32} {M : ZM} {L : ZL} {K : ma_Kt} : S_J0_floorDiv [.int a, .int b] M L K = ((¬ b = 0) ∧ (K (some (.int (fdI a b))) M L)) := rfl
theorem pw_J0_floorDiv {a : Int32} {b : Int32}  {M : ZM} {L : ZL} {K : ma_Kt} (hp : ¬ b = 0) (h : (K (some (.int (fdI a b))) M L)) : ma_rn tb_J0_floorDiv 3 [.int a, .int b] M L K := by
  refine ⟨Nat.le_of_ble_eq_true rfl, fun V hV => ?_⟩
  refine ma_walk mo_J0_floorDiv hV [] (fun F hF => ?_)
  simp only [tb_J0_floorDiv, hF, in_no, in_push, in_ild, in_lld, in_ald, in_ist, in_ast, in_lst, in_inc, in_iii, in_idv, in_ldv, in_lll, in_lli, in_lil, in_ii, in_il, in_li, in_ll, in_dup, in_dp2, q_if1, q_if2, in_go, in_sw, ma_sw, in_rv, in_ri, in_rz, in_rl, in_get, in_put, in_puz, in_iar, in_bar, in_lar, in_aar, in_iaw, in_baw, in_law, in_len, in_cpy, in_s1, in_s2, in_s3, in_v1, in_v2, in_v3, in_v4, in_v5, in_v6, ma_bk, ma_gl, ma_sl, ma_nl, ma_wc, ma_wd, ma_nn, ma_en, List.mem_cons, List.not_mem_nil, or_false, or_true, true_or, false_or, true_and, and_true, false_and, and_false, if_true, if_false, forall_const, true_implies, false_implies, not_true_eq_false, not_false_eq_true, Classical.not_not, implies_true, and_self, Nat.add_zero, Nat.zero_add, eq_self, ne_eq, reduceCtorEq, Nat.reduceLT, Nat.reduceLeDiff, Nat.reduceEqDiff, Nat.reduceSub, Nat.reduceAdd, i10, i01, im10, Int32.reduceLT, Int32.reduceLE, ↓reduceIte, reduceIte, up_r, uL_r, cp_r, Int32.toInt_toInt64, Int64.reduceToInt, Int32.reduceToInt, ↓b1_or, b1_0, b1_1, lc_lt, lc_le, lc_gt, lc_ge, lc_eq, hp]
  try simp only [iteP, Classical.not_not]
  refine ⟨fun c => ?_, fun c => ⟨fun c2 => ?_, fun c2 => ?_⟩⟩
  · rw [fdI, if_pos c] at h; exact h
  · rw [fdI, if_neg c, if_pos c2] at h; exact h
  · rw [fdI, if_neg c, if_neg c2] at h; exact h
theorem pv_J0_floorDiv : ∀ as M L K, S_J0_floorDiv as M L K → ma_rn tb_J0_floorDiv 3 as M L K := by
  intro as M L K h
  unfold S_J0_floorDiv at h
  split at h
  · exact pw_J0_floorDiv h.1 h.2
  · exact h.elim
def S_J0_floorDiv_2 : ma_Cs := fun as M L K => match as with
  | [.long a, .long b] => (¬ b = 0) ∧ (K (some (.long (fdL a b))) M L)
  | _ => False
theorem ms_J0_floorDiv_2 : ma_ms S_J0_floorDiv_2 := by
  intro as M L K K' hk h
  unfold S_J0_floorDiv_2 at h ⊢
  split at h
  · exact ⟨h.1, hk _ _ _ h.2⟩
  · exact h.elim
theorem un_J0_floorDiv_2 {a : Int64} {b : Int64} {M : ZM} {L : ZL} {K : ma_Kt} : S_J0_floorDiv_2 [.long a, .long b] M L K = ((¬ b = 0) ∧ (K (some (.long (fdL a b))) M L)) := rfl
theorem pw_J0_floorDiv_2 {a : Int64} {b : Int64}  {M : ZM} {L : ZL} {K : ma_Kt} (hp : ¬ b = 0) (h : (K (some (.long (fdL a b))) M L)) : ma_rn tb_J0_floorDiv_2 6 [.long a, .long b] M L K := by
  refine ⟨Nat.le_of_ble_eq_true rfl, fun V hV => ?_⟩
  refine ma_walk mo_J0_floorDiv_2 hV [] (fun F hF => ?_)
  simp only [tb_J0_floorDiv_2, hF, in_no, in_push, in_ild, in_lld, in_ald, in_ist, in_ast, in_lst, in_inc, in_iii, in_idv, in_ldv, in_lll, in_lli, in_lil, in_ii, in_il, in_li, in_ll, in_dup, in_dp2, q_if1, q_if2, in_go, in_sw, ma_sw, in_rv, in_ri, in_rz, in_rl, in_get, in_put, in_puz, in_iar, in_bar, in_lar, in_aar, in_iaw, in_baw, in_law, in_len, in_cpy, in_s1, in_s2, in_s3, in_v1, in_v2, in_v3, in_v4, in_v5, in_v6, ma_bk, ma_gl, ma_sl, ma_nl, ma_wc, ma_wd, ma_nn, ma_en, List.mem_cons, List.not_mem_nil, or_false, or_true, true_or, false_or, true_and, and_true, false_and, and_false, if_true, if_false, forall_const, true_implies, false_implies, not_true_eq_false, not_false_eq_true, Classical.not_not, implies_true, and_self, Nat.add_zero, Nat.zero_add, eq_self, ne_eq, reduceCtorEq, Nat.reduceLT, Nat.reduceLeDiff, Nat.reduceEqDiff, Nat.reduceSub, Nat.reduceAdd, i10, i01, im10, Int32.reduceLT, Int32.reduceLE, ↓reduceIte, reduceIte, up_r, uL_r, cp_r, Int32.toInt_toInt64, Int64.reduceToInt, Int32.reduceToInt, ↓b1_or, b1_0, b1_1, lc_lt, lc_le, lc_gt, lc_ge, lc_eq, hp]
  try simp only [iteP, Classical.not_not]
  refine ⟨fun c => ?_, fun c => ⟨fun c2 => ?_, fun c2 => ?_⟩⟩
  · rw [fdL, if_pos c] at h; exact h
  · rw [fdL, if_neg c, if_pos c2] at h; exact h
  · rw [fdL, if_neg c, if_neg c2] at h; exact h
theorem pv_J0_floorDiv_2 : ∀ as M L K, S_J0_floorDiv_2 as M L K → ma_rn tb_J0_floorDiv_2 6 as M L K := by
  intro as M L K h
  unfold S_J0_floorDiv_2 at h
  split at h
  · exact pw_J0_floorDiv_2 h.1 h.2
  · exact h.elim
def S_X0_isIn : ma_Cs := fun as M L K => match as with
  | [.long v, .long a, .long b] => (K (some (.int (b1 (a.toInt ≤ v.toInt ∧ v.toInt ≤ b.toInt)))) M L)
  | _ => False
theorem ms_X0_isIn : ma_ms S_X0_isIn := by
  intro as M L K K' hk h
  unfold S_X0_isIn at h ⊢
  split at h
  · exact hk _ _ _ h
  · exact h.elim
theorem un_X0_isIn {v : Int64} {a : Int64} {b : Int64} {M : ZM} {L : ZL} {K : ma_Kt} : S_X0_isIn [.long v, .long a, .long b] M L K = ((K (some (.int (b1 (a.toInt ≤ v.toInt ∧ v.toInt ≤ b.toInt)))) M L)) := rfl
theorem pw_X0_isIn {v : Int64} {a : Int64} {b : Int64}  {M : ZM} {L : ZL} {K : ma_Kt} (h : (K (some (.int (b1 (a.toInt ≤ v.toInt ∧ v.toInt ≤ b.toInt)))) M L)) : ma_rn tb_X0_isIn 6 [.long v, .long a, .long b] M L K := by
  refine ⟨Nat.le_of_ble_eq_true rfl, fun V hV => ?_⟩
  refine ma_walk mo_X0_isIn hV [] (fun F hF => ?_)
  simp only [tb_X0_isIn, hF, in_no, in_push, in_ild, in_lld, in_ald, in_ist, in_ast, in_lst, in_inc, in_iii, in_idv, in_ldv, in_lll, in_lli, in_lil, in_ii, in_il, in_li, in_ll, in_dup, in_dp2, q_if1, q_if2, in_go, in_sw, ma_sw, in_rv, in_ri, in_rz, in_rl, in_get, in_put, in_puz, in_iar, in_bar, in_lar, in_aar, in_iaw, in_baw, in_law, in_len, in_cpy, in_s1, in_s2, in_s3, in_v1, in_v2, in_v3, in_v4, in_v5, in_v6, ma_bk, ma_gl, ma_sl, ma_nl, ma_wc, ma_wd, ma_nn, ma_en, List.mem_cons, List.not_mem_nil, or_false, or_true, true_or, false_or, true_and, and_true, false_and, and_false, if_true, if_false, forall_const, true_implies, false_implies, not_true_eq_false, not_false_eq_true, Classical.not_not, implies_true, and_self, Nat.add_zero, Nat.zero_add, eq_self, ne_eq, reduceCtorEq, Nat.reduceLT, Nat.reduceLeDiff, Nat.reduceEqDiff, Nat.reduceSub, Nat.reduceAdd, i10, i01, im10, Int32.reduceLT, Int32.reduceLE, ↓reduceIte, reduceIte, up_r, uL_r, cp_r, Int32.toInt_toInt64, Int64.reduceToInt, Int32.reduceToInt, ↓b1_or, b1_0, b1_1, lc_lt, lc_le, lc_gt, lc_ge, lc_eq, yx_0, yx_1, yx_2, yx_3, yx_4, yx_5, yx_6, yx_7, yx_8, yx_9, yx_10, yx_11, yx_12, yx_13, yx_14, yx_15, yx_16, yx_17, yx_18, yx_19, yx_20, yx_21, yx_22, yx_23, yx_24, yx_25, yx_26, yx_27, yx_28, yx_29, yx_30, yx_31, yx_32, yx_33, yx_34, yx_35, yx_36, yx_37, yx_38, yx_39, yx_40, yx_41, yx_42, yx_43, yx_44, yx_45, yx_46, yx_47, yx_48, yx_49, yx_50, yx_51, yx_52, yx_53, yx_54, yx_55, yx_56, yx_57, yx_58, yx_59, yx_60, yx_61, yx_62, yx_63, yx_64, yx_65, yx_66, yx_67, yx_68, rx_0, rx_1, rx_2, rx_3, rx_4, rx_5, rx_6, rx_7, rx_8, rx_9, rx_10, rx_11, rx_12, rx_13, rx_14, rx_15, rx_16, rx_17, rx_18, rx_19, rx_20, rx_21, rx_22, rx_23, rx_24, rx_25, rx_26, rx_27, rx_28, rx_29, rx_30, rx_31, rx_32, rx_33, rp_0, rp_1, rp_2, rp_3, rp_4, rp_5, rp_6, rp_7, rp_8, rs_0, rs_1, rs_2, rs_3, rs_4, re_0, re_1, re_2, re_3, re_4, re_5, rr_0, rr_1, rr_2, rr_3, rr_4, rk_0, rk_1, isP3, isP11, isP46, isP58, isS25, isS28, isS31, Int64.lt_iff_toInt_lt]
  try simp only [iteP, Classical.not_not]
  (repeat' (first | apply And.intro | intro _)) <;> (first | exact h | (refine ki h ?_ rfl rfl; first | rw [b1_t (by omega)] | rw [b1_f (by omega)]))
theorem pv_X0_isIn : ∀ as M L K, S_X0_isIn as M L K → ma_rn tb_X0_isIn 6 as M L K := by
  intro as M L K h
  unfold S_X0_isIn at h
  split at h
  · exact pw_X0_isIn h
  · exact h.elim
def S_X5_in : ma_Cs := fun as M L K => match as with
  | [.long v, .long a, .long b] => (K (some (.int (b1 (a.toInt ≤ v.toInt ∧ v.toInt ≤ b.toInt)))) M L)
  | _ => False
theorem ms_X5_in : ma_ms S_X5_in := by
  intro as M L K K' hk h
  unfold S_X5_in at h ⊢
  split at h
  · exact hk _ _ _ h
  · exact h.elim
theorem un_X5_in {v : Int64} {a : Int64} {b : Int64} {M : ZM} {L : ZL} {K : ma_Kt} : S_X5_in [.long v, .long a, .long b] M L K = ((K (some (.int (b1 (a.toInt ≤ v.toInt ∧ v.toInt ≤ b.toInt)))) M L)) := rfl
theorem pw_X5_in {v : Int64} {a : Int64} {b : Int64}  {M : ZM} {L : ZL} {K : ma_Kt} (h : (K (some (.int (b1 (a.toInt ≤ v.toInt ∧ v.toInt ≤ b.toInt)))) M L)) : ma_rn tb_X5_in 6 [.long v, .long a, .long b] M L K := by
  refine ⟨Nat.le_of_ble_eq_true rfl, fun V hV => ?_⟩
  refine ma_walk mo_X5_in hV [] (fun F hF => ?_)
  simp only [tb_X5_in, hF, in_no, in_push, in_ild, in_lld, in_ald, in_ist, in_ast, in_lst, in_inc, in_iii, in_idv, in_ldv, in_lll, in_lli, in_lil, in_ii, in_il, in_li, in_ll, in_dup, in_dp2, q_if1, q_if2, in_go, in_sw, ma_sw, in_rv, in_ri, in_rz, in_rl, in_get, in_put, in_puz, in_iar, in_bar, in_lar, in_aar, in_iaw, in_baw, in_law, in_len, in_cpy, in_s1, in_s2, in_s3, in_v1, in_v2, in_v3, in_v4, in_v5, in_v6, ma_bk, ma_gl, ma_sl, ma_nl, ma_wc, ma_wd, ma_nn, ma_en, List.mem_cons, List.not_mem_nil, or_false, or_true, true_or, false_or, true_and, and_true, false_and, and_false, if_true, if_false, forall_const, true_implies, false_implies, not_true_eq_false, not_false_eq_true, Classical.not_not, implies_true, and_self, Nat.add_zero, Nat.zero_add, eq_self, ne_eq, reduceCtorEq, Nat.reduceLT, Nat.reduceLeDiff, Nat.reduceEqDiff, Nat.reduceSub, Nat.reduceAdd, i10, i01, im10, Int32.reduceLT, Int32.reduceLE, ↓reduceIte, reduceIte, up_r, uL_r, cp_r, Int32.toInt_toInt64, Int64.reduceToInt, Int32.reduceToInt, ↓b1_or, b1_0, b1_1, lc_lt, lc_le, lc_gt, lc_ge, lc_eq, ym_0, ym_1, ym_2, ym_3, ym_4, ym_5, ym_6, ym_7, ym_8, ym_9, ym_10, ym_11, ym_12, ym_13, ym_14, ym_15, ym_16, ym_17, ym_18, ym_19, ym_20, ym_21, ym_22, ym_23, ym_24, ym_25, ym_26, ym_27, ym_28, ym_29, ym_30, rm__0, rm__1, rm__2, rm__3, rm__4, rm__5, rm__6, rm__7, rm__8, rm__9, rm__10, rm__11, rm__12, rm__13, rm__14, rm__15, rm__16, rm__17, rm__18, rm__19, rm__20, rm__21, rm__22, rm__23, rm__24, rm__25, rm__26, rm__27, rm__28, rm__29, rm__30, rm__31, rm__32, rm__33, rm__34, rm__35, rm__36, rm__37, rm__38, rm__39, rm__40, rm__41, rm__42, rm__43, rm__44, rm__45, Int64.lt_iff_toInt_lt]
  try simp only [iteP, Classical.not_not]
  (repeat' (first | apply And.intro | intro _)) <;> (first | exact h | (refine ki h ?_ rfl rfl; first | rw [b1_t (by omega)] | rw [b1_f (by omega)]))
theorem pv_X5_in : ∀ as M L K, S_X5_in as M L K → ma_rn tb_X5_in 6 as M L K := by
  intro as M L K h
  unfold S_X5_in at h
  split at h
  · exact pw_X5_in h
  · exact h.elim
def S_X0_isLetter : ma_Cs := fun as M L K => match as with
  | [.int l] => (K (some (.int (b1 (0 ≤ l.toInt ∧ l.toInt ≤ 3)))) M L)
  | _ => False
theorem ms_X0_isLetter : ma_ms S_X0_isLetter := by
  intro as M L K K' hk h
  unfold S_X0_isLetter at h ⊢
  split at h
  · exact hk _ _ _ h
  · exact h.elim
theorem un_X0_isLetter {l : Int32} {M : ZM} {L : ZL} {K : ma_Kt} : S_X0_isLetter [.int l] M L K = ((K (some (.int (b1 (0 ≤ l.toInt ∧ l.toInt ≤ 3)))) M L)) := rfl
theorem pw_X0_isLetter {l : Int32}  {M : ZM} {L : ZL} {K : ma_Kt} (h : (K (some (.int (b1 (0 ≤ l.toInt ∧ l.toInt ≤ 3)))) M L)) : ma_rn (tb_X0_isLetter S_X0_isIn) 1 [.int l] M L K := by
  refine ⟨Nat.le_of_ble_eq_true rfl, fun V hV => ?_⟩
  refine ma_walk (mo_X0_isLetter ms_X0_isIn) hV [] (fun F hF => ?_)
  simp only [tb_X0_isLetter, hF, in_no, in_push, in_ild, in_lld, in_ald, in_ist, in_ast, in_lst, in_inc, in_iii, in_idv, in_ldv, in_lll, in_lli, in_lil, in_ii, in_il, in_li, in_ll, in_dup, in_dp2, q_if1, q_if2, in_go, in_sw, ma_sw, in_rv, in_ri, in_rz, in_rl, in_get, in_put, in_puz, in_iar, in_bar, in_lar, in_aar, in_iaw, in_baw, in_law, in_len, in_cpy, in_s1, in_s2, in_s3, in_v1, in_v2, in_v3, in_v4, in_v5, in_v6, ma_bk, ma_gl, ma_sl, ma_nl, ma_wc, ma_wd, ma_nn, ma_en, List.mem_cons, List.not_mem_nil, or_false, or_true, true_or, false_or, true_and, and_true, false_and, and_false, if_true, if_false, forall_const, true_implies, false_implies, not_true_eq_false, not_false_eq_true, Classical.not_not, implies_true, and_self, Nat.add_zero, Nat.zero_add, eq_self, ne_eq, reduceCtorEq, Nat.reduceLT, Nat.reduceLeDiff, Nat.reduceEqDiff, Nat.reduceSub, Nat.reduceAdd, i10, i01, im10, Int32.reduceLT, Int32.reduceLE, ↓reduceIte, reduceIte, up_r, uL_r, cp_r, Int32.toInt_toInt64, Int64.reduceToInt, Int32.reduceToInt, ↓b1_or, b1_0, b1_1, lc_lt, lc_le, lc_gt, lc_ge, lc_eq, yx_0, yx_1, yx_2, yx_3, yx_4, yx_5, yx_6, yx_7, yx_8, yx_9, yx_10, yx_11, yx_12, yx_13, yx_14, yx_15, yx_16, yx_17, yx_18, yx_19, yx_20, yx_21, yx_22, yx_23, yx_24, yx_25, yx_26, yx_27, yx_28, yx_29, yx_30, yx_31, yx_32, yx_33, yx_34, yx_35, yx_36, yx_37, yx_38, yx_39, yx_40, yx_41, yx_42, yx_43, yx_44, yx_45, yx_46, yx_47, yx_48, yx_49, yx_50, yx_51, yx_52, yx_53, yx_54, yx_55, yx_56, yx_57, yx_58, yx_59, yx_60, yx_61, yx_62, yx_63, yx_64, yx_65, yx_66, yx_67, yx_68, rx_0, rx_1, rx_2, rx_3, rx_4, rx_5, rx_6, rx_7, rx_8, rx_9, rx_10, rx_11, rx_12, rx_13, rx_14, rx_15, rx_16, rx_17, rx_18, rx_19, rx_20, rx_21, rx_22, rx_23, rx_24, rx_25, rx_26, rx_27, rx_28, rx_29, rx_30, rx_31, rx_32, rx_33, rp_0, rp_1, rp_2, rp_3, rp_4, rp_5, rp_6, rp_7, rp_8, rs_0, rs_1, rs_2, rs_3, rs_4, re_0, re_1, re_2, re_3, re_4, re_5, rr_0, rr_1, rr_2, rr_3, rr_4, rk_0, rk_1, isP3, isP11, isP46, isP58, isS25, isS28, isS31, un_X0_isIn]
  try simp only [iteP, Classical.not_not]
  exact h
theorem pv_X0_isLetter : ∀ as M L K, S_X0_isLetter as M L K → ma_rn (tb_X0_isLetter S_X0_isIn) 1 as M L K := by
  intro as M L K h
  unfold S_X0_isLetter at h
  split at h
  · exact pw_X0_isLetter h
  · exact h.elim
def S_X5_isLetter : ma_Cs := fun as M L K => match as with
  | [.int l] => (K (some (.int (b1 (0 ≤ l.toInt ∧ l.toInt ≤ 3)))) M L)
  | _ => False
theorem ms_X5_isLetter : ma_ms S_X5_isLetter := by
  intro as M L K K' hk h
  unfold S_X5_isLetter at h ⊢
  split at h
  · exact hk _ _ _ h
  · exact h.elim
theorem un_X5_isLetter {l : Int32} {M : ZM} {L : ZL} {K : ma_Kt} : S_X5_isLetter [.int l] M L K = ((K (some (.int (b1 (0 ≤ l.toInt ∧ l.toInt ≤ 3)))) M L)) := rfl
theorem pw_X5_isLetter {l : Int32}  {M : ZM} {L : ZL} {K : ma_Kt} (h : (K (some (.int (b1 (0 ≤ l.toInt ∧ l.toInt ≤ 3)))) M L)) : ma_rn (tb_X5_isLetter S_X5_in) 1 [.int l] M L K := by
  refine ⟨Nat.le_of_ble_eq_true rfl, fun V hV => ?_⟩
  refine ma_walk (mo_X5_isLetter ms_X5_in) hV [] (fun F hF => ?_)
  simp only [tb_X5_isLetter, hF, in_no, in_push, in_ild, in_lld, in_ald, in_ist, in_ast, in_lst, in_inc, in_iii, in_idv, in_ldv, in_lll, in_lli, in_lil, in_ii, in_il, in_li, in_ll, in_dup, in_dp2, q_if1, q_if2, in_go, in_sw, ma_sw, in_rv, in_ri, in_rz, in_rl, in_get, in_put, in_puz, in_iar, in_bar, in_lar, in_aar, in_iaw, in_baw, in_law, in_len, in_cpy, in_s1, in_s2, in_s3, in_v1, in_v2, in_v3, in_v4, in_v5, in_v6, ma_bk, ma_gl, ma_sl, ma_nl, ma_wc, ma_wd, ma_nn, ma_en, List.mem_cons, List.not_mem_nil, or_false, or_true, true_or, false_or, true_and, and_true, false_and, and_false, if_true, if_false, forall_const, true_implies, false_implies, not_true_eq_false, not_false_eq_true, Classical.not_not, implies_true, and_self, Nat.add_zero, Nat.zero_add, eq_self, ne_eq, reduceCtorEq, Nat.reduceLT, Nat.reduceLeDiff, Nat.reduceEqDiff, Nat.reduceSub, Nat.reduceAdd, i10, i01, im10, Int32.reduceLT, Int32.reduceLE, ↓reduceIte, reduceIte, up_r, uL_r, cp_r, Int32.toInt_toInt64, Int64.reduceToInt, Int32.reduceToInt, ↓b1_or, b1_0, b1_1, lc_lt, lc_le, lc_gt, lc_ge, lc_eq, ym_0, ym_1, ym_2, ym_3, ym_4, ym_5, ym_6, ym_7, ym_8, ym_9, ym_10, ym_11, ym_12, ym_13, ym_14, ym_15, ym_16, ym_17, ym_18, ym_19, ym_20, ym_21, ym_22, ym_23, ym_24, ym_25, ym_26, ym_27, ym_28, ym_29, ym_30, rm__0, rm__1, rm__2, rm__3, rm__4, rm__5, rm__6, rm__7, rm__8, rm__9, rm__10, rm__11, rm__12, rm__13, rm__14, rm__15, rm__16, rm__17, rm__18, rm__19, rm__20, rm__21, rm__22, rm__23, rm__24, rm__25, rm__26, rm__27, rm__28, rm__29, rm__30, rm__31, rm__32, rm__33, rm__34, rm__35, rm__36, rm__37, rm__38, rm__39, rm__40, rm__41, rm__42, rm__43, rm__44, rm__45, un_X5_in]
  try simp only [iteP, Classical.not_not]
  exact h
theorem pv_X5_isLetter : ∀ as M L K, S_X5_isLetter as M L K → ma_rn (tb_X5_isLetter S_X5_in) 1 as M L K := by
  intro as M L K h
  unfold S_X5_isLetter at h
  split at h
  · exact pw_X5_isLetter h
  · exact h.elim
def S_X0_isStep : ma_Cs := fun as M L K => match as with
  | [.int l] => (K (some (.int (b1 (0 ≤ l.toInt ∧ l.toInt ≤ 12)))) M L)
  | _ => False
theorem ms_X0_isStep : ma_ms S_X0_isStep := by
  intro as M L K K' hk h
  unfold S_X0_isStep at h ⊢
  split at h
  · exact hk _ _ _ h
  · exact h.elim
theorem un_X0_isStep {l : Int32} {M : ZM} {L : ZL} {K : ma_Kt} : S_X0_isStep [.int l] M L K = ((K (some (.int (b1 (0 ≤ l.toInt ∧ l.toInt ≤ 12)))) M L)) := rfl
theorem pw_X0_isStep {l : Int32}  {M : ZM} {L : ZL} {K : ma_Kt} (h : (K (some (.int (b1 (0 ≤ l.toInt ∧ l.toInt ≤ 12)))) M L)) : ma_rn (tb_X0_isStep S_X0_isIn) 1 [.int l] M L K := by
  refine ⟨Nat.le_of_ble_eq_true rfl, fun V hV => ?_⟩
  refine ma_walk (mo_X0_isStep ms_X0_isIn) hV [] (fun F hF => ?_)
  simp only [tb_X0_isStep, hF, in_no, in_push, in_ild, in_lld, in_ald, in_ist, in_ast, in_lst, in_inc, in_iii, in_idv, in_ldv, in_lll, in_lli, in_lil, in_ii, in_il, in_li, in_ll, in_dup, in_dp2, q_if1, q_if2, in_go, in_sw, ma_sw, in_rv, in_ri, in_rz, in_rl, in_get, in_put, in_puz, in_iar, in_bar, in_lar, in_aar, in_iaw, in_baw, in_law, in_len, in_cpy, in_s1, in_s2, in_s3, in_v1, in_v2, in_v3, in_v4, in_v5, in_v6, ma_bk, ma_gl, ma_sl, ma_nl, ma_wc, ma_wd, ma_nn, ma_en, List.mem_cons, List.not_mem_nil, or_false, or_true, true_or, false_or, true_and, and_true, false_and, and_false, if_true, if_false, forall_const, true_implies, false_implies, not_true_eq_false, not_false_eq_true, Classical.not_not, implies_true, and_self, Nat.add_zero, Nat.zero_add, eq_self, ne_eq, reduceCtorEq, Nat.reduceLT, Nat.reduceLeDiff, Nat.reduceEqDiff, Nat.reduceSub, Nat.reduceAdd, i10, i01, im10, Int32.reduceLT, Int32.reduceLE, ↓reduceIte, reduceIte, up_r, uL_r, cp_r, Int32.toInt_toInt64, Int64.reduceToInt, Int32.reduceToInt, ↓b1_or, b1_0, b1_1, lc_lt, lc_le, lc_gt, lc_ge, lc_eq, yx_0, yx_1, yx_2, yx_3, yx_4, yx_5, yx_6, yx_7, yx_8, yx_9, yx_10, yx_11, yx_12, yx_13, yx_14, yx_15, yx_16, yx_17, yx_18, yx_19, yx_20, yx_21, yx_22, yx_23, yx_24, yx_25, yx_26, yx_27, yx_28, yx_29, yx_30, yx_31, yx_32, yx_33, yx_34, yx_35, yx_36, yx_37, yx_38, yx_39, yx_40, yx_41, yx_42, yx_43, yx_44, yx_45, yx_46, yx_47, yx_48, yx_49, yx_50, yx_51, yx_52, yx_53, yx_54, yx_55, yx_56, yx_57, yx_58, yx_59, yx_60, yx_61, yx_62, yx_63, yx_64, yx_65, yx_66, yx_67, yx_68, rx_0, rx_1, rx_2, rx_3, rx_4, rx_5, rx_6, rx_7, rx_8, rx_9, rx_10, rx_11, rx_12, rx_13, rx_14, rx_15, rx_16, rx_17, rx_18, rx_19, rx_20, rx_21, rx_22, rx_23, rx_24, rx_25, rx_26, rx_27, rx_28, rx_29, rx_30, rx_31, rx_32, rx_33, rp_0, rp_1, rp_2, rp_3, rp_4, rp_5, rp_6, rp_7, rp_8, rs_0, rs_1, rs_2, rs_3, rs_4, re_0, re_1, re_2, re_3, re_4, re_5, rr_0, rr_1, rr_2, rr_3, rr_4, rk_0, rk_1, isP3, isP11, isP46, isP58, isS25, isS28, isS31, un_X0_isIn]
  try simp only [iteP, Classical.not_not]
  exact h
theorem pv_X0_isStep : ∀ as M L K, S_X0_isStep as M L K → ma_rn (tb_X0_isStep S_X0_isIn) 1 as M L K := by
  intro as M L K h
  unfold S_X0_isStep at h
  split at h
  · exact pw_X0_isStep h
  · exact h.elim
def S_X0_isPerson : ma_Cs := fun as M L K => match as with
  | [.int l] => (K (some (.int (b1 (0 ≤ l.toInt ∧ l.toInt ≤ 5)))) M L)
  | _ => False
theorem ms_X0_isPerson : ma_ms S_X0_isPerson := by
  intro as M L K K' hk h
  unfold S_X0_isPerson at h ⊢
  split at h
  · exact hk _ _ _ h
  · exact h.elim
theorem un_X0_isPerson {l : Int32} {M : ZM} {L : ZL} {K : ma_Kt} : S_X0_isPerson [.int l] M L K = ((K (some (.int (b1 (0 ≤ l.toInt ∧ l.toInt ≤ 5)))) M L)) := rfl
theorem pw_X0_isPerson {l : Int32}  {M : ZM} {L : ZL} {K : ma_Kt} (h : (K (some (.int (b1 (0 ≤ l.toInt ∧ l.toInt ≤ 5)))) M L)) : ma_rn (tb_X0_isPerson S_X0_isIn) 1 [.int l] M L K := by
  refine ⟨Nat.le_of_ble_eq_true rfl, fun V hV => ?_⟩
  refine ma_walk (mo_X0_isPerson ms_X0_isIn) hV [] (fun F hF => ?_)
  simp only [tb_X0_isPerson, hF, in_no, in_push, in_ild, in_lld, in_ald, in_ist, in_ast, in_lst, in_inc, in_iii, in_idv, in_ldv, in_lll, in_lli, in_lil, in_ii, in_il, in_li, in_ll, in_dup, in_dp2, q_if1, q_if2, in_go, in_sw, ma_sw, in_rv, in_ri, in_rz, in_rl, in_get, in_put, in_puz, in_iar, in_bar, in_lar, in_aar, in_iaw, in_baw, in_law, in_len, in_cpy, in_s1, in_s2, in_s3, in_v1, in_v2, in_v3, in_v4, in_v5, in_v6, ma_bk, ma_gl, ma_sl, ma_nl, ma_wc, ma_wd, ma_nn, ma_en, List.mem_cons, List.not_mem_nil, or_false, or_true, true_or, false_or, true_and, and_true, false_and, and_false, if_true, if_false, forall_const, true_implies, false_implies, not_true_eq_false, not_false_eq_true, Classical.not_not, implies_true, and_self, Nat.add_zero, Nat.zero_add, eq_self, ne_eq, reduceCtorEq, Nat.reduceLT, Nat.reduceLeDiff, Nat.reduceEqDiff, Nat.reduceSub, Nat.reduceAdd, i10, i01, im10, Int32.reduceLT, Int32.reduceLE, ↓reduceIte, reduceIte, up_r, uL_r, cp_r, Int32.toInt_toInt64, Int64.reduceToInt, Int32.reduceToInt, ↓b1_or, b1_0, b1_1, lc_lt, lc_le, lc_gt, lc_ge, lc_eq, yx_0, yx_1, yx_2, yx_3, yx_4, yx_5, yx_6, yx_7, yx_8, yx_9, yx_10, yx_11, yx_12, yx_13, yx_14, yx_15, yx_16, yx_17, yx_18, yx_19, yx_20, yx_21, yx_22, yx_23, yx_24, yx_25, yx_26, yx_27, yx_28, yx_29, yx_30, yx_31, yx_32, yx_33, yx_34, yx_35, yx_36, yx_37, yx_38, yx_39, yx_40, yx_41, yx_42, yx_43, yx_44, yx_45, yx_46, yx_47, yx_48, yx_49, yx_50, yx_51, yx_52, yx_53, yx_54, yx_55, yx_56, yx_57, yx_58, yx_59, yx_60, yx_61, yx_62, yx_63, yx_64, yx_65, yx_66, yx_67, yx_68, rx_0, rx_1, rx_2, rx_3, rx_4, rx_5, rx_6, rx_7, rx_8, rx_9, rx_10, rx_11, rx_12, rx_13, rx_14, rx_15, rx_16, rx_17, rx_18, rx_19, rx_20, rx_21, rx_22, rx_23, rx_24, rx_25, rx_26, rx_27, rx_28, rx_29, rx_30, rx_31, rx_32, rx_33, rp_0, rp_1, rp_2, rp_3, rp_4, rp_5, rp_6, rp_7, rp_8, rs_0, rs_1, rs_2, rs_3, rs_4, re_0, re_1, re_2, re_3, re_4, re_5, rr_0, rr_1, rr_2, rr_3, rr_4, rk_0, rk_1, isP3, isP11, isP46, isP58, isS25, isS28, isS31, un_X0_isIn]
  try simp only [iteP, Classical.not_not]
  exact h
theorem pv_X0_isPerson : ∀ as M L K, S_X0_isPerson as M L K → ma_rn (tb_X0_isPerson S_X0_isIn) 1 as M L K := by
  intro as M L K h
  unfold S_X0_isPerson at h
  split at h
  · exact pw_X0_isPerson h
  · exact h.elim
def S_X0_cells : ma_Cs := fun as M L K => match as with
  | [.ref k] => (k = 0) ∧ (K (some (.int (M 0 5 * M 0 6))) M L)
  | _ => False
theorem ms_X0_cells : ma_ms S_X0_cells := by
  intro as M L K K' hk h
  unfold S_X0_cells at h ⊢
  split at h
  · exact ⟨h.1, hk _ _ _ h.2⟩
  · exact h.elim
theorem un_X0_cells {k : Nat} {M : ZM} {L : ZL} {K : ma_Kt} : S_X0_cells [.ref k] M L K = ((k = 0) ∧ (K (some (.int (M 0 5 * M 0 6))) M L)) := rfl
theorem pw_X0_cells {k : Nat}  {M : ZM} {L : ZL} {K : ma_Kt} (hp : k = 0) (h : (K (some (.int (M 0 5 * M 0 6))) M L)) : ma_rn tb_X0_cells 1 [.ref k] M L K := by
  refine ⟨Nat.le_of_ble_eq_true rfl, fun V hV => ?_⟩
  subst hp
  refine ma_walk mo_X0_cells hV [] (fun F hF => ?_)
  simp only [tb_X0_cells, hF, in_no, in_push, in_ild, in_lld, in_ald, in_ist, in_ast, in_lst, in_inc, in_iii, in_idv, in_ldv, in_lll, in_lli, in_lil, in_ii, in_il, in_li, in_ll, in_dup, in_dp2, q_if1, q_if2, in_go, in_sw, ma_sw, in_rv, in_ri, in_rz, in_rl, in_get, in_put, in_puz, in_iar, in_bar, in_lar, in_aar, in_iaw, in_baw, in_law, in_len, in_cpy, in_s1, in_s2, in_s3, in_v1, in_v2, in_v3, in_v4, in_v5, in_v6, ma_bk, ma_gl, ma_sl, ma_nl, ma_wc, ma_wd, ma_nn, ma_en, List.mem_cons, List.not_mem_nil, or_false, or_true, true_or, false_or, true_and, and_true, false_and, and_false, if_true, if_false, forall_const, true_implies, false_implies, not_true_eq_false, not_false_eq_true, Classical.not_not, implies_true, and_self, Nat.add_zero, Nat.zero_add, eq_self, ne_eq, reduceCtorEq, Nat.reduceLT, Nat.reduceLeDiff, Nat.reduceEqDiff, Nat.reduceSub, Nat.reduceAdd, i10, i01, im10, Int32.reduceLT, Int32.reduceLE, ↓reduceIte, reduceIte, up_r, uL_r, cp_r, Int32.toInt_toInt64, Int64.reduceToInt, Int32.reduceToInt, ↓b1_or, b1_0, b1_1, lc_lt, lc_le, lc_gt, lc_ge, lc_eq, yx_0, yx_1, yx_2, yx_3, yx_4, yx_5, yx_6, yx_7, yx_8, yx_9, yx_10, yx_11, yx_12, yx_13, yx_14, yx_15, yx_16, yx_17, yx_18, yx_19, yx_20, yx_21, yx_22, yx_23, yx_24, yx_25, yx_26, yx_27, yx_28, yx_29, yx_30, yx_31, yx_32, yx_33, yx_34, yx_35, yx_36, yx_37, yx_38, yx_39, yx_40, yx_41, yx_42, yx_43, yx_44, yx_45, yx_46, yx_47, yx_48, yx_49, yx_50, yx_51, yx_52, yx_53, yx_54, yx_55, yx_56, yx_57, yx_58, yx_59, yx_60, yx_61, yx_62, yx_63, yx_64, yx_65, yx_66, yx_67, yx_68, rx_0, rx_1, rx_2, rx_3, rx_4, rx_5, rx_6, rx_7, rx_8, rx_9, rx_10, rx_11, rx_12, rx_13, rx_14, rx_15, rx_16, rx_17, rx_18, rx_19, rx_20, rx_21, rx_22, rx_23, rx_24, rx_25, rx_26, rx_27, rx_28, rx_29, rx_30, rx_31, rx_32, rx_33, rp_0, rp_1, rp_2, rp_3, rp_4, rp_5, rp_6, rp_7, rp_8, rs_0, rs_1, rs_2, rs_3, rs_4, re_0, re_1, re_2, re_3, re_4, re_5, rr_0, rr_1, rr_2, rr_3, rr_4, rk_0, rk_1, isP3, isP11, isP46, isP58, isS25, isS28, isS31]
  try simp only [iteP, Classical.not_not]
  exact h
theorem pv_X0_cells : ∀ as M L K, S_X0_cells as M L K → ma_rn tb_X0_cells 1 as M L K := by
  intro as M L K h
  unfold S_X0_cells at h
  split at h
  · exact pw_X0_cells h.1 h.2
  · exact h.elim
def S_X5_cells : ma_Cs := fun as M L K => match as with
  | [.ref k] => (k = 0) ∧ (K (some (.int (M 0 0 * M 0 1))) M L)
  | _ => False
theorem ms_X5_cells : ma_ms S_X5_cells := by
  intro as M L K K' hk h
  unfold S_X5_cells at h ⊢
  split at h
  · exact ⟨h.1, hk _ _ _ h.2⟩
  · exact h.elim
theorem un_X5_cells {k : Nat} {M : ZM} {L : ZL} {K : ma_Kt} : S_X5_cells [.ref k] M L K = ((k = 0) ∧ (K (some (.int (M 0 0 * M 0 1))) M L)) := rfl
theorem pw_X5_cells {k : Nat}  {M : ZM} {L : ZL} {K : ma_Kt} (hp : k = 0) (h : (K (some (.int (M 0 0 * M 0 1))) M L)) : ma_rn tb_X5_cells 1 [.ref k] M L K := by
  refine ⟨Nat.le_of_ble_eq_true rfl, fun V hV => ?_⟩
  subst hp
  refine ma_walk mo_X5_cells hV [] (fun F hF => ?_)
  simp only [tb_X5_cells, hF, in_no, in_push, in_ild, in_lld, in_ald, in_ist, in_ast, in_lst, in_inc, in_iii, in_idv, in_ldv, in_lll, in_lli, in_lil, in_ii, in_il, in_li, in_ll, in_dup, in_dp2, q_if1, q_if2, in_go, in_sw, ma_sw, in_rv, in_ri, in_rz, in_rl, in_get, in_put, in_puz, in_iar, in_bar, in_lar, in_aar, in_iaw, in_baw, in_law, in_len, in_cpy, in_s1, in_s2, in_s3, in_v1, in_v2, in_v3, in_v4, in_v5, in_v6, ma_bk, ma_gl, ma_sl, ma_nl, ma_wc, ma_wd, ma_nn, ma_en, List.mem_cons, List.not_mem_nil, or_false, or_true, true_or, false_or, true_and, and_true, false_and, and_false, if_true, if_false, forall_const, true_implies, false_implies, not_true_eq_false, not_false_eq_true, Classical.not_not, implies_true, and_self, Nat.add_zero, Nat.zero_add, eq_self, ne_eq, reduceCtorEq, Nat.reduceLT, Nat.reduceLeDiff, Nat.reduceEqDiff, Nat.reduceSub, Nat.reduceAdd, i10, i01, im10, Int32.reduceLT, Int32.reduceLE, ↓reduceIte, reduceIte, up_r, uL_r, cp_r, Int32.toInt_toInt64, Int64.reduceToInt, Int32.reduceToInt, ↓b1_or, b1_0, b1_1, lc_lt, lc_le, lc_gt, lc_ge, lc_eq, ym_0, ym_1, ym_2, ym_3, ym_4, ym_5, ym_6, ym_7, ym_8, ym_9, ym_10, ym_11, ym_12, ym_13, ym_14, ym_15, ym_16, ym_17, ym_18, ym_19, ym_20, ym_21, ym_22, ym_23, ym_24, ym_25, ym_26, ym_27, ym_28, ym_29, ym_30, rm__0, rm__1, rm__2, rm__3, rm__4, rm__5, rm__6, rm__7, rm__8, rm__9, rm__10, rm__11, rm__12, rm__13, rm__14, rm__15, rm__16, rm__17, rm__18, rm__19, rm__20, rm__21, rm__22, rm__23, rm__24, rm__25, rm__26, rm__27, rm__28, rm__29, rm__30, rm__31, rm__32, rm__33, rm__34, rm__35, rm__36, rm__37, rm__38, rm__39, rm__40, rm__41, rm__42, rm__43, rm__44, rm__45]
  try simp only [iteP, Classical.not_not]
  exact h
theorem pv_X5_cells : ∀ as M L K, S_X5_cells as M L K → ma_rn tb_X5_cells 1 as M L K := by
  intro as M L K h
  unfold S_X5_cells at h
  split at h
  · exact pw_X5_cells h.1 h.2
  · exact h.elim
def S_X0_isCell : ma_Cs := fun as M L K => match as with
  | [.ref k, .int c] => (k = 0) ∧ (K (some (.int (b1 (0 ≤ c.toInt ∧ c.toInt ≤ (M 0 5 * M 0 6 - 1).toInt)))) M L)
  | _ => False
theorem ms_X0_isCell : ma_ms S_X0_isCell := by
  intro as M L K K' hk h
  unfold S_X0_isCell at h ⊢
  split at h
  · exact ⟨h.1, hk _ _ _ h.2⟩
  · exact h.elim
theorem un_X0_isCell {k : Nat} {c : Int32} {M : ZM} {L : ZL} {K : ma_Kt} : S_X0_isCell [.ref k, .int c] M L K = ((k = 0) ∧ (K (some (.int (b1 (0 ≤ c.toInt ∧ c.toInt ≤ (M 0 5 * M 0 6 - 1).toInt)))) M L)) := rfl
theorem pw_X0_isCell {k : Nat} {c : Int32}  {M : ZM} {L : ZL} {K : ma_Kt} (hp : k = 0) (h : (K (some (.int (b1 (0 ≤ c.toInt ∧ c.toInt ≤ (M 0 5 * M 0 6 - 1).toInt)))) M L)) : ma_rn (tb_X0_isCell S_X0_cells S_X0_isIn) 2 [.ref k, .int c] M L K := by
  refine ⟨Nat.le_of_ble_eq_true rfl, fun V hV => ?_⟩
  subst hp
  refine ma_walk (mo_X0_isCell ms_X0_cells ms_X0_isIn) hV [] (fun F hF => ?_)
  simp only [tb_X0_isCell, hF, in_no, in_push, in_ild, in_lld, in_ald, in_ist, in_ast, in_lst, in_inc, in_iii, in_idv, in_ldv, in_lll, in_lli, in_lil, in_ii, in_il, in_li, in_ll, in_dup, in_dp2, q_if1, q_if2, in_go, in_sw, ma_sw, in_rv, in_ri, in_rz, in_rl, in_get, in_put, in_puz, in_iar, in_bar, in_lar, in_aar, in_iaw, in_baw, in_law, in_len, in_cpy, in_s1, in_s2, in_s3, in_v1, in_v2, in_v3, in_v4, in_v5, in_v6, ma_bk, ma_gl, ma_sl, ma_nl, ma_wc, ma_wd, ma_nn, ma_en, List.mem_cons, List.not_mem_nil, or_false, or_true, true_or, false_or, true_and, and_true, false_and, and_false, if_true, if_false, forall_const, true_implies, false_implies, not_true_eq_false, not_false_eq_true, Classical.not_not, implies_true, and_self, Nat.add_zero, Nat.zero_add, eq_self, ne_eq, reduceCtorEq, Nat.reduceLT, Nat.reduceLeDiff, Nat.reduceEqDiff, Nat.reduceSub, Nat.reduceAdd, i10, i01, im10, Int32.reduceLT, Int32.reduceLE, ↓reduceIte, reduceIte, up_r, uL_r, cp_r, Int32.toInt_toInt64, Int64.reduceToInt, Int32.reduceToInt, ↓b1_or, b1_0, b1_1, lc_lt, lc_le, lc_gt, lc_ge, lc_eq, yx_0, yx_1, yx_2, yx_3, yx_4, yx_5, yx_6, yx_7, yx_8, yx_9, yx_10, yx_11, yx_12, yx_13, yx_14, yx_15, yx_16, yx_17, yx_18, yx_19, yx_20, yx_21, yx_22, yx_23, yx_24, yx_25, yx_26, yx_27, yx_28, yx_29, yx_30, yx_31, yx_32, yx_33, yx_34, yx_35, yx_36, yx_37, yx_38, yx_39, yx_40, yx_41, yx_42, yx_43, yx_44, yx_45, yx_46, yx_47, yx_48, yx_49, yx_50, yx_51, yx_52, yx_53, yx_54, yx_55, yx_56, yx_57, yx_58, yx_59, yx_60, yx_61, yx_62, yx_63, yx_64, yx_65, yx_66, yx_67, yx_68, rx_0, rx_1, rx_2, rx_3, rx_4, rx_5, rx_6, rx_7, rx_8, rx_9, rx_10, rx_11, rx_12, rx_13, rx_14, rx_15, rx_16, rx_17, rx_18, rx_19, rx_20, rx_21, rx_22, rx_23, rx_24, rx_25, rx_26, rx_27, rx_28, rx_29, rx_30, rx_31, rx_32, rx_33, rp_0, rp_1, rp_2, rp_3, rp_4, rp_5, rp_6, rp_7, rp_8, rs_0, rs_1, rs_2, rs_3, rs_4, re_0, re_1, re_2, re_3, re_4, re_5, rr_0, rr_1, rr_2, rr_3, rr_4, rk_0, rk_1, isP3, isP11, isP46, isP58, isS25, isS28, isS31, un_X0_cells, un_X0_isIn]
  try simp only [iteP, Classical.not_not]
  exact h
theorem pv_X0_isCell : ∀ as M L K, S_X0_isCell as M L K → ma_rn (tb_X0_isCell S_X0_cells S_X0_isIn) 2 as M L K := by
  intro as M L K h
  unfold S_X0_isCell at h
  split at h
  · exact pw_X0_isCell h.1 h.2
  · exact h.elim
def S_X5_isCell : ma_Cs := fun as M L K => match as with
  | [.ref k, .int c] => (k = 0) ∧ (K (some (.int (b1 (0 ≤ c.toInt ∧ c.toInt ≤ (M 0 0 * M 0 1 - 1).toInt)))) M L)
  | _ => False
theorem ms_X5_isCell : ma_ms S_X5_isCell := by
  intro as M L K K' hk h
  unfold S_X5_isCell at h ⊢
  split at h
  · exact ⟨h.1, hk _ _ _ h.2⟩
  · exact h.elim
theorem un_X5_isCell {k : Nat} {c : Int32} {M : ZM} {L : ZL} {K : ma_Kt} : S_X5_isCell [.ref k, .int c] M L K = ((k = 0) ∧ (K (some (.int (b1 (0 ≤ c.toInt ∧ c.toInt ≤ (M 0 0 * M 0 1 - 1).toInt)))) M L)) := rfl
theorem pw_X5_isCell {k : Nat} {c : Int32}  {M : ZM} {L : ZL} {K : ma_Kt} (hp : k = 0) (h : (K (some (.int (b1 (0 ≤ c.toInt ∧ c.toInt ≤ (M 0 0 * M 0 1 - 1).toInt)))) M L)) : ma_rn (tb_X5_isCell S_X5_cells S_X5_in) 2 [.ref k, .int c] M L K := by
  refine ⟨Nat.le_of_ble_eq_true rfl, fun V hV => ?_⟩
  subst hp
  refine ma_walk (mo_X5_isCell ms_X5_cells ms_X5_in) hV [] (fun F hF => ?_)
  simp only [tb_X5_isCell, hF, in_no, in_push, in_ild, in_lld, in_ald, in_ist, in_ast, in_lst, in_inc, in_iii, in_idv, in_ldv, in_lll, in_lli, in_lil, in_ii, in_il, in_li, in_ll, in_dup, in_dp2, q_if1, q_if2, in_go, in_sw, ma_sw, in_rv, in_ri, in_rz, in_rl, in_get, in_put, in_puz, in_iar, in_bar, in_lar, in_aar, in_iaw, in_baw, in_law, in_len, in_cpy, in_s1, in_s2, in_s3, in_v1, in_v2, in_v3, in_v4, in_v5, in_v6, ma_bk, ma_gl, ma_sl, ma_nl, ma_wc, ma_wd, ma_nn, ma_en, List.mem_cons, List.not_mem_nil, or_false, or_true, true_or, false_or, true_and, and_true, false_and, and_false, if_true, if_false, forall_const, true_implies, false_implies, not_true_eq_false, not_false_eq_true, Classical.not_not, implies_true, and_self, Nat.add_zero, Nat.zero_add, eq_self, ne_eq, reduceCtorEq, Nat.reduceLT, Nat.reduceLeDiff, Nat.reduceEqDiff, Nat.reduceSub, Nat.reduceAdd, i10, i01, im10, Int32.reduceLT, Int32.reduceLE, ↓reduceIte, reduceIte, up_r, uL_r, cp_r, Int32.toInt_toInt64, Int64.reduceToInt, Int32.reduceToInt, ↓b1_or, b1_0, b1_1, lc_lt, lc_le, lc_gt, lc_ge, lc_eq, ym_0, ym_1, ym_2, ym_3, ym_4, ym_5, ym_6, ym_7, ym_8, ym_9, ym_10, ym_11, ym_12, ym_13, ym_14, ym_15, ym_16, ym_17, ym_18, ym_19, ym_20, ym_21, ym_22, ym_23, ym_24, ym_25, ym_26, ym_27, ym_28, ym_29, ym_30, rm__0, rm__1, rm__2, rm__3, rm__4, rm__5, rm__6, rm__7, rm__8, rm__9, rm__10, rm__11, rm__12, rm__13, rm__14, rm__15, rm__16, rm__17, rm__18, rm__19, rm__20, rm__21, rm__22, rm__23, rm__24, rm__25, rm__26, rm__27, rm__28, rm__29, rm__30, rm__31, rm__32, rm__33, rm__34, rm__35, rm__36, rm__37, rm__38, rm__39, rm__40, rm__41, rm__42, rm__43, rm__44, rm__45, un_X5_cells, un_X5_in]
  try simp only [iteP, Classical.not_not]
  exact h
theorem pv_X5_isCell : ∀ as M L K, S_X5_isCell as M L K → ma_rn (tb_X5_isCell S_X5_cells S_X5_in) 2 as M L K := by
  intro as M L K h
  unfold S_X5_isCell at h
  split at h
  · exact pw_X5_isCell h.1 h.2
  · exact h.elim
def S_X0_isPlace : ma_Cs := fun as M L K => match as with
  | [.ref k, .int s, .int c, .int l] => (k = 0) ∧ (K (some (.int (b1 ((0 ≤ s.toInt ∧ s.toInt ≤ 12) ∧ (0 ≤ c.toInt ∧ c.toInt ≤ (M 0 5 * M 0 6 - 1).toInt) ∧ (0 ≤ l.toInt ∧ l.toInt ≤ 3))))) M L)
  | _ => False
theorem ms_X0_isPlace : ma_ms S_X0_isPlace := by
  intro as M L K K' hk h
  unfold S_X0_isPlace at h ⊢
  split at h
  · exact ⟨h.1, hk _ _ _ h.2⟩
  · exact h.elim
theorem un_X0_isPlace {k : Nat} {s : Int32} {c : Int32} {l : Int32} {M : ZM} {L : ZL} {K : ma_Kt} : S_X0_isPlace [.ref k, .int s, .int c, .int l] M L K = ((k = 0) ∧ (K (some (.int (b1 ((0 ≤ s.toInt ∧ s.toInt ≤ 12) ∧ (0 ≤ c.toInt ∧ c.toInt ≤ (M 0 5 * M 0 6 - 1).toInt) ∧ (0 ≤ l.toInt ∧ l.toInt ≤ 3))))) M L)) := rfl
theorem pw_X0_isPlace {k : Nat} {s : Int32} {c : Int32} {l : Int32}  {M : ZM} {L : ZL} {K : ma_Kt} (hp : k = 0) (h : (K (some (.int (b1 ((0 ≤ s.toInt ∧ s.toInt ≤ 12) ∧ (0 ≤ c.toInt ∧ c.toInt ≤ (M 0 5 * M 0 6 - 1).toInt) ∧ (0 ≤ l.toInt ∧ l.toInt ≤ 3))))) M L)) : ma_rn (tb_X0_isPlace S_X0_isStep S_X0_isCell S_X0_isLetter) 4 [.ref k, .int s, .int c, .int l] M L K := by
  refine ⟨Nat.le_of_ble_eq_true rfl, fun V hV => ?_⟩
  subst hp
  refine ma_walk (mo_X0_isPlace ms_X0_isStep ms_X0_isCell ms_X0_isLetter) hV [] (fun F hF => ?_)
  simp only [tb_X0_isPlace, hF, in_no, in_push, in_ild, in_lld, in_ald, in_ist, in_ast, in_lst, in_inc, in_iii, in_idv, in_ldv, in_lll, in_lli, in_lil, in_ii, in_il, in_li, in_ll, in_dup, in_dp2, q_if1, q_if2, in_go, in_sw, ma_sw, in_rv, in_ri, in_rz, in_rl, in_get, in_put, in_puz, in_iar, in_bar, in_lar, in_aar, in_iaw, in_baw, in_law, in_len, in_cpy, in_s1, in_s2, in_s3, in_v1, in_v2, in_v3, in_v4, in_v5, in_v6, ma_bk, ma_gl, ma_sl, ma_nl, ma_wc, ma_wd, ma_nn, ma_en, List.mem_cons, List.not_mem_nil, or_false, or_true, true_or, false_or, true_and, and_true, false_and, and_false, if_true, if_false, forall_const, true_implies, false_implies, not_true_eq_false, not_false_eq_true, Classical.not_not, implies_true, and_self, Nat.add_zero, Nat.zero_add, eq_self, ne_eq, reduceCtorEq, Nat.reduceLT, Nat.reduceLeDiff, Nat.reduceEqDiff, Nat.reduceSub, Nat.reduceAdd, i10, i01, im10, Int32.reduceLT, Int32.reduceLE, ↓reduceIte, reduceIte, up_r, uL_r, cp_r, Int32.toInt_toInt64, Int64.reduceToInt, Int32.reduceToInt, ↓b1_or, b1_0, b1_1, lc_lt, lc_le, lc_gt, lc_ge, lc_eq, yx_0, yx_1, yx_2, yx_3, yx_4, yx_5, yx_6, yx_7, yx_8, yx_9, yx_10, yx_11, yx_12, yx_13, yx_14, yx_15, yx_16, yx_17, yx_18, yx_19, yx_20, yx_21, yx_22, yx_23, yx_24, yx_25, yx_26, yx_27, yx_28, yx_29, yx_30, yx_31, yx_32, yx_33, yx_34, yx_35, yx_36, yx_37, yx_38, yx_39, yx_40, yx_41, yx_42, yx_43, yx_44, yx_45, yx_46, yx_47, yx_48, yx_49, yx_50, yx_51, yx_52, yx_53, yx_54, yx_55, yx_56, yx_57, yx_58, yx_59, yx_60, yx_61, yx_62, yx_63, yx_64, yx_65, yx_66, yx_67, yx_68, rx_0, rx_1, rx_2, rx_3, rx_4, rx_5, rx_6, rx_7, rx_8, rx_9, rx_10, rx_11, rx_12, rx_13, rx_14, rx_15, rx_16, rx_17, rx_18, rx_19, rx_20, rx_21, rx_22, rx_23, rx_24, rx_25, rx_26, rx_27, rx_28, rx_29, rx_30, rx_31, rx_32, rx_33, rp_0, rp_1, rp_2, rp_3, rp_4, rp_5, rp_6, rp_7, rp_8, rs_0, rs_1, rs_2, rs_3, rs_4, re_0, re_1, re_2, re_3, re_4, re_5, rr_0, rr_1, rr_2, rr_3, rr_4, rk_0, rk_1, isP3, isP11, isP46, isP58, isS25, isS28, isS31, un_X0_isStep, un_X0_isCell, un_X0_isLetter]
  try simp only [iteP, Classical.not_not]
  (repeat' (first | apply And.intro | intro _)) <;> (first | exact h | (refine ki h ?_ rfl rfl; first | rw [b1_t (by omega)] | rw [b1_f (by omega)]))
theorem pv_X0_isPlace : ∀ as M L K, S_X0_isPlace as M L K → ma_rn (tb_X0_isPlace S_X0_isStep S_X0_isCell S_X0_isLetter) 4 as M L K := by
  intro as M L K h
  unfold S_X0_isPlace at h
  split at h
  · exact pw_X0_isPlace h.1 h.2
  · exact h.elim
def S_X5_isPlace : ma_Cs := fun as M L K => match as with
  | [.ref k, .int s, .int c, .int l] => (k = 0) ∧ (K (some (.int (b1 ((0 ≤ s.toInt ∧ s.toInt ≤ 12) ∧ (0 ≤ c.toInt ∧ c.toInt ≤ (M 0 0 * M 0 1 - 1).toInt) ∧ (0 ≤ l.toInt ∧ l.toInt ≤ 3))))) M L)
  | _ => False
theorem ms_X5_isPlace : ma_ms S_X5_isPlace := by
  intro as M L K K' hk h
  unfold S_X5_isPlace at h ⊢
  split at h
  · exact ⟨h.1, hk _ _ _ h.2⟩
  · exact h.elim
theorem un_X5_isPlace {k : Nat} {s : Int32} {c : Int32} {l : Int32} {M : ZM} {L : ZL} {K : ma_Kt} : S_X5_isPlace [.ref k, .int s, .int c, .int l] M L K = ((k = 0) ∧ (K (some (.int (b1 ((0 ≤ s.toInt ∧ s.toInt ≤ 12) ∧ (0 ≤ c.toInt ∧ c.toInt ≤ (M 0 0 * M 0 1 - 1).toInt) ∧ (0 ≤ l.toInt ∧ l.toInt ≤ 3))))) M L)) := rfl
theorem pw_X5_isPlace {k : Nat} {s : Int32} {c : Int32} {l : Int32}  {M : ZM} {L : ZL} {K : ma_Kt} (hp : k = 0) (h : (K (some (.int (b1 ((0 ≤ s.toInt ∧ s.toInt ≤ 12) ∧ (0 ≤ c.toInt ∧ c.toInt ≤ (M 0 0 * M 0 1 - 1).toInt) ∧ (0 ≤ l.toInt ∧ l.toInt ≤ 3))))) M L)) : ma_rn (tb_X5_isPlace S_X5_in S_X5_isCell S_X5_isLetter) 4 [.ref k, .int s, .int c, .int l] M L K := by
  refine ⟨Nat.le_of_ble_eq_true rfl, fun V hV => ?_⟩
  subst hp
  refine ma_walk (mo_X5_isPlace ms_X5_in ms_X5_isCell ms_X5_isLetter) hV [] (fun F hF => ?_)
  simp only [tb_X5_isPlace, hF, in_no, in_push, in_ild, in_lld, in_ald, in_ist, in_ast, in_lst, in_inc, in_iii, in_idv, in_ldv, in_lll, in_lli, in_lil, in_ii, in_il, in_li, in_ll, in_dup, in_dp2, q_if1, q_if2, in_go, in_sw, ma_sw, in_rv, in_ri, in_rz, in_rl, in_get, in_put, in_puz, in_iar, in_bar, in_lar, in_aar, in_iaw, in_baw, in_law, in_len, in_cpy, in_s1, in_s2, in_s3, in_v1, in_v2, in_v3, in_v4, in_v5, in_v6, ma_bk, ma_gl, ma_sl, ma_nl, ma_wc, ma_wd, ma_nn, ma_en, List.mem_cons, List.not_mem_nil, or_false, or_true, true_or, false_or, true_and, and_true, false_and, and_false, if_true, if_false, forall_const, true_implies, false_implies, not_true_eq_false, not_false_eq_true, Classical.not_not, implies_true, and_self, Nat.add_zero, Nat.zero_add, eq_self, ne_eq, reduceCtorEq, Nat.reduceLT, Nat.reduceLeDiff, Nat.reduceEqDiff, Nat.reduceSub, Nat.reduceAdd, i10, i01, im10, Int32.reduceLT, Int32.reduceLE, ↓reduceIte, reduceIte, up_r, uL_r, cp_r, Int32.toInt_toInt64, Int64.reduceToInt, Int32.reduceToInt, ↓b1_or, b1_0, b1_1, lc_lt, lc_le, lc_gt, lc_ge, lc_eq, ym_0, ym_1, ym_2, ym_3, ym_4, ym_5, ym_6, ym_7, ym_8, ym_9, ym_10, ym_11, ym_12, ym_13, ym_14, ym_15, ym_16, ym_17, ym_18, ym_19, ym_20, ym_21, ym_22, ym_23, ym_24, ym_25, ym_26, ym_27, ym_28, ym_29, ym_30, rm__0, rm__1, rm__2, rm__3, rm__4, rm__5, rm__6, rm__7, rm__8, rm__9, rm__10, rm__11, rm__12, rm__13, rm__14, rm__15, rm__16, rm__17, rm__18, rm__19, rm__20, rm__21, rm__22, rm__23, rm__24, rm__25, rm__26, rm__27, rm__28, rm__29, rm__30, rm__31, rm__32, rm__33, rm__34, rm__35, rm__36, rm__37, rm__38, rm__39, rm__40, rm__41, rm__42, rm__43, rm__44, rm__45, un_X5_in, un_X5_isCell, un_X5_isLetter]
  try simp only [iteP, Classical.not_not]
  (repeat' (first | apply And.intro | intro _)) <;> (first | exact h | (refine ki h ?_ rfl rfl; first | rw [b1_t (by omega)] | rw [b1_f (by omega)]))
theorem pv_X5_isPlace : ∀ as M L K, S_X5_isPlace as M L K → ma_rn (tb_X5_isPlace S_X5_in S_X5_isCell S_X5_isLetter) 4 as M L K := by
  intro as M L K h
  unfold S_X5_isPlace at h
  split at h
  · exact pw_X5_isPlace h.1 h.2
  · exact h.elim
def S_X0_countOf : ma_Cs := fun as M L K => match as with
  | [.int v] => (K (some (.long (if v = 2000000000 then 0 else v.toInt64))) M L)
  | _ => False
theorem ms_X0_countOf : ma_ms S_X0_countOf := by
  intro as M L K K' hk h
  unfold S_X0_countOf at h ⊢
  split at h
  · exact hk _ _ _ h
  · exact h.elim
theorem un_X0_countOf {v : Int32} {M : ZM} {L : ZL} {K : ma_Kt} : S_X0_countOf [.int v] M L K = ((K (some (.long (if v = 2000000000 then 0 else v.toInt64))) M L)) := rfl
theorem pw_X0_countOf {v : Int32}  {M : ZM} {L : ZL} {K : ma_Kt} (h : (K (some (.long (if v = 2000000000 then 0 else v.toInt64))) M L)) : ma_rn tb_X0_countOf 1 [.int v] M L K := by
  refine ⟨Nat.le_of_ble_eq_true rfl, fun V hV => ?_⟩
  refine ma_walk mo_X0_countOf hV [] (fun F hF => ?_)
  simp only [tb_X0_countOf, hF, in_no, in_push, in_ild, in_lld, in_ald, in_ist, in_ast, in_lst, in_inc, in_iii, in_idv, in_ldv, in_lll, in_lli, in_lil, in_ii, in_il, in_li, in_ll, in_dup, in_dp2, q_if1, q_if2, in_go, in_sw, ma_sw, in_rv, in_ri, in_rz, in_rl, in_get, in_put, in_puz, in_iar, in_bar, in_lar, in_aar, in_iaw, in_baw, in_law, in_len, in_cpy, in_s1, in_s2, in_s3, in_v1, in_v2, in_v3, in_v4, in_v5, in_v6, ma_bk, ma_gl, ma_sl, ma_nl, ma_wc, ma_wd, ma_nn, ma_en, List.mem_cons, List.not_mem_nil, or_false, or_true, true_or, false_or, true_and, and_true, false_and, and_false, if_true, if_false, forall_const, true_implies, false_implies, not_true_eq_false, not_false_eq_true, Classical.not_not, implies_true, and_self, Nat.add_zero, Nat.zero_add, eq_self, ne_eq, reduceCtorEq, Nat.reduceLT, Nat.reduceLeDiff, Nat.reduceEqDiff, Nat.reduceSub, Nat.reduceAdd, i10, i01, im10, Int32.reduceLT, Int32.reduceLE, ↓reduceIte, reduceIte, up_r, uL_r, cp_r, Int32.toInt_toInt64, Int64.reduceToInt, Int32.reduceToInt, ↓b1_or, b1_0, b1_1, lc_lt, lc_le, lc_gt, lc_ge, lc_eq, yx_0, yx_1, yx_2, yx_3, yx_4, yx_5, yx_6, yx_7, yx_8, yx_9, yx_10, yx_11, yx_12, yx_13, yx_14, yx_15, yx_16, yx_17, yx_18, yx_19, yx_20, yx_21, yx_22, yx_23, yx_24, yx_25, yx_26, yx_27, yx_28, yx_29, yx_30, yx_31, yx_32, yx_33, yx_34, yx_35, yx_36, yx_37, yx_38, yx_39, yx_40, yx_41, yx_42, yx_43, yx_44, yx_45, yx_46, yx_47, yx_48, yx_49, yx_50, yx_51, yx_52, yx_53, yx_54, yx_55, yx_56, yx_57, yx_58, yx_59, yx_60, yx_61, yx_62, yx_63, yx_64, yx_65, yx_66, yx_67, yx_68, rx_0, rx_1, rx_2, rx_3, rx_4, rx_5, rx_6, rx_7, rx_8, rx_9, rx_10, rx_11, rx_12, rx_13, rx_14, rx_15, rx_16, rx_17, rx_18, rx_19, rx_20, rx_21, rx_22, rx_23, rx_24, rx_25, rx_26, rx_27, rx_28, rx_29, rx_30, rx_31, rx_32, rx_33, rp_0, rp_1, rp_2, rp_3, rp_4, rp_5, rp_6, rp_7, rp_8, rs_0, rs_1, rs_2, rs_3, rs_4, re_0, re_1, re_2, re_3, re_4, re_5, rr_0, rr_1, rr_2, rr_3, rr_4, rk_0, rk_1, isP3, isP11, isP46, isP58, isS25, isS28, isS31]
  try simp only [iteP, Classical.not_not]
  refine ⟨fun c => ?_, fun c => ?_⟩
  · rw [if_pos c] at h; exact h
  · rw [if_neg c] at h; exact h
theorem pv_X0_countOf : ∀ as M L K, S_X0_countOf as M L K → ma_rn tb_X0_countOf 1 as M L K := by
  intro as M L K h
  unfold S_X0_countOf at h
  split at h
  · exact pw_X0_countOf h
  · exact h.elim
def S_X5_place : ma_Cs := fun as M L K => match as with
  | [.int s, .int c, .int l] => (K (some (.int (144 * s + 4 * c + l))) M L)
  | _ => False
theorem ms_X5_place : ma_ms S_X5_place := by
  intro as M L K K' hk h
  unfold S_X5_place at h ⊢
  split at h
  · exact hk _ _ _ h
  · exact h.elim
theorem un_X5_place {s : Int32} {c : Int32} {l : Int32} {M : ZM} {L : ZL} {K : ma_Kt} : S_X5_place [.int s, .int c, .int l] M L K = ((K (some (.int (144 * s + 4 * c + l))) M L)) := rfl
theorem pw_X5_place {s : Int32} {c : Int32} {l : Int32}  {M : ZM} {L : ZL} {K : ma_Kt} (h : (K (some (.int (144 * s + 4 * c + l))) M L)) : ma_rn tb_X5_place 3 [.int s, .int c, .int l] M L K := by
  refine ⟨Nat.le_of_ble_eq_true rfl, fun V hV => ?_⟩
  refine ma_walk mo_X5_place hV [] (fun F hF => ?_)
  simp only [tb_X5_place, hF, in_no, in_push, in_ild, in_lld, in_ald, in_ist, in_ast, in_lst, in_inc, in_iii, in_idv, in_ldv, in_lll, in_lli, in_lil, in_ii, in_il, in_li, in_ll, in_dup, in_dp2, q_if1, q_if2, in_go, in_sw, ma_sw, in_rv, in_ri, in_rz, in_rl, in_get, in_put, in_puz, in_iar, in_bar, in_lar, in_aar, in_iaw, in_baw, in_law, in_len, in_cpy, in_s1, in_s2, in_s3, in_v1, in_v2, in_v3, in_v4, in_v5, in_v6, ma_bk, ma_gl, ma_sl, ma_nl, ma_wc, ma_wd, ma_nn, ma_en, List.mem_cons, List.not_mem_nil, or_false, or_true, true_or, false_or, true_and, and_true, false_and, and_false, if_true, if_false, forall_const, true_implies, false_implies, not_true_eq_false, not_false_eq_true, Classical.not_not, implies_true, and_self, Nat.add_zero, Nat.zero_add, eq_self, ne_eq, reduceCtorEq, Nat.reduceLT, Nat.reduceLeDiff, Nat.reduceEqDiff, Nat.reduceSub, Nat.reduceAdd, i10, i01, im10, Int32.reduceLT, Int32.reduceLE, ↓reduceIte, reduceIte, up_r, uL_r, cp_r, Int32.toInt_toInt64, Int64.reduceToInt, Int32.reduceToInt, ↓b1_or, b1_0, b1_1, lc_lt, lc_le, lc_gt, lc_ge, lc_eq, ym_0, ym_1, ym_2, ym_3, ym_4, ym_5, ym_6, ym_7, ym_8, ym_9, ym_10, ym_11, ym_12, ym_13, ym_14, ym_15, ym_16, ym_17, ym_18, ym_19, ym_20, ym_21, ym_22, ym_23, ym_24, ym_25, ym_26, ym_27, ym_28, ym_29, ym_30, rm__0, rm__1, rm__2, rm__3, rm__4, rm__5, rm__6, rm__7, rm__8, rm__9, rm__10, rm__11, rm__12, rm__13, rm__14, rm__15, rm__16, rm__17, rm__18, rm__19, rm__20, rm__21, rm__22, rm__23, rm__24, rm__25, rm__26, rm__27, rm__28, rm__29, rm__30, rm__31, rm__32, rm__33, rm__34, rm__35, rm__36, rm__37, rm__38, rm__39, rm__40, rm__41, rm__42, rm__43, rm__44, rm__45]
  try simp only [iteP, Classical.not_not]
  exact h
theorem pv_X5_place : ∀ as M L K, S_X5_place as M L K → ma_rn tb_X5_place 3 as M L K := by
  intro as M L K h
  unfold S_X5_place at h
  split at h
  · exact pw_X5_place h
  · exact h.elim
def S_X3_place : ma_Cs := fun as M L K => match as with
  | [.ref k, .int s, .int c, .int l] => (isS k) ∧ (K (some (.int ((s * 36 + c) * 4 + l))) M L)
  | _ => False
theorem ms_X3_place : ma_ms S_X3_place := by
  intro as M L K K' hk h
  unfold S_X3_place at h ⊢
  split at h
  · exact ⟨h.1, hk _ _ _ h.2⟩
  · exact h.elim
theorem un_X3_place {k : Nat} {s : Int32} {c : Int32} {l : Int32} {M : ZM} {L : ZL} {K : ma_Kt} : S_X3_place [.ref k, .int s, .int c, .int l] M L K = ((isS k) ∧ (K (some (.int ((s * 36 + c) * 4 + l))) M L)) := rfl
theorem pw_X3_place {k : Nat} {s : Int32} {c : Int32} {l : Int32}  {M : ZM} {L : ZL} {K : ma_Kt} (hp : isS k) (h : (K (some (.int ((s * 36 + c) * 4 + l))) M L)) : ma_rn tb_X3_place 4 [.ref k, .int s, .int c, .int l] M L K := by
  refine ⟨Nat.le_of_ble_eq_true rfl, fun V hV => ?_⟩
  refine ma_walk mo_X3_place hV [] (fun F hF => ?_)
  simp only [tb_X3_place, hF, in_no, in_push, in_ild, in_lld, in_ald, in_ist, in_ast, in_lst, in_inc, in_iii, in_idv, in_ldv, in_lll, in_lli, in_lil, in_ii, in_il, in_li, in_ll, in_dup, in_dp2, q_if1, q_if2, in_go, in_sw, ma_sw, in_rv, in_ri, in_rz, in_rl, in_get, in_put, in_puz, in_iar, in_bar, in_lar, in_aar, in_iaw, in_baw, in_law, in_len, in_cpy, in_s1, in_s2, in_s3, in_v1, in_v2, in_v3, in_v4, in_v5, in_v6, ma_bk, ma_gl, ma_sl, ma_nl, ma_wc, ma_wd, ma_nn, ma_en, List.mem_cons, List.not_mem_nil, or_false, or_true, true_or, false_or, true_and, and_true, false_and, and_false, if_true, if_false, forall_const, true_implies, false_implies, not_true_eq_false, not_false_eq_true, Classical.not_not, implies_true, and_self, Nat.add_zero, Nat.zero_add, eq_self, ne_eq, reduceCtorEq, Nat.reduceLT, Nat.reduceLeDiff, Nat.reduceEqDiff, Nat.reduceSub, Nat.reduceAdd, i10, i01, im10, Int32.reduceLT, Int32.reduceLE, ↓reduceIte, reduceIte, up_r, uL_r, cp_r, Int32.toInt_toInt64, Int64.reduceToInt, Int32.reduceToInt, ↓b1_or, b1_0, b1_1, lc_lt, lc_le, lc_gt, lc_ge, lc_eq, yx_0, yx_1, yx_2, yx_3, yx_4, yx_5, yx_6, yx_7, yx_8, yx_9, yx_10, yx_11, yx_12, yx_13, yx_14, yx_15, yx_16, yx_17, yx_18, yx_19, yx_20, yx_21, yx_22, yx_23, yx_24, yx_25, yx_26, yx_27, yx_28, yx_29, yx_30, yx_31, yx_32, yx_33, yx_34, yx_35, yx_36, yx_37, yx_38, yx_39, yx_40, yx_41, yx_42, yx_43, yx_44, yx_45, yx_46, yx_47, yx_48, yx_49, yx_50, yx_51, yx_52, yx_53, yx_54, yx_55, yx_56, yx_57, yx_58, yx_59, yx_60, yx_61, yx_62, yx_63, yx_64, yx_65, yx_66, yx_67, yx_68, rx_0, rx_1, rx_2, rx_3, rx_4, rx_5, rx_6, rx_7, rx_8, rx_9, rx_10, rx_11, rx_12, rx_13, rx_14, rx_15, rx_16, rx_17, rx_18, rx_19, rx_20, rx_21, rx_22, rx_23, rx_24, rx_25, rx_26, rx_27, rx_28, rx_29, rx_30, rx_31, rx_32, rx_33, rp_0, rp_1, rp_2, rp_3, rp_4, rp_5, rp_6, rp_7, rp_8, rs_0, rs_1, rs_2, rs_3, rs_4, re_0, re_1, re_2, re_3, re_4, re_5, rr_0, rr_1, rr_2, rr_3, rr_4, rk_0, rk_1, isP3, isP11, isP46, isP58, isS25, isS28, isS31]
  try simp only [iteP, Classical.not_not]
  exact h
theorem pv_X3_place : ∀ as M L K, S_X3_place as M L K → ma_rn tb_X3_place 4 as M L K := by
  intro as M L K h
  unfold S_X3_place at h
  split at h
  · exact pw_X3_place h.1 h.2
  · exact h.elim
def dnL (a b : Int64) : Int64 := if a < 0 then -((b - 1 - a) / b) else a / b
def S_X5_downLong : ma_Cs := fun as M L K => match as with
  | [.long a, .long b] => (¬ b = 0) ∧ (K (some (.long (dnL a b))) M L)
  | _ => False
theorem ms_X5_downLong : ma_ms S_X5_downLong := by
  intro as M L K K' hk h
  unfold S_X5_downLong at h ⊢
  split at h
  · exact ⟨h.1, hk _ _ _ h.2⟩
  · exact h.elim
theorem un_X5_downLong {a : Int64} {b : Int64} {M : ZM} {L : ZL} {K : ma_Kt} : S_X5_downLong [.long a, .long b] M L K = ((¬ b = 0) ∧ (K (some (.long (dnL a b))) M L)) := rfl
theorem pw_X5_downLong {a : Int64} {b : Int64}  {M : ZM} {L : ZL} {K : ma_Kt} (hp : ¬ b = 0) (h : (K (some (.long (dnL a b))) M L)) : ma_rn tb_X5_downLong 4 [.long a, .long b] M L K := by
  refine ⟨Nat.le_of_ble_eq_true rfl, fun V hV => ?_⟩
  refine ma_walk mo_X5_downLong hV [] (fun F hF => ?_)
  simp only [tb_X5_downLong, hF, in_no, in_push, in_ild, in_lld, in_ald, in_ist, in_ast, in_lst, in_inc, in_iii, in_idv, in_ldv, in_lll, in_lli, in_lil, in_ii, in_il, in_li, in_ll, in_dup, in_dp2, q_if1, q_if2, in_go, in_sw, ma_sw, in_rv, in_ri, in_rz, in_rl, in_get, in_put, in_puz, in_iar, in_bar, in_lar, in_aar, in_iaw, in_baw, in_law, in_len, in_cpy, in_s1, in_s2, in_s3, in_v1, in_v2, in_v3, in_v4, in_v5, in_v6, ma_bk, ma_gl, ma_sl, ma_nl, ma_wc, ma_wd, ma_nn, ma_en, List.mem_cons, List.not_mem_nil, or_false, or_true, true_or, false_or, true_and, and_true, false_and, and_false, if_true, if_false, forall_const, true_implies, false_implies, not_true_eq_false, not_false_eq_true, Classical.not_not, implies_true, and_self, Nat.add_zero, Nat.zero_add, eq_self, ne_eq, reduceCtorEq, Nat.reduceLT, Nat.reduceLeDiff, Nat.reduceEqDiff, Nat.reduceSub, Nat.reduceAdd, i10, i01, im10, Int32.reduceLT, Int32.reduceLE, ↓reduceIte, reduceIte, up_r, uL_r, cp_r, Int32.toInt_toInt64, Int64.reduceToInt, Int32.reduceToInt, ↓b1_or, b1_0, b1_1, lc_lt, lc_le, lc_gt, lc_ge, lc_eq, ym_0, ym_1, ym_2, ym_3, ym_4, ym_5, ym_6, ym_7, ym_8, ym_9, ym_10, ym_11, ym_12, ym_13, ym_14, ym_15, ym_16, ym_17, ym_18, ym_19, ym_20, ym_21, ym_22, ym_23, ym_24, ym_25, ym_26, ym_27, ym_28, ym_29, ym_30, rm__0, rm__1, rm__2, rm__3, rm__4, rm__5, rm__6, rm__7, rm__8, rm__9, rm__10, rm__11, rm__12, rm__13, rm__14, rm__15, rm__16, rm__17, rm__18, rm__19, rm__20, rm__21, rm__22, rm__23, rm__24, rm__25, rm__26, rm__27, rm__28, rm__29, rm__30, rm__31, rm__32, rm__33, rm__34, rm__35, rm__36, rm__37, rm__38, rm__39, rm__40, rm__41, rm__42, rm__43, rm__44, rm__45, hp]
  try simp only [iteP, Classical.not_not]
  refine ⟨fun c => ?_, fun c => ?_⟩
  · rw [dnL, if_pos c] at h; exact h
  · rw [dnL, if_neg c] at h; exact h
theorem pv_X5_downLong : ∀ as M L K, S_X5_downLong as M L K → ma_rn tb_X5_downLong 4 as M L K := by
  intro as M L K h
  unfold S_X5_downLong at h
  split at h
  · exact pw_X5_downLong h.1 h.2
  · exact h.elim
def S_X5_down : ma_Cs := fun as M L K => match as with
  | [.long a, .long b] => (¬ b = 0) ∧ (K (some (.int (dnL a b).toInt32)) M L)
  | _ => False
theorem ms_X5_down : ma_ms S_X5_down := by
  intro as M L K K' hk h
  unfold S_X5_down at h ⊢
  split at h
  · exact ⟨h.1, hk _ _ _ h.2⟩
  · exact h.elim
theorem un_X5_down {a : Int64} {b : Int64} {M : ZM} {L : ZL} {K : ma_Kt} : S_X5_down [.long a, .long b] M L K = ((¬ b = 0) ∧ (K (some (.int (dnL a b).toInt32)) M L)) := rfl
theorem pw_X5_down {a : Int64} {b : Int64}  {M : ZM} {L : ZL} {K : ma_Kt} (hp : ¬ b = 0) (h : (K (some (.int (dnL a b).toInt32)) M L)) : ma_rn tb_X5_down 4 [.long a, .long b] M L K := by
  refine ⟨Nat.le_of_ble_eq_true rfl, fun V hV => ?_⟩
  refine ma_walk mo_X5_down hV [] (fun F hF => ?_)
  simp only [tb_X5_down, hF, in_no, in_push, in_ild, in_lld, in_ald, in_ist, in_ast, in_lst, in_inc, in_iii, in_idv, in_ldv, in_lll, in_lli, in_lil, in_ii, in_il, in_li, in_ll, in_dup, in_dp2, q_if1, q_if2, in_go, in_sw, ma_sw, in_rv, in_ri, in_rz, in_rl, in_get, in_put, in_puz, in_iar, in_bar, in_lar, in_aar, in_iaw, in_baw, in_law, in_len, in_cpy, in_s1, in_s2, in_s3, in_v1, in_v2, in_v3, in_v4, in_v5, in_v6, ma_bk, ma_gl, ma_sl, ma_nl, ma_wc, ma_wd, ma_nn, ma_en, List.mem_cons, List.not_mem_nil, or_false, or_true, true_or, false_or, true_and, and_true, false_and, and_false, if_true, if_false, forall_const, true_implies, false_implies, not_true_eq_false, not_false_eq_true, Classical.not_not, implies_true, and_self, Nat.add_zero, Nat.zero_add, eq_self, ne_eq, reduceCtorEq, Nat.reduceLT, Nat.reduceLeDiff, Nat.reduceEqDiff, Nat.reduceSub, Nat.reduceAdd, i10, i01, im10, Int32.reduceLT, Int32.reduceLE, ↓reduceIte, reduceIte, up_r, uL_r, cp_r, Int32.toInt_toInt64, Int64.reduceToInt, Int32.reduceToInt, ↓b1_or, b1_0, b1_1, lc_lt, lc_le, lc_gt, lc_ge, lc_eq, ym_0, ym_1, ym_2, ym_3, ym_4, ym_5, ym_6, ym_7, ym_8, ym_9, ym_10, ym_11, ym_12, ym_13, ym_14, ym_15, ym_16, ym_17, ym_18, ym_19, ym_20, ym_21, ym_22, ym_23, ym_24, ym_25, ym_26, ym_27, ym_28, ym_29, ym_30, rm__0, rm__1, rm__2, rm__3, rm__4, rm__5, rm__6, rm__7, rm__8, rm__9, rm__10, rm__11, rm__12, rm__13, rm__14, rm__15, rm__16, rm__17, rm__18, rm__19, rm__20, rm__21, rm__22, rm__23, rm__24, rm__25, rm__26, rm__27, rm__28, rm__29, rm__30, rm__31, rm__32, rm__33, rm__34, rm__35, rm__36, rm__37, rm__38, rm__39, rm__40, rm__41, rm__42, rm__43, rm__44, rm__45, hp]
  try simp only [iteP, Classical.not_not]
  refine ⟨fun c => ?_, fun c => ?_⟩
  · rw [dnL, if_pos c] at h; exact h
  · rw [dnL, if_neg c] at h; exact h
theorem pv_X5_down : ∀ as M L K, S_X5_down as M L K → ma_rn tb_X5_down 4 as M L K := by
  intro as M L K h
  unfold S_X5_down at h
  split at h
  · exact pw_X5_down h.1 h.2
  · exact h.elim
def S_X5_size : ma_Cs := fun as M L K => match as with
  | [.long a] => (K (some (.long (if 0 ≤ a then a else -a))) M L)
  | _ => False
theorem ms_X5_size : ma_ms S_X5_size := by
  intro as M L K K' hk h
  unfold S_X5_size at h ⊢
  split at h
  · exact hk _ _ _ h
  · exact h.elim
theorem un_X5_size {a : Int64} {M : ZM} {L : ZL} {K : ma_Kt} : S_X5_size [.long a] M L K = ((K (some (.long (if 0 ≤ a then a else -a))) M L)) := rfl
theorem pw_X5_size {a : Int64}  {M : ZM} {L : ZL} {K : ma_Kt} (h : (K (some (.long (if 0 ≤ a then a else -a))) M L)) : ma_rn tb_X5_size 2 [.long a] M L K := by
  refine ⟨Nat.le_of_ble_eq_true rfl, fun V hV => ?_⟩
  refine ma_walk mo_X5_size hV [] (fun F hF => ?_)
  simp only [tb_X5_size, hF, in_no, in_push, in_ild, in_lld, in_ald, in_ist, in_ast, in_lst, in_inc, in_iii, in_idv, in_ldv, in_lll, in_lli, in_lil, in_ii, in_il, in_li, in_ll, in_dup, in_dp2, q_if1, q_if2, in_go, in_sw, ma_sw, in_rv, in_ri, in_rz, in_rl, in_get, in_put, in_puz, in_iar, in_bar, in_lar, in_aar, in_iaw, in_baw, in_law, in_len, in_cpy, in_s1, in_s2, in_s3, in_v1, in_v2, in_v3, in_v4, in_v5, in_v6, ma_bk, ma_gl, ma_sl, ma_nl, ma_wc, ma_wd, ma_nn, ma_en, List.mem_cons, List.not_mem_nil, or_false, or_true, true_or, false_or, true_and, and_true, false_and, and_false, if_true, if_false, forall_const, true_implies, false_implies, not_true_eq_false, not_false_eq_true, Classical.not_not, implies_true, and_self, Nat.add_zero, Nat.zero_add, eq_self, ne_eq, reduceCtorEq, Nat.reduceLT, Nat.reduceLeDiff, Nat.reduceEqDiff, Nat.reduceSub, Nat.reduceAdd, i10, i01, im10, Int32.reduceLT, Int32.reduceLE, ↓reduceIte, reduceIte, up_r, uL_r, cp_r, Int32.toInt_toInt64, Int64.reduceToInt, Int32.reduceToInt, ↓b1_or, b1_0, b1_1, lc_lt, lc_le, lc_gt, lc_ge, lc_eq, ym_0, ym_1, ym_2, ym_3, ym_4, ym_5, ym_6, ym_7, ym_8, ym_9, ym_10, ym_11, ym_12, ym_13, ym_14, ym_15, ym_16, ym_17, ym_18, ym_19, ym_20, ym_21, ym_22, ym_23, ym_24, ym_25, ym_26, ym_27, ym_28, ym_29, ym_30, rm__0, rm__1, rm__2, rm__3, rm__4, rm__5, rm__6, rm__7, rm__8, rm__9, rm__10, rm__11, rm__12, rm__13, rm__14, rm__15, rm__16, rm__17, rm__18, rm__19, rm__20, rm__21, rm__22, rm__23, rm__24, rm__25, rm__26, rm__27, rm__28, rm__29, rm__30, rm__31, rm__32, rm__33, rm__34, rm__35, rm__36, rm__37, rm__38, rm__39, rm__40, rm__41, rm__42, rm__43, rm__44, rm__45]
  try simp only [iteP, Classical.not_not]
  refine ⟨fun c => ?_, fun c => ?_⟩
  · rw [if_pos c] at h; exact h
  · rw [if_neg c] at h; exact h
theorem pv_X5_size : ∀ as M L K, S_X5_size as M L K → ma_rn tb_X5_size 2 as M L K := by
  intro as M L K h
  unfold S_X5_size at h
  split at h
  · exact pw_X5_size h
  · exact h.elim
def S_X5_all : ma_Cs := fun as M L K => match as with
  | [.ref k] => (k = 0) ∧ (K (some (.int ((1 : Int32) <<< (M 0 19 &&& 31) - 1))) M L)
  | _ => False
theorem ms_X5_all : ma_ms S_X5_all := by
  intro as M L K K' hk h
  unfold S_X5_all at h ⊢
  split at h
  · exact ⟨h.1, hk _ _ _ h.2⟩
  · exact h.elim
theorem un_X5_all {k : Nat} {M : ZM} {L : ZL} {K : ma_Kt} : S_X5_all [.ref k] M L K = ((k = 0) ∧ (K (some (.int ((1 : Int32) <<< (M 0 19 &&& 31) - 1))) M L)) := rfl
theorem pw_X5_all {k : Nat}  {M : ZM} {L : ZL} {K : ma_Kt} (hp : k = 0) (h : (K (some (.int ((1 : Int32) <<< (M 0 19 &&& 31) - 1))) M L)) : ma_rn tb_X5_all 1 [.ref k] M L K := by
  refine ⟨Nat.le_of_ble_eq_true rfl, fun V hV => ?_⟩
  subst hp
  refine ma_walk mo_X5_all hV [] (fun F hF => ?_)
  simp only [tb_X5_all, hF, in_no, in_push, in_ild, in_lld, in_ald, in_ist, in_ast, in_lst, in_inc, in_iii, in_idv, in_ldv, in_lll, in_lli, in_lil, in_ii, in_il, in_li, in_ll, in_dup, in_dp2, q_if1, q_if2, in_go, in_sw, ma_sw, in_rv, in_ri, in_rz, in_rl, in_get, in_put, in_puz, in_iar, in_bar, in_lar, in_aar, in_iaw, in_baw, in_law, in_len, in_cpy, in_s1, in_s2, in_s3, in_v1, in_v2, in_v3, in_v4, in_v5, in_v6, ma_bk, ma_gl, ma_sl, ma_nl, ma_wc, ma_wd, ma_nn, ma_en, List.mem_cons, List.not_mem_nil, or_false, or_true, true_or, false_or, true_and, and_true, false_and, and_false, if_true, if_false, forall_const, true_implies, false_implies, not_true_eq_false, not_false_eq_true, Classical.not_not, implies_true, and_self, Nat.add_zero, Nat.zero_add, eq_self, ne_eq, reduceCtorEq, Nat.reduceLT, Nat.reduceLeDiff, Nat.reduceEqDiff, Nat.reduceSub, Nat.reduceAdd, i10, i01, im10, Int32.reduceLT, Int32.reduceLE, ↓reduceIte, reduceIte, up_r, uL_r, cp_r, Int32.toInt_toInt64, Int64.reduceToInt, Int32.reduceToInt, ↓b1_or, b1_0, b1_1, lc_lt, lc_le, lc_gt, lc_ge, lc_eq, ym_0, ym_1, ym_2, ym_3, ym_4, ym_5, ym_6, ym_7, ym_8, ym_9, ym_10, ym_11, ym_12, ym_13, ym_14, ym_15, ym_16, ym_17, ym_18, ym_19, ym_20, ym_21, ym_22, ym_23, ym_24, ym_25, ym_26, ym_27, ym_28, ym_29, ym_30, rm__0, rm__1, rm__2, rm__3, rm__4, rm__5, rm__6, rm__7, rm__8, rm__9, rm__10, rm__11, rm__12, rm__13, rm__14, rm__15, rm__16, rm__17, rm__18, rm__19, rm__20, rm__21, rm__22, rm__23, rm__24, rm__25, rm__26, rm__27, rm__28, rm__29, rm__30, rm__31, rm__32, rm__33, rm__34, rm__35, rm__36, rm__37, rm__38, rm__39, rm__40, rm__41, rm__42, rm__43, rm__44, rm__45]
  try simp only [iteP, Classical.not_not]
  exact h
theorem pv_X5_all : ∀ as M L K, S_X5_all as M L K → ma_rn tb_X5_all 1 as M L K := by
  intro as M L K h
  unfold S_X5_all at h
  split at h
  · exact pw_X5_all h.1 h.2
  · exact h.elim
def S_X1_fails : ma_Cs := fun as M L K => match as with
  | [.ref k, .int p] => (k = 2) ∧ (K (some (.int 0)) (ma_up M 2 1 p) L)
  | _ => False
theorem ms_X1_fails : ma_ms S_X1_fails := by
  intro as M L K K' hk h
  unfold S_X1_fails at h ⊢
  split at h
  · exact ⟨h.1, hk _ _ _ h.2⟩
  · exact h.elim
theorem un_X1_fails {k : Nat} {p : Int32} {M : ZM} {L : ZL} {K : ma_Kt} : S_X1_fails [.ref k, .int p] M L K = ((k = 2) ∧ (K (some (.int 0)) (ma_up M 2 1 p) L)) := rfl
theorem pw_X1_fails {k : Nat} {p : Int32}  {M : ZM} {L : ZL} {K : ma_Kt} (hp : k = 2) (h : (K (some (.int 0)) (ma_up M 2 1 p) L)) : ma_rn tb_X1_fails 2 [.ref k, .int p] M L K := by
  refine ⟨Nat.le_of_ble_eq_true rfl, fun V hV => ?_⟩
  subst hp
  refine ma_walk mo_X1_fails hV [] (fun F hF => ?_)
  simp only [tb_X1_fails, hF, in_no, in_push, in_ild, in_lld, in_ald, in_ist, in_ast, in_lst, in_inc, in_iii, in_idv, in_ldv, in_lll, in_lli, in_lil, in_ii, in_il, in_li, in_ll, in_dup, in_dp2, q_if1, q_if2, in_go, in_sw, ma_sw, in_rv, in_ri, in_rz, in_rl, in_get, in_put, in_puz, in_iar, in_bar, in_lar, in_aar, in_iaw, in_baw, in_law, in_len, in_cpy, in_s1, in_s2, in_s3, in_v1, in_v2, in_v3, in_v4, in_v5, in_v6, ma_bk, ma_gl, ma_sl, ma_nl, ma_wc, ma_wd, ma_nn, ma_en, List.mem_cons, List.not_mem_nil, or_false, or_true, true_or, false_or, true_and, and_true, false_and, and_false, if_true, if_false, forall_const, true_implies, false_implies, not_true_eq_false, not_false_eq_true, Classical.not_not, implies_true, and_self, Nat.add_zero, Nat.zero_add, eq_self, ne_eq, reduceCtorEq, Nat.reduceLT, Nat.reduceLeDiff, Nat.reduceEqDiff, Nat.reduceSub, Nat.reduceAdd, i10, i01, im10, Int32.reduceLT, Int32.reduceLE, ↓reduceIte, reduceIte, up_r, uL_r, cp_r, Int32.toInt_toInt64, Int64.reduceToInt, Int32.reduceToInt, ↓b1_or, b1_0, b1_1, lc_lt, lc_le, lc_gt, lc_ge, lc_eq, yx_0, yx_1, yx_2, yx_3, yx_4, yx_5, yx_6, yx_7, yx_8, yx_9, yx_10, yx_11, yx_12, yx_13, yx_14, yx_15, yx_16, yx_17, yx_18, yx_19, yx_20, yx_21, yx_22, yx_23, yx_24, yx_25, yx_26, yx_27, yx_28, yx_29, yx_30, yx_31, yx_32, yx_33, yx_34, yx_35, yx_36, yx_37, yx_38, yx_39, yx_40, yx_41, yx_42, yx_43, yx_44, yx_45, yx_46, yx_47, yx_48, yx_49, yx_50, yx_51, yx_52, yx_53, yx_54, yx_55, yx_56, yx_57, yx_58, yx_59, yx_60, yx_61, yx_62, yx_63, yx_64, yx_65, yx_66, yx_67, yx_68, rx_0, rx_1, rx_2, rx_3, rx_4, rx_5, rx_6, rx_7, rx_8, rx_9, rx_10, rx_11, rx_12, rx_13, rx_14, rx_15, rx_16, rx_17, rx_18, rx_19, rx_20, rx_21, rx_22, rx_23, rx_24, rx_25, rx_26, rx_27, rx_28, rx_29, rx_30, rx_31, rx_32, rx_33, rp_0, rp_1, rp_2, rp_3, rp_4, rp_5, rp_6, rp_7, rp_8, rs_0, rs_1, rs_2, rs_3, rs_4, re_0, re_1, re_2, re_3, re_4, re_5, rr_0, rr_1, rr_2, rr_3, rr_4, rk_0, rk_1, isP3, isP11, isP46, isP58, isS25, isS28, isS31]
  try simp only [iteP, Classical.not_not]
  exact h
theorem pv_X1_fails : ∀ as M L K, S_X1_fails as M L K → ma_rn tb_X1_fails 2 as M L K := by
  intro as M L K h
  unfold S_X1_fails at h
  split at h
  · exact pw_X1_fails h.1 h.2
  · exact h.elim
def S_X5_fails : ma_Cs := fun as M L K => match as with
  | [.ref k, .int p] => (k = 0) ∧ (K none (ma_up M 0 33 (if M 0 33 < 0 then p else M 0 33)) L)
  | _ => False
theorem ms_X5_fails : ma_ms S_X5_fails := by
  intro as M L K K' hk h
  unfold S_X5_fails at h ⊢
  split at h
  · exact ⟨h.1, hk _ _ _ h.2⟩
  · exact h.elim
theorem un_X5_fails {k : Nat} {p : Int32} {M : ZM} {L : ZL} {K : ma_Kt} : S_X5_fails [.ref k, .int p] M L K = ((k = 0) ∧ (K none (ma_up M 0 33 (if M 0 33 < 0 then p else M 0 33)) L)) := rfl
theorem pw_X5_fails {k : Nat} {p : Int32}  {M : ZM} {L : ZL} {K : ma_Kt} (hp : k = 0) (h : (K none (ma_up M 0 33 (if M 0 33 < 0 then p else M 0 33)) L)) : ma_rn tb_X5_fails 2 [.ref k, .int p] M L K := by
  refine ⟨Nat.le_of_ble_eq_true rfl, fun V hV => ?_⟩
  subst hp
  refine ma_walk mo_X5_fails hV [] (fun F hF => ?_)
  simp only [tb_X5_fails, hF, in_no, in_push, in_ild, in_lld, in_ald, in_ist, in_ast, in_lst, in_inc, in_iii, in_idv, in_ldv, in_lll, in_lli, in_lil, in_ii, in_il, in_li, in_ll, in_dup, in_dp2, q_if1, q_if2, in_go, in_sw, ma_sw, in_rv, in_ri, in_rz, in_rl, in_get, in_put, in_puz, in_iar, in_bar, in_lar, in_aar, in_iaw, in_baw, in_law, in_len, in_cpy, in_s1, in_s2, in_s3, in_v1, in_v2, in_v3, in_v4, in_v5, in_v6, ma_bk, ma_gl, ma_sl, ma_nl, ma_wc, ma_wd, ma_nn, ma_en, List.mem_cons, List.not_mem_nil, or_false, or_true, true_or, false_or, true_and, and_true, false_and, and_false, if_true, if_false, forall_const, true_implies, false_implies, not_true_eq_false, not_false_eq_true, Classical.not_not, implies_true, and_self, Nat.add_zero, Nat.zero_add, eq_self, ne_eq, reduceCtorEq, Nat.reduceLT, Nat.reduceLeDiff, Nat.reduceEqDiff, Nat.reduceSub, Nat.reduceAdd, i10, i01, im10, Int32.reduceLT, Int32.reduceLE, ↓reduceIte, reduceIte, up_r, uL_r, cp_r, Int32.toInt_toInt64, Int64.reduceToInt, Int32.reduceToInt, ↓b1_or, b1_0, b1_1, lc_lt, lc_le, lc_gt, lc_ge, lc_eq, ym_0, ym_1, ym_2, ym_3, ym_4, ym_5, ym_6, ym_7, ym_8, ym_9, ym_10, ym_11, ym_12, ym_13, ym_14, ym_15, ym_16, ym_17, ym_18, ym_19, ym_20, ym_21, ym_22, ym_23, ym_24, ym_25, ym_26, ym_27, ym_28, ym_29, ym_30, rm__0, rm__1, rm__2, rm__3, rm__4, rm__5, rm__6, rm__7, rm__8, rm__9, rm__10, rm__11, rm__12, rm__13, rm__14, rm__15, rm__16, rm__17, rm__18, rm__19, rm__20, rm__21, rm__22, rm__23, rm__24, rm__25, rm__26, rm__27, rm__28, rm__29, rm__30, rm__31, rm__32, rm__33, rm__34, rm__35, rm__36, rm__37, rm__38, rm__39, rm__40, rm__41, rm__42, rm__43, rm__44, rm__45]
  try simp only [iteP, Classical.not_not]
  refine ⟨fun c => ?_, fun c => ?_⟩
  · have c2 : ¬ M 0 33 < 0 := fun g => by rw [Int32.lt_iff_toInt_lt] at g; rw [Int32.le_iff_toInt_le] at c; omega
    rw [if_neg c2] at h; exact h
  · have c2 : M 0 33 < 0 := by rw [Int32.le_iff_toInt_le] at c; rw [Int32.lt_iff_toInt_lt]; omega
    rw [if_pos c2] at h; exact h
theorem pv_X5_fails : ∀ as M L K, S_X5_fails as M L K → ma_rn tb_X5_fails 2 as M L K := by
  intro as M L K h
  unfold S_X5_fails at h
  split at h
  · exact pw_X5_fails h.1 h.2
  · exact h.elim
