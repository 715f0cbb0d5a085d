/-! what is kept (the model): slot, moves, moveAll -/
set_option maxRecDepth 100000
set_option maxHeartbeats 4000000
/-- what is kept at place r of the 700 -/
def kT (M : ZM) (r : Nat) : Int32 := if r < 1 then M 0 7 else if r < 2 then M 0 2 else if r < 3 then M 0 19 else if r < 7 then M 1 (r - 3) else if r < 11 then M 3 (r - 7) else if r < 15 then M 4 (r - 11) else if r < 19 then M 5 (r - 15) else if r < 23 then M 6 (r - 19) else if r < 27 then M 7 (r - 23) else if r < 31 then M 8 (r - 27) else if r < 111 then M 9 (r - 31) else if r < 191 then M 10 (r - 111) else if r < 271 then M 11 (r - 191) else if r < 415 then M 12 (r - 271) else if r < 427 then M 13 (r - 415) else if r < 439 then M 14 (r - 427) else if r < 451 then M 15 (r - 439) else M 16 (r - 451)
theorem kT_1 (M : ZM) {l : Nat} (hl : l < 4) : kT M (3 + l) = M 1 l := by
  unfold kT; rw [if_neg (by omega), if_neg (by omega), if_neg (by omega), if_pos (by omega), Nat.add_sub_cancel_left]
theorem kT_3 (M : ZM) {l : Nat} (hl : l < 4) : kT M (7 + l) = M 3 l := by
  unfold kT; rw [if_neg (by omega), if_neg (by omega), if_neg (by omega), if_neg (by omega), if_pos (by omega), Nat.add_sub_cancel_left]
theorem kT_4 (M : ZM) {l : Nat} (hl : l < 4) : kT M (11 + l) = M 4 l := by
  unfold kT; rw [if_neg (by omega), if_neg (by omega), if_neg (by omega), if_neg (by omega), if_neg (by omega), if_pos (by omega), Nat.add_sub_cancel_left]
theorem kT_5 (M : ZM) {l : Nat} (hl : l < 4) : kT M (15 + l) = M 5 l := by
  unfold kT; rw [if_neg (by omega), if_neg (by omega), if_neg (by omega), if_neg (by omega), if_neg (by omega), if_neg (by omega), if_pos (by omega), Nat.add_sub_cancel_left]
theorem kT_6 (M : ZM) {l : Nat} (hl : l < 4) : kT M (19 + l) = M 6 l := by
  unfold kT; rw [if_neg (by omega), if_neg (by omega), if_neg (by omega), if_neg (by omega), if_neg (by omega), if_neg (by omega), if_neg (by omega), if_pos (by omega), Nat.add_sub_cancel_left]
theorem kT_7 (M : ZM) {l : Nat} (hl : l < 4) : kT M (23 + l) = M 7 l := by
  unfold kT; rw [if_neg (by omega), if_neg (by omega), if_neg (by omega), if_neg (by omega), if_neg (by omega), if_neg (by omega), if_neg (by omega), if_neg (by omega), if_pos (by omega), Nat.add_sub_cancel_left]
theorem kT_8 (M : ZM) {l : Nat} (hl : l < 4) : kT M (27 + l) = M 8 l := by
  unfold kT; rw [if_neg (by omega), if_neg (by omega), if_neg (by omega), if_neg (by omega), if_neg (by omega), if_neg (by omega), if_neg (by omega), if_neg (by omega), if_neg (by omega), if_pos (by omega), Nat.add_sub_cancel_left]
theorem kT_9 (M : ZM) {l : Nat} (hl : l < 80) : kT M (31 + l) = M 9 l := by
  unfold kT; rw [if_neg (by omega), if_neg (by omega), if_neg (by omega), if_neg (by omega), if_neg (by omega), if_neg (by omega), if_neg (by omega), if_neg (by omega), if_neg (by omega), if_neg (by omega), if_pos (by omega), Nat.add_sub_cancel_left]
theorem kT_10 (M : ZM) {l : Nat} (hl : l < 80) : kT M (111 + l) = M 10 l := by
  unfold kT; rw [if_neg (by omega), if_neg (by omega), if_neg (by omega), if_neg (by omega), if_neg (by omega), if_neg (by omega), if_neg (by omega), if_neg (by omega), if_neg (by omega), if_neg (by omega), if_neg (by omega), if_pos (by omega), Nat.add_sub_cancel_left]
theorem kT_11 (M : ZM) {l : Nat} (hl : l < 80) : kT M (191 + l) = M 11 l := by
  unfold kT; rw [if_neg (by omega), if_neg (by omega), if_neg (by omega), if_neg (by omega), if_neg (by omega), if_neg (by omega), if_neg (by omega), if_neg (by omega), if_neg (by omega), if_neg (by omega), if_neg (by omega), if_neg (by omega), if_pos (by omega), Nat.add_sub_cancel_left]
theorem kT_12 (M : ZM) {l : Nat} (hl : l < 144) : kT M (271 + l) = M 12 l := by
  unfold kT; rw [if_neg (by omega), if_neg (by omega), if_neg (by omega), if_neg (by omega), if_neg (by omega), if_neg (by omega), if_neg (by omega), if_neg (by omega), if_neg (by omega), if_neg (by omega), if_neg (by omega), if_neg (by omega), if_neg (by omega), if_pos (by omega), Nat.add_sub_cancel_left]
theorem kT_13 (M : ZM) {l : Nat} (hl : l < 12) : kT M (415 + l) = M 13 l := by
  unfold kT; rw [if_neg (by omega), if_neg (by omega), if_neg (by omega), if_neg (by omega), if_neg (by omega), if_neg (by omega), if_neg (by omega), if_neg (by omega), if_neg (by omega), if_neg (by omega), if_neg (by omega), if_neg (by omega), if_neg (by omega), if_neg (by omega), if_pos (by omega), Nat.add_sub_cancel_left]
theorem kT_14 (M : ZM) {l : Nat} (hl : l < 12) : kT M (427 + l) = M 14 l := by
  unfold kT; rw [if_neg (by omega), if_neg (by omega), if_neg (by omega), if_neg (by omega), if_neg (by omega), if_neg (by omega), if_neg (by omega), if_neg (by omega), if_neg (by omega), if_neg (by omega), if_neg (by omega), if_neg (by omega), if_neg (by omega), if_neg (by omega), if_neg (by omega), if_pos (by omega), Nat.add_sub_cancel_left]
theorem kT_15 (M : ZM) {l : Nat} (hl : l < 12) : kT M (439 + l) = M 15 l := by
  unfold kT; rw [if_neg (by omega), if_neg (by omega), if_neg (by omega), if_neg (by omega), if_neg (by omega), if_neg (by omega), if_neg (by omega), if_neg (by omega), if_neg (by omega), if_neg (by omega), if_neg (by omega), if_neg (by omega), if_neg (by omega), if_neg (by omega), if_neg (by omega), if_neg (by omega), if_pos (by omega), Nat.add_sub_cancel_left]
theorem kT_16 (M : ZM) {l : Nat} (hl : l < 12) : kT M (451 + l) = M 16 l := by
  unfold kT; rw [if_neg (by omega), if_neg (by omega), if_neg (by omega), if_neg (by omega), if_neg (by omega), if_neg (by omega), if_neg (by omega), if_neg (by omega), if_neg (by omega), if_neg (by omega), if_neg (by omega), if_neg (by omega), if_neg (by omega), if_neg (by omega), if_neg (by omega), if_neg (by omega), if_neg (by omega), Nat.add_sub_cancel_left]
def Ip (M : ZM) (q : Nat) (M' : ZM) (D : Nat → Prop) : Prop := (∀ a, a ≠ 21 → M' a = M a) ∧ (∀ r, r < 700 → D r → M' 21 (700 * q + r) = kT M r) ∧ ∀ i, i < 700 * q ∨ 700 * q + 700 ≤ i → M' 21 i = M 21 i
theorem Ip.st {M M' : ZM} {q : Nat} {D : Nat → Prop} (h : Ip M q M' D) {r : Nat} {v : Int32} (hr : r < 700) (hv : kT M r = v) : Ip M q (ma_up M' 21 (700 * q + r) v) (fun s => D s ∨ s = r) := by
  obtain ⟨h1, h2, h3⟩ := h
  refine ⟨fun a ha => (up_c ha).trans (h1 a ha), fun s hs hD => ?_, fun i hi => ?_⟩
  · by_cases e : s = r
    · rw [e, up_r, if_pos ⟨rfl, rfl⟩, hv]
    · rw [up_r, if_neg (fun y => e (by omega))]
      exact h2 s hs (hD.resolve_right e)
  · rw [up_r, if_neg (fun y => by omega)]; exact h3 i hi
theorem Ip.sf {M M' : ZM} {q : Nat} {D : Nat → Prop} (h : Ip M q M' D) {a j : Nat} {v : Int32} (ha : a ≠ 21) (hv : M a j = v) : Ip M q (ma_up M' a j v) D := by
  obtain ⟨h1, h2, h3⟩ := h
  have e : ma_up M' a j v = M' := up_s (by rw [h1 a ha]; exact hv)
  rw [e]; exact ⟨h1, h2, h3⟩
theorem Ip.wk {M M' : ZM} {q : Nat} {D D' : Nat → Prop} (h : Ip M q M' D) (hd : ∀ r, r < 700 → D' r → D r) : Ip M q M' D' := ⟨h.1, fun r h1 h2 => h.2.1 r h1 (hd r h1 h2), h.2.2⟩
def kU (f g : Nat → Int32) (q b j : Nat) : Nat → Int32 := fun i => if i < j then g (700 * q + (b + i)) else f i
theorem kU_0 {f g : Nat → Int32} {q b : Nat} : kU f g q b 0 = f := by
  funext i; exact if_neg (Nat.not_lt_zero i)
theorem kU_s {f g : Nat → Int32} {q b j : Nat} : upd (kU f g q b j) j (g (700 * q + (b + j))) = kU f g q b (j + 1) := by
  funext i
  by_cases e : i = j
  · rw [e, pk_us]; exact (if_pos (by omega)).symm
  · rw [pk_un e]
    unfold kU
    by_cases e2 : i < j
    · rw [if_pos e2, if_pos (by omega)]
    · rw [if_neg e2, if_neg (by omega)]
def ba : Nat → Nat
  | 1 => 3
  | 3 => 7
  | 4 => 11
  | 5 => 15
  | 6 => 19
  | 7 => 23
  | 8 => 27
  | 9 => 31
  | 10 => 111
  | 11 => 191
  | 12 => 271
  | 13 => 415
  | 14 => 427
  | 15 => 439
  | 16 => 451
  | _ => 0
def kp0 (l a : Nat) : Nat := if (a = 1 ∨ (3 ≤ a ∧ a ≤ 8)) then l else 0
def kp1 (l a : Nat) : Nat := if (a = 1 ∨ (3 ≤ a ∧ a ≤ 8)) then 4 else if (9 ≤ a ∧ a ≤ 11) then l else 0
def kp2 (l a : Nat) : Nat := if (a = 1 ∨ (3 ≤ a ∧ a ≤ 8)) then 4 else if (9 ≤ a ∧ a ≤ 11) then 80 else if a = 12 then l else 0
def kp3 (l a : Nat) : Nat := if (a = 1 ∨ (3 ≤ a ∧ a ≤ 8)) then 4 else if (9 ≤ a ∧ a ≤ 11) then 80 else if a = 12 then 144 else if (13 ≤ a ∧ a ≤ 16) then l else 0
def Gp (M : ZM) (q : Nat) (z : Nat → Int32) (M' : ZM) (p : Nat → Nat) : Prop := M' 0 = z ∧ ∀ a, a ≠ 0 → M' a = kU (M a) (M 21) q (ba a) (p a)
theorem Gp.st {M M' : ZM} {q : Nat} {z : Nat → Int32} {p : Nat → Nat} (h : Gp M q z M' p) {a j : Nat} {v : Int32} (ha : a ≠ 0) (hp : p a = j) (hv : M 21 (700 * q + (ba a + j)) = v) : Gp M q z (ma_up M' a j v) (fun c => if c = a then j + 1 else p c) := by
  refine ⟨(up_c (Ne.symm ha)).trans h.1, fun c hc => ?_⟩
  by_cases e : c = a
  · subst e
    rw [ma_up_at, h.2 c hc, ← hv, hp]
    show _ = kU _ _ _ _ (if c = c then j + 1 else p c)
    rw [if_pos rfl]; exact kU_s
  · rw [up_c e]
    show _ = kU _ _ _ _ (if c = a then j + 1 else p c)
    rw [if_neg e]; exact h.2 c hc
theorem Gp.cg {M M' : ZM} {q : Nat} {z : Nat → Int32} {p p' : Nat → Nat} (h : Gp M q z M' p) (hp : ∀ a, p a = p' a) : Gp M q z M' p' := ⟨h.1, fun a ha => by rw [← hp a]; exact h.2 a ha⟩
theorem up_id {M : ZM} {k j : Nat} : ma_up M k j (M k j) = M := up_s rfl
def S_X5_slot : ma_Cs := fun as M L K => match as with
  | [.ref k, .int kk, .int wh, .int ii, .int v, .int b] => (k = 0 ∧ vp_in (700 * kk + wh + ii) 1400) ∧ (b = 0 → K (some (.int (M 21 (700 * kk + wh + ii).toNatClampNeg))) M L) ∧ (¬ b = 0 → K (some (.int (M 21 (700 * kk + wh + ii).toNatClampNeg))) (ma_up M 21 (700 * kk + wh + ii).toNatClampNeg v) L)
  | _ => False
theorem ms_X5_slot : ma_ms S_X5_slot := by
  intro as M L K K' hk h
  unfold S_X5_slot at h ⊢
  split at h
  · exact ⟨h.1, fun x0 => hk _ _ _ (h.2.1 x0), fun x0 => hk _ _ _ (h.2.2 x0)⟩
  · exact h.elim
theorem un_X5_slot {k : Nat} {kk : Int32} {wh : Int32} {ii : Int32} {v : Int32} {b : Int32} {M : ZM} {L : ZL} {K : ma_Kt} : S_X5_slot [.ref k, .int kk, .int wh, .int ii, .int v, .int b] M L K = ((k = 0 ∧ vp_in (700 * kk + wh + ii) 1400) ∧ (b = 0 → K (some (.int (M 21 (700 * kk + wh + ii).toNatClampNeg))) M L) ∧ (¬ b = 0 → K (some (.int (M 21 (700 * kk + wh + ii).toNatClampNeg))) (ma_up M 21 (700 * kk + wh + ii).toNatClampNeg v) L)) := rfl
theorem pw_X5_slot {k : Nat} {kk : Int32} {wh : Int32} {ii : Int32} {v : Int32} {b : Int32}  {M : ZM} {L : ZL} {K : ma_Kt} (hp : k = 0 ∧ vp_in (700 * kk + wh + ii) 1400) (h : (b = 0 → K (some (.int (M 21 (700 * kk + wh + ii).toNatClampNeg))) M L) ∧ (¬ b = 0 → K (some (.int (M 21 (700 * kk + wh + ii).toNatClampNeg))) (ma_up M 21 (700 * kk + wh + ii).toNatClampNeg v) L)) : ma_rn tb_X5_slot 8 [.ref k, .int kk, .int wh, .int ii, .int v, .int b] M L K := by
  refine ⟨Nat.le_of_ble_eq_true rfl, fun V hV => ?_⟩
  obtain ⟨rfl, h0⟩ := hp
  by_cases z : b = 0
  · have h := h.1 z
    refine ma_walk mo_X5_slot hV [] (fun F hF => ?_)
    simp only [tb_X5_slot, hF, in_no, in_push, in_ild, in_lld, in_ald, in_ist, in_ast, in_lst, in_inc, in_iii, in_idv, in_ldv, in_lll, in_lli, in_lil, in_ii, in_il, in_li, in_ll, in_dup, in_dp2, q_if1, q_if2, in_go, in_sw, ma_sw, in_rv, in_ri, in_rz, in_rl, in_get, in_put, in_puz, in_iar, in_bar, in_lar, in_aar, in_iaw, in_baw, in_law, in_len, in_cpy, in_s1, in_s2, in_s3, in_v1, in_v2, in_v3, in_v4, in_v5, in_v6, ma_bk, ma_gl, ma_sl, ma_nl, ma_wc, ma_wd, ma_nn, ma_en, List.mem_cons, List.not_mem_nil, or_false, or_true, true_or, false_or, true_and, and_true, false_and, and_false, if_true, if_false, forall_const, true_implies, false_implies, not_true_eq_false, not_false_eq_true, Classical.not_not, implies_true, and_self, Nat.add_zero, Nat.zero_add, eq_self, ne_eq, reduceCtorEq, Nat.reduceLT, Nat.reduceLeDiff, Nat.reduceEqDiff, Nat.reduceSub, Nat.reduceAdd, i10, i01, im10, Int32.reduceLT, Int32.reduceLE, ↓reduceIte, reduceIte, up_r, uL_r, cp_r, Int32.toInt_toInt64, Int64.reduceToInt, Int32.reduceToInt, ↓b1_or, b1_0, b1_1, lc_lt, lc_le, lc_gt, lc_ge, lc_eq, ym_0, ym_1, ym_2, ym_3, ym_4, ym_5, ym_6, ym_7, ym_8, ym_9, ym_10, ym_11, ym_12, ym_13, ym_14, ym_15, ym_16, ym_17, ym_18, ym_19, ym_20, ym_21, ym_22, ym_23, ym_24, ym_25, ym_26, ym_27, ym_28, ym_29, ym_30, rm__0, rm__1, rm__2, rm__3, rm__4, rm__5, rm__6, rm__7, rm__8, rm__9, rm__10, rm__11, rm__12, rm__13, rm__14, rm__15, rm__16, rm__17, rm__18, rm__19, rm__20, rm__21, rm__22, rm__23, rm__24, rm__25, rm__26, rm__27, rm__28, rm__29, rm__30, rm__31, rm__32, rm__33, rm__34, rm__35, rm__36, rm__37, rm__38, rm__39, rm__40, rm__41, rm__42, rm__43, rm__44, rm__45, h0, z, up_id]
    try simp only [iteP, Classical.not_not, b1_0, b1_1]
    exact h
  · have h := h.2 z
    refine ma_walk mo_X5_slot hV [] (fun F hF => ?_)
    simp only [tb_X5_slot, hF, in_no, in_push, in_ild, in_lld, in_ald, in_ist, in_ast, in_lst, in_inc, in_iii, in_idv, in_ldv, in_lll, in_lli, in_lil, in_ii, in_il, in_li, in_ll, in_dup, in_dp2, q_if1, q_if2, in_go, in_sw, ma_sw, in_rv, in_ri, in_rz, in_rl, in_get, in_put, in_puz, in_iar, in_bar, in_lar, in_aar, in_iaw, in_baw, in_law, in_len, in_cpy, in_s1, in_s2, in_s3, in_v1, in_v2, in_v3, in_v4, in_v5, in_v6, ma_bk, ma_gl, ma_sl, ma_nl, ma_wc, ma_wd, ma_nn, ma_en, List.mem_cons, List.not_mem_nil, or_false, or_true, true_or, false_or, true_and, and_true, false_and, and_false, if_true, if_false, forall_const, true_implies, false_implies, not_true_eq_false, not_false_eq_true, Classical.not_not, implies_true, and_self, Nat.add_zero, Nat.zero_add, eq_self, ne_eq, reduceCtorEq, Nat.reduceLT, Nat.reduceLeDiff, Nat.reduceEqDiff, Nat.reduceSub, Nat.reduceAdd, i10, i01, im10, Int32.reduceLT, Int32.reduceLE, ↓reduceIte, reduceIte, up_r, uL_r, cp_r, Int32.toInt_toInt64, Int64.reduceToInt, Int32.reduceToInt, ↓b1_or, b1_0, b1_1, lc_lt, lc_le, lc_gt, lc_ge, lc_eq, ym_0, ym_1, ym_2, ym_3, ym_4, ym_5, ym_6, ym_7, ym_8, ym_9, ym_10, ym_11, ym_12, ym_13, ym_14, ym_15, ym_16, ym_17, ym_18, ym_19, ym_20, ym_21, ym_22, ym_23, ym_24, ym_25, ym_26, ym_27, ym_28, ym_29, ym_30, rm__0, rm__1, rm__2, rm__3, rm__4, rm__5, rm__6, rm__7, rm__8, rm__9, rm__10, rm__11, rm__12, rm__13, rm__14, rm__15, rm__16, rm__17, rm__18, rm__19, rm__20, rm__21, rm__22, rm__23, rm__24, rm__25, rm__26, rm__27, rm__28, rm__29, rm__30, rm__31, rm__32, rm__33, rm__34, rm__35, rm__36, rm__37, rm__38, rm__39, rm__40, rm__41, rm__42, rm__43, rm__44, rm__45, h0, z]
    try simp only [iteP, Classical.not_not, b1_0, b1_1]
    exact h
theorem pv_X5_slot : ∀ as M L K, S_X5_slot as M L K → ma_rn tb_X5_slot 8 as M L K := by
  intro as M L K h
  unfold S_X5_slot at h
  split at h
  · exact pw_X5_slot h.1 h.2
  · exact h.elim
def S_X5_moves : ma_Cs := fun as M L K => match as with
  | [.ref k, .int kk, .int ii, .int v, .int b] => (k = 0 ∧ vp_in (700 * kk + 0 + ii) 1400) ∧ (b = 0 → K (some (.int (M 21 (700 * kk + 0 + ii).toNatClampNeg))) M L) ∧ (¬ b = 0 → K (some (.int v)) (ma_up M 21 (700 * kk + 0 + ii).toNatClampNeg v) L)
  | _ => False
theorem ms_X5_moves : ma_ms S_X5_moves := by
  intro as M L K K' hk h
  unfold S_X5_moves at h ⊢
  split at h
  · exact ⟨h.1, fun x0 => hk _ _ _ (h.2.1 x0), fun x0 => hk _ _ _ (h.2.2 x0)⟩
  · exact h.elim
theorem un_X5_moves {k : Nat} {kk : Int32} {ii : Int32} {v : Int32} {b : Int32} {M : ZM} {L : ZL} {K : ma_Kt} : S_X5_moves [.ref k, .int kk, .int ii, .int v, .int b] M L K = ((k = 0 ∧ vp_in (700 * kk + 0 + ii) 1400) ∧ (b = 0 → K (some (.int (M 21 (700 * kk + 0 + ii).toNatClampNeg))) M L) ∧ (¬ b = 0 → K (some (.int v)) (ma_up M 21 (700 * kk + 0 + ii).toNatClampNeg v) L)) := rfl
theorem pw_X5_moves {k : Nat} {kk : Int32} {ii : Int32} {v : Int32} {b : Int32}  {M : ZM} {L : ZL} {K : ma_Kt} (hp : k = 0 ∧ vp_in (700 * kk + 0 + ii) 1400) (h : (b = 0 → K (some (.int (M 21 (700 * kk + 0 + ii).toNatClampNeg))) M L) ∧ (¬ b = 0 → K (some (.int v)) (ma_up M 21 (700 * kk + 0 + ii).toNatClampNeg v) L)) : ma_rn (tb_X5_moves S_X5_slot) 6 [.ref k, .int kk, .int ii, .int v, .int b] M L K := by
  refine ⟨Nat.le_of_ble_eq_true rfl, fun V hV => ?_⟩
  obtain ⟨rfl, h0⟩ := hp
  by_cases z : b = 0
  · have h := h.1 z
    refine ma_walk (mo_X5_moves ms_X5_slot) hV [] (fun F hF => ?_)
    simp only [tb_X5_moves, hF, in_no, in_push, in_ild, in_lld, in_ald, in_ist, in_ast, in_lst, in_inc, in_iii, in_idv, in_ldv, in_lll, in_lli, in_lil, in_ii, in_il, in_li, in_ll, in_dup, in_dp2, q_if1, q_if2, in_go, in_sw, ma_sw, in_rv, in_ri, in_rz, in_rl, in_get, in_put, in_puz, in_iar, in_bar, in_lar, in_aar, in_iaw, in_baw, in_law, in_len, in_cpy, in_s1, in_s2, in_s3, in_v1, in_v2, in_v3, in_v4, in_v5, in_v6, ma_bk, ma_gl, ma_sl, ma_nl, ma_wc, ma_wd, ma_nn, ma_en, List.mem_cons, List.not_mem_nil, or_false, or_true, true_or, false_or, true_and, and_true, false_and, and_false, if_true, if_false, forall_const, true_implies, false_implies, not_true_eq_false, not_false_eq_true, Classical.not_not, implies_true, and_self, Nat.add_zero, Nat.zero_add, eq_self, ne_eq, reduceCtorEq, Nat.reduceLT, Nat.reduceLeDiff, Nat.reduceEqDiff, Nat.reduceSub, Nat.reduceAdd, i10, i01, im10, Int32.reduceLT, Int32.reduceLE, ↓reduceIte, reduceIte, up_r, uL_r, cp_r, Int32.toInt_toInt64, Int64.reduceToInt, Int32.reduceToInt, ↓b1_or, b1_0, b1_1, lc_lt, lc_le, lc_gt, lc_ge, lc_eq, ym_0, ym_1, ym_2, ym_3, ym_4, ym_5, ym_6, ym_7, ym_8, ym_9, ym_10, ym_11, ym_12, ym_13, ym_14, ym_15, ym_16, ym_17, ym_18, ym_19, ym_20, ym_21, ym_22, ym_23, ym_24, ym_25, ym_26, ym_27, ym_28, ym_29, ym_30, rm__0, rm__1, rm__2, rm__3, rm__4, rm__5, rm__6, rm__7, rm__8, rm__9, rm__10, rm__11, rm__12, rm__13, rm__14, rm__15, rm__16, rm__17, rm__18, rm__19, rm__20, rm__21, rm__22, rm__23, rm__24, rm__25, rm__26, rm__27, rm__28, rm__29, rm__30, rm__31, rm__32, rm__33, rm__34, rm__35, rm__36, rm__37, rm__38, rm__39, rm__40, rm__41, rm__42, rm__43, rm__44, rm__45, un_X5_slot, h0, z]
    try simp only [iteP, Classical.not_not, b1_0, b1_1]
    exact h
  · have h := h.2 z
    refine ma_walk (mo_X5_moves ms_X5_slot) hV [] (fun F hF => ?_)
    simp only [tb_X5_moves, hF, in_no, in_push, in_ild, in_lld, in_ald, in_ist, in_ast, in_lst, in_inc, in_iii, in_idv, in_ldv, in_lll, in_lli, in_lil, in_ii, in_il, in_li, in_ll, in_dup, in_dp2, q_if1, q_if2, in_go, in_sw, ma_sw, in_rv, in_ri, in_rz, in_rl, in_get, in_put, in_puz, in_iar, in_bar, in_lar, in_aar, in_iaw, in_baw, in_law, in_len, in_cpy, in_s1, in_s2, in_s3, in_v1, in_v2, in_v3, in_v4, in_v5, in_v6, ma_bk, ma_gl, ma_sl, ma_nl, ma_wc, ma_wd, ma_nn, ma_en, List.mem_cons, List.not_mem_nil, or_false, or_true, true_or, false_or, true_and, and_true, false_and, and_false, if_true, if_false, forall_const, true_implies, false_implies, not_true_eq_false, not_false_eq_true, Classical.not_not, implies_true, and_self, Nat.add_zero, Nat.zero_add, eq_self, ne_eq, reduceCtorEq, Nat.reduceLT, Nat.reduceLeDiff, Nat.reduceEqDiff, Nat.reduceSub, Nat.reduceAdd, i10, i01, im10, Int32.reduceLT, Int32.reduceLE, ↓reduceIte, reduceIte, up_r, uL_r, cp_r, Int32.toInt_toInt64, Int64.reduceToInt, Int32.reduceToInt, ↓b1_or, b1_0, b1_1, lc_lt, lc_le, lc_gt, lc_ge, lc_eq, ym_0, ym_1, ym_2, ym_3, ym_4, ym_5, ym_6, ym_7, ym_8, ym_9, ym_10, ym_11, ym_12, ym_13, ym_14, ym_15, ym_16, ym_17, ym_18, ym_19, ym_20, ym_21, ym_22, ym_23, ym_24, ym_25, ym_26, ym_27, ym_28, ym_29, ym_30, rm__0, rm__1, rm__2, rm__3, rm__4, rm__5, rm__6, rm__7, rm__8, rm__9, rm__10, rm__11, rm__12, rm__13, rm__14, rm__15, rm__16, rm__17, rm__18, rm__19, rm__20, rm__21, rm__22, rm__23, rm__24, rm__25, rm__26, rm__27, rm__28, rm__29, rm__30, rm__31, rm__32, rm__33, rm__34, rm__35, rm__36, rm__37, rm__38, rm__39, rm__40, rm__41, rm__42, rm__43, rm__44, rm__45, un_X5_slot, h0, z]
    try simp only [iteP, Classical.not_not, b1_0, b1_1]
    exact h
theorem pv_X5_moves : ∀ as M L K, S_X5_moves as M L K → ma_rn (tb_X5_moves S_X5_slot) 6 as M L K := by
  intro as M L K h
  unfold S_X5_moves at h
  split at h
  · exact pw_X5_moves h.1 h.2
  · exact h.elim
def S_X5_moveAll : ma_Cs := fun as M L K => match as with
  | [.ref k, .int kk, .int b] => ∃ (q : Nat), (k = 0 ∧ kk = nI q ∧ q < 2) ∧ (¬ b = 0 → ∀ (M' : ZM), Ip M q M' (fun r => r < 463) → K none M' L) ∧ (b = 0 → ∀ (M' : ZM), Gp M q (ma_up (ma_up (ma_up M 0 7 (M 21 (700 * q))) 0 2 (M 21 (700 * q + 1))) 0 19 (M 21 (700 * q + 2)) 0) M' (kp3 12) → K none M' L)
  | _ => False
theorem ms_X5_moveAll : ma_ms S_X5_moveAll := by
  intro as M L K K' hk h
  unfold S_X5_moveAll at h ⊢
  split at h
  · obtain ⟨q, h⟩ := h
    exact ⟨q, h.1, fun x0 x1 x2 => hk _ _ _ (h.2.1 x0 x1 x2), fun x0 x1 x2 => hk _ _ _ (h.2.2 x0 x1 x2)⟩
  · exact h.elim
theorem un_X5_moveAll {k : Nat} {kk : Int32} {b : Int32} {M : ZM} {L : ZL} {K : ma_Kt} : S_X5_moveAll [.ref k, .int kk, .int b] M L K = (∃ (q : Nat), (k = 0 ∧ kk = nI q ∧ q < 2) ∧ (¬ b = 0 → ∀ (M' : ZM), Ip M q M' (fun r => r < 463) → K none M' L) ∧ (b = 0 → ∀ (M' : ZM), Gp M q (ma_up (ma_up (ma_up M 0 7 (M 21 (700 * q))) 0 2 (M 21 (700 * q + 1))) 0 19 (M 21 (700 * q + 2)) 0) M' (kp3 12) → K none M' L)) := rfl
theorem pw_X5_moveAll {k : Nat} {kk : Int32} {b : Int32} {q : Nat} {M : ZM} {L : ZL} {K : ma_Kt} (hp : k = 0 ∧ kk = nI q ∧ q < 2) (h : (¬ b = 0 → ∀ (M' : ZM), Ip M q M' (fun r => r < 463) → K none M' L) ∧ (b = 0 → ∀ (M' : ZM), Gp M q (ma_up (ma_up (ma_up M 0 7 (M 21 (700 * q))) 0 2 (M 21 (700 * q + 1))) 0 19 (M 21 (700 * q + 2)) 0) M' (kp3 12) → K none M' L)) : ma_rn (tb_X5_moveAll S_X5_moves) 4 [.ref k, .int kk, .int b] M L K := by
  refine ⟨Nat.le_of_ble_eq_true rfl, fun V hV => ?_⟩
  obtain ⟨rfl, rfl, hq⟩ := hp
  have E : ∀ r, 700 * nI q + 0 + nI r = nI (700 * q + r) := fun r => by rw [show (700 : Int32) = nI 700 from rfl, show (0 : Int32) = nI 0 from rfl, pk_mul, nI_add, nI_add, Nat.add_zero]
  have VI : ∀ r, r < 700 → vp_in (nI (700 * q + r)) 1400 := fun r hr => vp_in_nI (by omega) (by decide)
  have CL : ∀ r, r < 700 → (nI (700 * q + r)).toNatClampNeg = 700 * q + r := fun r hr => a_cl (by omega)
  rcases Classical.em (b = 0) with rfl | hb
  · have h := h.2 rfl
    generalize hz : (ma_up (ma_up (ma_up M 0 7 (M 21 (700 * q))) 0 2 (M 21 (700 * q + 1))) 0 19 (M 21 (700 * q + 2)) 0) = z at h
    have lp3 : ∀ n l (M' : ZM), n + l = 12 → Gp M q z M' (kp3 l) → V 332 [some (.ref 0), some (.int (nI q)), some (.int 0), some (.int (nI l))] [] M' L := by
      intro n
      induction n with
      | zero =>
        intro l M' hl hI
        have v1 : (12 : Int32) ≤ nI l := by rw [show l = 12 by omega]; decide
        refine ma_walk (mo_X5_moveAll ms_X5_moves) hV [47, 213, 294, 332] (fun F hF => ?_)
        simp only [tb_X5_moveAll, hF, in_no, in_push, in_ild, in_lld, in_ald, in_ist, in_ast, in_lst, in_inc, in_iii, in_idv, in_ldv, in_lll, in_lli, in_lil, in_ii, in_il, in_li, in_ll, in_dup, in_dp2, q_if1, q_if2, in_go, in_sw, ma_sw, in_rv, in_ri, in_rz, in_rl, in_get, in_put, in_puz, in_iar, in_bar, in_lar, in_aar, in_iaw, in_baw, in_law, in_len, in_cpy, in_s1, in_s2, in_s3, in_v1, in_v2, in_v3, in_v4, in_v5, in_v6, ma_bk, ma_gl, ma_sl, ma_nl, ma_wc, ma_wd, ma_nn, ma_en, List.mem_cons, List.not_mem_nil, or_false, or_true, true_or, false_or, true_and, and_true, false_and, and_false, if_true, if_false, forall_const, true_implies, false_implies, not_true_eq_false, not_false_eq_true, Classical.not_not, implies_true, and_self, Nat.add_zero, Nat.zero_add, eq_self, ne_eq, reduceCtorEq, Nat.reduceLT, Nat.reduceLeDiff, Nat.reduceEqDiff, Nat.reduceSub, Nat.reduceAdd, i10, i01, im10, Int32.reduceLT, Int32.reduceLE, ↓reduceIte, reduceIte, up_r, uL_r, cp_r, Int32.toInt_toInt64, Int64.reduceToInt, Int32.reduceToInt, ↓b1_or, b1_0, b1_1, lc_lt, lc_le, lc_gt, lc_ge, lc_eq, ym_0, ym_1, ym_2, ym_3, ym_4, ym_5, ym_6, ym_7, ym_8, ym_9, ym_10, ym_11, ym_12, ym_13, ym_14, ym_15, ym_16, ym_17, ym_18, ym_19, ym_20, ym_21, ym_22, ym_23, ym_24, ym_25, ym_26, ym_27, ym_28, ym_29, ym_30, rm__0, rm__1, rm__2, rm__3, rm__4, rm__5, rm__6, rm__7, rm__8, rm__9, rm__10, rm__11, rm__12, rm__13, rm__14, rm__15, rm__16, rm__17, rm__18, rm__19, rm__20, rm__21, rm__22, rm__23, rm__24, rm__25, rm__26, rm__27, rm__28, rm__29, rm__30, rm__31, rm__32, rm__33, rm__34, rm__35, rm__36, rm__37, rm__38, rm__39, rm__40, rm__41, rm__42, rm__43, rm__44, rm__45, un_X5_moves, v1]
        try simp only [iteP, Classical.not_not, b1_0, b1_1]
        exact h M' (hI.cg (fun a => by rw [show l = 12 by omega]))
      | succ n ih =>
        intro l M' hl hI
        have hl4 : l < 12 := by omega
        have v1 : ¬ (12 : Int32) ≤ nI l := fun y => by rw [show (12 : Int32) = nI 12 from rfl, a_le (by omega) (by omega)] at y; omega
        have v4 : nI l + 1 = nI (l + 1) := by rw [show (1 : Int32) = nI 1 from rfl, nI_add]
        have v5 := a_cl (show l < 2147483648 by omega)
        have w12 : vp_in (nI l) 12 := vp_in_nI (by omega) (by decide)
        have k415 : (415 : Int32) + nI l = nI (415 + l) := by rw [show (415 : Int32) = nI 415 from rfl, nI_add]
        have i415 := VI (415 + l) (by omega)
        have j415 := CL (415 + l) (by omega)
        have k427 : (427 : Int32) + nI l = nI (427 + l) := by rw [show (427 : Int32) = nI 427 from rfl, nI_add]
        have i427 := VI (427 + l) (by omega)
        have j427 := CL (427 + l) (by omega)
        have k439 : (439 : Int32) + nI l = nI (439 + l) := by rw [show (439 : Int32) = nI 439 from rfl, nI_add]
        have i439 := VI (439 + l) (by omega)
        have j439 := CL (439 + l) (by omega)
        have k451 : (451 : Int32) + nI l = nI (451 + l) := by rw [show (451 : Int32) = nI 451 from rfl, nI_add]
        have i451 := VI (451 + l) (by omega)
        have j451 := CL (451 + l) (by omega)
        have g21 : M' 21 = M 21 := (hI.2 21 (by decide)).trans kU_0
        refine ma_walk (mo_X5_moveAll ms_X5_moves) hV [47, 213, 294, 332] (fun F hF => ?_)
        simp only [tb_X5_moveAll, hF, in_no, in_push, in_ild, in_lld, in_ald, in_ist, in_ast, in_lst, in_inc, in_iii, in_idv, in_ldv, in_lll, in_lli, in_lil, in_ii, in_il, in_li, in_ll, in_dup, in_dp2, q_if1, q_if2, in_go, in_sw, ma_sw, in_rv, in_ri, in_rz, in_rl, in_get, in_put, in_puz, in_iar, in_bar, in_lar, in_aar, in_iaw, in_baw, in_law, in_len, in_cpy, in_s1, in_s2, in_s3, in_v1, in_v2, in_v3, in_v4, in_v5, in_v6, ma_bk, ma_gl, ma_sl, ma_nl, ma_wc, ma_wd, ma_nn, ma_en, List.mem_cons, List.not_mem_nil, or_false, or_true, true_or, false_or, true_and, and_true, false_and, and_false, if_true, if_false, forall_const, true_implies, false_implies, not_true_eq_false, not_false_eq_true, Classical.not_not, implies_true, and_self, Nat.add_zero, Nat.zero_add, eq_self, ne_eq, reduceCtorEq, Nat.reduceLT, Nat.reduceLeDiff, Nat.reduceEqDiff, Nat.reduceSub, Nat.reduceAdd, i10, i01, im10, Int32.reduceLT, Int32.reduceLE, ↓reduceIte, reduceIte, up_r, uL_r, cp_r, Int32.toInt_toInt64, Int64.reduceToInt, Int32.reduceToInt, ↓b1_or, b1_0, b1_1, lc_lt, lc_le, lc_gt, lc_ge, lc_eq, ym_0, ym_1, ym_2, ym_3, ym_4, ym_5, ym_6, ym_7, ym_8, ym_9, ym_10, ym_11, ym_12, ym_13, ym_14, ym_15, ym_16, ym_17, ym_18, ym_19, ym_20, ym_21, ym_22, ym_23, ym_24, ym_25, ym_26, ym_27, ym_28, ym_29, ym_30, rm__0, rm__1, rm__2, rm__3, rm__4, rm__5, rm__6, rm__7, rm__8, rm__9, rm__10, rm__11, rm__12, rm__13, rm__14, rm__15, rm__16, rm__17, rm__18, rm__19, rm__20, rm__21, rm__22, rm__23, rm__24, rm__25, rm__26, rm__27, rm__28, rm__29, rm__30, rm__31, rm__32, rm__33, rm__34, rm__35, rm__36, rm__37, rm__38, rm__39, rm__40, rm__41, rm__42, rm__43, rm__44, rm__45, un_X5_moves, v1, v4, v5, E, w12, k415, i415, j415, k427, i427, j427, k439, i439, j439, k451, i451, j451, g21]
        try simp only [iteP, Classical.not_not, b1_0, b1_1]
        exact ih (l + 1) _ (by omega) (((((hI.st (a := 13) (j := l) (by decide) rfl rfl).st (a := 14) (j := l) (by decide) rfl rfl).st (a := 15) (j := l) (by decide) rfl rfl).st (a := 16) (j := l) (by decide) rfl rfl).cg (fun a => by (try dsimp only); unfold kp3; (repeat' split) <;> omega))
    have lp2 : ∀ n l (M' : ZM), n + l = 144 → Gp M q z M' (kp2 l) → V 294 [some (.ref 0), some (.int (nI q)), some (.int 0), some (.int (nI l))] [] M' L := by
      intro n
      induction n with
      | zero =>
        intro l M' hl hI
        have v1 : (144 : Int32) ≤ nI l := by rw [show l = 144 by omega]; decide
        refine ma_walk (mo_X5_moveAll ms_X5_moves) hV [47, 213, 294, 332] (fun F hF => ?_)
        simp only [tb_X5_moveAll, hF, in_no, in_push, in_ild, in_lld, in_ald, in_ist, in_ast, in_lst, in_inc, in_iii, in_idv, in_ldv, in_lll, in_lli, in_lil, in_ii, in_il, in_li, in_ll, in_dup, in_dp2, q_if1, q_if2, in_go, in_sw, ma_sw, in_rv, in_ri, in_rz, in_rl, in_get, in_put, in_puz, in_iar, in_bar, in_lar, in_aar, in_iaw, in_baw, in_law, in_len, in_cpy, in_s1, in_s2, in_s3, in_v1, in_v2, in_v3, in_v4, in_v5, in_v6, ma_bk, ma_gl, ma_sl, ma_nl, ma_wc, ma_wd, ma_nn, ma_en, List.mem_cons, List.not_mem_nil, or_false, or_true, true_or, false_or, true_and, and_true, false_and, and_false, if_true, if_false, forall_const, true_implies, false_implies, not_true_eq_false, not_false_eq_true, Classical.not_not, implies_true, and_self, Nat.add_zero, Nat.zero_add, eq_self, ne_eq, reduceCtorEq, Nat.reduceLT, Nat.reduceLeDiff, Nat.reduceEqDiff, Nat.reduceSub, Nat.reduceAdd, i10, i01, im10, Int32.reduceLT, Int32.reduceLE, ↓reduceIte, reduceIte, up_r, uL_r, cp_r, Int32.toInt_toInt64, Int64.reduceToInt, Int32.reduceToInt, ↓b1_or, b1_0, b1_1, lc_lt, lc_le, lc_gt, lc_ge, lc_eq, ym_0, ym_1, ym_2, ym_3, ym_4, ym_5, ym_6, ym_7, ym_8, ym_9, ym_10, ym_11, ym_12, ym_13, ym_14, ym_15, ym_16, ym_17, ym_18, ym_19, ym_20, ym_21, ym_22, ym_23, ym_24, ym_25, ym_26, ym_27, ym_28, ym_29, ym_30, rm__0, rm__1, rm__2, rm__3, rm__4, rm__5, rm__6, rm__7, rm__8, rm__9, rm__10, rm__11, rm__12, rm__13, rm__14, rm__15, rm__16, rm__17, rm__18, rm__19, rm__20, rm__21, rm__22, rm__23, rm__24, rm__25, rm__26, rm__27, rm__28, rm__29, rm__30, rm__31, rm__32, rm__33, rm__34, rm__35, rm__36, rm__37, rm__38, rm__39, rm__40, rm__41, rm__42, rm__43, rm__44, rm__45, un_X5_moves, v1]
        try simp only [iteP, Classical.not_not, b1_0, b1_1]
        exact lp3 12 0 M' rfl (hI.cg (fun a => by rw [show l = 144 by omega]; unfold kp2 kp3; (repeat' split) <;> omega))
      | succ n ih =>
        intro l M' hl hI
        have hl4 : l < 144 := by omega
        have v1 : ¬ (144 : Int32) ≤ nI l := fun y => by rw [show (144 : Int32) = nI 144 from rfl, a_le (by omega) (by omega)] at y; omega
        have v4 : nI l + 1 = nI (l + 1) := by rw [show (1 : Int32) = nI 1 from rfl, nI_add]
        have v5 := a_cl (show l < 2147483648 by omega)
        have w144 : vp_in (nI l) 144 := vp_in_nI (by omega) (by decide)
        have k271 : (271 : Int32) + nI l = nI (271 + l) := by rw [show (271 : Int32) = nI 271 from rfl, nI_add]
        have i271 := VI (271 + l) (by omega)
        have j271 := CL (271 + l) (by omega)
        have g21 : M' 21 = M 21 := (hI.2 21 (by decide)).trans kU_0
        refine ma_walk (mo_X5_moveAll ms_X5_moves) hV [47, 213, 294, 332] (fun F hF => ?_)
        simp only [tb_X5_moveAll, hF, in_no, in_push, in_ild, in_lld, in_ald, in_ist, in_ast, in_lst, in_inc, in_iii, in_idv, in_ldv, in_lll, in_lli, in_lil, in_ii, in_il, in_li, in_ll, in_dup, in_dp2, q_if1, q_if2, in_go, in_sw, ma_sw, in_rv, in_ri, in_rz, in_rl, in_get, in_put, in_puz, in_iar, in_bar, in_lar, in_aar, in_iaw, in_baw, in_law, in_len, in_cpy, in_s1, in_s2, in_s3, in_v1, in_v2, in_v3, in_v4, in_v5, in_v6, ma_bk, ma_gl, ma_sl, ma_nl, ma_wc, ma_wd, ma_nn, ma_en, List.mem_cons, List.not_mem_nil, or_false, or_true, true_or, false_or, true_and, and_true, false_and, and_false, if_true, if_false, forall_const, true_implies, false_implies, not_true_eq_false, not_false_eq_true, Classical.not_not, implies_true, and_self, Nat.add_zero, Nat.zero_add, eq_self, ne_eq, reduceCtorEq, Nat.reduceLT, Nat.reduceLeDiff, Nat.reduceEqDiff, Nat.reduceSub, Nat.reduceAdd, i10, i01, im10, Int32.reduceLT, Int32.reduceLE, ↓reduceIte, reduceIte, up_r, uL_r, cp_r, Int32.toInt_toInt64, Int64.reduceToInt, Int32.reduceToInt, ↓b1_or, b1_0, b1_1, lc_lt, lc_le, lc_gt, lc_ge, lc_eq, ym_0, ym_1, ym_2, ym_3, ym_4, ym_5, ym_6, ym_7, ym_8, ym_9, ym_10, ym_11, ym_12, ym_13, ym_14, ym_15, ym_16, ym_17, ym_18, ym_19, ym_20, ym_21, ym_22, ym_23, ym_24, ym_25, ym_26, ym_27, ym_28, ym_29, ym_30, rm__0, rm__1, rm__2, rm__3, rm__4, rm__5, rm__6, rm__7, rm__8, rm__9, rm__10, rm__11, rm__12, rm__13, rm__14, rm__15, rm__16, rm__17, rm__18, rm__19, rm__20, rm__21, rm__22, rm__23, rm__24, rm__25, rm__26, rm__27, rm__28, rm__29, rm__30, rm__31, rm__32, rm__33, rm__34, rm__35, rm__36, rm__37, rm__38, rm__39, rm__40, rm__41, rm__42, rm__43, rm__44, rm__45, un_X5_moves, v1, v4, v5, E, w144, k271, i271, j271, g21]
        try simp only [iteP, Classical.not_not, b1_0, b1_1]
        exact ih (l + 1) _ (by omega) ((hI.st (a := 12) (j := l) (by decide) rfl rfl).cg (fun a => by (try dsimp only); unfold kp2; (repeat' split) <;> omega))
    have lp1 : ∀ n l (M' : ZM), n + l = 80 → Gp M q z M' (kp1 l) → V 213 [some (.ref 0), some (.int (nI q)), some (.int 0), some (.int (nI l))] [] M' L := by
      intro n
      induction n with
      | zero =>
        intro l M' hl hI
        have v1 : (80 : Int32) ≤ nI l := by rw [show l = 80 by omega]; decide
        refine ma_walk (mo_X5_moveAll ms_X5_moves) hV [47, 213, 294, 332] (fun F hF => ?_)
        simp only [tb_X5_moveAll, hF, in_no, in_push, in_ild, in_lld, in_ald, in_ist, in_ast, in_lst, in_inc, in_iii, in_idv, in_ldv, in_lll, in_lli, in_lil, in_ii, in_il, in_li, in_ll, in_dup, in_dp2, q_if1, q_if2, in_go, in_sw, ma_sw, in_rv, in_ri, in_rz, in_rl, in_get, in_put, in_puz, in_iar, in_bar, in_lar, in_aar, in_iaw, in_baw, in_law, in_len, in_cpy, in_s1, in_s2, in_s3, in_v1, in_v2, in_v3, in_v4, in_v5, in_v6, ma_bk, ma_gl, ma_sl, ma_nl, ma_wc, ma_wd, ma_nn, ma_en, List.mem_cons, List.not_mem_nil, or_false, or_true, true_or, false_or, true_and, and_true, false_and, and_false, if_true, if_false, forall_const, true_implies, false_implies, not_true_eq_false, not_false_eq_true, Classical.not_not, implies_true, and_self, Nat.add_zero, Nat.zero_add, eq_self, ne_eq, reduceCtorEq, Nat.reduceLT, Nat.reduceLeDiff, Nat.reduceEqDiff, Nat.reduceSub, Nat.reduceAdd, i10, i01, im10, Int32.reduceLT, Int32.reduceLE, ↓reduceIte, reduceIte, up_r, uL_r, cp_r, Int32.toInt_toInt64, Int64.reduceToInt, Int32.reduceToInt, ↓b1_or, b1_0, b1_1, lc_lt, lc_le, lc_gt, lc_ge, lc_eq, ym_0, ym_1, ym_2, ym_3, ym_4, ym_5, ym_6, ym_7, ym_8, ym_9, ym_10, ym_11, ym_12, ym_13, ym_14, ym_15, ym_16, ym_17, ym_18, ym_19, ym_20, ym_21, ym_22, ym_23, ym_24, ym_25, ym_26, ym_27, ym_28, ym_29, ym_30, rm__0, rm__1, rm__2, rm__3, rm__4, rm__5, rm__6, rm__7, rm__8, rm__9, rm__10, rm__11, rm__12, rm__13, rm__14, rm__15, rm__16, rm__17, rm__18, rm__19, rm__20, rm__21, rm__22, rm__23, rm__24, rm__25, rm__26, rm__27, rm__28, rm__29, rm__30, rm__31, rm__32, rm__33, rm__34, rm__35, rm__36, rm__37, rm__38, rm__39, rm__40, rm__41, rm__42, rm__43, rm__44, rm__45, un_X5_moves, v1]
        try simp only [iteP, Classical.not_not, b1_0, b1_1]
        exact lp2 144 0 M' rfl (hI.cg (fun a => by rw [show l = 80 by omega]; unfold kp1 kp2; (repeat' split) <;> omega))
      | succ n ih =>
        intro l M' hl hI
        have hl4 : l < 80 := by omega
        have v1 : ¬ (80 : Int32) ≤ nI l := fun y => by rw [show (80 : Int32) = nI 80 from rfl, a_le (by omega) (by omega)] at y; omega
        have v4 : nI l + 1 = nI (l + 1) := by rw [show (1 : Int32) = nI 1 from rfl, nI_add]
        have v5 := a_cl (show l < 2147483648 by omega)
        have w160 : vp_in (nI l) 160 := vp_in_nI (by omega) (by decide)
        have k31 : (31 : Int32) + nI l = nI (31 + l) := by rw [show (31 : Int32) = nI 31 from rfl, nI_add]
        have i31 := VI (31 + l) (by omega)
        have j31 := CL (31 + l) (by omega)
        have k111 : (111 : Int32) + nI l = nI (111 + l) := by rw [show (111 : Int32) = nI 111 from rfl, nI_add]
        have i111 := VI (111 + l) (by omega)
        have j111 := CL (111 + l) (by omega)
        have k191 : (191 : Int32) + nI l = nI (191 + l) := by rw [show (191 : Int32) = nI 191 from rfl, nI_add]
        have i191 := VI (191 + l) (by omega)
        have j191 := CL (191 + l) (by omega)
        have g21 : M' 21 = M 21 := (hI.2 21 (by decide)).trans kU_0
        refine ma_walk (mo_X5_moveAll ms_X5_moves) hV [47, 213, 294, 332] (fun F hF => ?_)
        simp only [tb_X5_moveAll, hF, in_no, in_push, in_ild, in_lld, in_ald, in_ist, in_ast, in_lst, in_inc, in_iii, in_idv, in_ldv, in_lll, in_lli, in_lil, in_ii, in_il, in_li, in_ll, in_dup, in_dp2, q_if1, q_if2, in_go, in_sw, ma_sw, in_rv, in_ri, in_rz, in_rl, in_get, in_put, in_puz, in_iar, in_bar, in_lar, in_aar, in_iaw, in_baw, in_law, in_len, in_cpy, in_s1, in_s2, in_s3, in_v1, in_v2, in_v3, in_v4, in_v5, in_v6, ma_bk, ma_gl, ma_sl, ma_nl, ma_wc, ma_wd, ma_nn, ma_en, List.mem_cons, List.not_mem_nil, or_false, or_true, true_or, false_or, true_and, and_true, false_and, and_false, if_true, if_false, forall_const, true_implies, false_implies, not_true_eq_false, not_false_eq_true, Classical.not_not, implies_true, and_self, Nat.add_zero, Nat.zero_add, eq_self, ne_eq, reduceCtorEq, Nat.reduceLT, Nat.reduceLeDiff, Nat.reduceEqDiff, Nat.reduceSub, Nat.reduceAdd, i10, i01, im10, Int32.reduceLT, Int32.reduceLE, ↓reduceIte, reduceIte, up_r, uL_r, cp_r, Int32.toInt_toInt64, Int64.reduceToInt, Int32.reduceToInt, ↓b1_or, b1_0, b1_1, lc_lt, lc_le, lc_gt, lc_ge, lc_eq, ym_0, ym_1, ym_2, ym_3, ym_4, ym_5, ym_6, ym_7, ym_8, ym_9, ym_10, ym_11, ym_12, ym_13, ym_14, ym_15, ym_16, ym_17, ym_18, ym_19, ym_20, ym_21, ym_22, ym_23, ym_24, ym_25, ym_26, ym_27, ym_28, ym_29, ym_30, rm__0, rm__1, rm__2, rm__3, rm__4, rm__5, rm__6, rm__7, rm__8, rm__9, rm__10, rm__11, rm__12, rm__13, rm__14, rm__15, rm__16, rm__17, rm__18, rm__19, rm__20, rm__21, rm__22, rm__23, rm__24, rm__25, rm__26, rm__27, rm__28, rm__29, rm__30, rm__31, rm__32, rm__33, rm__34, rm__35, rm__36, rm__37, rm__38, rm__39, rm__40, rm__41, rm__42, rm__43, rm__44, rm__45, un_X5_moves, v1, v4, v5, E, w160, k31, i31, j31, k111, i111, j111, k191, i191, j191, g21]
        try simp only [iteP, Classical.not_not, b1_0, b1_1]
        exact ih (l + 1) _ (by omega) ((((hI.st (a := 9) (j := l) (by decide) rfl rfl).st (a := 10) (j := l) (by decide) rfl rfl).st (a := 11) (j := l) (by decide) rfl rfl).cg (fun a => by (try dsimp only); unfold kp1; (repeat' split) <;> omega))
    have lp0 : ∀ n l (M' : ZM), n + l = 4 → Gp M q z M' (kp0 l) → V 47 [some (.ref 0), some (.int (nI q)), some (.int 0), some (.int (nI l))] [] M' L := by
      intro n
      induction n with
      | zero =>
        intro l M' hl hI
        have v1 : (4 : Int32) ≤ nI l := by rw [show l = 4 by omega]; decide
        refine ma_walk (mo_X5_moveAll ms_X5_moves) hV [47, 213, 294, 332] (fun F hF => ?_)
        simp only [tb_X5_moveAll, hF, in_no, in_push, in_ild, in_lld, in_ald, in_ist, in_ast, in_lst, in_inc, in_iii, in_idv, in_ldv, in_lll, in_lli, in_lil, in_ii, in_il, in_li, in_ll, in_dup, in_dp2, q_if1, q_if2, in_go, in_sw, ma_sw, in_rv, in_ri, in_rz, in_rl, in_get, in_put, in_puz, in_iar, in_bar, in_lar, in_aar, in_iaw, in_baw, in_law, in_len, in_cpy, in_s1, in_s2, in_s3, in_v1, in_v2, in_v3, in_v4, in_v5, in_v6, ma_bk, ma_gl, ma_sl, ma_nl, ma_wc, ma_wd, ma_nn, ma_en, List.mem_cons, List.not_mem_nil, or_false, or_true, true_or, false_or, true_and, and_true, false_and, and_false, if_true, if_false, forall_const, true_implies, false_implies, not_true_eq_false, not_false_eq_true, Classical.not_not, implies_true, and_self, Nat.add_zero, Nat.zero_add, eq_self, ne_eq, reduceCtorEq, Nat.reduceLT, Nat.reduceLeDiff, Nat.reduceEqDiff, Nat.reduceSub, Nat.reduceAdd, i10, i01, im10, Int32.reduceLT, Int32.reduceLE, ↓reduceIte, reduceIte, up_r, uL_r, cp_r, Int32.toInt_toInt64, Int64.reduceToInt, Int32.reduceToInt, ↓b1_or, b1_0, b1_1, lc_lt, lc_le, lc_gt, lc_ge, lc_eq, ym_0, ym_1, ym_2, ym_3, ym_4, ym_5, ym_6, ym_7, ym_8, ym_9, ym_10, ym_11, ym_12, ym_13, ym_14, ym_15, ym_16, ym_17, ym_18, ym_19, ym_20, ym_21, ym_22, ym_23, ym_24, ym_25, ym_26, ym_27, ym_28, ym_29, ym_30, rm__0, rm__1, rm__2, rm__3, rm__4, rm__5, rm__6, rm__7, rm__8, rm__9, rm__10, rm__11, rm__12, rm__13, rm__14, rm__15, rm__16, rm__17, rm__18, rm__19, rm__20, rm__21, rm__22, rm__23, rm__24, rm__25, rm__26, rm__27, rm__28, rm__29, rm__30, rm__31, rm__32, rm__33, rm__34, rm__35, rm__36, rm__37, rm__38, rm__39, rm__40, rm__41, rm__42, rm__43, rm__44, rm__45, un_X5_moves, v1]
        try simp only [iteP, Classical.not_not, b1_0, b1_1]
        exact lp1 80 0 M' rfl (hI.cg (fun a => by rw [show l = 4 by omega]; unfold kp0 kp1; (repeat' split) <;> omega))
      | succ n ih =>
        intro l M' hl hI
        have hl4 : l < 4 := by omega
        have v1 : ¬ (4 : Int32) ≤ nI l := fun y => by rw [show (4 : Int32) = nI 4 from rfl, a_le (by omega) (by omega)] at y; omega
        have v4 : nI l + 1 = nI (l + 1) := by rw [show (1 : Int32) = nI 1 from rfl, nI_add]
        have v5 := a_cl (show l < 2147483648 by omega)
        have w4 : vp_in (nI l) 4 := vp_in_nI (by omega) (by decide)
        have w8 : vp_in (nI l) 8 := vp_in_nI (by omega) (by decide)
        have k3 : (3 : Int32) + nI l = nI (3 + l) := by rw [show (3 : Int32) = nI 3 from rfl, nI_add]
        have i3 := VI (3 + l) (by omega)
        have j3 := CL (3 + l) (by omega)
        have k7 : (7 : Int32) + nI l = nI (7 + l) := by rw [show (7 : Int32) = nI 7 from rfl, nI_add]
        have i7 := VI (7 + l) (by omega)
        have j7 := CL (7 + l) (by omega)
        have k11 : (11 : Int32) + nI l = nI (11 + l) := by rw [show (11 : Int32) = nI 11 from rfl, nI_add]
        have i11 := VI (11 + l) (by omega)
        have j11 := CL (11 + l) (by omega)
        have k15 : (15 : Int32) + nI l = nI (15 + l) := by rw [show (15 : Int32) = nI 15 from rfl, nI_add]
        have i15 := VI (15 + l) (by omega)
        have j15 := CL (15 + l) (by omega)
        have k19 : (19 : Int32) + nI l = nI (19 + l) := by rw [show (19 : Int32) = nI 19 from rfl, nI_add]
        have i19 := VI (19 + l) (by omega)
        have j19 := CL (19 + l) (by omega)
        have k23 : (23 : Int32) + nI l = nI (23 + l) := by rw [show (23 : Int32) = nI 23 from rfl, nI_add]
        have i23 := VI (23 + l) (by omega)
        have j23 := CL (23 + l) (by omega)
        have k27 : (27 : Int32) + nI l = nI (27 + l) := by rw [show (27 : Int32) = nI 27 from rfl, nI_add]
        have i27 := VI (27 + l) (by omega)
        have j27 := CL (27 + l) (by omega)
        have g21 : M' 21 = M 21 := (hI.2 21 (by decide)).trans kU_0
        refine ma_walk (mo_X5_moveAll ms_X5_moves) hV [47, 213, 294, 332] (fun F hF => ?_)
        simp only [tb_X5_moveAll, hF, in_no, in_push, in_ild, in_lld, in_ald, in_ist, in_ast, in_lst, in_inc, in_iii, in_idv, in_ldv, in_lll, in_lli, in_lil, in_ii, in_il, in_li, in_ll, in_dup, in_dp2, q_if1, q_if2, in_go, in_sw, ma_sw, in_rv, in_ri, in_rz, in_rl, in_get, in_put, in_puz, in_iar, in_bar, in_lar, in_aar, in_iaw, in_baw, in_law, in_len, in_cpy, in_s1, in_s2, in_s3, in_v1, in_v2, in_v3, in_v4, in_v5, in_v6, ma_bk, ma_gl, ma_sl, ma_nl, ma_wc, ma_wd, ma_nn, ma_en, List.mem_cons, List.not_mem_nil, or_false, or_true, true_or, false_or, true_and, and_true, false_and, and_false, if_true, if_false, forall_const, true_implies, false_implies, not_true_eq_false, not_false_eq_true, Classical.not_not, implies_true, and_self, Nat.add_zero, Nat.zero_add, eq_self, ne_eq, reduceCtorEq, Nat.reduceLT, Nat.reduceLeDiff, Nat.reduceEqDiff, Nat.reduceSub, Nat.reduceAdd, i10, i01, im10, Int32.reduceLT, Int32.reduceLE, ↓reduceIte, reduceIte, up_r, uL_r, cp_r, Int32.toInt_toInt64, Int64.reduceToInt, Int32.reduceToInt, ↓b1_or, b1_0, b1_1, lc_lt, lc_le, lc_gt, lc_ge, lc_eq, ym_0, ym_1, ym_2, ym_3, ym_4, ym_5, ym_6, ym_7, ym_8, ym_9, ym_10, ym_11, ym_12, ym_13, ym_14, ym_15, ym_16, ym_17, ym_18, ym_19, ym_20, ym_21, ym_22, ym_23, ym_24, ym_25, ym_26, ym_27, ym_28, ym_29, ym_30, rm__0, rm__1, rm__2, rm__3, rm__4, rm__5, rm__6, rm__7, rm__8, rm__9, rm__10, rm__11, rm__12, rm__13, rm__14, rm__15, rm__16, rm__17, rm__18, rm__19, rm__20, rm__21, rm__22, rm__23, rm__24, rm__25, rm__26, rm__27, rm__28, rm__29, rm__30, rm__31, rm__32, rm__33, rm__34, rm__35, rm__36, rm__37, rm__38, rm__39, rm__40, rm__41, rm__42, rm__43, rm__44, rm__45, un_X5_moves, v1, v4, v5, E, w4, w8, k3, i3, j3, k7, i7, j7, k11, i11, j11, k15, i15, j15, k19, i19, j19, k23, i23, j23, k27, i27, j27, g21]
        try simp only [iteP, Classical.not_not, b1_0, b1_1]
        exact ih (l + 1) _ (by omega) ((((((((hI.st (a := 1) (j := l) (by decide) rfl rfl).st (a := 3) (j := l) (by decide) rfl rfl).st (a := 4) (j := l) (by decide) rfl rfl).st (a := 5) (j := l) (by decide) rfl rfl).st (a := 6) (j := l) (by decide) rfl rfl).st (a := 7) (j := l) (by decide) rfl rfl).st (a := 8) (j := l) (by decide) rfl rfl).cg (fun a => by (try dsimp only); unfold kp0; (repeat' split) <;> omega))
    have e0 : 700 * nI q + 0 + (0 : Int32) = nI (700 * q) := E 0
    have i0 : vp_in (nI (700 * q)) 1400 := VI 0 (by omega)
    have j0 : (nI (700 * q)).toNatClampNeg = 700 * q := CL 0 (by omega)
    have e1 : 700 * nI q + 0 + (1 : Int32) = nI (700 * q + 1) := E 1
    have i1 : vp_in (nI (700 * q + 1)) 1400 := VI 1 (by omega)
    have j1 : (nI (700 * q + 1)).toNatClampNeg = 700 * q + 1 := CL 1 (by omega)
    have e2 : 700 * nI q + 0 + (2 : Int32) = nI (700 * q + 2) := E 2
    have i2 : vp_in (nI (700 * q + 2)) 1400 := VI 2 (by omega)
    have j2 : (nI (700 * q + 2)).toNatClampNeg = 700 * q + 2 := CL 2 (by omega)
    refine ma_walk (mo_X5_moveAll ms_X5_moves) hV [47, 213, 294, 332] (fun F hF => ?_)
    simp only [tb_X5_moveAll, hF, in_no, in_push, in_ild, in_lld, in_ald, in_ist, in_ast, in_lst, in_inc, in_iii, in_idv, in_ldv, in_lll, in_lli, in_lil, in_ii, in_il, in_li, in_ll, in_dup, in_dp2, q_if1, q_if2, in_go, in_sw, ma_sw, in_rv, in_ri, in_rz, in_rl, in_get, in_put, in_puz, in_iar, in_bar, in_lar, in_aar, in_iaw, in_baw, in_law, in_len, in_cpy, in_s1, in_s2, in_s3, in_v1, in_v2, in_v3, in_v4, in_v5, in_v6, ma_bk, ma_gl, ma_sl, ma_nl, ma_wc, ma_wd, ma_nn, ma_en, List.mem_cons, List.not_mem_nil, or_false, or_true, true_or, false_or, true_and, and_true, false_and, and_false, if_true, if_false, forall_const, true_implies, false_implies, not_true_eq_false, not_false_eq_true, Classical.not_not, implies_true, and_self, Nat.add_zero, Nat.zero_add, eq_self, ne_eq, reduceCtorEq, Nat.reduceLT, Nat.reduceLeDiff, Nat.reduceEqDiff, Nat.reduceSub, Nat.reduceAdd, i10, i01, im10, Int32.reduceLT, Int32.reduceLE, ↓reduceIte, reduceIte, up_r, uL_r, cp_r, Int32.toInt_toInt64, Int64.reduceToInt, Int32.reduceToInt, ↓b1_or, b1_0, b1_1, lc_lt, lc_le, lc_gt, lc_ge, lc_eq, ym_0, ym_1, ym_2, ym_3, ym_4, ym_5, ym_6, ym_7, ym_8, ym_9, ym_10, ym_11, ym_12, ym_13, ym_14, ym_15, ym_16, ym_17, ym_18, ym_19, ym_20, ym_21, ym_22, ym_23, ym_24, ym_25, ym_26, ym_27, ym_28, ym_29, ym_30, rm__0, rm__1, rm__2, rm__3, rm__4, rm__5, rm__6, rm__7, rm__8, rm__9, rm__10, rm__11, rm__12, rm__13, rm__14, rm__15, rm__16, rm__17, rm__18, rm__19, rm__20, rm__21, rm__22, rm__23, rm__24, rm__25, rm__26, rm__27, rm__28, rm__29, rm__30, rm__31, rm__32, rm__33, rm__34, rm__35, rm__36, rm__37, rm__38, rm__39, rm__40, rm__41, rm__42, rm__43, rm__44, rm__45, un_X5_moves, e0, e1, e2, i0, i1, i2, j0, j1, j2]
    try simp only [iteP, Classical.not_not, b1_0, b1_1]
    refine lp0 4 0 _ rfl ⟨hz, fun a ha => ?_⟩
    rw [up_c ha, up_c ha, up_c ha, show kp0 0 a = 0 by unfold kp0; split <;> rfl, kU_0]
  · have h := h.1 hb
    have lp3 : ∀ n l (M' : ZM), n + l = 12 → Ip M q M' (fun r => r < 415 ∨ (r < 463 ∧ (r - 415) % 12 < l)) → V 332 [some (.ref 0), some (.int (nI q)), some (.int b), some (.int (nI l))] [] M' L := by
      intro n
      induction n with
      | zero =>
        intro l M' hl hI
        have v1 : (12 : Int32) ≤ nI l := by rw [show l = 12 by omega]; decide
        refine ma_walk (mo_X5_moveAll ms_X5_moves) hV [47, 213, 294, 332] (fun F hF => ?_)
        simp only [tb_X5_moveAll, hF, in_no, in_push, in_ild, in_lld, in_ald, in_ist, in_ast, in_lst, in_inc, in_iii, in_idv, in_ldv, in_lll, in_lli, in_lil, in_ii, in_il, in_li, in_ll, in_dup, in_dp2, q_if1, q_if2, in_go, in_sw, ma_sw, in_rv, in_ri, in_rz, in_rl, in_get, in_put, in_puz, in_iar, in_bar, in_lar, in_aar, in_iaw, in_baw, in_law, in_len, in_cpy, in_s1, in_s2, in_s3, in_v1, in_v2, in_v3, in_v4, in_v5, in_v6, ma_bk, ma_gl, ma_sl, ma_nl, ma_wc, ma_wd, ma_nn, ma_en, List.mem_cons, List.not_mem_nil, or_false, or_true, true_or, false_or, true_and, and_true, false_and, and_false, if_true, if_false, forall_const, true_implies, false_implies, not_true_eq_false, not_false_eq_true, Classical.not_not, implies_true, and_self, Nat.add_zero, Nat.zero_add, eq_self, ne_eq, reduceCtorEq, Nat.reduceLT, Nat.reduceLeDiff, Nat.reduceEqDiff, Nat.reduceSub, Nat.reduceAdd, i10, i01, im10, Int32.reduceLT, Int32.reduceLE, ↓reduceIte, reduceIte, up_r, uL_r, cp_r, Int32.toInt_toInt64, Int64.reduceToInt, Int32.reduceToInt, ↓b1_or, b1_0, b1_1, lc_lt, lc_le, lc_gt, lc_ge, lc_eq, ym_0, ym_1, ym_2, ym_3, ym_4, ym_5, ym_6, ym_7, ym_8, ym_9, ym_10, ym_11, ym_12, ym_13, ym_14, ym_15, ym_16, ym_17, ym_18, ym_19, ym_20, ym_21, ym_22, ym_23, ym_24, ym_25, ym_26, ym_27, ym_28, ym_29, ym_30, rm__0, rm__1, rm__2, rm__3, rm__4, rm__5, rm__6, rm__7, rm__8, rm__9, rm__10, rm__11, rm__12, rm__13, rm__14, rm__15, rm__16, rm__17, rm__18, rm__19, rm__20, rm__21, rm__22, rm__23, rm__24, rm__25, rm__26, rm__27, rm__28, rm__29, rm__30, rm__31, rm__32, rm__33, rm__34, rm__35, rm__36, rm__37, rm__38, rm__39, rm__40, rm__41, rm__42, rm__43, rm__44, rm__45, un_X5_moves, v1]
        try simp only [iteP, Classical.not_not, b1_0, b1_1]
        exact h M' (hI.wk (fun r h1 h2 => by omega))
      | succ n ih =>
        intro l M' hl hI
        have hl4 : l < 12 := by omega
        have v1 : ¬ (12 : Int32) ≤ nI l := fun y => by rw [show (12 : Int32) = nI 12 from rfl, a_le (by omega) (by omega)] at y; omega
        have v4 : nI l + 1 = nI (l + 1) := by rw [show (1 : Int32) = nI 1 from rfl, nI_add]
        have v5 := a_cl (show l < 2147483648 by omega)
        have w12 : vp_in (nI l) 12 := vp_in_nI (by omega) (by decide)
        have k415 : (415 : Int32) + nI l = nI (415 + l) := by rw [show (415 : Int32) = nI 415 from rfl, nI_add]
        have i415 := VI (415 + l) (by omega)
        have j415 := CL (415 + l) (by omega)
        have g13 := hI.1 13 (by decide)
        have k427 : (427 : Int32) + nI l = nI (427 + l) := by rw [show (427 : Int32) = nI 427 from rfl, nI_add]
        have i427 := VI (427 + l) (by omega)
        have j427 := CL (427 + l) (by omega)
        have g14 := hI.1 14 (by decide)
        have k439 : (439 : Int32) + nI l = nI (439 + l) := by rw [show (439 : Int32) = nI 439 from rfl, nI_add]
        have i439 := VI (439 + l) (by omega)
        have j439 := CL (439 + l) (by omega)
        have g15 := hI.1 15 (by decide)
        have k451 : (451 : Int32) + nI l = nI (451 + l) := by rw [show (451 : Int32) = nI 451 from rfl, nI_add]
        have i451 := VI (451 + l) (by omega)
        have j451 := CL (451 + l) (by omega)
        have g16 := hI.1 16 (by decide)
        refine ma_walk (mo_X5_moveAll ms_X5_moves) hV [47, 213, 294, 332] (fun F hF => ?_)
        simp only [tb_X5_moveAll, hF, in_no, in_push, in_ild, in_lld, in_ald, in_ist, in_ast, in_lst, in_inc, in_iii, in_idv, in_ldv, in_lll, in_lli, in_lil, in_ii, in_il, in_li, in_ll, in_dup, in_dp2, q_if1, q_if2, in_go, in_sw, ma_sw, in_rv, in_ri, in_rz, in_rl, in_get, in_put, in_puz, in_iar, in_bar, in_lar, in_aar, in_iaw, in_baw, in_law, in_len, in_cpy, in_s1, in_s2, in_s3, in_v1, in_v2, in_v3, in_v4, in_v5, in_v6, ma_bk, ma_gl, ma_sl, ma_nl, ma_wc, ma_wd, ma_nn, ma_en, List.mem_cons, List.not_mem_nil, or_false, or_true, true_or, false_or, true_and, and_true, false_and, and_false, if_true, if_false, forall_const, true_implies, false_implies, not_true_eq_false, not_false_eq_true, Classical.not_not, implies_true, and_self, Nat.add_zero, Nat.zero_add, eq_self, ne_eq, reduceCtorEq, Nat.reduceLT, Nat.reduceLeDiff, Nat.reduceEqDiff, Nat.reduceSub, Nat.reduceAdd, i10, i01, im10, Int32.reduceLT, Int32.reduceLE, ↓reduceIte, reduceIte, up_r, uL_r, cp_r, Int32.toInt_toInt64, Int64.reduceToInt, Int32.reduceToInt, ↓b1_or, b1_0, b1_1, lc_lt, lc_le, lc_gt, lc_ge, lc_eq, ym_0, ym_1, ym_2, ym_3, ym_4, ym_5, ym_6, ym_7, ym_8, ym_9, ym_10, ym_11, ym_12, ym_13, ym_14, ym_15, ym_16, ym_17, ym_18, ym_19, ym_20, ym_21, ym_22, ym_23, ym_24, ym_25, ym_26, ym_27, ym_28, ym_29, ym_30, rm__0, rm__1, rm__2, rm__3, rm__4, rm__5, rm__6, rm__7, rm__8, rm__9, rm__10, rm__11, rm__12, rm__13, rm__14, rm__15, rm__16, rm__17, rm__18, rm__19, rm__20, rm__21, rm__22, rm__23, rm__24, rm__25, rm__26, rm__27, rm__28, rm__29, rm__30, rm__31, rm__32, rm__33, rm__34, rm__35, rm__36, rm__37, rm__38, rm__39, rm__40, rm__41, rm__42, rm__43, rm__44, rm__45, un_X5_moves, hb, v1, v4, v5, E, w12, k415, i415, j415, g13, k427, i427, j427, g14, k439, i439, j439, g15, k451, i451, j451, g16]
        try simp only [iteP, Classical.not_not, b1_0, b1_1]
        exact ih (l + 1) _ (by omega) (((((((((hI.st (r := 415 + l) (by omega) (kT_13 M hl4)).sf (a := 13) (by decide) rfl).st (r := 427 + l) (by omega) (kT_14 M hl4)).sf (a := 14) (by decide) rfl).st (r := 439 + l) (by omega) (kT_15 M hl4)).sf (a := 15) (by decide) rfl).st (r := 451 + l) (by omega) (kT_16 M hl4)).sf (a := 16) (by decide) rfl).wk (fun r h1 h2 => by omega))
    have lp2 : ∀ n l (M' : ZM), n + l = 144 → Ip M q M' (fun r => r < 271 + l) → V 294 [some (.ref 0), some (.int (nI q)), some (.int b), some (.int (nI l))] [] M' L := by
      intro n
      induction n with
      | zero =>
        intro l M' hl hI
        have v1 : (144 : Int32) ≤ nI l := by rw [show l = 144 by omega]; decide
        refine ma_walk (mo_X5_moveAll ms_X5_moves) hV [47, 213, 294, 332] (fun F hF => ?_)
        simp only [tb_X5_moveAll, hF, in_no, in_push, in_ild, in_lld, in_ald, in_ist, in_ast, in_lst, in_inc, in_iii, in_idv, in_ldv, in_lll, in_lli, in_lil, in_ii, in_il, in_li, in_ll, in_dup, in_dp2, q_if1, q_if2, in_go, in_sw, ma_sw, in_rv, in_ri, in_rz, in_rl, in_get, in_put, in_puz, in_iar, in_bar, in_lar, in_aar, in_iaw, in_baw, in_law, in_len, in_cpy, in_s1, in_s2, in_s3, in_v1, in_v2, in_v3, in_v4, in_v5, in_v6, ma_bk, ma_gl, ma_sl, ma_nl, ma_wc, ma_wd, ma_nn, ma_en, List.mem_cons, List.not_mem_nil, or_false, or_true, true_or, false_or, true_and, and_true, false_and, and_false, if_true, if_false, forall_const, true_implies, false_implies, not_true_eq_false, not_false_eq_true, Classical.not_not, implies_true, and_self, Nat.add_zero, Nat.zero_add, eq_self, ne_eq, reduceCtorEq, Nat.reduceLT, Nat.reduceLeDiff, Nat.reduceEqDiff, Nat.reduceSub, Nat.reduceAdd, i10, i01, im10, Int32.reduceLT, Int32.reduceLE, ↓reduceIte, reduceIte, up_r, uL_r, cp_r, Int32.toInt_toInt64, Int64.reduceToInt, Int32.reduceToInt, ↓b1_or, b1_0, b1_1, lc_lt, lc_le, lc_gt, lc_ge, lc_eq, ym_0, ym_1, ym_2, ym_3, ym_4, ym_5, ym_6, ym_7, ym_8, ym_9, ym_10, ym_11, ym_12, ym_13, ym_14, ym_15, ym_16, ym_17, ym_18, ym_19, ym_20, ym_21, ym_22, ym_23, ym_24, ym_25, ym_26, ym_27, ym_28, ym_29, ym_30, rm__0, rm__1, rm__2, rm__3, rm__4, rm__5, rm__6, rm__7, rm__8, rm__9, rm__10, rm__11, rm__12, rm__13, rm__14, rm__15, rm__16, rm__17, rm__18, rm__19, rm__20, rm__21, rm__22, rm__23, rm__24, rm__25, rm__26, rm__27, rm__28, rm__29, rm__30, rm__31, rm__32, rm__33, rm__34, rm__35, rm__36, rm__37, rm__38, rm__39, rm__40, rm__41, rm__42, rm__43, rm__44, rm__45, un_X5_moves, v1]
        try simp only [iteP, Classical.not_not, b1_0, b1_1]
        exact lp3 12 0 M' rfl (hI.wk (fun r h1 h2 => by omega))
      | succ n ih =>
        intro l M' hl hI
        have hl4 : l < 144 := by omega
        have v1 : ¬ (144 : Int32) ≤ nI l := fun y => by rw [show (144 : Int32) = nI 144 from rfl, a_le (by omega) (by omega)] at y; omega
        have v4 : nI l + 1 = nI (l + 1) := by rw [show (1 : Int32) = nI 1 from rfl, nI_add]
        have v5 := a_cl (show l < 2147483648 by omega)
        have w144 : vp_in (nI l) 144 := vp_in_nI (by omega) (by decide)
        have k271 : (271 : Int32) + nI l = nI (271 + l) := by rw [show (271 : Int32) = nI 271 from rfl, nI_add]
        have i271 := VI (271 + l) (by omega)
        have j271 := CL (271 + l) (by omega)
        have g12 := hI.1 12 (by decide)
        refine ma_walk (mo_X5_moveAll ms_X5_moves) hV [47, 213, 294, 332] (fun F hF => ?_)
        simp only [tb_X5_moveAll, hF, in_no, in_push, in_ild, in_lld, in_ald, in_ist, in_ast, in_lst, in_inc, in_iii, in_idv, in_ldv, in_lll, in_lli, in_lil, in_ii, in_il, in_li, in_ll, in_dup, in_dp2, q_if1, q_if2, in_go, in_sw, ma_sw, in_rv, in_ri, in_rz, in_rl, in_get, in_put, in_puz, in_iar, in_bar, in_lar, in_aar, in_iaw, in_baw, in_law, in_len, in_cpy, in_s1, in_s2, in_s3, in_v1, in_v2, in_v3, in_v4, in_v5, in_v6, ma_bk, ma_gl, ma_sl, ma_nl, ma_wc, ma_wd, ma_nn, ma_en, List.mem_cons, List.not_mem_nil, or_false, or_true, true_or, false_or, true_and, and_true, false_and, and_false, if_true, if_false, forall_const, true_implies, false_implies, not_true_eq_false, not_false_eq_true, Classical.not_not, implies_true, and_self, Nat.add_zero, Nat.zero_add, eq_self, ne_eq, reduceCtorEq, Nat.reduceLT, Nat.reduceLeDiff, Nat.reduceEqDiff, Nat.reduceSub, Nat.reduceAdd, i10, i01, im10, Int32.reduceLT, Int32.reduceLE, ↓reduceIte, reduceIte, up_r, uL_r, cp_r, Int32.toInt_toInt64, Int64.reduceToInt, Int32.reduceToInt, ↓b1_or, b1_0, b1_1, lc_lt, lc_le, lc_gt, lc_ge, lc_eq, ym_0, ym_1, ym_2, ym_3, ym_4, ym_5, ym_6, ym_7, ym_8, ym_9, ym_10, ym_11, ym_12, ym_13, ym_14, ym_15, ym_16, ym_17, ym_18, ym_19, ym_20, ym_21, ym_22, ym_23, ym_24, ym_25, ym_26, ym_27, ym_28, ym_29, ym_30, rm__0, rm__1, rm__2, rm__3, rm__4, rm__5, rm__6, rm__7, rm__8, rm__9, rm__10, rm__11, rm__12, rm__13, rm__14, rm__15, rm__16, rm__17, rm__18, rm__19, rm__20, rm__21, rm__22, rm__23, rm__24, rm__25, rm__26, rm__27, rm__28, rm__29, rm__30, rm__31, rm__32, rm__33, rm__34, rm__35, rm__36, rm__37, rm__38, rm__39, rm__40, rm__41, rm__42, rm__43, rm__44, rm__45, un_X5_moves, hb, v1, v4, v5, E, w144, k271, i271, j271, g12]
        try simp only [iteP, Classical.not_not, b1_0, b1_1]
        exact ih (l + 1) _ (by omega) (((hI.st (r := 271 + l) (by omega) (kT_12 M hl4)).sf (a := 12) (by decide) rfl).wk (fun r h1 h2 => by omega))
    have lp1 : ∀ n l (M' : ZM), n + l = 80 → Ip M q M' (fun r => r < 31 ∨ (r < 271 ∧ (r - 31) % 80 < l)) → V 213 [some (.ref 0), some (.int (nI q)), some (.int b), some (.int (nI l))] [] M' L := by
      intro n
      induction n with
      | zero =>
        intro l M' hl hI
        have v1 : (80 : Int32) ≤ nI l := by rw [show l = 80 by omega]; decide
        refine ma_walk (mo_X5_moveAll ms_X5_moves) hV [47, 213, 294, 332] (fun F hF => ?_)
        simp only [tb_X5_moveAll, hF, in_no, in_push, in_ild, in_lld, in_ald, in_ist, in_ast, in_lst, in_inc, in_iii, in_idv, in_ldv, in_lll, in_lli, in_lil, in_ii, in_il, in_li, in_ll, in_dup, in_dp2, q_if1, q_if2, in_go, in_sw, ma_sw, in_rv, in_ri, in_rz, in_rl, in_get, in_put, in_puz, in_iar, in_bar, in_lar, in_aar, in_iaw, in_baw, in_law, in_len, in_cpy, in_s1, in_s2, in_s3, in_v1, in_v2, in_v3, in_v4, in_v5, in_v6, ma_bk, ma_gl, ma_sl, ma_nl, ma_wc, ma_wd, ma_nn, ma_en, List.mem_cons, List.not_mem_nil, or_false, or_true, true_or, false_or, true_and, and_true, false_and, and_false, if_true, if_false, forall_const, true_implies, false_implies, not_true_eq_false, not_false_eq_true, Classical.not_not, implies_true, and_self, Nat.add_zero, Nat.zero_add, eq_self, ne_eq, reduceCtorEq, Nat.reduceLT, Nat.reduceLeDiff, Nat.reduceEqDiff, Nat.reduceSub, Nat.reduceAdd, i10, i01, im10, Int32.reduceLT, Int32.reduceLE, ↓reduceIte, reduceIte, up_r, uL_r, cp_r, Int32.toInt_toInt64, Int64.reduceToInt, Int32.reduceToInt, ↓b1_or, b1_0, b1_1, lc_lt, lc_le, lc_gt, lc_ge, lc_eq, ym_0, ym_1, ym_2, ym_3, ym_4, ym_5, ym_6, ym_7, ym_8, ym_9, ym_10, ym_11, ym_12, ym_13, ym_14, ym_15, ym_16, ym_17, ym_18, ym_19, ym_20, ym_21, ym_22, ym_23, ym_24, ym_25, ym_26, ym_27, ym_28, ym_29, ym_30, rm__0, rm__1, rm__2, rm__3, rm__4, rm__5, rm__6, rm__7, rm__8, rm__9, rm__10, rm__11, rm__12, rm__13, rm__14, rm__15, rm__16, rm__17, rm__18, rm__19, rm__20, rm__21, rm__22, rm__23, rm__24, rm__25, rm__26, rm__27, rm__28, rm__29, rm__30, rm__31, rm__32, rm__33, rm__34, rm__35, rm__36, rm__37, rm__38, rm__39, rm__40, rm__41, rm__42, rm__43, rm__44, rm__45, un_X5_moves, v1]
        try simp only [iteP, Classical.not_not, b1_0, b1_1]
        exact lp2 144 0 M' rfl (hI.wk (fun r h1 h2 => by omega))
      | succ n ih =>
        intro l M' hl hI
        have hl4 : l < 80 := by omega
        have v1 : ¬ (80 : Int32) ≤ nI l := fun y => by rw [show (80 : Int32) = nI 80 from rfl, a_le (by omega) (by omega)] at y; omega
        have v4 : nI l + 1 = nI (l + 1) := by rw [show (1 : Int32) = nI 1 from rfl, nI_add]
        have v5 := a_cl (show l < 2147483648 by omega)
        have w160 : vp_in (nI l) 160 := vp_in_nI (by omega) (by decide)
        have k31 : (31 : Int32) + nI l = nI (31 + l) := by rw [show (31 : Int32) = nI 31 from rfl, nI_add]
        have i31 := VI (31 + l) (by omega)
        have j31 := CL (31 + l) (by omega)
        have g9 := hI.1 9 (by decide)
        have k111 : (111 : Int32) + nI l = nI (111 + l) := by rw [show (111 : Int32) = nI 111 from rfl, nI_add]
        have i111 := VI (111 + l) (by omega)
        have j111 := CL (111 + l) (by omega)
        have g10 := hI.1 10 (by decide)
        have k191 : (191 : Int32) + nI l = nI (191 + l) := by rw [show (191 : Int32) = nI 191 from rfl, nI_add]
        have i191 := VI (191 + l) (by omega)
        have j191 := CL (191 + l) (by omega)
        have g11 := hI.1 11 (by decide)
        refine ma_walk (mo_X5_moveAll ms_X5_moves) hV [47, 213, 294, 332] (fun F hF => ?_)
        simp only [tb_X5_moveAll, hF, in_no, in_push, in_ild, in_lld, in_ald, in_ist, in_ast, in_lst, in_inc, in_iii, in_idv, in_ldv, in_lll, in_lli, in_lil, in_ii, in_il, in_li, in_ll, in_dup, in_dp2, q_if1, q_if2, in_go, in_sw, ma_sw, in_rv, in_ri, in_rz, in_rl, in_get, in_put, in_puz, in_iar, in_bar, in_lar, in_aar, in_iaw, in_baw, in_law, in_len, in_cpy, in_s1, in_s2, in_s3, in_v1, in_v2, in_v3, in_v4, in_v5, in_v6, ma_bk, ma_gl, ma_sl, ma_nl, ma_wc, ma_wd, ma_nn, ma_en, List.mem_cons, List.not_mem_nil, or_false, or_true, true_or, false_or, true_and, and_true, false_and, and_false, if_true, if_false, forall_const, true_implies, false_implies, not_true_eq_false, not_false_eq_true, Classical.not_not, implies_true, and_self, Nat.add_zero, Nat.zero_add, eq_self, ne_eq, reduceCtorEq, Nat.reduceLT, Nat.reduceLeDiff, Nat.reduceEqDiff, Nat.reduceSub, Nat.reduceAdd, i10, i01, im10, Int32.reduceLT, Int32.reduceLE, ↓reduceIte, reduceIte, up_r, uL_r, cp_r, Int32.toInt_toInt64, Int64.reduceToInt, Int32.reduceToInt, ↓b1_or, b1_0, b1_1, lc_lt, lc_le, lc_gt, lc_ge, lc_eq, ym_0, ym_1, ym_2, ym_3, ym_4, ym_5, ym_6, ym_7, ym_8, ym_9, ym_10, ym_11, ym_12, ym_13, ym_14, ym_15, ym_16, ym_17, ym_18, ym_19, ym_20, ym_21, ym_22, ym_23, ym_24, ym_25, ym_26, ym_27, ym_28, ym_29, ym_30, rm__0, rm__1, rm__2, rm__3, rm__4, rm__5, rm__6, rm__7, rm__8, rm__9, rm__10, rm__11, rm__12, rm__13, rm__14, rm__15, rm__16, rm__17, rm__18, rm__19, rm__20, rm__21, rm__22, rm__23, rm__24, rm__25, rm__26, rm__27, rm__28, rm__29, rm__30, rm__31, rm__32, rm__33, rm__34, rm__35, rm__36, rm__37, rm__38, rm__39, rm__40, rm__41, rm__42, rm__43, rm__44, rm__45, un_X5_moves, hb, v1, v4, v5, E, w160, k31, i31, j31, g9, k111, i111, j111, g10, k191, i191, j191, g11]
        try simp only [iteP, Classical.not_not, b1_0, b1_1]
        exact ih (l + 1) _ (by omega) (((((((hI.st (r := 31 + l) (by omega) (kT_9 M hl4)).sf (a := 9) (by decide) rfl).st (r := 111 + l) (by omega) (kT_10 M hl4)).sf (a := 10) (by decide) rfl).st (r := 191 + l) (by omega) (kT_11 M hl4)).sf (a := 11) (by decide) rfl).wk (fun r h1 h2 => by omega))
    have lp0 : ∀ n l (M' : ZM), n + l = 4 → Ip M q M' (fun r => r < 3 ∨ (r < 31 ∧ (r - 3) % 4 < l)) → V 47 [some (.ref 0), some (.int (nI q)), some (.int b), some (.int (nI l))] [] M' L := by
      intro n
      induction n with
      | zero =>
        intro l M' hl hI
        have v1 : (4 : Int32) ≤ nI l := by rw [show l = 4 by omega]; decide
        refine ma_walk (mo_X5_moveAll ms_X5_moves) hV [47, 213, 294, 332] (fun F hF => ?_)
        simp only [tb_X5_moveAll, hF, in_no, in_push, in_ild, in_lld, in_ald, in_ist, in_ast, in_lst, in_inc, in_iii, in_idv, in_ldv, in_lll, in_lli, in_lil, in_ii, in_il, in_li, in_ll, in_dup, in_dp2, q_if1, q_if2, in_go, in_sw, ma_sw, in_rv, in_ri, in_rz, in_rl, in_get, in_put, in_puz, in_iar, in_bar, in_lar, in_aar, in_iaw, in_baw, in_law, in_len, in_cpy, in_s1, in_s2, in_s3, in_v1, in_v2, in_v3, in_v4, in_v5, in_v6, ma_bk, ma_gl, ma_sl, ma_nl, ma_wc, ma_wd, ma_nn, ma_en, List.mem_cons, List.not_mem_nil, or_false, or_true, true_or, false_or, true_and, and_true, false_and, and_false, if_true, if_false, forall_const, true_implies, false_implies, not_true_eq_false, not_false_eq_true, Classical.not_not, implies_true, and_self, Nat.add_zero, Nat.zero_add, eq_self, ne_eq, reduceCtorEq, Nat.reduceLT, Nat.reduceLeDiff, Nat.reduceEqDiff, Nat.reduceSub, Nat.reduceAdd, i10, i01, im10, Int32.reduceLT, Int32.reduceLE, ↓reduceIte, reduceIte, up_r, uL_r, cp_r, Int32.toInt_toInt64, Int64.reduceToInt, Int32.reduceToInt, ↓b1_or, b1_0, b1_1, lc_lt, lc_le, lc_gt, lc_ge, lc_eq, ym_0, ym_1, ym_2, ym_3, ym_4, ym_5, ym_6, ym_7, ym_8, ym_9, ym_10, ym_11, ym_12, ym_13, ym_14, ym_15, ym_16, ym_17, ym_18, ym_19, ym_20, ym_21, ym_22, ym_23, ym_24, ym_25, ym_26, ym_27, ym_28, ym_29, ym_30, rm__0, rm__1, rm__2, rm__3, rm__4, rm__5, rm__6, rm__7, rm__8, rm__9, rm__10, rm__11, rm__12, rm__13, rm__14, rm__15, rm__16, rm__17, rm__18, rm__19, rm__20, rm__21, rm__22, rm__23, rm__24, rm__25, rm__26, rm__27, rm__28, rm__29, rm__30, rm__31, rm__32, rm__33, rm__34, rm__35, rm__36, rm__37, rm__38, rm__39, rm__40, rm__41, rm__42, rm__43, rm__44, rm__45, un_X5_moves, v1]
        try simp only [iteP, Classical.not_not, b1_0, b1_1]
        exact lp1 80 0 M' rfl (hI.wk (fun r h1 h2 => by omega))
      | succ n ih =>
        intro l M' hl hI
        have hl4 : l < 4 := by omega
        have v1 : ¬ (4 : Int32) ≤ nI l := fun y => by rw [show (4 : Int32) = nI 4 from rfl, a_le (by omega) (by omega)] at y; omega
        have v4 : nI l + 1 = nI (l + 1) := by rw [show (1 : Int32) = nI 1 from rfl, nI_add]
        have v5 := a_cl (show l < 2147483648 by omega)
        have w4 : vp_in (nI l) 4 := vp_in_nI (by omega) (by decide)
        have w8 : vp_in (nI l) 8 := vp_in_nI (by omega) (by decide)
        have k3 : (3 : Int32) + nI l = nI (3 + l) := by rw [show (3 : Int32) = nI 3 from rfl, nI_add]
        have i3 := VI (3 + l) (by omega)
        have j3 := CL (3 + l) (by omega)
        have g1 := hI.1 1 (by decide)
        have k7 : (7 : Int32) + nI l = nI (7 + l) := by rw [show (7 : Int32) = nI 7 from rfl, nI_add]
        have i7 := VI (7 + l) (by omega)
        have j7 := CL (7 + l) (by omega)
        have g3 := hI.1 3 (by decide)
        have k11 : (11 : Int32) + nI l = nI (11 + l) := by rw [show (11 : Int32) = nI 11 from rfl, nI_add]
        have i11 := VI (11 + l) (by omega)
        have j11 := CL (11 + l) (by omega)
        have g4 := hI.1 4 (by decide)
        have k15 : (15 : Int32) + nI l = nI (15 + l) := by rw [show (15 : Int32) = nI 15 from rfl, nI_add]
        have i15 := VI (15 + l) (by omega)
        have j15 := CL (15 + l) (by omega)
        have g5 := hI.1 5 (by decide)
        have k19 : (19 : Int32) + nI l = nI (19 + l) := by rw [show (19 : Int32) = nI 19 from rfl, nI_add]
        have i19 := VI (19 + l) (by omega)
        have j19 := CL (19 + l) (by omega)
        have g6 := hI.1 6 (by decide)
        have k23 : (23 : Int32) + nI l = nI (23 + l) := by rw [show (23 : Int32) = nI 23 from rfl, nI_add]
        have i23 := VI (23 + l) (by omega)
        have j23 := CL (23 + l) (by omega)
        have g7 := hI.1 7 (by decide)
        have k27 : (27 : Int32) + nI l = nI (27 + l) := by rw [show (27 : Int32) = nI 27 from rfl, nI_add]
        have i27 := VI (27 + l) (by omega)
        have j27 := CL (27 + l) (by omega)
        have g8 := hI.1 8 (by decide)
        refine ma_walk (mo_X5_moveAll ms_X5_moves) hV [47, 213, 294, 332] (fun F hF => ?_)
        simp only [tb_X5_moveAll, hF, in_no, in_push, in_ild, in_lld, in_ald, in_ist, in_ast, in_lst, in_inc, in_iii, in_idv, in_ldv, in_lll, in_lli, in_lil, in_ii, in_il, in_li, in_ll, in_dup, in_dp2, q_if1, q_if2, in_go, in_sw, ma_sw, in_rv, in_ri, in_rz, in_rl, in_get, in_put, in_puz, in_iar, in_bar, in_lar, in_aar, in_iaw, in_baw, in_law, in_len, in_cpy, in_s1, in_s2, in_s3, in_v1, in_v2, in_v3, in_v4, in_v5, in_v6, ma_bk, ma_gl, ma_sl, ma_nl, ma_wc, ma_wd, ma_nn, ma_en, List.mem_cons, List.not_mem_nil, or_false, or_true, true_or, false_or, true_and, and_true, false_and, and_false, if_true, if_false, forall_const, true_implies, false_implies, not_true_eq_false, not_false_eq_true, Classical.not_not, implies_true, and_self, Nat.add_zero, Nat.zero_add, eq_self, ne_eq, reduceCtorEq, Nat.reduceLT, Nat.reduceLeDiff, Nat.reduceEqDiff, Nat.reduceSub, Nat.reduceAdd, i10, i01, im10, Int32.reduceLT, Int32.reduceLE, ↓reduceIte, reduceIte, up_r, uL_r, cp_r, Int32.toInt_toInt64, Int64.reduceToInt, Int32.reduceToInt, ↓b1_or, b1_0, b1_1, lc_lt, lc_le, lc_gt, lc_ge, lc_eq, ym_0, ym_1, ym_2, ym_3, ym_4, ym_5, ym_6, ym_7, ym_8, ym_9, ym_10, ym_11, ym_12, ym_13, ym_14, ym_15, ym_16, ym_17, ym_18, ym_19, ym_20, ym_21, ym_22, ym_23, ym_24, ym_25, ym_26, ym_27, ym_28, ym_29, ym_30, rm__0, rm__1, rm__2, rm__3, rm__4, rm__5, rm__6, rm__7, rm__8, rm__9, rm__10, rm__11, rm__12, rm__13, rm__14, rm__15, rm__16, rm__17, rm__18, rm__19, rm__20, rm__21, rm__22, rm__23, rm__24, rm__25, rm__26, rm__27, rm__28, rm__29, rm__30, rm__31, rm__32, rm__33, rm__34, rm__35, rm__36, rm__37, rm__38, rm__39, rm__40, rm__41, rm__42, rm__43, rm__44, rm__45, un_X5_moves, hb, v1, v4, v5, E, w4, w8, k3, i3, j3, g1, k7, i7, j7, g3, k11, i11, j11, g4, k15, i15, j15, g5, k19, i19, j19, g6, k23, i23, j23, g7, k27, i27, j27, g8]
        try simp only [iteP, Classical.not_not, b1_0, b1_1]
        exact ih (l + 1) _ (by omega) (((((((((((((((hI.st (r := 3 + l) (by omega) (kT_1 M hl4)).sf (a := 1) (by decide) rfl).st (r := 7 + l) (by omega) (kT_3 M hl4)).sf (a := 3) (by decide) rfl).st (r := 11 + l) (by omega) (kT_4 M hl4)).sf (a := 4) (by decide) rfl).st (r := 15 + l) (by omega) (kT_5 M hl4)).sf (a := 5) (by decide) rfl).st (r := 19 + l) (by omega) (kT_6 M hl4)).sf (a := 6) (by decide) rfl).st (r := 23 + l) (by omega) (kT_7 M hl4)).sf (a := 7) (by decide) rfl).st (r := 27 + l) (by omega) (kT_8 M hl4)).sf (a := 8) (by decide) rfl).wk (fun r h1 h2 => by omega))
    have e0 : 700 * nI q + 0 + (0 : Int32) = nI (700 * q) := E 0
    have i0 : vp_in (nI (700 * q)) 1400 := VI 0 (by omega)
    have j0 : (nI (700 * q)).toNatClampNeg = 700 * q := CL 0 (by omega)
    have e1 : 700 * nI q + 0 + (1 : Int32) = nI (700 * q + 1) := E 1
    have i1 : vp_in (nI (700 * q + 1)) 1400 := VI 1 (by omega)
    have j1 : (nI (700 * q + 1)).toNatClampNeg = 700 * q + 1 := CL 1 (by omega)
    have e2 : 700 * nI q + 0 + (2 : Int32) = nI (700 * q + 2) := E 2
    have i2 : vp_in (nI (700 * q + 2)) 1400 := VI 2 (by omega)
    have j2 : (nI (700 * q + 2)).toNatClampNeg = 700 * q + 2 := CL 2 (by omega)
    refine ma_walk (mo_X5_moveAll ms_X5_moves) hV [47, 213, 294, 332] (fun F hF => ?_)
    simp only [tb_X5_moveAll, hF, in_no, in_push, in_ild, in_lld, in_ald, in_ist, in_ast, in_lst, in_inc, in_iii, in_idv, in_ldv, in_lll, in_lli, in_lil, in_ii, in_il, in_li, in_ll, in_dup, in_dp2, q_if1, q_if2, in_go, in_sw, ma_sw, in_rv, in_ri, in_rz, in_rl, in_get, in_put, in_puz, in_iar, in_bar, in_lar, in_aar, in_iaw, in_baw, in_law, in_len, in_cpy, in_s1, in_s2, in_s3, in_v1, in_v2, in_v3, in_v4, in_v5, in_v6, ma_bk, ma_gl, ma_sl, ma_nl, ma_wc, ma_wd, ma_nn, ma_en, List.mem_cons, List.not_mem_nil, or_false, or_true, true_or, false_or, true_and, and_true, false_and, and_false, if_true, if_false, forall_const, true_implies, false_implies, not_true_eq_false, not_false_eq_true, Classical.not_not, implies_true, and_self, Nat.add_zero, Nat.zero_add, eq_self, ne_eq, reduceCtorEq, Nat.reduceLT, Nat.reduceLeDiff, Nat.reduceEqDiff, Nat.reduceSub, Nat.reduceAdd, i10, i01, im10, Int32.reduceLT, Int32.reduceLE, ↓reduceIte, reduceIte, up_r, uL_r, cp_r, Int32.toInt_toInt64, Int64.reduceToInt, Int32.reduceToInt, ↓b1_or, b1_0, b1_1, lc_lt, lc_le, lc_gt, lc_ge, lc_eq, ym_0, ym_1, ym_2, ym_3, ym_4, ym_5, ym_6, ym_7, ym_8, ym_9, ym_10, ym_11, ym_12, ym_13, ym_14, ym_15, ym_16, ym_17, ym_18, ym_19, ym_20, ym_21, ym_22, ym_23, ym_24, ym_25, ym_26, ym_27, ym_28, ym_29, ym_30, rm__0, rm__1, rm__2, rm__3, rm__4, rm__5, rm__6, rm__7, rm__8, rm__9, rm__10, rm__11, rm__12, rm__13, rm__14, rm__15, rm__16, rm__17, rm__18, rm__19, rm__20, rm__21, rm__22, rm__23, rm__24, rm__25, rm__26, rm__27, rm__28, rm__29, rm__30, rm__31, rm__32, rm__33, rm__34, rm__35, rm__36, rm__37, rm__38, rm__39, rm__40, rm__41, rm__42, rm__43, rm__44, rm__45, un_X5_moves, hb, e0, e1, e2, i0, i1, i2, j0, j1, j2]
    try simp only [iteP, Classical.not_not, b1_0, b1_1]
    have s0 : Ip M q M (fun _ => False) := ⟨fun _ _ => rfl, fun _ _ z => z.elim, fun _ _ => rfl⟩
    exact lp0 4 0 _ rfl (((((((s0.st (r := 0) (by omega) rfl).sf (a := 0) (by decide) rfl).st (r := 1) (by omega) rfl).sf (a := 0) (by decide) rfl).st (r := 2) (by omega) rfl).sf (a := 0) (by decide) rfl).wk (fun r h1 h2 => by omega))
theorem pv_X5_moveAll : ∀ as M L K, S_X5_moveAll as M L K → ma_rn (tb_X5_moveAll S_X5_moves) 4 as M L K := by
  intro as M L K h
  unfold S_X5_moveAll at h
  split at h
  · obtain ⟨q, h⟩ := h; exact pw_X5_moveAll h.1 h.2
  · exact h.elim
