/-! bits of 32-bit numbers; bitCount -/
set_option maxRecDepth 100000
set_option maxHeartbeats 4000000
def us (x y : Int32) : Int32 := (x.toUInt32 >>> (y.toUInt32 &&& Int32.toUInt32 31)).toInt32
def bce5 (x : Int32) : Int32 := x &&& 63
def bce4 (x : Int32) : Int32 := bce5 (x + us x 16)
def bce3 (x : Int32) : Int32 := bce4 (x + us x 8)
def bce2 (x : Int32) : Int32 := bce3 ((x + us x 4) &&& 252645135)
def bce1 (x : Int32) : Int32 := bce2 ((x &&& 858993459) + (us x 2 &&& 858993459))
def bce (x : Int32) : Int32 := bce1 (x - (us x 1 &&& 1431655765))
theorem bc_e : ∀ n : Fin 4096, bce (nI n.val) = nI (pc n.val 12) := by decide +kernel
theorem sh_e : ∀ k : Fin 13, (1 : Int32) <<< (nI k.val &&& 31) = nI (2 ^ k.val) := by decide +kernel
theorem sh_s : ∀ k : Fin 13, ((nI k.val &&& 31 : Int32).toBitVec.smod 32).toNat = k.val := by decide +kernel
theorem n_and (a b : Nat) : nI a &&& nI b = nI (a &&& b) := o_and a b
theorem n_or (a b : Nat) : nI a ||| nI b = nI (a ||| b) := o_or a b
theorem n_df (a b : Nat) : nI a &&& (nI b ^^^ (-1)) = nI (df a b) := o_df b
theorem o_bit {S k : Nat} (hS : S < 4096) (hk : k < 12) : (nI S >>> (nI k &&& 31)) &&& 1 = nI (S / 2 ^ k % 2) := by
  have l : S / 2 ^ k ≤ S := Nat.div_le_self _ _
  rw [pk_shrN (by omega) _ k (sh_s ⟨k, by omega⟩)]
  exact pk_andN (by omega) 1 rfl
theorem o_bit0 {S k : Nat} (hS : S < 4096) (hk : k < 12) : ((nI S >>> (nI k &&& 31)) &&& 1 = 0) = (S.testBit k = false) := by
  have l : S / 2 ^ k % 2 < 2 := Nat.mod_lt _ (by omega)
  rw [o_bit hS hk, a_eq0 (by omega), Nat.testBit_eq_decide_div_mod_eq]
  exact propext ⟨fun h => decide_eq_false (by omega), fun h => by have := of_decide_eq_false h; omega⟩
theorem o_bit1 {S k : Nat} (hS : S < 4096) (hk : k < 12) : ((nI S >>> (nI k &&& 31)) &&& 1 = 1) = (S.testBit k = true) := by
  have l : S / 2 ^ k % 2 < 2 := Nat.mod_lt _ (by omega)
  rw [o_bit hS hk, show (1 : Int32) = nI 1 from rfl, a_eq (by omega) (by omega), Nat.testBit_eq_decide_div_mod_eq]
  exact propext ⟨fun h => decide_eq_true h, fun h => of_decide_eq_true h⟩
theorem mkm_or (z : Nat → Bool) {k : Nat} (hk : k < 12) : (z k = true → nI (mkm z k) ||| (1 : Int32) <<< (nI k &&& 31) = nI (mkm z (k + 1))) ∧ (¬ z k = true → nI (mkm z k) ||| 0 = nI (mkm z (k + 1))) := by
  refine ⟨fun h => ?_, fun h => ?_⟩
  · have e : (1 : Int32) <<< (nI k &&& 31) = nI (2 ^ k) := sh_e ⟨k, by omega⟩
    have q := Nat.two_pow_add_eq_or_of_lt (mkm_lt z k) 1
    rw [Nat.mul_one] at q
    rw [e, n_or, mkm, if_pos h, Nat.or_comm, ← q, Nat.add_comm]
  · rw [mkm, if_neg h, Nat.add_zero, show (0 : Int32) = nI 0 from rfl, n_or, Nat.or_zero]
theorem neg_e : ∀ n : Fin 4096, nI n.val &&& (-(nI n.val)) = nI (lw n.val) := by decide +kernel
def S_J1_bitCount : ma_Cs := fun as M L K => match as with
  | [.int x] => ∃ (n : Nat), (x = nI n ∧ n < 4096) ∧ (K (some (.int (nI (pc n 12)))) M L)
  | _ => False
theorem ms_J1_bitCount : ma_ms S_J1_bitCount := by
  intro as M L K K' hk h
  unfold S_J1_bitCount at h ⊢
  split at h
  · obtain ⟨n, h⟩ := h
    exact ⟨n, h.1, hk _ _ _ h.2⟩
  · exact h.elim
theorem un_J1_bitCount {x : Int32} {M : ZM} {L : ZL} {K : ma_Kt} : S_J1_bitCount [.int x] M L K = (∃ (n : Nat), (x = nI n ∧ n < 4096) ∧ (K (some (.int (nI (pc n 12)))) M L)) := rfl
theorem pw_J1_bitCount {x : Int32} {n : Nat} {M : ZM} {L : ZL} {K : ma_Kt} (hp : x = nI n ∧ n < 4096) (h : (K (some (.int (nI (pc n 12)))) M L)) : ma_rn tb_J1_bitCount 1 [.int x] M L K := by
  refine ⟨Nat.le_of_ble_eq_true rfl, fun V hV => ?_⟩
  obtain ⟨rfl, hn⟩ := hp
  have e : bce (nI n) = nI (pc n 12) := bc_e ⟨n, hn⟩
  rw [← e] at h
  refine ma_walk mo_J1_bitCount hV [] (fun F hF => ?_)
  simp only [tb_J1_bitCount, hF, in_no, in_push, in_ild, in_lld, in_ald, in_ist, in_ast, in_lst, in_inc, in_iii, in_idv, in_ldv, in_lll, in_lli, in_lil, in_ii, in_il, in_li, in_ll, in_dup, in_dp2, q_if1, q_if2, in_go, in_sw, ma_sw, in_rv, in_ri, in_rz, in_rl, in_get, in_put, in_puz, in_iar, in_bar, in_lar, in_aar, in_iaw, in_baw, in_law, in_len, in_cpy, in_s1, in_s2, in_s3, in_v1, in_v2, in_v3, in_v4, in_v5, in_v6, ma_bk, ma_gl, ma_sl, ma_nl, ma_wc, ma_wd, ma_nn, ma_en, List.mem_cons, List.not_mem_nil, or_false, or_true, true_or, false_or, true_and, and_true, false_and, and_false, if_true, if_false, forall_const, true_implies, false_implies, not_true_eq_false, not_false_eq_true, Classical.not_not, implies_true, and_self, Nat.add_zero, Nat.zero_add, eq_self, ne_eq, reduceCtorEq, Nat.reduceLT, Nat.reduceLeDiff, Nat.reduceEqDiff, Nat.reduceSub, Nat.reduceAdd, i10, i01, im10, Int32.reduceLT, Int32.reduceLE, ↓reduceIte, reduceIte, up_r, uL_r, cp_r, Int32.toInt_toInt64, Int64.reduceToInt, Int32.reduceToInt, ↓b1_or, b1_0, b1_1, lc_lt, lc_le, lc_gt, lc_ge, lc_eq]
  try simp only [iteP, Classical.not_not, b1_0, b1_1]
  exact h
theorem pv_J1_bitCount : ∀ as M L K, S_J1_bitCount as M L K → ma_rn tb_J1_bitCount 1 as M L K := by
  intro as M L K h
  unfold S_J1_bitCount at h
  split at h
  · obtain ⟨n, h⟩ := h; exact pw_J1_bitCount h.1 h.2
  · exact h.elim
