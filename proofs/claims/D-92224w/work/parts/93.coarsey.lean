/-! op: coarse (the model) -/
set_option maxRecDepth 100000
set_option maxHeartbeats 4000000
theorem hv_bd {x : St} (hJ : J x) {S : Nat → Bool} {w u : Nat} (n1 : nat (sN x 0 0) = w) (n2 : nat (sN x 0 1) = u) (hw : w < 7) (hu : u < 7) : ∀ s c l, c < w * u → l < 4 → bd (hv x S s c l) := by
  intro s c l hc hl
  unfold hv
  rw [n1, n2]
  refine val_b hJ.2.2.1.1.1 hJ.2.2.1.2 (fun s c l v h => sl_b _ _ _ h) ?_ s
  have := f0v_b (e := nat (sN x 0 2)) hJ.2.1.2.1 hw hu hc hl
  exact Or.inr (by omega)
theorem hv_0b {x : St} (hJ : J x) {S : Nat → Bool} {w u : Nat} (n1 : nat (sN x 0 0) = w) (n2 : nat (sN x 0 1) = u) (hw : w < 7) (hu : u < 7) {c l : Nat} (hc : c < w * u) (hl : l < 4) : -1000000 ≤ (hv x S 0 c l).toInt ∧ (hv x S 0 c l).toInt ≤ 1000000 := by
  show -1000000 ≤ (f0v (sN x 1) (sN x 12) (nat (sN x 0 0)) (nat (sN x 0 1)) (nat (sN x 0 2)) c l).toInt ∧ (f0v (sN x 1) (sN x 12) (nat (sN x 0 0)) (nat (sN x 0 1)) (nat (sN x 0 2)) c l).toInt ≤ 1000000
  rw [n1, n2]
  exact f0v_b (e := nat (sN x 0 2)) hJ.2.1.2.1 hw hu hc hl
theorem cr0_d {x : St} (hJ : J x) {w u W U : Nat} (n1 : nat (sN x 0 0) = w) (n2 : nat (sN x 0 1) = u) (hW : 0 < W) (hw : w = 2 * W) (hu : u = 2 * U) (w6 : w ≤ 6) (u6 : u ≤ 6) {k l : Nat} (hk : k < W * U) (hl : l < 4) : cr0 x k l = (dnL (vsm (fun q => hv x sNo 0 (pos w W k q) l) 4) 4).toInt32 ∧ bd (cr0 x k l) := by
  have hb : ∀ i, i < 4 → -1000000 ≤ (hv x sNo 0 (pos w W k i) l).toInt ∧ (hv x sNo 0 (pos w W k i) l).toInt ≤ 1000000 := fun i hi => hv_0b hJ n1 n2 (by omega) (by omega) (pos_lt hW hw hu hk hi) hl
  have hn : ∀ i, i < 4 → ¬ hv x sNo 0 (pos w W k i) l = 2000000000 := fun i hi z => by
    have := hb i hi
    rw [z, show (2000000000 : Int32).toInt = 2000000000 from rfl] at this; omega
  have b := vsm_b (f := fun q => hv x sNo 0 (pos w W k q) l) (B := 1000000) (by omega) hb
  obtain ⟨m1, m2, m3, m4, m5, m6⟩ := md_b (B := 1000000) (by omega) (by omega) b
  have e : cr0 x k l = (fdL (vsm (fun q => hv x sNo 0 (pos w W k q) l) 4) 4).toInt32 := by
    unfold cr0
    rw [n1, show w / 2 = W by omega]; exact mn4_n hn
  rw [e, m1]
  exact ⟨rfl, Or.inr (by omega)⟩
theorem cvl_b {x : St} (hJ : J x) {w u W U : Nat} (n1 : nat (sN x 0 0) = w) (n2 : nat (sN x 0 1) = u) (hW : 0 < W) (hw : w = 2 * W) (hu : u = 2 * U) (w6 : w ≤ 6) (u6 : u ≤ 6) {k l : Nat} (hk : k < W * U) (hl : l < 4) (s : Nat) : bd (cvl x s k l) := by
  unfold cvl
  exact val_b hJ.2.2.1.1.1 hJ.2.2.1.2 (fun s c l v h => sl_b _ _ _ h) (cr0_d hJ n1 n2 hW hw hu w6 u6 hk hl).2 s
def S_X5_coarse : ma_Cs := fun as M L K => match as with
  | [.ref k, .int ni, .int li, .int e] => ∃ (x : St), (k = 0 ∧ J x ∧ RY M L x) ∧ (∀ (M' : ZM), RY M' L x → K (some (.int (oCoarse ni li e x))) M' L)
  | _ => False
theorem ms_X5_coarse : ma_ms S_X5_coarse := by
  intro as M L K K' hk h
  unfold S_X5_coarse at h ⊢
  split at h
  · obtain ⟨x, h⟩ := h
    exact ⟨x, h.1, fun x0 x1 => hk _ _ _ (h.2 x0 x1)⟩
  · exact h.elim
theorem un_X5_coarse {k : Nat} {ni : Int32} {li : Int32} {e : Int32} {M : ZM} {L : ZL} {K : ma_Kt} : S_X5_coarse [.ref k, .int ni, .int li, .int e] M L K = (∃ (x : St), (k = 0 ∧ J x ∧ RY M L x) ∧ (∀ (M' : ZM), RY M' L x → K (some (.int (oCoarse ni li e x))) M' L)) := rfl
/-- the second loops: the coarser sky held against the means -/
theorem cyB {x : St} (hJ : J x) {w u W U n l : Nat} {e : Int32} {M4 : ZM} {L : ZL} {K : ma_Kt} {V : ma_Pr} (hV : ma_cl (tb_X5_coarse S_X5_in S_X5_isLetter S_X5_hall S_X5_cells S_X5_place S_X5_down S_X5_steps S_X5_downLong S_X5_size) K V) (n1 : nat (sN x 0 0) = w) (n2 : nat (sN x 0 1) = u) (hW : 0 < W) (hw : w = 2 * W) (hu : u = 2 * U) (w6 : w ≤ 6) (u6 : u ≤ 6) (hn : n ≤ 12) (hl : l < 4) (d0 : M4 0 0 = nI w) (d35 : M4 0 35 = nI W) (d36 : M4 0 36 = nI U) (VF : ∀ s c l, s ≤ 12 → c < w * u → l < 4 → M4 22 (144 * s + 4 * c + l) = hv x sNo s c l) (VG : ∀ c l, c < W * U → l < 4 → M4 23 (144 * n + 4 * c + l) = cvl x n c l) : ∀ m k (a : Int32) (o6 o7 o9 o10 o11 : Option Value), m + k = W * U → K (some (.int (crs (fun k => cst (fun q => hv x sNo n (pos w W k q) l) (cvl x n k l) e) m k a))) M4 L → V 270 [some (.ref 0), some (.int (nI n)), some (.int (nI l)), some (.int e), some (.int a), some (.int (nI k)), o6, o7, none, o9, o10, o11] [] M4 L := by
  have hWU : W * U ≤ 9 := Nat.mul_le_mul (show W ≤ 3 by omega) (show U ≤ 3 by omega)
  have h36 : w * u ≤ 36 := Nat.mul_le_mul w6 u6
  have W0 : ¬ nI W = 0 := by rw [a_eq0 (by omega)]; omega
  have z2 : ¬ (2 : Int32) = 0 := by decide
  have z4 : ¬ (4 : Int64) = 0 := by decide
  intro m
  induction m with
  | zero =>
    intro k a o6 o7 o9 o10 o11 hk g
    have v1 : nI W * nI U ≤ nI k := by rw [pk_mul, a_le (by omega) (by omega)]; omega
    refine ma_walk (mo_X5_coarse ms_X5_in ms_X5_isLetter ms_X5_hall ms_X5_cells ms_X5_place ms_X5_down ms_X5_steps ms_X5_downLong ms_X5_size) hV [270, 340] (fun F hF => ?_)
    simp only [tb_X5_coarse, hF, in_no, in_push, in_ild, in_lld, in_ald, in_ist, in_ast, in_lst, in_inc, in_iii, in_idv, in_ldv, in_lll, in_lli, in_lil, in_ii, in_il, in_li, in_ll, in_dup, in_dp2, q_if1, q_if2, in_go, in_sw, ma_sw, in_rv, in_ri, in_rz, in_rl, in_get, in_put, in_puz, in_iar, in_bar, in_lar, in_aar, in_iaw, in_baw, in_law, in_len, in_cpy, in_s1, in_s2, in_s3, in_v1, in_v2, in_v3, in_v4, in_v5, in_v6, ma_bk, ma_gl, ma_sl, ma_nl, ma_wc, ma_wd, ma_nn, ma_en, List.mem_cons, List.not_mem_nil, or_false, or_true, true_or, false_or, true_and, and_true, false_and, and_false, if_true, if_false, forall_const, true_implies, false_implies, not_true_eq_false, not_false_eq_true, Classical.not_not, implies_true, and_self, Nat.add_zero, Nat.zero_add, eq_self, ne_eq, reduceCtorEq, Nat.reduceLT, Nat.reduceLeDiff, Nat.reduceEqDiff, Nat.reduceSub, Nat.reduceAdd, i10, i01, im10, Int32.reduceLT, Int32.reduceLE, ↓reduceIte, reduceIte, up_r, uL_r, cp_r, Int32.toInt_toInt64, Int64.reduceToInt, Int32.reduceToInt, ↓b1_or, b1_0, b1_1, lc_lt, lc_le, lc_gt, lc_ge, lc_eq, ym_0, ym_1, ym_2, ym_3, ym_4, ym_5, ym_6, ym_7, ym_8, ym_9, ym_10, ym_11, ym_12, ym_13, ym_14, ym_15, ym_16, ym_17, ym_18, ym_19, ym_20, ym_21, ym_22, ym_23, ym_24, ym_25, ym_26, ym_27, ym_28, ym_29, ym_30, rm__0, rm__1, rm__2, rm__3, rm__4, rm__5, rm__6, rm__7, rm__8, rm__9, rm__10, rm__11, rm__12, rm__13, rm__14, rm__15, rm__16, rm__17, rm__18, rm__19, rm__20, rm__21, rm__22, rm__23, rm__24, rm__25, rm__26, rm__27, rm__28, rm__29, rm__30, rm__31, rm__32, rm__33, rm__34, rm__35, rm__36, rm__37, rm__38, rm__39, rm__40, rm__41, rm__42, rm__43, rm__44, rm__45, un_X5_in, un_X5_isLetter, un_X5_hall, un_X5_cells, un_X5_place, un_X5_down, un_X5_steps, un_X5_downLong, un_X5_size, d35, d36, v1]
    try simp only [iteP, Classical.not_not, b1_0, b1_1]
    exact g
  | succ m ih =>
    intro k a o6 o7 o9 o10 o11 hk g
    have hk' : k < W * U := by omega
    have v1 : ¬ nI W * nI U ≤ nI k := by rw [pk_mul, a_le (by omega) (by omega)]; omega
    have v4 : nI k + 1 = nI (k + 1) := by rw [show (1 : Int32) = nI 1 from rfl, nI_add]
    have r2 : nI k / nI W = nI (k / W) := pk_div (by omega) (by omega) (by omega)
    have r1 : nI k - nI (k / W) * nI W = nI (k % W) := by rw [← r2]; exact pk_rem (by omega) (by omega) (by omega)
    have p0 := pos_lt hW hw hu hk' (show 0 < 4 by omega)
    have at0 : 2 * nI w * nI (k / W) + 2 * nI (k % W) = nI (pos w W k 0) := by
      rw [show (2 : Int32) = nI 2 from rfl, pk_mul, pk_mul, pk_mul, nI_add]
      unfold pos
      congr 1
      show 2 * w * (k / W) + 2 * (k % W) = w * (2 * (k / W) + 0) + 2 * (k % W) + 0
      rw [Nat.add_zero, Nat.add_zero, Nat.mul_comm 2 w, Nat.mul_assoc]
    have e0 : 144 * nI n + 4 * nI k + nI l = nI (144 * n + 4 * k + l) := pl_e n k l
    have x1 : vp_in (nI (144 * n + 4 * k + l)) 1872 := vp_in_nI (by omega) (by decide)
    have x2 := a_cl (show 144 * n + 4 * k + l < 2147483648 by omega)
    have x3 := VG k l hk' hl
    have hb : ∀ i, i < 4 → bd (hv x sNo n (pos w W k i) l) := fun i hi => hv_bd hJ n1 n2 (by omega) (by omega) n _ l (pos_lt hW hw hu hk' hi) hl
    have hbv := cvl_b hJ n1 n2 hW hw hu w6 u6 hk' hl n
    rw [crs] at g
    have lp : ∀ m q (o11 : Option Value), m + q = 4 → V 340 [some (.ref 0), some (.int (nI n)), some (.int (nI l)), some (.int e), some (.int a), some (.int (nI k)), some (.int (nI (pos w W k 0))), some (.long (vsm (fun q => hv x sNo n (pos w W k q) l) q)), none, some (.int (ivf (fun q => hv x sNo n (pos w W k q) l) (cvl x n k l) q)), some (.int (nI q)), o11] [] M4 L := by
      intro m
      induction m with
      | zero =>
        intro q o11 hq
        have e4 : q = 4 := by omega
        subst e4
        have v5 : (4 : Int32) ≤ nI 4 := by decide
        by_cases c : ivf (fun q => hv x sNo n (pos w W k q) l) (cvl x n k l) 4 = 0
        · rw [cst_n hb hbv c] at g
          have c' : (ivf (fun q => hv x sNo n (pos w W k q) l) (cvl x n k l) 4 = 0) = True := eq_true c
          refine ma_walk (mo_X5_coarse ms_X5_in ms_X5_isLetter ms_X5_hall ms_X5_cells ms_X5_place ms_X5_down ms_X5_steps ms_X5_downLong ms_X5_size) hV [270, 340] (fun F hF => ?_)
          simp only [tb_X5_coarse, hF, in_no, in_push, in_ild, in_lld, in_ald, in_ist, in_ast, in_lst, in_inc, in_iii, in_idv, in_ldv, in_lll, in_lli, in_lil, in_ii, in_il, in_li, in_ll, in_dup, in_dp2, q_if1, q_if2, in_go, in_sw, ma_sw, in_rv, in_ri, in_rz, in_rl, in_get, in_put, in_puz, in_iar, in_bar, in_lar, in_aar, in_iaw, in_baw, in_law, in_len, in_cpy, in_s1, in_s2, in_s3, in_v1, in_v2, in_v3, in_v4, in_v5, in_v6, ma_bk, ma_gl, ma_sl, ma_nl, ma_wc, ma_wd, ma_nn, ma_en, List.mem_cons, List.not_mem_nil, or_false, or_true, true_or, false_or, true_and, and_true, false_and, and_false, if_true, if_false, forall_const, true_implies, false_implies, not_true_eq_false, not_false_eq_true, Classical.not_not, implies_true, and_self, Nat.add_zero, Nat.zero_add, eq_self, ne_eq, reduceCtorEq, Nat.reduceLT, Nat.reduceLeDiff, Nat.reduceEqDiff, Nat.reduceSub, Nat.reduceAdd, i10, i01, im10, Int32.reduceLT, Int32.reduceLE, ↓reduceIte, reduceIte, up_r, uL_r, cp_r, Int32.toInt_toInt64, Int64.reduceToInt, Int32.reduceToInt, ↓b1_or, b1_0, b1_1, lc_lt, lc_le, lc_gt, lc_ge, lc_eq, ym_0, ym_1, ym_2, ym_3, ym_4, ym_5, ym_6, ym_7, ym_8, ym_9, ym_10, ym_11, ym_12, ym_13, ym_14, ym_15, ym_16, ym_17, ym_18, ym_19, ym_20, ym_21, ym_22, ym_23, ym_24, ym_25, ym_26, ym_27, ym_28, ym_29, ym_30, rm__0, rm__1, rm__2, rm__3, rm__4, rm__5, rm__6, rm__7, rm__8, rm__9, rm__10, rm__11, rm__12, rm__13, rm__14, rm__15, rm__16, rm__17, rm__18, rm__19, rm__20, rm__21, rm__22, rm__23, rm__24, rm__25, rm__26, rm__27, rm__28, rm__29, rm__30, rm__31, rm__32, rm__33, rm__34, rm__35, rm__36, rm__37, rm__38, rm__39, rm__40, rm__41, rm__42, rm__43, rm__44, rm__45, un_X5_in, un_X5_isLetter, un_X5_hall, un_X5_cells, un_X5_place, un_X5_down, un_X5_steps, un_X5_downLong, un_X5_size, v5, c', e0, x1, x2, x3, z4, v4]
          try simp only [iteP, Classical.not_not, b1_0, b1_1]
          unfold abL at g
          refine sw_n (fun y => ?_) (fun y => ?_)
          · rw [if_neg (fun q => absurd y (Int64.not_le.mpr q))] at g; exact ih (k + 1) _ _ _ _ _ _ (by omega) g
          · rw [if_pos (Int64.not_le.mp y)] at g; exact ih (k + 1) _ _ _ _ _ _ (by omega) g
        · rw [cst_v c] at g
          refine ma_walk (mo_X5_coarse ms_X5_in ms_X5_isLetter ms_X5_hall ms_X5_cells ms_X5_place ms_X5_down ms_X5_steps ms_X5_downLong ms_X5_size) hV [270, 340] (fun F hF => ?_)
          simp only [tb_X5_coarse, hF, in_no, in_push, in_ild, in_lld, in_ald, in_ist, in_ast, in_lst, in_inc, in_iii, in_idv, in_ldv, in_lll, in_lli, in_lil, in_ii, in_il, in_li, in_ll, in_dup, in_dp2, q_if1, q_if2, in_go, in_sw, ma_sw, in_rv, in_ri, in_rz, in_rl, in_get, in_put, in_puz, in_iar, in_bar, in_lar, in_aar, in_iaw, in_baw, in_law, in_len, in_cpy, in_s1, in_s2, in_s3, in_v1, in_v2, in_v3, in_v4, in_v5, in_v6, ma_bk, ma_gl, ma_sl, ma_nl, ma_wc, ma_wd, ma_nn, ma_en, List.mem_cons, List.not_mem_nil, or_false, or_true, true_or, false_or, true_and, and_true, false_and, and_false, if_true, if_false, forall_const, true_implies, false_implies, not_true_eq_false, not_false_eq_true, Classical.not_not, implies_true, and_self, Nat.add_zero, Nat.zero_add, eq_self, ne_eq, reduceCtorEq, Nat.reduceLT, Nat.reduceLeDiff, Nat.reduceEqDiff, Nat.reduceSub, Nat.reduceAdd, i10, i01, im10, Int32.reduceLT, Int32.reduceLE, ↓reduceIte, reduceIte, up_r, uL_r, cp_r, Int32.toInt_toInt64, Int64.reduceToInt, Int32.reduceToInt, ↓b1_or, b1_0, b1_1, lc_lt, lc_le, lc_gt, lc_ge, lc_eq, ym_0, ym_1, ym_2, ym_3, ym_4, ym_5, ym_6, ym_7, ym_8, ym_9, ym_10, ym_11, ym_12, ym_13, ym_14, ym_15, ym_16, ym_17, ym_18, ym_19, ym_20, ym_21, ym_22, ym_23, ym_24, ym_25, ym_26, ym_27, ym_28, ym_29, ym_30, rm__0, rm__1, rm__2, rm__3, rm__4, rm__5, rm__6, rm__7, rm__8, rm__9, rm__10, rm__11, rm__12, rm__13, rm__14, rm__15, rm__16, rm__17, rm__18, rm__19, rm__20, rm__21, rm__22, rm__23, rm__24, rm__25, rm__26, rm__27, rm__28, rm__29, rm__30, rm__31, rm__32, rm__33, rm__34, rm__35, rm__36, rm__37, rm__38, rm__39, rm__40, rm__41, rm__42, rm__43, rm__44, rm__45, un_X5_in, un_X5_isLetter, un_X5_hall, un_X5_cells, un_X5_place, un_X5_down, un_X5_steps, un_X5_downLong, un_X5_size, v5, c, v4]
          try simp only [iteP, Classical.not_not, b1_0, b1_1]
          exact ih (k + 1) _ _ _ _ _ _ (by omega) g
      | succ m ih2 =>
        intro q o11 hq
        have v5 : ¬ (4 : Int32) ≤ nI q := fun y => by rw [show (4 : Int32) = nI 4 from rfl, a_le (by omega) (by omega)] at y; omega
        have v6 : nI q + 1 = nI (q + 1) := by rw [show (1 : Int32) = nI 1 from rfl, nI_add]
        have d2 : nI q / 2 = nI (q / 2) := pk_div (d := 2) (by omega) (by omega) (by omega)
        have d1 : nI q - nI (q / 2) * 2 = nI (q % 2) := by rw [← d2]; exact pk_rem (d := 2) (by omega) (by omega) (by omega)
        have pq := pos_q w W k
        have d3 : nI (pos w W k 0) + nI (q % 2) + nI w * nI (q / 2) = nI (pos w W k q) := by
          rw [nI_add, pk_mul, nI_add]
          congr 1
          have : q = 0 ∨ q = 1 ∨ q = 2 ∨ q = 3 := by omega
          rcases this with rfl | rfl | rfl | rfl
          · show pos w W k 0 + 0 + w * 0 = _
            rw [Nat.mul_zero]; rfl
          · show pos w W k 0 + 1 + w * 0 = _
            rw [Nat.mul_zero, pq.1]
          · show pos w W k 0 + 0 + w * 1 = _
            rw [Nat.mul_one, pq.2.1]; rfl
          · show pos w W k 0 + 1 + w * 1 = _
            rw [Nat.mul_one, pq.2.2]; omega
        have pl := pos_lt hW hw hu hk' (show q < 4 by omega)
        have e1 : 144 * nI n + 4 * nI (pos w W k q) + nI l = nI (144 * n + 4 * pos w W k q + l) := pl_e n _ l
        have y1 : vp_in (nI (144 * n + 4 * pos w W k q + l)) 1872 := vp_in_nI (by omega) (by decide)
        have y2 := a_cl (show 144 * n + 4 * pos w W k q + l < 2147483648 by omega)
        have y3 := VF n (pos w W k q) l hn pl hl
        have T := fun o => ih2 (q + 1) o (by omega)
        rw [vsm, ivf] at T
        by_cases c : ivf (fun q => hv x sNo n (pos w W k q) l) (cvl x n k l) q = 0
        · have c' : (ivf (fun q => hv x sNo n (pos w W k q) l) (cvl x n k l) q = 0) = True := eq_true c
          rw [if_pos c] at T
          refine ma_walk (mo_X5_coarse ms_X5_in ms_X5_isLetter ms_X5_hall ms_X5_cells ms_X5_place ms_X5_down ms_X5_steps ms_X5_downLong ms_X5_size) hV [270, 340] (fun F hF => ?_)
          simp only [tb_X5_coarse, hF, in_no, in_push, in_ild, in_lld, in_ald, in_ist, in_ast, in_lst, in_inc, in_iii, in_idv, in_ldv, in_lll, in_lli, in_lil, in_ii, in_il, in_li, in_ll, in_dup, in_dp2, q_if1, q_if2, in_go, in_sw, ma_sw, in_rv, in_ri, in_rz, in_rl, in_get, in_put, in_puz, in_iar, in_bar, in_lar, in_aar, in_iaw, in_baw, in_law, in_len, in_cpy, in_s1, in_s2, in_s3, in_v1, in_v2, in_v3, in_v4, in_v5, in_v6, ma_bk, ma_gl, ma_sl, ma_nl, ma_wc, ma_wd, ma_nn, ma_en, List.mem_cons, List.not_mem_nil, or_false, or_true, true_or, false_or, true_and, and_true, false_and, and_false, if_true, if_false, forall_const, true_implies, false_implies, not_true_eq_false, not_false_eq_true, Classical.not_not, implies_true, and_self, Nat.add_zero, Nat.zero_add, eq_self, ne_eq, reduceCtorEq, Nat.reduceLT, Nat.reduceLeDiff, Nat.reduceEqDiff, Nat.reduceSub, Nat.reduceAdd, i10, i01, im10, Int32.reduceLT, Int32.reduceLE, ↓reduceIte, reduceIte, up_r, uL_r, cp_r, Int32.toInt_toInt64, Int64.reduceToInt, Int32.reduceToInt, ↓b1_or, b1_0, b1_1, lc_lt, lc_le, lc_gt, lc_ge, lc_eq, ym_0, ym_1, ym_2, ym_3, ym_4, ym_5, ym_6, ym_7, ym_8, ym_9, ym_10, ym_11, ym_12, ym_13, ym_14, ym_15, ym_16, ym_17, ym_18, ym_19, ym_20, ym_21, ym_22, ym_23, ym_24, ym_25, ym_26, ym_27, ym_28, ym_29, ym_30, rm__0, rm__1, rm__2, rm__3, rm__4, rm__5, rm__6, rm__7, rm__8, rm__9, rm__10, rm__11, rm__12, rm__13, rm__14, rm__15, rm__16, rm__17, rm__18, rm__19, rm__20, rm__21, rm__22, rm__23, rm__24, rm__25, rm__26, rm__27, rm__28, rm__29, rm__30, rm__31, rm__32, rm__33, rm__34, rm__35, rm__36, rm__37, rm__38, rm__39, rm__40, rm__41, rm__42, rm__43, rm__44, rm__45, un_X5_in, un_X5_isLetter, un_X5_hall, un_X5_cells, un_X5_place, un_X5_down, un_X5_steps, un_X5_downLong, un_X5_size, v5, v6, d0, d1, d2, d3, z2, e1, y1, y2, y3, c']
          try simp only [iteP, Classical.not_not, b1_0, b1_1]
          exact sw_n (fun y => by rw [if_pos y] at T; exact T _) (fun y => by rw [if_neg y] at T; exact T _)
        · rw [if_neg c] at T
          refine ma_walk (mo_X5_coarse ms_X5_in ms_X5_isLetter ms_X5_hall ms_X5_cells ms_X5_place ms_X5_down ms_X5_steps ms_X5_downLong ms_X5_size) hV [270, 340] (fun F hF => ?_)
          simp only [tb_X5_coarse, hF, in_no, in_push, in_ild, in_lld, in_ald, in_ist, in_ast, in_lst, in_inc, in_iii, in_idv, in_ldv, in_lll, in_lli, in_lil, in_ii, in_il, in_li, in_ll, in_dup, in_dp2, q_if1, q_if2, in_go, in_sw, ma_sw, in_rv, in_ri, in_rz, in_rl, in_get, in_put, in_puz, in_iar, in_bar, in_lar, in_aar, in_iaw, in_baw, in_law, in_len, in_cpy, in_s1, in_s2, in_s3, in_v1, in_v2, in_v3, in_v4, in_v5, in_v6, ma_bk, ma_gl, ma_sl, ma_nl, ma_wc, ma_wd, ma_nn, ma_en, List.mem_cons, List.not_mem_nil, or_false, or_true, true_or, false_or, true_and, and_true, false_and, and_false, if_true, if_false, forall_const, true_implies, false_implies, not_true_eq_false, not_false_eq_true, Classical.not_not, implies_true, and_self, Nat.add_zero, Nat.zero_add, eq_self, ne_eq, reduceCtorEq, Nat.reduceLT, Nat.reduceLeDiff, Nat.reduceEqDiff, Nat.reduceSub, Nat.reduceAdd, i10, i01, im10, Int32.reduceLT, Int32.reduceLE, ↓reduceIte, reduceIte, up_r, uL_r, cp_r, Int32.toInt_toInt64, Int64.reduceToInt, Int32.reduceToInt, ↓b1_or, b1_0, b1_1, lc_lt, lc_le, lc_gt, lc_ge, lc_eq, ym_0, ym_1, ym_2, ym_3, ym_4, ym_5, ym_6, ym_7, ym_8, ym_9, ym_10, ym_11, ym_12, ym_13, ym_14, ym_15, ym_16, ym_17, ym_18, ym_19, ym_20, ym_21, ym_22, ym_23, ym_24, ym_25, ym_26, ym_27, ym_28, ym_29, ym_30, rm__0, rm__1, rm__2, rm__3, rm__4, rm__5, rm__6, rm__7, rm__8, rm__9, rm__10, rm__11, rm__12, rm__13, rm__14, rm__15, rm__16, rm__17, rm__18, rm__19, rm__20, rm__21, rm__22, rm__23, rm__24, rm__25, rm__26, rm__27, rm__28, rm__29, rm__30, rm__31, rm__32, rm__33, rm__34, rm__35, rm__36, rm__37, rm__38, rm__39, rm__40, rm__41, rm__42, rm__43, rm__44, rm__45, un_X5_in, un_X5_isLetter, un_X5_hall, un_X5_cells, un_X5_place, un_X5_down, un_X5_steps, un_X5_downLong, un_X5_size, v5, v6, d0, d1, d2, d3, z2, e1, y1, y2, y3, c]
          try simp only [iteP, Classical.not_not, b1_0, b1_1]
          exact T _
    have T0 := fun o => lp 4 0 o rfl
    rw [vsm, ivf] at T0
    refine ma_walk (mo_X5_coarse ms_X5_in ms_X5_isLetter ms_X5_hall ms_X5_cells ms_X5_place ms_X5_down ms_X5_steps ms_X5_downLong ms_X5_size) hV [270, 340] (fun F hF => ?_)
    simp only [tb_X5_coarse, hF, in_no, in_push, in_ild, in_lld, in_ald, in_ist, in_ast, in_lst, in_inc, in_iii, in_idv, in_ldv, in_lll, in_lli, in_lil, in_ii, in_il, in_li, in_ll, in_dup, in_dp2, q_if1, q_if2, in_go, in_sw, ma_sw, in_rv, in_ri, in_rz, in_rl, in_get, in_put, in_puz, in_iar, in_bar, in_lar, in_aar, in_iaw, in_baw, in_law, in_len, in_cpy, in_s1, in_s2, in_s3, in_v1, in_v2, in_v3, in_v4, in_v5, in_v6, ma_bk, ma_gl, ma_sl, ma_nl, ma_wc, ma_wd, ma_nn, ma_en, List.mem_cons, List.not_mem_nil, or_false, or_true, true_or, false_or, true_and, and_true, false_and, and_false, if_true, if_false, forall_const, true_implies, false_implies, not_true_eq_false, not_false_eq_true, Classical.not_not, implies_true, and_self, Nat.add_zero, Nat.zero_add, eq_self, ne_eq, reduceCtorEq, Nat.reduceLT, Nat.reduceLeDiff, Nat.reduceEqDiff, Nat.reduceSub, Nat.reduceAdd, i10, i01, im10, Int32.reduceLT, Int32.reduceLE, ↓reduceIte, reduceIte, up_r, uL_r, cp_r, Int32.toInt_toInt64, Int64.reduceToInt, Int32.reduceToInt, ↓b1_or, b1_0, b1_1, lc_lt, lc_le, lc_gt, lc_ge, lc_eq, ym_0, ym_1, ym_2, ym_3, ym_4, ym_5, ym_6, ym_7, ym_8, ym_9, ym_10, ym_11, ym_12, ym_13, ym_14, ym_15, ym_16, ym_17, ym_18, ym_19, ym_20, ym_21, ym_22, ym_23, ym_24, ym_25, ym_26, ym_27, ym_28, ym_29, ym_30, rm__0, rm__1, rm__2, rm__3, rm__4, rm__5, rm__6, rm__7, rm__8, rm__9, rm__10, rm__11, rm__12, rm__13, rm__14, rm__15, rm__16, rm__17, rm__18, rm__19, rm__20, rm__21, rm__22, rm__23, rm__24, rm__25, rm__26, rm__27, rm__28, rm__29, rm__30, rm__31, rm__32, rm__33, rm__34, rm__35, rm__36, rm__37, rm__38, rm__39, rm__40, rm__41, rm__42, rm__43, rm__44, rm__45, un_X5_in, un_X5_isLetter, un_X5_hall, un_X5_cells, un_X5_place, un_X5_down, un_X5_steps, un_X5_downLong, un_X5_size, d0, d35, d36, v1, W0, r2, r1, at0, e0, x1, x2, x3]
    try simp only [iteP, Classical.not_not, b1_0, b1_1]
    exact sw_n (fun y => by rw [if_pos y] at T0; exact T0 _) (fun y => by rw [if_neg y] at T0; exact T0 _)
/-- the first loops: the coarser sky's first numbers -/
theorem cyA {x : St} (hJ : J x) {w u W U n l : Nat} {e : Int32} {M1 : ZM} {L : ZL} {K : ma_Kt} {V : ma_Pr} (hV : ma_cl (tb_X5_coarse S_X5_in S_X5_isLetter S_X5_hall S_X5_cells S_X5_place S_X5_down S_X5_steps S_X5_downLong S_X5_size) K V) (n1 : nat (sN x 0 0) = w) (n2 : nat (sN x 0 1) = u) (hW : 0 < W) (hw : w = 2 * W) (hu : u = 2 * U) (w6 : w ≤ 6) (u6 : u ≤ 6) (d0 : M1 0 0 = nI w) (d1 : M1 0 1 = nI u) (VF : ∀ c l, c < w * u → l < 4 → M1 22 (4 * c + l) = hv x sNo 0 c l) (h : ∀ (M2 : ZM) (o5 o6 o7 : Option Value), (∀ a, a ≠ 23 → M2 a = M1 a) → (∀ k l, k < W * U → l < 4 → M2 23 (4 * k + l) = cr0 x k l) → V 235 [some (.ref 0), some (.int (nI n)), some (.int (nI l)), some (.int e), some (.int (nI (w * u))), o5, o6, o7, none, none, none, none] [] M2 L) : ∀ m k (M2 : ZM) (o5 o6 o7 : Option Value), m + k = w * u → (∀ a, a ≠ 23 → M2 a = M1 a) → (∀ k' l, k' < k → k' < W * U → l < 4 → M2 23 (4 * k' + l) = cr0 x k' l) → V 68 [some (.ref 0), some (.int (nI n)), some (.int (nI l)), some (.int e), some (.int (nI k)), o5, o6, o7, none, none, none, none] [] M2 L := by
  have hWU : W * U ≤ 9 := Nat.mul_le_mul (show W ≤ 3 by omega) (show U ≤ 3 by omega)
  have h36 : w * u ≤ 36 := Nat.mul_le_mul w6 u6
  have e4 : w * u = 4 * (W * U) := by rw [hw, hu, Nat.mul_mul_mul_comm]
  have W0 : ¬ nI W = 0 := by rw [a_eq0 (by omega)]; omega
  have z2 : ¬ (2 : Int32) = 0 := by decide
  have z4i : ¬ (4 : Int32) = 0 := by decide
  have z4 : ¬ (4 : Int64) = 0 := by decide
  have t1 : nI w / 2 = nI W := by rw [show (2 : Int32) = nI 2 from rfl, pk_div (by omega) (by omega) (by omega)]; congr 1; omega
  have t4 : nI w * nI u / 4 = nI (W * U) := by rw [pk_mul, show (4 : Int32) = nI 4 from rfl, pk_div (by omega) (by omega) (by omega)]; congr 1; omega
  intro m
  induction m with
  | zero =>
    intro k M2 o5 o6 o7 hk f1 f2
    have g0 : M2 0 = M1 0 := f1 0 (by decide)
    have v1 : nI w * nI u ≤ nI k := by rw [pk_mul, a_le (by omega) (by omega)]; omega
    have b0 : M2 0 0 = nI w := by rw [g0]; exact d0
    have b1' : M2 0 1 = nI u := by rw [g0]; exact d1
    have q := h M2 o5 o6 o7 f1 (fun k' l y1 y2 => f2 k' l (by omega) y1 y2)
    rw [show w * u = k by omega] at q
    refine ma_walk (mo_X5_coarse ms_X5_in ms_X5_isLetter ms_X5_hall ms_X5_cells ms_X5_place ms_X5_down ms_X5_steps ms_X5_downLong ms_X5_size) hV [68, 110, 235] (fun F hF => ?_)
    simp only [tb_X5_coarse, hF, in_no, in_push, in_ild, in_lld, in_ald, in_ist, in_ast, in_lst, in_inc, in_iii, in_idv, in_ldv, in_lll, in_lli, in_lil, in_ii, in_il, in_li, in_ll, in_dup, in_dp2, q_if1, q_if2, in_go, in_sw, ma_sw, in_rv, in_ri, in_rz, in_rl, in_get, in_put, in_puz, in_iar, in_bar, in_lar, in_aar, in_iaw, in_baw, in_law, in_len, in_cpy, in_s1, in_s2, in_s3, in_v1, in_v2, in_v3, in_v4, in_v5, in_v6, ma_bk, ma_gl, ma_sl, ma_nl, ma_wc, ma_wd, ma_nn, ma_en, List.mem_cons, List.not_mem_nil, or_false, or_true, true_or, false_or, true_and, and_true, false_and, and_false, if_true, if_false, forall_const, true_implies, false_implies, not_true_eq_false, not_false_eq_true, Classical.not_not, implies_true, and_self, Nat.add_zero, Nat.zero_add, eq_self, ne_eq, reduceCtorEq, Nat.reduceLT, Nat.reduceLeDiff, Nat.reduceEqDiff, Nat.reduceSub, Nat.reduceAdd, i10, i01, im10, Int32.reduceLT, Int32.reduceLE, ↓reduceIte, reduceIte, up_r, uL_r, cp_r, Int32.toInt_toInt64, Int64.reduceToInt, Int32.reduceToInt, ↓b1_or, b1_0, b1_1, lc_lt, lc_le, lc_gt, lc_ge, lc_eq, ym_0, ym_1, ym_2, ym_3, ym_4, ym_5, ym_6, ym_7, ym_8, ym_9, ym_10, ym_11, ym_12, ym_13, ym_14, ym_15, ym_16, ym_17, ym_18, ym_19, ym_20, ym_21, ym_22, ym_23, ym_24, ym_25, ym_26, ym_27, ym_28, ym_29, ym_30, rm__0, rm__1, rm__2, rm__3, rm__4, rm__5, rm__6, rm__7, rm__8, rm__9, rm__10, rm__11, rm__12, rm__13, rm__14, rm__15, rm__16, rm__17, rm__18, rm__19, rm__20, rm__21, rm__22, rm__23, rm__24, rm__25, rm__26, rm__27, rm__28, rm__29, rm__30, rm__31, rm__32, rm__33, rm__34, rm__35, rm__36, rm__37, rm__38, rm__39, rm__40, rm__41, rm__42, rm__43, rm__44, rm__45, un_X5_in, un_X5_isLetter, un_X5_hall, un_X5_cells, un_X5_place, un_X5_down, un_X5_steps, un_X5_downLong, un_X5_size, b0, b1', v1]
    try simp only [iteP, Classical.not_not, b1_0, b1_1]
    exact q
  | succ m ih =>
    intro k M2 o5 o6 o7 hk f1 f2
    have g0 : M2 0 = M1 0 := f1 0 (by decide)
    have v1 : ¬ nI w * nI u ≤ nI k := by rw [pk_mul, a_le (by omega) (by omega)]; omega
    have v4 : nI k + 1 = nI (k + 1) := by rw [show (1 : Int32) = nI 1 from rfl, nI_add]
    have b0 : M2 0 0 = nI w := by rw [g0]; exact d0
    have b1' : M2 0 1 = nI u := by rw [g0]; exact d1
    have r2 : nI k / nI W = nI (k / W) := pk_div (by omega) (by omega) (by omega)
    have r1 : nI k - nI (k / W) * nI W = nI (k % W) := by rw [← r2]; exact pk_rem (by omega) (by omega) (by omega)
    have at0 : 2 * nI w * nI (k / W) + 2 * nI (k % W) = nI (pos w W k 0) := by
      rw [show (2 : Int32) = nI 2 from rfl, pk_mul, pk_mul, pk_mul, nI_add]
      unfold pos
      congr 1
      show 2 * w * (k / W) + 2 * (k % W) = w * (2 * (k / W) + 0) + 2 * (k % W) + 0
      rw [Nat.add_zero, Nat.add_zero, Nat.mul_comm 2 w, Nat.mul_assoc]
    have lp : ∀ m l' (M2 : ZM) (o7 : Option Value), m + l' = 4 → (∀ a, a ≠ 23 → M2 a = M1 a) → (∀ k' l, k' < k → k' < W * U → l < 4 → M2 23 (4 * k' + l) = cr0 x k' l) → (k < W * U → ∀ l, l < l' → M2 23 (4 * k + l) = cr0 x k l) → V 110 [some (.ref 0), some (.int (nI n)), some (.int (nI l)), some (.int e), some (.int (nI k)), some (.int (nI (pos w W k 0))), some (.int (nI l')), o7, none, none, none, none] [] M2 L := by
      intro m
      induction m with
      | zero =>
        intro l' M2 o7 hl f1 f2 f3
        have v5 : (4 : Int32) ≤ nI l' := by rw [show l' = 4 by omega]; decide
        refine ma_walk (mo_X5_coarse ms_X5_in ms_X5_isLetter ms_X5_hall ms_X5_cells ms_X5_place ms_X5_down ms_X5_steps ms_X5_downLong ms_X5_size) hV [68, 110, 235] (fun F hF => ?_)
        simp only [tb_X5_coarse, hF, in_no, in_push, in_ild, in_lld, in_ald, in_ist, in_ast, in_lst, in_inc, in_iii, in_idv, in_ldv, in_lll, in_lli, in_lil, in_ii, in_il, in_li, in_ll, in_dup, in_dp2, q_if1, q_if2, in_go, in_sw, ma_sw, in_rv, in_ri, in_rz, in_rl, in_get, in_put, in_puz, in_iar, in_bar, in_lar, in_aar, in_iaw, in_baw, in_law, in_len, in_cpy, in_s1, in_s2, in_s3, in_v1, in_v2, in_v3, in_v4, in_v5, in_v6, ma_bk, ma_gl, ma_sl, ma_nl, ma_wc, ma_wd, ma_nn, ma_en, List.mem_cons, List.not_mem_nil, or_false, or_true, true_or, false_or, true_and, and_true, false_and, and_false, if_true, if_false, forall_const, true_implies, false_implies, not_true_eq_false, not_false_eq_true, Classical.not_not, implies_true, and_self, Nat.add_zero, Nat.zero_add, eq_self, ne_eq, reduceCtorEq, Nat.reduceLT, Nat.reduceLeDiff, Nat.reduceEqDiff, Nat.reduceSub, Nat.reduceAdd, i10, i01, im10, Int32.reduceLT, Int32.reduceLE, ↓reduceIte, reduceIte, up_r, uL_r, cp_r, Int32.toInt_toInt64, Int64.reduceToInt, Int32.reduceToInt, ↓b1_or, b1_0, b1_1, lc_lt, lc_le, lc_gt, lc_ge, lc_eq, ym_0, ym_1, ym_2, ym_3, ym_4, ym_5, ym_6, ym_7, ym_8, ym_9, ym_10, ym_11, ym_12, ym_13, ym_14, ym_15, ym_16, ym_17, ym_18, ym_19, ym_20, ym_21, ym_22, ym_23, ym_24, ym_25, ym_26, ym_27, ym_28, ym_29, ym_30, rm__0, rm__1, rm__2, rm__3, rm__4, rm__5, rm__6, rm__7, rm__8, rm__9, rm__10, rm__11, rm__12, rm__13, rm__14, rm__15, rm__16, rm__17, rm__18, rm__19, rm__20, rm__21, rm__22, rm__23, rm__24, rm__25, rm__26, rm__27, rm__28, rm__29, rm__30, rm__31, rm__32, rm__33, rm__34, rm__35, rm__36, rm__37, rm__38, rm__39, rm__40, rm__41, rm__42, rm__43, rm__44, rm__45, un_X5_in, un_X5_isLetter, un_X5_hall, un_X5_cells, un_X5_place, un_X5_down, un_X5_steps, un_X5_downLong, un_X5_size, v5, v4]
        try simp only [iteP, Classical.not_not, b1_0, b1_1]
        refine ih (k + 1) M2 _ _ _ (by omega) f1 (fun k' l y1 y2 y3 => ?_)
        by_cases y : k' = k
        · rw [y]; exact f3 (by omega) l (by omega)
        · exact f2 k' l (by omega) y2 y3
      | succ m ih2 =>
        intro l' M2 o7 hl f1 f2 f3
        have g0 : M2 0 = M1 0 := f1 0 (by decide)
        have b0 : M2 0 0 = nI w := by rw [g0]; exact d0
        have b1' : M2 0 1 = nI u := by rw [g0]; exact d1
        have v5 : ¬ (4 : Int32) ≤ nI l' := fun y => by rw [show (4 : Int32) = nI 4 from rfl, a_le (by omega) (by omega)] at y; omega
        have v6 : nI l' + 1 = nI (l' + 1) := by rw [show (1 : Int32) = nI 1 from rfl, nI_add]
        by_cases c : W * U ≤ k
        · have v7 : nI (W * U) ≤ nI k := by rw [a_le (by omega) (by omega)]; exact c
          refine ma_walk (mo_X5_coarse ms_X5_in ms_X5_isLetter ms_X5_hall ms_X5_cells ms_X5_place ms_X5_down ms_X5_steps ms_X5_downLong ms_X5_size) hV [68, 110, 235] (fun F hF => ?_)
          simp only [tb_X5_coarse, hF, in_no, in_push, in_ild, in_lld, in_ald, in_ist, in_ast, in_lst, in_inc, in_iii, in_idv, in_ldv, in_lll, in_lli, in_lil, in_ii, in_il, in_li, in_ll, in_dup, in_dp2, q_if1, q_if2, in_go, in_sw, ma_sw, in_rv, in_ri, in_rz, in_rl, in_get, in_put, in_puz, in_iar, in_bar, in_lar, in_aar, in_iaw, in_baw, in_law, in_len, in_cpy, in_s1, in_s2, in_s3, in_v1, in_v2, in_v3, in_v4, in_v5, in_v6, ma_bk, ma_gl, ma_sl, ma_nl, ma_wc, ma_wd, ma_nn, ma_en, List.mem_cons, List.not_mem_nil, or_false, or_true, true_or, false_or, true_and, and_true, false_and, and_false, if_true, if_false, forall_const, true_implies, false_implies, not_true_eq_false, not_false_eq_true, Classical.not_not, implies_true, and_self, Nat.add_zero, Nat.zero_add, eq_self, ne_eq, reduceCtorEq, Nat.reduceLT, Nat.reduceLeDiff, Nat.reduceEqDiff, Nat.reduceSub, Nat.reduceAdd, i10, i01, im10, Int32.reduceLT, Int32.reduceLE, ↓reduceIte, reduceIte, up_r, uL_r, cp_r, Int32.toInt_toInt64, Int64.reduceToInt, Int32.reduceToInt, ↓b1_or, b1_0, b1_1, lc_lt, lc_le, lc_gt, lc_ge, lc_eq, ym_0, ym_1, ym_2, ym_3, ym_4, ym_5, ym_6, ym_7, ym_8, ym_9, ym_10, ym_11, ym_12, ym_13, ym_14, ym_15, ym_16, ym_17, ym_18, ym_19, ym_20, ym_21, ym_22, ym_23, ym_24, ym_25, ym_26, ym_27, ym_28, ym_29, ym_30, rm__0, rm__1, rm__2, rm__3, rm__4, rm__5, rm__6, rm__7, rm__8, rm__9, rm__10, rm__11, rm__12, rm__13, rm__14, rm__15, rm__16, rm__17, rm__18, rm__19, rm__20, rm__21, rm__22, rm__23, rm__24, rm__25, rm__26, rm__27, rm__28, rm__29, rm__30, rm__31, rm__32, rm__33, rm__34, rm__35, rm__36, rm__37, rm__38, rm__39, rm__40, rm__41, rm__42, rm__43, rm__44, rm__45, un_X5_in, un_X5_isLetter, un_X5_hall, un_X5_cells, un_X5_place, un_X5_down, un_X5_steps, un_X5_downLong, un_X5_size, v5, v4, b0, b1', t4, z4i, v7]
          try simp only [iteP, Classical.not_not, b1_0, b1_1]
          refine ih (k + 1) M2 _ _ _ (by omega) f1 (fun k' l y1 y2 y3 => ?_)
          exact f2 k' l (by omega) y2 y3
        · have v7 : ¬ nI (W * U) ≤ nI k := by rw [a_le (by omega) (by omega)]; exact c
          have hk' : k < W * U := by omega
          have pq := pos_q w W k
          have p3 := pos_lt hW hw hu hk' (show 3 < 4 by omega)
          have g22 : M2 22 = M1 22 := f1 22 (by decide)
          have ad1 : nI (pos w W k 0) + 1 = nI (pos w W k 1) := by rw [show (1 : Int32) = nI 1 from rfl, nI_add, pq.1]
          have ad2 : nI (pos w W k 0) + nI w = nI (pos w W k 2) := by rw [nI_add, pq.2.1]
          have ad3 : nI (pos w W k 2) + 1 = nI (pos w W k 3) := by rw [show (1 : Int32) = nI 1 from rfl, nI_add, pq.2.1, pq.2.2]
          have E : ∀ p, 144 * 0 + 4 * nI p + nI l' = nI (4 * p + l') := fun p => by
            have := pl_e 0 p l'
            rw [show 144 * 0 + 4 * p + l' = 4 * p + l' by omega] at this; exact this
          have VI : ∀ p, p < w * u → vp_in (nI (4 * p + l')) 1872 := fun p hp => vp_in_nI (by omega) (by decide)
          have CL : ∀ p, p < w * u → (nI (4 * p + l')).toNatClampNeg = 4 * p + l' := fun p hp => a_cl (by omega)
          have i0 := VI (pos w W k 0) (by omega)
          have i1 := VI (pos w W k 1) (by omega)
          have i2 := VI (pos w W k 2) (by omega)
          have i3 := VI (pos w W k 3) (by omega)
          have j0 := CL (pos w W k 0) (by omega)
          have j1 := CL (pos w W k 1) (by omega)
          have j2 := CL (pos w W k 2) (by omega)
          have j3 := CL (pos w W k 3) (by omega)
          have ik := VI k (by omega)
          have jk := CL k (by omega)
          have q0 := VF (pos w W k 0) l' (by omega) (by omega)
          have q1 := VF (pos w W k 1) l' (by omega) (by omega)
          have q2 := VF (pos w W k 2) l' (by omega) (by omega)
          have q3 := VF (pos w W k 3) l' (by omega) (by omega)
          have cd := (cr0_d hJ n1 n2 hW hw hu w6 u6 hk' (show l' < 4 by omega)).1
          simp only [vsm, Int64.zero_add] at cd
          refine ma_walk (mo_X5_coarse ms_X5_in ms_X5_isLetter ms_X5_hall ms_X5_cells ms_X5_place ms_X5_down ms_X5_steps ms_X5_downLong ms_X5_size) hV [68, 110, 235] (fun F hF => ?_)
          simp only [tb_X5_coarse, hF, in_no, in_push, in_ild, in_lld, in_ald, in_ist, in_ast, in_lst, in_inc, in_iii, in_idv, in_ldv, in_lll, in_lli, in_lil, in_ii, in_il, in_li, in_ll, in_dup, in_dp2, q_if1, q_if2, in_go, in_sw, ma_sw, in_rv, in_ri, in_rz, in_rl, in_get, in_put, in_puz, in_iar, in_bar, in_lar, in_aar, in_iaw, in_baw, in_law, in_len, in_cpy, in_s1, in_s2, in_s3, in_v1, in_v2, in_v3, in_v4, in_v5, in_v6, ma_bk, ma_gl, ma_sl, ma_nl, ma_wc, ma_wd, ma_nn, ma_en, List.mem_cons, List.not_mem_nil, or_false, or_true, true_or, false_or, true_and, and_true, false_and, and_false, if_true, if_false, forall_const, true_implies, false_implies, not_true_eq_false, not_false_eq_true, Classical.not_not, implies_true, and_self, Nat.add_zero, Nat.zero_add, eq_self, ne_eq, reduceCtorEq, Nat.reduceLT, Nat.reduceLeDiff, Nat.reduceEqDiff, Nat.reduceSub, Nat.reduceAdd, i10, i01, im10, Int32.reduceLT, Int32.reduceLE, ↓reduceIte, reduceIte, up_r, uL_r, cp_r, Int32.toInt_toInt64, Int64.reduceToInt, Int32.reduceToInt, ↓b1_or, b1_0, b1_1, lc_lt, lc_le, lc_gt, lc_ge, lc_eq, ym_0, ym_1, ym_2, ym_3, ym_4, ym_5, ym_6, ym_7, ym_8, ym_9, ym_10, ym_11, ym_12, ym_13, ym_14, ym_15, ym_16, ym_17, ym_18, ym_19, ym_20, ym_21, ym_22, ym_23, ym_24, ym_25, ym_26, ym_27, ym_28, ym_29, ym_30, rm__0, rm__1, rm__2, rm__3, rm__4, rm__5, rm__6, rm__7, rm__8, rm__9, rm__10, rm__11, rm__12, rm__13, rm__14, rm__15, rm__16, rm__17, rm__18, rm__19, rm__20, rm__21, rm__22, rm__23, rm__24, rm__25, rm__26, rm__27, rm__28, rm__29, rm__30, rm__31, rm__32, rm__33, rm__34, rm__35, rm__36, rm__37, rm__38, rm__39, rm__40, rm__41, rm__42, rm__43, rm__44, rm__45, un_X5_in, un_X5_isLetter, un_X5_hall, un_X5_cells, un_X5_place, un_X5_down, un_X5_steps, un_X5_downLong, un_X5_size, v5, v6, b0, b1', t4, z4i, v7, ad1, ad2, ad3, E, i0, i1, i2, i3, j0, j1, j2, j3, ik, jk, g22, q0, q1, q2, q3, z4]
          try simp only [iteP, Classical.not_not, b1_0, b1_1]
          rw [← cd]
          refine ih2 (l' + 1) _ _ (by omega) (fun a ha => by rw [up_c ha]; exact f1 a ha) (fun k2 l2 y1 y2 y3 => ?_) (fun y1 l2 y2 => ?_)
          · rw [up_r, if_neg (fun z => by omega)]; exact f2 k2 l2 y1 y2 y3
          · by_cases y : l2 = l'
            · rw [y, up_r, if_pos ⟨rfl, rfl⟩]
            · rw [up_r, if_neg (fun z => y (by omega))]; exact f3 hk' l2 (by omega)
    refine ma_walk (mo_X5_coarse ms_X5_in ms_X5_isLetter ms_X5_hall ms_X5_cells ms_X5_place ms_X5_down ms_X5_steps ms_X5_downLong ms_X5_size) hV [68, 110, 235] (fun F hF => ?_)
    simp only [tb_X5_coarse, hF, in_no, in_push, in_ild, in_lld, in_ald, in_ist, in_ast, in_lst, in_inc, in_iii, in_idv, in_ldv, in_lll, in_lli, in_lil, in_ii, in_il, in_li, in_ll, in_dup, in_dp2, q_if1, q_if2, in_go, in_sw, ma_sw, in_rv, in_ri, in_rz, in_rl, in_get, in_put, in_puz, in_iar, in_bar, in_lar, in_aar, in_iaw, in_baw, in_law, in_len, in_cpy, in_s1, in_s2, in_s3, in_v1, in_v2, in_v3, in_v4, in_v5, in_v6, ma_bk, ma_gl, ma_sl, ma_nl, ma_wc, ma_wd, ma_nn, ma_en, List.mem_cons, List.not_mem_nil, or_false, or_true, true_or, false_or, true_and, and_true, false_and, and_false, if_true, if_false, forall_const, true_implies, false_implies, not_true_eq_false, not_false_eq_true, Classical.not_not, implies_true, and_self, Nat.add_zero, Nat.zero_add, eq_self, ne_eq, reduceCtorEq, Nat.reduceLT, Nat.reduceLeDiff, Nat.reduceEqDiff, Nat.reduceSub, Nat.reduceAdd, i10, i01, im10, Int32.reduceLT, Int32.reduceLE, ↓reduceIte, reduceIte, up_r, uL_r, cp_r, Int32.toInt_toInt64, Int64.reduceToInt, Int32.reduceToInt, ↓b1_or, b1_0, b1_1, lc_lt, lc_le, lc_gt, lc_ge, lc_eq, ym_0, ym_1, ym_2, ym_3, ym_4, ym_5, ym_6, ym_7, ym_8, ym_9, ym_10, ym_11, ym_12, ym_13, ym_14, ym_15, ym_16, ym_17, ym_18, ym_19, ym_20, ym_21, ym_22, ym_23, ym_24, ym_25, ym_26, ym_27, ym_28, ym_29, ym_30, rm__0, rm__1, rm__2, rm__3, rm__4, rm__5, rm__6, rm__7, rm__8, rm__9, rm__10, rm__11, rm__12, rm__13, rm__14, rm__15, rm__16, rm__17, rm__18, rm__19, rm__20, rm__21, rm__22, rm__23, rm__24, rm__25, rm__26, rm__27, rm__28, rm__29, rm__30, rm__31, rm__32, rm__33, rm__34, rm__35, rm__36, rm__37, rm__38, rm__39, rm__40, rm__41, rm__42, rm__43, rm__44, rm__45, un_X5_in, un_X5_isLetter, un_X5_hall, un_X5_cells, un_X5_place, un_X5_down, un_X5_steps, un_X5_downLong, un_X5_size, b0, b1', v1, t1, z2, W0, r2, r1, at0]
    try simp only [iteP, Classical.not_not, b1_0, b1_1]
    exact lp 4 0 M2 _ rfl f1 f2 (fun _ l hl => by omega)
theorem pw_X5_coarse {k : Nat} {ni : Int32} {li : Int32} {e : Int32} {x : St} {M : ZM} {L : ZL} {K : ma_Kt} (hp : k = 0 ∧ J x ∧ RY M L x) (h : (∀ (M' : ZM), RY M' L x → K (some (.int (oCoarse ni li e x))) M' L)) : ma_rn (tb_X5_coarse S_X5_in S_X5_isLetter S_X5_hall S_X5_cells S_X5_place S_X5_down S_X5_steps S_X5_downLong S_X5_size) 12 [.ref k, .int ni, .int li, .int e] M L K := by
  refine ⟨Nat.le_of_ble_eq_true rfl, fun V hV => ?_⟩
  obtain ⟨rfl, hJ, hR⟩ := hp
  obtain ⟨w, u, eg, ns, ta, tb, h1, h2, h3, h6, h7, h8, hs, w2, w6, u2, u6, e3, n12, ta12, tb4, q0, q36, n1, n2, n3, n6⟩ := hJ.sky
  have c0 := hR.1.1.trans h1
  have c1 := hR.1.2.1.trans h2
  unfold oCoarse at h
  rw [n1, n2] at h
  have z2' : ¬ (2 : Int32) = 0 := by decide
  have rw' : nI w - nI w / 2 * 2 = nI (w % 2) := pk_rem (d := 2) (by omega) (by omega) (by omega)
  have ru' : nI u - nI u / 2 * 2 = nI (u % 2) := pk_rem (d := 2) (by omega) (by omega) (by omega)
  have rw1 : (nI (w % 2) = 1) = (w % 2 = 1) := a_eq (b := 1) (by omega) (by omega)
  have ru1 : (nI (u % 2) = 1) = (u % 2 = 1) := a_eq (b := 1) (by omega) (by omega)
  refine ma_walk (mo_X5_coarse ms_X5_in ms_X5_isLetter ms_X5_hall ms_X5_cells ms_X5_place ms_X5_down ms_X5_steps ms_X5_downLong ms_X5_size) hV [68] (fun F hF => ?_)
  simp only [tb_X5_coarse, hF, in_no, in_push, in_ild, in_lld, in_ald, in_ist, in_ast, in_lst, in_inc, in_iii, in_idv, in_ldv, in_lll, in_lli, in_lil, in_ii, in_il, in_li, in_ll, in_dup, in_dp2, q_if1, q_if2, in_go, in_sw, ma_sw, in_rv, in_ri, in_rz, in_rl, in_get, in_put, in_puz, in_iar, in_bar, in_lar, in_aar, in_iaw, in_baw, in_law, in_len, in_cpy, in_s1, in_s2, in_s3, in_v1, in_v2, in_v3, in_v4, in_v5, in_v6, ma_bk, ma_gl, ma_sl, ma_nl, ma_wc, ma_wd, ma_nn, ma_en, List.mem_cons, List.not_mem_nil, or_false, or_true, true_or, false_or, true_and, and_true, false_and, and_false, if_true, if_false, forall_const, true_implies, false_implies, not_true_eq_false, not_false_eq_true, Classical.not_not, implies_true, and_self, Nat.add_zero, Nat.zero_add, eq_self, ne_eq, reduceCtorEq, Nat.reduceLT, Nat.reduceLeDiff, Nat.reduceEqDiff, Nat.reduceSub, Nat.reduceAdd, i10, i01, im10, Int32.reduceLT, Int32.reduceLE, ↓reduceIte, reduceIte, up_r, uL_r, cp_r, Int32.toInt_toInt64, Int64.reduceToInt, Int32.reduceToInt, ↓b1_or, b1_0, b1_1, lc_lt, lc_le, lc_gt, lc_ge, lc_eq, ym_0, ym_1, ym_2, ym_3, ym_4, ym_5, ym_6, ym_7, ym_8, ym_9, ym_10, ym_11, ym_12, ym_13, ym_14, ym_15, ym_16, ym_17, ym_18, ym_19, ym_20, ym_21, ym_22, ym_23, ym_24, ym_25, ym_26, ym_27, ym_28, ym_29, ym_30, rm__0, rm__1, rm__2, rm__3, rm__4, rm__5, rm__6, rm__7, rm__8, rm__9, rm__10, rm__11, rm__12, rm__13, rm__14, rm__15, rm__16, rm__17, rm__18, rm__19, rm__20, rm__21, rm__22, rm__23, rm__24, rm__25, rm__26, rm__27, rm__28, rm__29, rm__30, rm__31, rm__32, rm__33, rm__34, rm__35, rm__36, rm__37, rm__38, rm__39, rm__40, rm__41, rm__42, rm__43, rm__44, rm__45, un_X5_in, un_X5_isLetter, un_X5_hall, un_X5_cells, un_X5_place, un_X5_down, un_X5_steps, un_X5_downLong, un_X5_size, c0, c1, z2', rw', ru', rw1, ru1]
  try simp only [iteP, Classical.not_not, b1_0, b1_1]
  clear hF
  refine br_n (fun z => by have g := h M hR; rw [if_neg (fun y => z y.1)] at g; exact g) (fun z1 => br_n (fun z => by have g := h M hR; rw [if_neg (fun y => z y.2.1)] at g; exact g) (fun z2 => br_n (fun z => by have g := h M hR; rw [if_neg (fun y => z y.2.2)] at g; exact g) (fun z3 => ?_)))
  rw [if_pos ⟨z1, z2, z3⟩] at h
  refine sw_n (fun y => by have g := h M hR; rw [if_pos (Or.inl y)] at g; exact g) (fun y => sw_n (fun y1 => by have g := h M hR; rw [if_pos (Or.inr y1)] at g; exact g) (fun y1 => ?_))
  rw [if_neg (by omega)] at h
  obtain ⟨n, en, hn', bn⟩ := a_of (show 0 ≤ ni.toInt by omega)
  obtain ⟨l, el, hl', bl⟩ := a_of z2.1
  have nn' : nat ni = n := by unfold nat; rw [en, a_cl bn]
  have nl' : nat li = l := by unfold nat; rw [el, a_cl bl]
  rw [nn', nl'] at h
  obtain ⟨W, hW⟩ : ∃ W, w = 2 * W := ⟨w / 2, by omega⟩
  obtain ⟨U, hU⟩ : ∃ U, u = 2 * U := ⟨u / 2, by omega⟩
  rw [show w / 2 = W by omega, show u / 2 = U by omega] at h
  have hWU : W * U ≤ 9 := Nat.mul_le_mul (show W ≤ 3 by omega) (show U ≤ 3 by omega)
  have hsW : Sh W U eg 0 0 := ⟨by omega, by omega, by omega, by omega, e3, Nat.mul_pos (by omega) (by omega), by omega⟩
  have t1 : nI w / 2 = nI W := by rw [show (2 : Int32) = nI 2 from rfl, pk_div (by omega) (by omega) (by omega)]; congr 1; omega
  have t2 : nI u / 2 = nI U := by rw [show (2 : Int32) = nI 2 from rfl, pk_div (by omega) (by omega) (by omega)]; congr 1; omega
  rw [en, el]
  refine ⟨w, u, eg, ns, sNo, (sp x).1, (sp x).2, ⟨Or.inl rfl, ?_⟩, fun M1 p1 p2 p3 p4 p5 => ?_⟩
  · have q := hR.pre hJ h1 h2 h3 h6 hs n12 (set := 0) (S := sNo) (fun i hi => ⟨fun z => (by cases z), fun z => absurd z (no_b ⟨i, by omega⟩)⟩)
    rw [c0, c1] at q
    exact q
  have hR1 := hR.behind (Or.inl rfl) p1 p2 p4
  have hv1 := hR.val h1 h2 h3 h6 (by omega) (by omega) (by omega) (by omega) p3
  have VF1 : ∀ s c l, s ≤ 12 → c < w * u → l < 4 → M1 22 (144 * s + 4 * c + l) = hv x sNo s c l := fun s c l y1 y2 y3 => (hv1 s c l y1 y2 y3).1
  have d0 := hR1.1.1.trans h1
  have d1 := hR1.1.2.1.trans h2
  refine cyA hJ hV n1 n2 (by omega) hW hU w6 u6 d0 d1 (fun c l y1 y2 => by have := VF1 0 c l (by omega) y1 y2; rw [show 144 * 0 + 4 * c + l = 4 * c + l by omega] at this; exact this) (fun M2 o5 o6 o7 f1 f2 => ?_) (w * u) 0 M1 none none none rfl (fun _ _ => rfl) (fun k' l y1 _ _ => by omega)
  have g0 : M2 0 = M1 0 := f1 0 (by decide)
  have b0 : M2 0 0 = nI w := by rw [g0]; exact d0
  have b1' : M2 0 1 = nI u := by rw [g0]; exact d1
  obtain ⟨⟨k0', k1', k2, k3, k5, k19, k24, k25, k30⟩, ⟨a1, a2, a12, a13, a14, a15, a16, a17, a18, a19, a20⟩, r3, r4, r5⟩ := id hR1
  refine ma_walk (mo_X5_coarse ms_X5_in ms_X5_isLetter ms_X5_hall ms_X5_cells ms_X5_place ms_X5_down ms_X5_steps ms_X5_downLong ms_X5_size) hV [235, 270] (fun F hF => ?_)
  simp only [tb_X5_coarse, hF, in_no, in_push, in_ild, in_lld, in_ald, in_ist, in_ast, in_lst, in_inc, in_iii, in_idv, in_ldv, in_lll, in_lli, in_lil, in_ii, in_il, in_li, in_ll, in_dup, in_dp2, q_if1, q_if2, in_go, in_sw, ma_sw, in_rv, in_ri, in_rz, in_rl, in_get, in_put, in_puz, in_iar, in_bar, in_lar, in_aar, in_iaw, in_baw, in_law, in_len, in_cpy, in_s1, in_s2, in_s3, in_v1, in_v2, in_v3, in_v4, in_v5, in_v6, ma_bk, ma_gl, ma_sl, ma_nl, ma_wc, ma_wd, ma_nn, ma_en, List.mem_cons, List.not_mem_nil, or_false, or_true, true_or, false_or, true_and, and_true, false_and, and_false, if_true, if_false, forall_const, true_implies, false_implies, not_true_eq_false, not_false_eq_true, Classical.not_not, implies_true, and_self, Nat.add_zero, Nat.zero_add, eq_self, ne_eq, reduceCtorEq, Nat.reduceLT, Nat.reduceLeDiff, Nat.reduceEqDiff, Nat.reduceSub, Nat.reduceAdd, i10, i01, im10, Int32.reduceLT, Int32.reduceLE, ↓reduceIte, reduceIte, up_r, uL_r, cp_r, Int32.toInt_toInt64, Int64.reduceToInt, Int32.reduceToInt, ↓b1_or, b1_0, b1_1, lc_lt, lc_le, lc_gt, lc_ge, lc_eq, ym_0, ym_1, ym_2, ym_3, ym_4, ym_5, ym_6, ym_7, ym_8, ym_9, ym_10, ym_11, ym_12, ym_13, ym_14, ym_15, ym_16, ym_17, ym_18, ym_19, ym_20, ym_21, ym_22, ym_23, ym_24, ym_25, ym_26, ym_27, ym_28, ym_29, ym_30, rm__0, rm__1, rm__2, rm__3, rm__4, rm__5, rm__6, rm__7, rm__8, rm__9, rm__10, rm__11, rm__12, rm__13, rm__14, rm__15, rm__16, rm__17, rm__18, rm__19, rm__20, rm__21, rm__22, rm__23, rm__24, rm__25, rm__26, rm__27, rm__28, rm__29, rm__30, rm__31, rm__32, rm__33, rm__34, rm__35, rm__36, rm__37, rm__38, rm__39, rm__40, rm__41, rm__42, rm__43, rm__44, rm__45, un_X5_in, un_X5_isLetter, un_X5_hall, un_X5_cells, un_X5_place, un_X5_down, un_X5_steps, un_X5_downLong, un_X5_size, b0, b1', t1, t2, z2']
  try simp only [iteP, Classical.not_not, b1_0, b1_1]
  have mc : ∀ a, a ≠ 0 → ma_up (ma_up M2 0 35 (nI W)) 0 36 (nI U) a = M2 a := fun a ha => (up_c ha).trans (up_c ha)
  have mf : ∀ a, a ≠ 0 → a ≠ 23 → ma_up (ma_up M2 0 35 (nI W)) 0 36 (nI U) a = M1 a := fun a ha hb => (mc a ha).trans (f1 a hb)
  refine ⟨W, U, eg, ns, sNo, (sp x).1, (sp x).2, cr0 x, fun c l => M2 24 (4 * c + l), ⟨Or.inr rfl, rfl, rfl, by rw [g0]; exact k2.trans h3, hsW, by rw [g0]; exact k19.trans h6, n12, fun i hi => ⟨fun z => (by cases z), fun z => absurd z (no_b ⟨i, by omega⟩)⟩, fun i hi => by rw [f1 16 (by decide), a16]; exact hJ.2.1.2.2.1 i (by omega), r3.to (by rw [up_r, if_neg (by omega), up_r, if_neg (by omega), g0]) (fun a y1 y2 => mf a (by omega) (by omega)), hJ.2.2.1.1, hJ.2.2.1.2, by unfold B24; rw [mf 24 (by decide) (by decide)]; exact r4, fun c l y1 y2 => ⟨f2 c l y1 y2, rfl, (cr0_d hJ n1 n2 (by omega) hW hU w6 u6 y1 y2).2⟩⟩, fun M4 p6 p7 p8 => ?_⟩
  have e1 : ∀ a, a ≠ 0 → a ≠ 23 → a ≠ 24 → M4 a = M1 a := fun a y1 y2 y3 => (p6 a y2 y3).trans (mf a y1 y2)
  have e2 : ∀ j, j ≠ 35 → j ≠ 36 → M4 0 j = M1 0 j := fun j y1 y2 => by
    rw [p6 0 (by decide) (by decide), up_r, if_neg (fun z => y2 z.2), up_r, if_neg (fun z => y1 z.2), g0]
  have hR4 := hR1.behind (Or.inr rfl) e1 e2 p8
  have m35 : M4 0 35 = nI W := by rw [p6 0 (by decide) (by decide), up_r, if_neg (by omega), up_r, if_pos ⟨rfl, rfl⟩]
  have m36 : M4 0 36 = nI U := by rw [p6 0 (by decide) (by decide), up_r, if_pos ⟨rfl, rfl⟩]
  have ez : zY (ma_up (ma_up M2 0 35 (nI W)) 0 36 (nI U)) sNo ns = zY (sN x) sNo ns := by
    unfold zY; rw [mf 13 (by decide) (by decide), mf 14 (by decide) (by decide), mf 15 (by decide) (by decide), mf 16 (by decide) (by decide), a13, a14, a15, a16]
  refine cyB hJ hV n1 n2 (by omega) hW hU w6 u6 (by omega) (by omega) (hR4.1.1.trans h1) m35 m36 (fun s c l y1 y2 y3 => by rw [e1 22 (by decide) (by decide) (by decide)]; exact VF1 s c l y1 y2 y3) (fun c l y1 y2 => ?_) (W * U) 0 0 _ _ _ _ _ rfl (h M4 hR4)
  rw [(p7 n c l (by omega) y1 y2).1, ez, mf 1 (by decide) (by decide), a1]
  unfold cvl
  rw [n1, n2, n3, n6, show w / 2 = W by omega, show u / 2 = U by omega]
theorem pv_X5_coarse : ∀ as M L K, S_X5_coarse as M L K → ma_rn (tb_X5_coarse S_X5_in S_X5_isLetter S_X5_hall S_X5_cells S_X5_place S_X5_down S_X5_steps S_X5_downLong S_X5_size) 12 as M L K := by
  intro as M L K h
  unfold S_X5_coarse at h
  split at h
  · obtain ⟨x, h⟩ := h; exact pw_X5_coarse h.1 h.2
  · exact h.elim
