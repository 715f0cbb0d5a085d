/-! the whole text: the component's reader -/
set_option maxRecDepth 100000
set_option maxHeartbeats 4000000
theorem trs_le {g : Nat → Nat} {n : Nat} (h7 : ∀ i, n ≤ i → g i = 0) {ds : List Nat} : ∀ (f q : Nat) (ts : List Tm) (r : Nat) (ts' : List Tm), q ≤ n → 2 * ts.length + 1 ≤ q → trs g ds f q ts = .ok (r, ts') → q ≤ r ∧ r ≤ n ∧ 2 * ts'.length + 1 ≤ r ∧ ts.length ≤ ts'.length
  | 0, q, ts, r, ts', h1, h2, h => by cases h; omega
  | f + 1, q, ts, r, ts', h1, h2, h => by
    rw [trs] at h
    split at h
    · next c =>
      split at h
      · cases h
      · next q2 tm e =>
        have h3 := tr_le h7 h1 e
        have h4 := h3.2.2 c
        have h5 := trs_le h7 f q2 (ts ++ [tm]) r ts' h3.2.1 (by rw [len_1]; omega) h
        rw [len_1] at h5; omega
    · cases h; omega
theorem ln3_le {g : Nat → Nat} {n : Nat} (h7 : ∀ i, n ≤ i → g i = 0) {q b r b2 nr : Nat} (h : ln3 g q b = .ok (r, b2, nr)) : q < r ∧ r ≤ n ∧ b2 = b ∧ nr ≤ 1 := by
  have pos : ∀ i, g i ≠ 0 → i < n := fun i hi => Nat.lt_of_not_le fun e => hi (h7 i e)
  unfold ln3 at h
  split at h
  · split at h
    · next c => have := pos (q + 1) (by omega); cases h; omega
    · cases h
  · split at h
    · next c => have := pos q (by omega); cases h; omega
    · cases h
theorem ln2_le {g : Nat → Nat} {n : Nat} (h7 : ∀ i, n ≤ i → g i = 0) {q r b nr : Nat} (h : ln2 g q = .ok (r, b, nr)) : q < r ∧ r ≤ n ∧ b ≤ 1000 ∧ nr ≤ 1 := by
  have pos : ∀ i, g i ≠ 0 → i < n := fun i hi => Nat.lt_of_not_le fun e => hi (h7 i e)
  unfold ln2 at h
  split at h
  · next c0 =>
    split at h
    · next c =>
      have h1 := pos q (by omega)
      have h2 := nu_le h7 200 (q + 1) 0 h1
      have h3 := ln3_le h7 h
      omega
    · cases h
  · have h3 := ln3_le h7 h
    omega
theorem ln_le {g : Nat → Nat} {n : Nat} (h7 : ∀ i, n ≤ i → g i = 0) {ds : List Nat} {ts ts' : List Tm} {p q : Nat} {r : Ln} (h2 : 2 * ts.length ≤ p) (h : ln g ds ts p = .ok (q, ts', r)) : p < q ∧ q ≤ n ∧ 2 * ts'.length ≤ q ∧ r.1 < 4 ∧ ¬ r.1 ∈ ds ∧ r.2.1 = ts.length ∧ r.2.2.1 = ts'.length - ts.length ∧ ts.length ≤ ts'.length ∧ r.2.2.2.1 ≤ 1000 ∧ r.2.2.2.2 ≤ 1 := by
  have pos : ∀ i, g i ≠ 0 → i < n := fun i hi => Nat.lt_of_not_le fun e => hi (h7 i e)
  unfold ln at h
  split at h
  · next c =>
    split at h
    · next c1 =>
      have := pos (p + 1) (by omega)
      unfold ln1 at h
      split at h
      · cases h
      · next q2 tm e =>
        have h3 := tr_le h7 (by omega) e
        generalize e2 : trs g ds 200 q2 (ts ++ [tm]) = x at h
        match x, e2, h with
        | .error _, _, h => cases h
        | .ok (q3, ts3), e2, h =>
          have h4 := trs_le h7 200 q2 _ q3 ts3 h3.2.1 (by rw [len_1]; omega) e2
          rw [len_1] at h4
          unfold lnD at h
          dsimp only at h
          cases e3 : ln2 g q3 with
          | error e => rw [e3] at h; cases h
          | ok y =>
            obtain ⟨q4, b, nr⟩ := y
            have h5 := ln2_le h7 e3
            rw [e3] at h
            cases h
            exact ⟨by omega, by omega, by show 2 * ts3.length ≤ q; omega, by show g p - 97 < 4; omega, c.2, rfl, rfl, by show ts.length ≤ ts3.length; omega, h5.2.2.1, h5.2.2.2⟩
    · cases h
  · cases h
/-- a text g of n bytes, in the component -/
def Tt (M : ZM) (g : Nat → Nat) (n : Nat) : Prop := M 0 0 = nI n ∧ n ≤ 160 ∧ (∀ i, i < n → M 1 i = sb (g i)) ∧ (∀ i, g i < 256) ∧ (∀ i, n ≤ i → g i = 0)
def rd (g : Nat → Nat) (n : Nat) : Except Nat (List Tm × List Ln) := alr g n 200 0 [] []
def S_X1_reads : ma_Cs := fun as M L K => match as with
  | [.ref k] => ∃ (g : Nat → Nat) (n : Nat), (k = 2 ∧ Tt M g n ∧ BF (M 7)) ∧ (∀ (M' : ZM) (ts : List Tm) (ls : List Ln), rd g n = .ok (ts, ls) → Df M M' → PX M' 3 ts ls → BF (M' 7) → K (some (.int (-4))) M' L) ∧ (∀ (M' : ZM) (e : Nat), rd g n = .error e → Df M M' → BF (M' 7) → K (some (.int (nI e))) M' L)
  | _ => False
theorem ms_X1_reads : ma_ms S_X1_reads := by
  intro as M L K K' hk h
  unfold S_X1_reads at h ⊢
  split at h
  · obtain ⟨g, n, h⟩ := h
    exact ⟨g, n, h.1, fun x0 x1 x2 x3 x4 x5 x6 => hk _ _ _ (h.2.1 x0 x1 x2 x3 x4 x5 x6), fun x0 x1 x2 x3 x4 => hk _ _ _ (h.2.2 x0 x1 x2 x3 x4)⟩
  · exact h.elim
theorem un_X1_reads {k : Nat} {M : ZM} {L : ZL} {K : ma_Kt} : S_X1_reads [.ref k] M L K = (∃ (g : Nat → Nat) (n : Nat), (k = 2 ∧ Tt M g n ∧ BF (M 7)) ∧ (∀ (M' : ZM) (ts : List Tm) (ls : List Ln), rd g n = .ok (ts, ls) → Df M M' → PX M' 3 ts ls → BF (M' 7) → K (some (.int (-4))) M' L) ∧ (∀ (M' : ZM) (e : Nat), rd g n = .error e → Df M M' → BF (M' 7) → K (some (.int (nI e))) M' L)) := rfl
theorem pw_X1_reads {k : Nat} {g : Nat → Nat} {n : Nat} {M : ZM} {L : ZL} {K : ma_Kt} (hp : k = 2 ∧ Tt M g n ∧ BF (M 7)) (h : (∀ (M' : ZM) (ts : List Tm) (ls : List Ln), rd g n = .ok (ts, ls) → Df M M' → PX M' 3 ts ls → BF (M' 7) → K (some (.int (-4))) M' L) ∧ (∀ (M' : ZM) (e : Nat), rd g n = .error e → Df M M' → BF (M' 7) → K (some (.int (nI e))) M' L)) : ma_rn (tb_X1_reads S_X1_line) 1 [.ref k] M L K := by
  refine ⟨Nat.le_of_ble_eq_true rfl, fun V hV => ?_⟩
  obtain ⟨rfl, ⟨k1, k4, k5, k6, k7⟩, h3⟩ := hp
  have lp : ∀ (m : Nat) (M1 : ZM) (q f : Nat) (ts : List Tm) (ls : List Ln), n - q = m → 161 ≤ f + q → Df M M1 → Rd M1 g n q → PX M1 3 ts ls → BF (M1 7) → (ls.map (·.1)).Nodup → (∀ x, x ∈ ls.map (·.1) → x < 4) → 2 * ts.length ≤ q → (∀ i, i + 1 = ls.length → (ls.getD i (0, 0, 0, 0, 0)).2.1 + (ls.getD i (0, 0, 0, 0, 0)).2.2.1 = ts.length) → rd g n = alr g n f q ts ls →
      V 27 [some (.ref 2)] [] M1 L := by
    intro m
    induction m using Nat.strongRecOn with
    | ind m ih =>
      intro M1 q f ts ls e0 ef e1 e2 e3 e4 e5 e6 e7 e8 e9
      obtain ⟨f, rfl⟩ : ∃ f', f = f' + 1 := ⟨f - 1, by have := e2.2.2.1; omega⟩
      have e10 := e2.2.2.1
      rw [alr] at e9
      refine ma_walk (mo_X1_reads ms_X1_line) hV [27] (fun F hF => ?_)
      simp only [tb_X1_reads, hF, in_no, in_push, in_ild, in_lld, in_ald, in_ist, in_ast, in_lst, in_inc, in_iii, in_idv, in_ldv, in_lll, in_lli, in_lil, in_ii, in_il, in_li, in_ll, in_dup, in_dp2, q_if1, q_if2, in_go, in_sw, ma_sw, in_rv, in_ri, in_rz, in_rl, in_get, in_put, in_puz, in_iar, in_bar, in_lar, in_aar, in_iaw, in_baw, in_law, in_len, in_cpy, in_s1, in_s2, in_s3, in_v1, in_v2, in_v3, in_v4, in_v5, in_v6, ma_bk, ma_gl, ma_sl, ma_nl, ma_wc, ma_wd, ma_nn, ma_en, List.mem_cons, List.not_mem_nil, or_false, or_true, true_or, false_or, true_and, and_true, false_and, and_false, if_true, if_false, forall_const, true_implies, false_implies, not_true_eq_false, not_false_eq_true, Classical.not_not, implies_true, and_self, Nat.add_zero, Nat.zero_add, eq_self, ne_eq, reduceCtorEq, Nat.reduceLT, Nat.reduceLeDiff, Nat.reduceEqDiff, Nat.reduceSub, Nat.reduceAdd, i10, i01, im10, Int32.reduceLT, Int32.reduceLE, ↓reduceIte, reduceIte, up_r, uL_r, cp_r, Int32.toInt_toInt64, Int64.reduceToInt, Int32.reduceToInt, ↓b1_or, b1_0, b1_1, lc_lt, lc_le, lc_gt, lc_ge, lc_eq, yx_0, yx_1, yx_2, yx_3, yx_4, yx_5, yx_6, yx_7, yx_8, yx_9, yx_10, yx_11, yx_12, yx_13, yx_14, yx_15, yx_16, yx_17, yx_18, yx_19, yx_20, yx_21, yx_22, yx_23, yx_24, yx_25, yx_26, yx_27, yx_28, yx_29, yx_30, yx_31, yx_32, yx_33, yx_34, yx_35, yx_36, yx_37, yx_38, yx_39, yx_40, yx_41, yx_42, yx_43, yx_44, yx_45, yx_46, yx_47, yx_48, yx_49, yx_50, yx_51, yx_52, yx_53, yx_54, yx_55, yx_56, yx_57, yx_58, yx_59, yx_60, yx_61, yx_62, yx_63, yx_64, yx_65, yx_66, yx_67, yx_68, rx_0, rx_1, rx_2, rx_3, rx_4, rx_5, rx_6, rx_7, rx_8, rx_9, rx_10, rx_11, rx_12, rx_13, rx_14, rx_15, rx_16, rx_17, rx_18, rx_19, rx_20, rx_21, rx_22, rx_23, rx_24, rx_25, rx_26, rx_27, rx_28, rx_29, rx_30, rx_31, rx_32, rx_33, rp_0, rp_1, rp_2, rp_3, rp_4, rp_5, rp_6, rp_7, rp_8, rs_0, rs_1, rs_2, rs_3, rs_4, re_0, re_1, re_2, re_3, re_4, re_5, rr_0, rr_1, rr_2, rr_3, rr_4, rk_0, rk_1, isP3, isP11, isP46, isP58, isS25, isS28, isS31, un_X1_line, e2.1, e2.2.1]
      try simp only [iteP, Classical.not_not]
      rw [a_le (by omega) (by omega)]
      refine ⟨fun c => ?_, fun c => ?_⟩
      · rw [if_neg (by omega)] at e9
        exact h.1 M1 ts ls e9 e1 e3 e4
      · rw [if_pos (by omega)] at e9
        refine ⟨g, n, q, ts, ls, ⟨e2, e3, e4, e5, e6, e7, e8⟩, fun M2 r ts2 rr ea eb ec ed => ?_, fun M2 e ea eb ec ed => ?_⟩
        · rw [ea] at e9
          have hr := ln_le k7 e7 ea
          refine ih (n - r) (by omega) M2 r f ts2 (ls ++ [rr]) rfl (by omega) (fun a ha => (eb a ha).trans (e1 a ha)) (e2.to (by rw [eb 0 (by omega)]) (eb 1 (by omega)) ec.1 hr.2.1) ec.2 ed ?_ ?_ hr.2.2.1 ?_ e9
          · rw [List.map_append]
            refine List.nodup_append.2 ⟨e5, List.nodup_cons.2 ⟨List.not_mem_nil, List.nodup_nil⟩, ?_⟩
            intro a ha b hb
            rcases List.mem_cons.1 hb with z | z
            · rw [z]; exact fun y => hr.2.2.2.2.1 (by rw [show rr.1 = a from y.symm]; exact ha)
            · exact absurd z List.not_mem_nil
          · intro x hx
            rw [List.map_append] at hx
            rcases List.mem_append.1 hx with z | z
            · exact e6 x z
            · rcases List.mem_cons.1 z with y | y
              · rw [y]; exact hr.2.2.2.1
              · exact absurd y List.not_mem_nil
          · intro i hi
            rw [len_1] at hi
            have : i = ls.length := by omega
            rw [this, gd_2]; omega
        · rw [ea] at e9
          have := h.2 M2 e e9 (fun a ha => (eb a ha).trans (e1 a ha)) ed
          rw [ec]; exact this
  refine ma_walk (mo_X1_reads ms_X1_line) hV [27] (fun F hF => ?_)
  simp only [tb_X1_reads, hF, in_no, in_push, in_ild, in_lld, in_ald, in_ist, in_ast, in_lst, in_inc, in_iii, in_idv, in_ldv, in_lll, in_lli, in_lil, in_ii, in_il, in_li, in_ll, in_dup, in_dp2, q_if1, q_if2, in_go, in_sw, ma_sw, in_rv, in_ri, in_rz, in_rl, in_get, in_put, in_puz, in_iar, in_bar, in_lar, in_aar, in_iaw, in_baw, in_law, in_len, in_cpy, in_s1, in_s2, in_s3, in_v1, in_v2, in_v3, in_v4, in_v5, in_v6, ma_bk, ma_gl, ma_sl, ma_nl, ma_wc, ma_wd, ma_nn, ma_en, List.mem_cons, List.not_mem_nil, or_false, or_true, true_or, false_or, true_and, and_true, false_and, and_false, if_true, if_false, forall_const, true_implies, false_implies, not_true_eq_false, not_false_eq_true, Classical.not_not, implies_true, and_self, Nat.add_zero, Nat.zero_add, eq_self, ne_eq, reduceCtorEq, Nat.reduceLT, Nat.reduceLeDiff, Nat.reduceEqDiff, Nat.reduceSub, Nat.reduceAdd, i10, i01, im10, Int32.reduceLT, Int32.reduceLE, ↓reduceIte, reduceIte, up_r, uL_r, cp_r, Int32.toInt_toInt64, Int64.reduceToInt, Int32.reduceToInt, ↓b1_or, b1_0, b1_1, lc_lt, lc_le, lc_gt, lc_ge, lc_eq, yx_0, yx_1, yx_2, yx_3, yx_4, yx_5, yx_6, yx_7, yx_8, yx_9, yx_10, yx_11, yx_12, yx_13, yx_14, yx_15, yx_16, yx_17, yx_18, yx_19, yx_20, yx_21, yx_22, yx_23, yx_24, yx_25, yx_26, yx_27, yx_28, yx_29, yx_30, yx_31, yx_32, yx_33, yx_34, yx_35, yx_36, yx_37, yx_38, yx_39, yx_40, yx_41, yx_42, yx_43, yx_44, yx_45, yx_46, yx_47, yx_48, yx_49, yx_50, yx_51, yx_52, yx_53, yx_54, yx_55, yx_56, yx_57, yx_58, yx_59, yx_60, yx_61, yx_62, yx_63, yx_64, yx_65, yx_66, yx_67, yx_68, rx_0, rx_1, rx_2, rx_3, rx_4, rx_5, rx_6, rx_7, rx_8, rx_9, rx_10, rx_11, rx_12, rx_13, rx_14, rx_15, rx_16, rx_17, rx_18, rx_19, rx_20, rx_21, rx_22, rx_23, rx_24, rx_25, rx_26, rx_27, rx_28, rx_29, rx_30, rx_31, rx_32, rx_33, rp_0, rp_1, rp_2, rp_3, rp_4, rp_5, rp_6, rp_7, rp_8, rs_0, rs_1, rs_2, rs_3, rs_4, re_0, re_1, re_2, re_3, re_4, re_5, rr_0, rr_1, rr_2, rr_3, rr_4, rk_0, rk_1, isP3, isP11, isP46, isP58, isS25, isS28, isS31, un_X1_line]
  try simp only [iteP, Classical.not_not]
  refine lp n _ 0 200 [] [] rfl (by omega) (fun a ha => ?_) ⟨k1, rfl, Nat.zero_le n, k4, k5, k6, k7⟩ ⟨rfl, rfl, fun i hi => absurd hi (Nat.not_lt_zero i), fun i hi => absurd hi (Nat.not_lt_zero i)⟩ h3 List.nodup_nil (fun x hx => absurd hx List.not_mem_nil) (Nat.le_refl 0) (fun i hi => absurd hi (Nat.succ_ne_zero i)) rfl
  rw [up_c (by omega), up_c (by omega), up_c (by omega)]
theorem pv_X1_reads : ∀ as M L K, S_X1_reads as M L K → ma_rn (tb_X1_reads S_X1_line) 1 as M L K := by
  intro as M L K h
  unfold S_X1_reads at h
  split at h
  · obtain ⟨g, n, h⟩ := h; exact pw_X1_reads h.1 h.2
  · exact h.elim
