/-! the abstract state (in the model's cells; plans as lists), and how each side holds it -/
set_option maxRecDepth 100000
set_option maxHeartbeats 4000000
abbrev Plan : Type := List Tm × List Ln
abbrev St : Type := ZM × ZL × Plan × (Nat → Plan)
def sN (x : St) : ZM := x.1
def sP (x : St) : ZL := x.2.1
def sp (x : St) : Plan := x.2.2.1
def sk (x : St) : Nat → Plan := x.2.2.2
/-- bounds: numbers, arrays, kept ones -/
def Jn (N : ZM) : Prop := ∃ w u e wk n ns a b km : Nat, N 0 0 = nI w ∧ N 0 1 = nI u ∧ N 0 2 = nI e ∧ N 0 3 = nI wk ∧ N 0 5 = nI n ∧ N 0 19 = nI ns ∧ N 0 24 = nI a ∧ N 0 25 = nI b ∧ N 0 30 = nI km ∧ 2 ≤ w ∧ w ≤ 6 ∧ 2 ≤ u ∧ u ≤ 6 ∧ e < 3 ∧ wk ≤ 9 ∧ n ≤ 160 ∧ ns ≤ 12 ∧ a ≤ 12 ∧ b < 4 ∧ km ≤ 2
def Am (f : Nat → Int32) : Prop := ∀ i, i < 12 → -1000000 ≤ (f i).toInt ∧ (f i).toInt ≤ 1000000
def Ja (N : ZM) : Prop := (∀ i, ∃ b : Nat, b < 256 ∧ N 2 i = nI b) ∧ Fb (N 1) (N 12) ∧ Am (N 16) ∧ (∀ p, p < 6 → ∃ v : Nat, 1 ≤ v ∧ v ≤ 20 ∧ N 19 p = nI v) ∧ ∀ c, c < 36 → ∃ v : Nat, v < 6 ∧ N 20 c = nI v
def Jp (p : Plan) : Prop := Vq p.1 p.2 ∧ Vf p.1
def Jk (N : ZM) (kp : Nat → Plan) : Prop := ∀ k, k < 2 → Jp (kp k) ∧ (∃ e n : Nat, N 21 (700 * k + 1) = nI e ∧ e < 3 ∧ N 21 (700 * k + 2) = nI n ∧ n ≤ 12) ∧ Fb (fun l => N 21 (700 * k + 3 + l)) (fun c => N 21 (700 * k + 271 + c)) ∧ Am (fun i => N 21 (700 * k + 451 + i))
def J (x : St) : Prop := Jn (sN x) ∧ Ja (sN x) ∧ Jp (sp x) ∧ Jk (sN x) (sk x)
/-- all slips, or none; all but one -/
def sAll : Nat → Bool := fun _ => true
def sNo : Nat → Bool := fun _ => false
def sBut (i : Nat) : Nat → Bool := fun j => decide (j ≠ i)
/-- numbers and marks of the abstract state's hall -/
def nat (x : Int32) : Nat := x.toNatClampNeg
def hv (x : St) (S : Nat → Bool) : Nat → Nat → Nat → Int32 := val (sN x 1) (nat (sN x 0 0)) (nat (sN x 0 1)) (nat (sN x 0 2)) (sp x).1 (sp x).2 (zY (sN x) S (nat (sN x 0 19))) (f0v (sN x 1) (sN x 12) (nat (sN x 0 0)) (nat (sN x 0 1)) (nat (sN x 0 2)))
noncomputable def hk (x : St) : Nat → Nat → Nat → Int32 := vak (nat (sN x 0 0)) (nat (sN x 0 1)) (nat (sN x 0 2)) (sp x).1 (sp x).2 (f0k (sN x 12))
/-- the component's -/
def Xs (M N : ZM) : Prop := M 0 0 = N 0 5 ∧ M 0 5 = N 0 0 ∧ M 0 6 = N 0 1 ∧ M 0 7 = N 0 2 ∧ M 0 10 = N 0 19 ∧ M 0 19 = N 0 24 ∧ M 0 20 = N 0 25 ∧ M 0 25 = N 0 3 ∧ M 0 33 = N 0 30
def Xa (M : ZM) (L : ZL) (N : ZM) (P : ZL) : Prop := M 19 = N 1 ∧ (∀ i, M 1 i = sb (nat (N 2 i))) ∧ M 20 = N 12 ∧ M 21 = N 13 ∧ M 22 = N 14 ∧ M 23 = N 15 ∧ M 24 = N 16 ∧ L 34 = P 17 ∧ M 37 = N 18 ∧ M 38 = N 19 ∧ M 39 = N 20
def Xk1 (M N : ZM) (k : Nat) (p : Plan) : Prop := PX M (46 + 12 * k) p.1 p.2 ∧ BF (M (50 + 12 * k)) ∧ M (45 + 12 * k) 2 = N 21 (700 * k + 2) ∧ M (45 + 12 * k) 4 = N 21 (700 * k + 1) ∧ (∀ l, l < 4 → M (56 + 12 * k) l = N 21 (700 * k + 3 + l)) ∧ (∀ c, c < 144 → M (54 + 12 * k) c = N 21 (700 * k + 271 + c)) ∧ ∀ i, i < 48 → M (55 + 12 * k) i = N 21 (700 * k + 415 + i)
def Xk (M N : ZM) (p : Plan) (kp : Nat → Plan) : Prop := PX M 11 p.1 p.2 ∧ BF (M 7) ∧ BF (M 15) ∧ ∀ k, k < 2 → Xk1 M N k (kp k)
def Xh (M : ZM) (x : St) : Prop := M 25 0 = sN x 0 0 ∧ M 25 1 = sN x 0 1 ∧ M 28 0 = sN x 0 0 ∧ M 28 1 = sN x 0 1 ∧ ∀ s c l, s ≤ 12 → c < nat (sN x 0 0) * nat (sN x 0 1) → l < 4 → M 26 (144 * s + 4 * c + l) = hv x sNo s c l ∧ M 29 (144 * s + 4 * c + l) = hv x sAll s c l ∧ M 30 (144 * s + 4 * c + l) = hk x s c l
def RX (M : ZM) (L : ZL) (x : St) : Prop := Xs M (sN x) ∧ Xa M L (sN x) (sP x) ∧ Xk M (sN x) (sp x) (sk x) ∧ (M 0 15 = 0 ∨ (M 0 15 = 1 ∧ Xh M x))
/-- the model's -/
def Ys (M N : ZM) : Prop := M 0 0 = N 0 0 ∧ M 0 1 = N 0 1 ∧ M 0 2 = N 0 2 ∧ M 0 3 = N 0 3 ∧ M 0 5 = N 0 5 ∧ M 0 19 = N 0 19 ∧ M 0 24 = N 0 24 ∧ M 0 25 = N 0 25 ∧ M 0 30 = N 0 30
def Ya (M : ZM) (L : ZL) (N : ZM) (P : ZL) : Prop := M 1 = N 1 ∧ M 2 = N 2 ∧ M 12 = N 12 ∧ M 13 = N 13 ∧ M 14 = N 14 ∧ M 15 = N 15 ∧ M 16 = N 16 ∧ L 17 = P 17 ∧ M 18 = N 18 ∧ M 19 = N 19 ∧ M 20 = N 20
/-- a kept plan in the model: its numbers from place b of the kept ones on -/
def YK (f : Nat → Int32) (b : Nat) (p : Plan) : Prop := f b = nI p.2.length ∧ (∀ i, i < p.2.length → f (b + 7 + i) = nI (lnA p.2 i).1 ∧ f (b + 11 + (lnA p.2 i).1) = nI i ∧ f (b + 15 + (lnA p.2 i).1) = nI (lnA p.2 i).2.1 ∧ f (b + 19 + (lnA p.2 i).1) = nI (lnA p.2 i).2.2.1 ∧ f (b + 23 + (lnA p.2 i).1) = nI (lnA p.2 i).2.2.2.1 ∧ f (b + 27 + (lnA p.2 i).1) = nI (lnA p.2 i).2.2.2.2) ∧ (∀ l, l < 4 → ¬ l ∈ p.2.map (·.1) → f (b + 11 + l) = -4) ∧ ∀ t, t < p.1.length → f (b + 31 + t) = (p.1.getD t (0, 0, none)).1 ∧ f (b + 111 + t) = nI (p.1.getD t (0, 0, none)).2.1 ∧ f (b + 191 + t) = y2 (p.1.getD t (0, 0, none)).2.2
def Yk (M N : ZM) (kp : Nat → Plan) (km : Nat) : Prop := ∀ k, k < km → YK (M 21) (700 * k) (kp k) ∧ (∀ i, (1 ≤ i ∧ i < 7) ∨ (271 ≤ i ∧ i < 463) → M 21 (700 * k + i) = N 21 (700 * k + i))
def RY (M : ZM) (L : ZL) (x : St) : Prop := Ys M (sN x) ∧ Ya M L (sN x) (sP x) ∧ Pc M (sp x).1 (sp x).2 ∧ B24 M ∧ Yk M (sN x) (sk x) (nat (sN x 0 30))
/-! carrying them over -/
theorem PX.to {M M' : ZM} {p : Nat} {ts : List Tm} {ls : List Ln} (h : PX M p ts ls) (e : ∀ a, p ≤ a → a ≤ p + 7 → M' a = M a) : PX M' p ts ls := by
  unfold PX LE TE
  rw [e p (by omega) (by omega), e (p + 1) (by omega) (by omega), e (p + 2) (by omega) (by omega), e (p + 3) (by omega) (by omega), e (p + 4) (by omega) (by omega), e (p + 5) (by omega) (by omega), e (p + 6) (by omega) (by omega), e (p + 7) (by omega) (by omega)]
  exact h
theorem Xk1.to {M M' N N' : ZM} {k : Nat} {p : Plan} (h : Xk1 M N k p) (e : ∀ a, 45 + 12 * k ≤ a → a ≤ 56 + 12 * k → M' a = M a) (eN : N' 21 = N 21) : Xk1 M' N' k p := by
  obtain ⟨h1, h2, h3, h4, h5, h6, h7⟩ := h
  refine ⟨h1.to (fun a z1 z2 => e a (by omega) (by omega)), ?_, ?_, ?_, ?_, ?_, ?_⟩
  · rw [e _ (by omega) (by omega)]; exact h2
  · rw [e _ (by omega) (by omega), eN]; exact h3
  · rw [e _ (by omega) (by omega), eN]; exact h4
  · rw [e _ (by omega) (by omega), eN]; exact h5
  · rw [e _ (by omega) (by omega), eN]; exact h6
  · rw [e _ (by omega) (by omega), eN]; exact h7
theorem Xk.to {M M' N N' : ZM} {p : Plan} {kp : Nat → Plan} (h : Xk M N p kp) (e : ∀ a, a = 7 ∨ (11 ≤ a ∧ a ≤ 18) ∨ 45 ≤ a → M' a = M a) (eN : N' 21 = N 21) : Xk M' N' p kp := by
  obtain ⟨h1, h2, h3, h4⟩ := h
  refine ⟨h1.to (fun a z1 z2 => e a (by omega)), ?_, ?_, fun k hk => (h4 k hk).to (fun a z1 z2 => e a (by omega)) eN⟩
  · rw [e 7 (by omega)]; exact h2
  · rw [e 15 (by omega)]; exact h3
theorem Pc.to {M M' : ZM} {ts : List Tm} {ls : List Ln} (h : Pc M ts ls) (h0 : M' 0 7 = M 0 7) (e : ∀ a, 3 ≤ a → a ≤ 11 → M' a = M a) : Pc M' ts ls := by
  unfold Pc YL YT
  rw [h0, e 3 (by omega) (by omega), e 4 (by omega) (by omega), e 5 (by omega) (by omega), e 6 (by omega) (by omega), e 7 (by omega) (by omega), e 8 (by omega) (by omega), e 9 (by omega) (by omega), e 10 (by omega) (by omega), e 11 (by omega) (by omega)]
  exact h
theorem Yk.to {M M' N N' : ZM} {kp : Nat → Plan} {km : Nat} (h : Yk M N kp km) (e : M' 21 = M 21) (eN : N' 21 = N 21) : Yk M' N' kp km := by
  intro k hk
  rw [e, eN]; exact h k hk
theorem Fb.ur {r f : Nat → Int32} (h : Fb r f) {i : Nat} {v : Int32} (hv : -1000000 ≤ v.toInt ∧ v.toInt ≤ 1000000) : Fb (upd r i v) f := by
  refine ⟨fun l hl => ?_, h.2⟩
  by_cases e : l = i
  · rw [e, pk_us]; exact hv
  · rw [pk_un e]; exact h.1 l hl
theorem Fb.uf {r f : Nat → Int32} (h : Fb r f) {i : Nat} {v : Int32} (hv : v = 2000000 ∨ (-1000000 ≤ v.toInt ∧ v.toInt ≤ 1000000)) : Fb r (upd f i v) := by
  refine ⟨h.1, fun l hl => ?_⟩
  by_cases e : l = i
  · rw [e, pk_us]; exact hv
  · rw [pk_un e]; exact h.2 l hl
theorem Am.u {f : Nat → Int32} (h : Am f) {i : Nat} {v : Int32} (hv : -1000000 ≤ v.toInt ∧ v.toInt ≤ 1000000) : Am (upd f i v) := by
  intro l hl
  by_cases e : l = i
  · rw [e, pk_us]; exact hv
  · rw [pk_un e]; exact h l hl
/-! op: rim -/
def oRim (l v : Int32) (x : St) : Int32 × St := if (0 ≤ l.toInt ∧ l.toInt ≤ 3) ∧ (-1000000 ≤ v.toInt ∧ v.toInt ≤ 1000000) then (sN x 1 (nat l), (ma_up (sN x) 1 (nat l) v, sP x, sp x, sk x)) else (-2000000, x)
def S_X0_rim : ma_Cs := fun as M L K => match as with
  | [.ref k, .int l, .int v] => ∃ (x : St), (k = 0 ∧ J x ∧ RX M L x) ∧ (∀ (M' : ZM) (L' : ZL), RX M' L' (oRim l v x).2 → K (some (.int (oRim l v x).1)) M' L')
  | _ => False
theorem ms_X0_rim : ma_ms S_X0_rim := by
  intro as M L K K' hk h
  unfold S_X0_rim at h ⊢
  split at h
  · obtain ⟨x, h⟩ := h
    exact ⟨x, h.1, fun x0 x1 x2 => hk _ _ _ (h.2 x0 x1 x2)⟩
  · exact h.elim
theorem un_X0_rim {k : Nat} {l : Int32} {v : Int32} {M : ZM} {L : ZL} {K : ma_Kt} : S_X0_rim [.ref k, .int l, .int v] M L K = (∃ (x : St), (k = 0 ∧ J x ∧ RX M L x) ∧ (∀ (M' : ZM) (L' : ZL), RX M' L' (oRim l v x).2 → K (some (.int (oRim l v x).1)) M' L')) := rfl
theorem pw_X0_rim {k : Nat} {l : Int32} {v : Int32} {x : St} {M : ZM} {L : ZL} {K : ma_Kt} (hp : k = 0 ∧ J x ∧ RX M L x) (h : (∀ (M' : ZM) (L' : ZL), RX M' L' (oRim l v x).2 → K (some (.int (oRim l v x).1)) M' L')) : ma_rn (tb_X0_rim S_X0_isLetter S_X0_isIn) 4 [.ref k, .int l, .int v] M L K := by
  refine ⟨Nat.le_of_ble_eq_true rfl, fun V hV => ?_⟩
  obtain ⟨rfl, hJ, hR⟩ := hp
  obtain ⟨r1, r2, r3, r4⟩ := id hR
  unfold oRim at h
  refine ma_walk (mo_X0_rim ms_X0_isLetter ms_X0_isIn) hV [] (fun F hF => ?_)
  simp only [tb_X0_rim, hF, in_no, in_push, in_ild, in_lld, in_ald, in_ist, in_ast, in_lst, in_inc, in_iii, in_idv, in_ldv, in_lll, in_lli, in_lil, in_ii, in_il, in_li, in_ll, in_dup, in_dp2, q_if1, q_if2, in_go, in_sw, ma_sw, in_rv, in_ri, in_rz, in_rl, in_get, in_put, in_puz, in_iar, in_bar, in_lar, in_aar, in_iaw, in_baw, in_law, in_len, in_cpy, in_s1, in_s2, in_s3, in_v1, in_v2, in_v3, in_v4, in_v5, in_v6, ma_bk, ma_gl, ma_sl, ma_nl, ma_wc, ma_wd, ma_nn, ma_en, List.mem_cons, List.not_mem_nil, or_false, or_true, true_or, false_or, true_and, and_true, false_and, and_false, if_true, if_false, forall_const, true_implies, false_implies, not_true_eq_false, not_false_eq_true, Classical.not_not, implies_true, and_self, Nat.add_zero, Nat.zero_add, eq_self, ne_eq, reduceCtorEq, Nat.reduceLT, Nat.reduceLeDiff, Nat.reduceEqDiff, Nat.reduceSub, Nat.reduceAdd, i10, i01, im10, Int32.reduceLT, Int32.reduceLE, ↓reduceIte, reduceIte, up_r, uL_r, cp_r, Int32.toInt_toInt64, Int64.reduceToInt, Int32.reduceToInt, ↓b1_or, b1_0, b1_1, lc_lt, lc_le, lc_gt, lc_ge, lc_eq, yx_0, yx_1, yx_2, yx_3, yx_4, yx_5, yx_6, yx_7, yx_8, yx_9, yx_10, yx_11, yx_12, yx_13, yx_14, yx_15, yx_16, yx_17, yx_18, yx_19, yx_20, yx_21, yx_22, yx_23, yx_24, yx_25, yx_26, yx_27, yx_28, yx_29, yx_30, yx_31, yx_32, yx_33, yx_34, yx_35, yx_36, yx_37, yx_38, yx_39, yx_40, yx_41, yx_42, yx_43, yx_44, yx_45, yx_46, yx_47, yx_48, yx_49, yx_50, yx_51, yx_52, yx_53, yx_54, yx_55, yx_56, yx_57, yx_58, yx_59, yx_60, yx_61, yx_62, yx_63, yx_64, yx_65, yx_66, yx_67, yx_68, rx_0, rx_1, rx_2, rx_3, rx_4, rx_5, rx_6, rx_7, rx_8, rx_9, rx_10, rx_11, rx_12, rx_13, rx_14, rx_15, rx_16, rx_17, rx_18, rx_19, rx_20, rx_21, rx_22, rx_23, rx_24, rx_25, rx_26, rx_27, rx_28, rx_29, rx_30, rx_31, rx_32, rx_33, rp_0, rp_1, rp_2, rp_3, rp_4, rp_5, rp_6, rp_7, rp_8, rs_0, rs_1, rs_2, rs_3, rs_4, re_0, re_1, re_2, re_3, re_4, re_5, rr_0, rr_1, rr_2, rr_3, rr_4, rk_0, rk_1, isP3, isP11, isP46, isP58, isS25, isS28, isS31, un_X0_isLetter, un_X0_isIn]
  try simp only [iteP, Classical.not_not, b1_0, b1_1]
  refine ⟨fun z => ?_, fun z => ⟨fun z2 => ?_, fun z2 => ?_⟩⟩
  · rw [if_neg (fun q => z q.1)] at h; exact h M L hR
  · rw [if_neg (fun q => z2 q.2)] at h; exact h M L hR
  · rw [if_pos ⟨z, z2⟩] at h
    have hv : vp_in l 4 := vp_in_iff.2 (by omega)
    refine ⟨hv, hv, ?_⟩
    rw [r2.1]
    exact h _ L ⟨r1, ⟨by show ma_up (ma_up M 19 _ v) 0 15 0 19 = ma_up (sN x) 1 _ v 1; rw [up_c (by decide), ma_up_at, ma_up_at, r2.1]; rfl, r2.2⟩, r3.to (fun a ha => by rw [up_c (by omega), up_c (by omega)]) rfl, Or.inl rfl⟩
theorem pv_X0_rim : ∀ as M L K, S_X0_rim as M L K → ma_rn (tb_X0_rim S_X0_isLetter S_X0_isIn) 4 as M L K := by
  intro as M L K h
  unfold S_X0_rim at h
  split at h
  · obtain ⟨x, h⟩ := h; exact pw_X0_rim h.1 h.2
  · exact h.elim
theorem J_rim {l v : Int32} {x : St} (h : J x) : J (oRim l v x).2 := by
  unfold oRim
  split
  · next c =>
    obtain ⟨h1, ⟨a1, a2, a3, a4, a5⟩, h3, h4⟩ := h
    refine ⟨h1, ⟨a1, ?_, a3, a4, a5⟩, h3, h4⟩
    show Fb (ma_up (sN x) 1 (nat l) v 1) (sN x 12)
    rw [ma_up_at]; exact a2.ur c.2
  · exact h
def S_X5_rim : ma_Cs := fun as M L K => match as with
  | [.ref k, .int l, .int v] => ∃ (x : St), (k = 0 ∧ J x ∧ RY M L x) ∧ (∀ (M' : ZM) (L' : ZL), RY M' L' (oRim l v x).2 → K (some (.int (oRim l v x).1)) M' L')
  | _ => False
theorem ms_X5_rim : ma_ms S_X5_rim := by
  intro as M L K K' hk h
  unfold S_X5_rim at h ⊢
  split at h
  · obtain ⟨x, h⟩ := h
    exact ⟨x, h.1, fun x0 x1 x2 => hk _ _ _ (h.2 x0 x1 x2)⟩
  · exact h.elim
theorem un_X5_rim {k : Nat} {l : Int32} {v : Int32} {M : ZM} {L : ZL} {K : ma_Kt} : S_X5_rim [.ref k, .int l, .int v] M L K = (∃ (x : St), (k = 0 ∧ J x ∧ RY M L x) ∧ (∀ (M' : ZM) (L' : ZL), RY M' L' (oRim l v x).2 → K (some (.int (oRim l v x).1)) M' L')) := rfl
theorem pw_X5_rim {k : Nat} {l : Int32} {v : Int32} {x : St} {M : ZM} {L : ZL} {K : ma_Kt} (hp : k = 0 ∧ J x ∧ RY M L x) (h : (∀ (M' : ZM) (L' : ZL), RY M' L' (oRim l v x).2 → K (some (.int (oRim l v x).1)) M' L')) : ma_rn (tb_X5_rim S_X5_isLetter S_X5_in) 4 [.ref k, .int l, .int v] M L K := by
  refine ⟨Nat.le_of_ble_eq_true rfl, fun V hV => ?_⟩
  obtain ⟨rfl, hJ, hR⟩ := hp
  obtain ⟨r1, r2, r3, r4⟩ := id hR
  unfold oRim at h
  refine ma_walk (mo_X5_rim ms_X5_isLetter ms_X5_in) hV [] (fun F hF => ?_)
  simp only [tb_X5_rim, hF, in_no, in_push, in_ild, in_lld, in_ald, in_ist, in_ast, in_lst, in_inc, in_iii, in_idv, in_ldv, in_lll, in_lli, in_lil, in_ii, in_il, in_li, in_ll, in_dup, in_dp2, q_if1, q_if2, in_go, in_sw, ma_sw, in_rv, in_ri, in_rz, in_rl, in_get, in_put, in_puz, in_iar, in_bar, in_lar, in_aar, in_iaw, in_baw, in_law, in_len, in_cpy, in_s1, in_s2, in_s3, in_v1, in_v2, in_v3, in_v4, in_v5, in_v6, ma_bk, ma_gl, ma_sl, ma_nl, ma_wc, ma_wd, ma_nn, ma_en, List.mem_cons, List.not_mem_nil, or_false, or_true, true_or, false_or, true_and, and_true, false_and, and_false, if_true, if_false, forall_const, true_implies, false_implies, not_true_eq_false, not_false_eq_true, Classical.not_not, implies_true, and_self, Nat.add_zero, Nat.zero_add, eq_self, ne_eq, reduceCtorEq, Nat.reduceLT, Nat.reduceLeDiff, Nat.reduceEqDiff, Nat.reduceSub, Nat.reduceAdd, i10, i01, im10, Int32.reduceLT, Int32.reduceLE, ↓reduceIte, reduceIte, up_r, uL_r, cp_r, Int32.toInt_toInt64, Int64.reduceToInt, Int32.reduceToInt, ↓b1_or, b1_0, b1_1, lc_lt, lc_le, lc_gt, lc_ge, lc_eq, ym_0, ym_1, ym_2, ym_3, ym_4, ym_5, ym_6, ym_7, ym_8, ym_9, ym_10, ym_11, ym_12, ym_13, ym_14, ym_15, ym_16, ym_17, ym_18, ym_19, ym_20, ym_21, ym_22, ym_23, ym_24, ym_25, ym_26, ym_27, ym_28, ym_29, ym_30, rm__0, rm__1, rm__2, rm__3, rm__4, rm__5, rm__6, rm__7, rm__8, rm__9, rm__10, rm__11, rm__12, rm__13, rm__14, rm__15, rm__16, rm__17, rm__18, rm__19, rm__20, rm__21, rm__22, rm__23, rm__24, rm__25, rm__26, rm__27, rm__28, rm__29, rm__30, rm__31, rm__32, rm__33, rm__34, rm__35, rm__36, rm__37, rm__38, rm__39, rm__40, rm__41, rm__42, rm__43, rm__44, rm__45, un_X5_isLetter, un_X5_in]
  try simp only [iteP, Classical.not_not, b1_0, b1_1]
  refine ⟨fun z => ?_, fun z => ⟨fun z2 => ?_, fun z2 => ?_⟩⟩
  · rw [if_neg (fun q => z q.1)] at h; exact h M L hR
  · rw [if_neg (fun q => z2 q.2)] at h; exact h M L hR
  · rw [if_pos ⟨z, z2⟩] at h
    have hv : vp_in l 4 := vp_in_iff.2 (by omega)
    refine ⟨hv, hv, ?_⟩
    rw [r2.1]
    exact h _ L ⟨r1, ⟨by show ma_up M 1 _ v 1 = ma_up (sN x) 1 _ v 1; rw [ma_up_at, ma_up_at, r2.1]; rfl, r2.2⟩, r3.to rfl (fun a z1 z2 => up_c (by omega)), r4.1, r4.2.to rfl rfl⟩
theorem pv_X5_rim : ∀ as M L K, S_X5_rim as M L K → ma_rn (tb_X5_rim S_X5_isLetter S_X5_in) 4 as M L K := by
  intro as M L K h
  unfold S_X5_rim at h
  split at h
  · obtain ⟨x, h⟩ := h; exact pw_X5_rim h.1 h.2
  · exact h.elim
