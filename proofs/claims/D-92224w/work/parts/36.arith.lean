/-! arithmetic of ints and longs that don't run over; quotients downwards -/
set_option maxRecDepth 100000
set_option maxHeartbeats 4000000
theorem i_add {x y : Int32} (h1 : -2147483648 ≤ x.toInt + y.toInt) (h2 : x.toInt + y.toInt < 2147483648) : (x + y).toInt = x.toInt + y.toInt := by
  rw [Int32.toInt_add]; exact Int.bmod_eq_of_le_mul_two (by omega) (by omega)
theorem i_sub {x y : Int32} (h1 : -2147483648 ≤ x.toInt - y.toInt) (h2 : x.toInt - y.toInt < 2147483648) : (x - y).toInt = x.toInt - y.toInt := by
  rw [Int32.toInt_sub]; exact Int.bmod_eq_of_le_mul_two (by omega) (by omega)
theorem i_mul {x y : Int32} (h1 : -2147483648 ≤ x.toInt * y.toInt) (h2 : x.toInt * y.toInt < 2147483648) : (x * y).toInt = x.toInt * y.toInt := by
  rw [Int32.toInt_mul]; exact Int.bmod_eq_of_le_mul_two (by omega) (by omega)
theorem l_add {x y : Int64} (h1 : -9223372036854775808 ≤ x.toInt + y.toInt) (h2 : x.toInt + y.toInt < 9223372036854775808) : (x + y).toInt = x.toInt + y.toInt := by
  rw [Int64.toInt_add]; exact Int.bmod_eq_of_le_mul_two (by omega) (by omega)
theorem l_sub {x y : Int64} (h1 : -9223372036854775808 ≤ x.toInt - y.toInt) (h2 : x.toInt - y.toInt < 9223372036854775808) : (x - y).toInt = x.toInt - y.toInt := by
  rw [Int64.toInt_sub]; exact Int.bmod_eq_of_le_mul_two (by omega) (by omega)
theorem l_mul {x y : Int64} (h1 : -9223372036854775808 ≤ x.toInt * y.toInt) (h2 : x.toInt * y.toInt < 9223372036854775808) : (x * y).toInt = x.toInt * y.toInt := by
  rw [Int64.toInt_mul]; exact Int.bmod_eq_of_le_mul_two (by omega) (by omega)
theorem l_neg {x : Int64} (h1 : -9223372036854775808 < x.toInt) : (-x).toInt = -x.toInt := by
  have := (l_rng x).2
  rw [Int64.toInt_neg]; exact Int.bmod_eq_of_le_mul_two (by omega) (by omega)
theorem i_neg {x : Int32} (h1 : -2147483648 < x.toInt) : (-x).toInt = -x.toInt := by
  have := (i_rng x).2
  rw [Int32.toInt_neg]; exact Int.bmod_eq_of_le_mul_two (by omega) (by omega)
theorem l_i {x : Int64} (h1 : -2147483648 ≤ x.toInt) (h2 : x.toInt < 2147483648) : x.toInt32.toInt = x.toInt := by
  rw [Int64.toInt_toInt32]; exact Int.bmod_eq_of_le_mul_two (by omega) (by omega)
theorem l_ext {x y : Int64} (h : x.toInt = y.toInt) : x = y := Int64.toInt_inj.1 h
theorem l_abs {x : Int64} (h : -9223372036854775808 < x.toInt) : (if 0 ≤ x then x else -x).toInt = (x.toInt.natAbs : Int) := by
  by_cases c : 0 ≤ x
  · rw [if_pos c]
    rw [Int64.le_iff_toInt_le, show (0 : Int64).toInt = 0 from rfl] at c; omega
  · rw [if_neg c, l_neg h]
    rw [Int64.le_iff_toInt_le, show (0 : Int64).toInt = 0 from rfl] at c; omega
theorem fl {a b q : Int} (hb : 0 < b) (h1 : q * b ≤ a) (h2 : a < (q + 1) * b) : a / b = q := by
  have h3 := (Int.le_ediv_iff_mul_le hb).2 h1
  have h4 := (Int.ediv_lt_iff_lt_mul hb).2 h2
  omega
theorem fd_int {a b : Int} (hb : 0 < b) (ha : a < 0) : a / b = if a.tdiv b * b = a then a.tdiv b else a.tdiv b - 1 := by
  have e := Int.mul_tdiv_add_tmod a b
  have l := Int.lt_tmod_of_pos a hb
  have n : a.tmod b ≤ 0 := by
    have z : (-a).tmod b = -(a.tmod b) := Int.neg_tmod a b
    have z2 := Int.tmod_nonneg b (show 0 ≤ -a by omega)
    omega
  rw [Int.mul_comm] at e
  split
  · next c => exact fl hb (by omega) (by rw [Int.add_mul]; omega)
  · next c => exact fl hb (by rw [Int.sub_mul]; omega) (by rw [Int.sub_add_cancel]; omega)
theorem td_le {a b : Int} (hb : 0 < b) (ha : a < 0) : a ≤ a.tdiv b ∧ a.tdiv b ≤ 0 ∧ a ≤ a.tdiv b * b ∧ a.tdiv b * b ≤ 0 := by
  have z : (-a).tdiv b = -(a.tdiv b) := Int.neg_tdiv a b
  have z0 : (-a).tdiv b = (-a) / b := Int.tdiv_eq_ediv_of_nonneg (by omega)
  have z1 : 0 ≤ (-a) / b := Int.ediv_nonneg (by omega) (by omega)
  have z2 : (-a) / b * b ≤ -a := Int.ediv_mul_le (-a) (by omega)
  have z3 : (-a) / b ≤ -a := Int.ediv_le_self b (by omega)
  have e : a.tdiv b = -((-a) / b) := by omega
  rw [e, Int.neg_mul]
  have z4 : 0 ≤ (-a) / b * b := Int.mul_nonneg z1 (by omega)
  omega
theorem xs_i {a b : Int32} (hb : 0 ≤ b.toInt) : (0 ≤ a ^^^ b) = (0 ≤ a.toInt) := by
  refine propext ?_
  have h1 : ∀ x : Int32, 0 ≤ x.toInt ↔ x.toBitVec.msb = false := fun x => by
    have := BitVec.msb_eq_toInt (x := x.toBitVec)
    rw [this]
    show 0 ≤ x.toInt ↔ decide (x.toInt < 0) = false
    rw [decide_eq_false_iff_not]; omega
  rw [Int32.le_iff_toInt_le, show (0 : Int32).toInt = 0 from rfl, h1, h1, Int32.toBitVec_xor, BitVec.msb_xor, (h1 b).1 hb, Bool.xor_false]
theorem xs_l {a b : Int64} (hb : 0 ≤ b.toInt) : (0 ≤ a ^^^ b) = (0 ≤ a.toInt) := by
  refine propext ?_
  have h1 : ∀ x : Int64, 0 ≤ x.toInt ↔ x.toBitVec.msb = false := fun x => by
    have := BitVec.msb_eq_toInt (x := x.toBitVec)
    rw [this]
    show 0 ≤ x.toInt ↔ decide (x.toInt < 0) = false
    rw [decide_eq_false_iff_not]; omega
  rw [Int64.le_iff_toInt_le, show (0 : Int64).toInt = 0 from rfl, h1, h1, Int64.toBitVec_xor, BitVec.msb_xor, (h1 b).1 hb, Bool.xor_false]
theorem fdI_ti {a b : Int32} (hb : 0 < b.toInt) (ha0 : -2147483648 < a.toInt) : (fdI a b).toInt = a.toInt / b.toInt := by
  have hr := i_rng a
  have hbn : b ≠ -1 := fun z => by rw [z] at hb; exact absurd hb (by decide)
  have hd := Int32.toInt_div_of_ne_right a b hbn
  unfold fdI
  simp only [xs_i (a := a) (Int.le_of_lt hb)]
  by_cases c : 0 ≤ a.toInt
  · rw [if_pos c, hd, Int.tdiv_eq_ediv_of_nonneg c]
  · rw [if_neg c]
    have ha : a.toInt < 0 := by omega
    have hl := td_le hb ha
    have hm : (a / b * b).toInt = a.toInt.tdiv b.toInt * b.toInt := by
      rw [i_mul (by rw [hd]; omega) (by rw [hd]; omega), hd]
    rw [fd_int hb ha]
    by_cases c2 : a / b * b = a
    · rw [if_pos c2, if_pos (by rw [← hm, c2]), hd]
    · have c3 : ¬ a.toInt.tdiv b.toInt * b.toInt = a.toInt := fun z => c2 (i_ext (by rw [hm, z]))
      rw [if_neg c2, if_neg c3, i_sub (by rw [hd, show (1 : Int32).toInt = 1 from rfl]; omega) (by rw [hd, show (1 : Int32).toInt = 1 from rfl]; omega), hd]; rfl
theorem fdL_ti {a b : Int64} (hb : 0 < b.toInt) (ha0 : -4611686018427387904 < a.toInt) : (fdL a b).toInt = a.toInt / b.toInt := by
  have hr := l_rng a
  have hbn : b ≠ -1 := fun z => by rw [z] at hb; exact absurd hb (by decide)
  have hd := Int64.toInt_div_of_ne_right a b hbn
  unfold fdL
  simp only [xs_l (a := a) (Int.le_of_lt hb)]
  by_cases c : 0 ≤ a.toInt
  · rw [if_pos c, hd, Int.tdiv_eq_ediv_of_nonneg c]
  · rw [if_neg c]
    have ha : a.toInt < 0 := by omega
    have hl := td_le hb ha
    have hm : (a / b * b).toInt = a.toInt.tdiv b.toInt * b.toInt := by
      rw [l_mul (by rw [hd]; omega) (by rw [hd]; omega), hd]
    rw [fd_int hb ha]
    by_cases c2 : a / b * b = a
    · rw [if_pos c2, if_pos (by rw [← hm, c2]), hd]
    · have c3 : ¬ a.toInt.tdiv b.toInt * b.toInt = a.toInt := fun z => c2 (l_ext (by rw [hm, z]))
      rw [if_neg c2, if_neg c3, l_sub (by rw [hd, show (1 : Int64).toInt = 1 from rfl]; omega) (by rw [hd, show (1 : Int64).toInt = 1 from rfl]; omega), hd]; rfl
theorem dnL_ti {a b : Int64} (hb : 0 < b.toInt) (hb2 : b.toInt < 2305843009213693952) (ha0 : -2305843009213693952 < a.toInt) : (dnL a b).toInt = a.toInt / b.toInt := by
  have hr := l_rng a
  have hbn : b ≠ -1 := fun z => by rw [z] at hb; exact absurd hb (by decide)
  unfold dnL
  by_cases c : a < 0
  · rw [if_pos c]
    rw [Int64.lt_iff_toInt_lt, show (0 : Int64).toInt = 0 from rfl] at c
    have e1 : (b - 1).toInt = b.toInt - 1 := by rw [l_sub (by rw [show (1 : Int64).toInt = 1 from rfl]; omega) (by rw [show (1 : Int64).toInt = 1 from rfl]; omega)]; rfl
    have e2 : (b - 1 - a).toInt = b.toInt - 1 - a.toInt := by rw [l_sub (by rw [e1]; omega) (by rw [e1]; omega), e1]
    have e3 : ((b - 1 - a) / b).toInt = (b.toInt - 1 - a.toInt) / b.toInt := by
      rw [Int64.toInt_div_of_ne_right _ _ hbn, e2, Int.tdiv_eq_ediv_of_nonneg (by omega)]
    have z1 : 0 ≤ (b.toInt - 1 - a.toInt) / b.toInt := Int.ediv_nonneg (by omega) (by omega)
    have z2 : (b.toInt - 1 - a.toInt) / b.toInt * b.toInt ≤ b.toInt - 1 - a.toInt := Int.ediv_mul_le _ (by omega)
    have z3 : b.toInt - 1 - a.toInt < ((b.toInt - 1 - a.toInt) / b.toInt + 1) * b.toInt := by
      have := Int.lt_ediv_add_one_mul_self (b.toInt - 1 - a.toInt) hb
      exact this
    have z4 : (b.toInt - 1 - a.toInt) / b.toInt ≤ b.toInt - 1 - a.toInt := Int.ediv_le_self _ (by omega)
    rw [l_neg (by rw [e3]; omega), e3]
    generalize (b.toInt - 1 - a.toInt) / b.toInt = m at *
    rw [Int.add_mul] at z3
    exact (fl hb (by rw [Int.neg_mul]; omega) (by rw [Int.add_mul, Int.neg_mul]; omega)).symm
  · rw [if_neg c]
    rw [Int64.lt_iff_toInt_lt, show (0 : Int64).toInt = 0 from rfl] at c
    rw [Int64.toInt_div_of_ne_right _ _ hbn, Int.tdiv_eq_ediv_of_nonneg (by omega)]
