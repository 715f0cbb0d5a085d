set_option maxRecDepth 100000
/-! java/lang/Object -/
def RJ2 : String := "java/lang/Object"
abbrev cJ2_init : ByteArray := object_method_1_code
def yJ2_init : MethodName := ⟨RJ2, "<init>", "()V"⟩
theorem q76 : (Jvm.Cond.instanceMethod ({ cls := "java/lang/Object", name := "<init>", desc := "()V" } : Jvm.MethodName)) ∈ lw_all := lw_g (lw_at lw_m1 16 rfl) rfl
theorem q77 : (Jvm.Cond.code ({ cls := "java/lang/Object", name := "<init>", desc := "()V" } : Jvm.MethodName) object_method_1_code (1 : Nat) (Option.none : Option Jvm.ClassFile.FieldType)) ∈ lw_all := lw_g (lw_at lw_m1 17 rfl) rfl
/-! java/lang/Math -/
def RJ0 : String := "java/lang/Math"
abbrev cJ0_min : ByteArray := prog_9_method_69_code
def yJ0_min : MethodName := ⟨RJ0, "min", "(II)I"⟩
abbrev cJ0_floorDiv : ByteArray := prog_9_method_47_code
def yJ0_floorDiv : MethodName := ⟨RJ0, "floorDiv", "(II)I"⟩
abbrev cJ0_abs : ByteArray := prog_9_method_61_code
def yJ0_abs : MethodName := ⟨RJ0, "abs", "(J)J"⟩
abbrev cJ0_floorDiv_2 : ByteArray := prog_9_method_49_code
def yJ0_floorDiv_2 : MethodName := ⟨RJ0, "floorDiv", "(JJ)J"⟩
abbrev cJ0_abs_2 : ByteArray := prog_9_method_59_code
def yJ0_abs_2 : MethodName := ⟨RJ0, "abs", "(I)I"⟩
abbrev cJ0_max : ByteArray := prog_9_method_65_code
def yJ0_max : MethodName := ⟨RJ0, "max", "(II)I"⟩
theorem q67 : (Jvm.Cond.initialized "java/lang/Math") ∈ lw_all := lw_g (lw_at lw_m1 7 rfl) rfl
theorem q433 : (Jvm.Cond.static ({ cls := "java/lang/Math", name := "min", desc := "(II)I" } : Jvm.MethodName)) ∈ lw_all := lw_g (lw_at lw_m2 133 rfl) rfl
theorem q434 : (Jvm.Cond.code ({ cls := "java/lang/Math", name := "min", desc := "(II)I" } : Jvm.MethodName) prog_9_method_69_code (2 : Nat) (Option.some Jvm.ClassFile.FieldType.int)) ∈ lw_all := lw_g (lw_at lw_m2 134 rfl) rfl
theorem q500 : (Jvm.Cond.static ({ cls := "java/lang/Math", name := "floorDiv", desc := "(II)I" } : Jvm.MethodName)) ∈ lw_all := lw_g (lw_at lw_m2 200 rfl) rfl
theorem q501 : (Jvm.Cond.code ({ cls := "java/lang/Math", name := "floorDiv", desc := "(II)I" } : Jvm.MethodName) prog_9_method_47_code (3 : Nat) (Option.some Jvm.ClassFile.FieldType.int)) ∈ lw_all := lw_g (lw_at lw_m2 201 rfl) rfl
theorem q525 : (Jvm.Cond.static ({ cls := "java/lang/Math", name := "abs", desc := "(J)J" } : Jvm.MethodName)) ∈ lw_all := lw_g (lw_at lw_m2 225 rfl) rfl
theorem q526 : (Jvm.Cond.code ({ cls := "java/lang/Math", name := "abs", desc := "(J)J" } : Jvm.MethodName) prog_9_method_61_code (2 : Nat) (Option.some Jvm.ClassFile.FieldType.long)) ∈ lw_all := lw_g (lw_at lw_m2 226 rfl) rfl
theorem q551 : (Jvm.Cond.static ({ cls := "java/lang/Math", name := "floorDiv", desc := "(JJ)J" } : Jvm.MethodName)) ∈ lw_all := lw_g (lw_at lw_m3 11 rfl) rfl
theorem q552 : (Jvm.Cond.code ({ cls := "java/lang/Math", name := "floorDiv", desc := "(JJ)J" } : Jvm.MethodName) prog_9_method_49_code (6 : Nat) (Option.some Jvm.ClassFile.FieldType.long)) ∈ lw_all := lw_g (lw_at lw_m3 12 rfl) rfl
theorem q593 : (Jvm.Cond.static ({ cls := "java/lang/Math", name := "abs", desc := "(I)I" } : Jvm.MethodName)) ∈ lw_all := lw_g (lw_at lw_m3 53 rfl) rfl
theorem q594 : (Jvm.Cond.code ({ cls := "java/lang/Math", name := "abs", desc := "(I)I" } : Jvm.MethodName) prog_9_method_59_code (1 : Nat) (Option.some Jvm.ClassFile.FieldType.int)) ∈ lw_all := lw_g (lw_at lw_m3 54 rfl) rfl
theorem q673 : (Jvm.Cond.static ({ cls := "java/lang/Math", name := "max", desc := "(II)I" } : Jvm.MethodName)) ∈ lw_all := lw_g (lw_at lw_m3 133 rfl) rfl
theorem q674 : (Jvm.Cond.code ({ cls := "java/lang/Math", name := "max", desc := "(II)I" } : Jvm.MethodName) prog_9_method_65_code (2 : Nat) (Option.some Jvm.ClassFile.FieldType.int)) ∈ lw_all := lw_g (lw_at lw_m3 134 rfl) rfl
/-! java/lang/Integer -/
def RJ1 : String := "java/lang/Integer"
abbrev cJ1_bitCount : ByteArray := prog_8_method_49_code
def yJ1_bitCount : MethodName := ⟨RJ1, "bitCount", "(I)I"⟩
theorem q69 : (Jvm.Cond.initialized "java/lang/Integer") ∈ lw_all := lw_g (lw_at lw_m1 9 rfl) rfl
theorem q626 : (Jvm.Cond.static ({ cls := "java/lang/Integer", name := "bitCount", desc := "(I)I" } : Jvm.MethodName)) ∈ lw_all := lw_g (lw_at lw_m3 86 rfl) rfl
theorem q627 : (Jvm.Cond.code ({ cls := "java/lang/Integer", name := "bitCount", desc := "(I)I" } : Jvm.MethodName) prog_8_method_49_code (1 : Nat) (Option.some Jvm.ClassFile.FieldType.int)) ∈ lw_all := lw_g (lw_at lw_m3 87 rfl) rfl
theorem q628 : (Jvm.Cond.constant "java/lang/Integer" (265 : Nat) (1431655765 : Int32)) ∈ lw_all := lw_g (lw_at lw_m3 88 rfl) rfl
theorem q629 : (Jvm.Cond.constant "java/lang/Integer" (266 : Nat) (858993459 : Int32)) ∈ lw_all := lw_g (lw_at lw_m3 89 rfl) rfl
theorem q630 : (Jvm.Cond.constant "java/lang/Integer" (267 : Nat) (252645135 : Int32)) ∈ lw_all := lw_g (lw_at lw_m3 90 rfl) rfl
/-! ForecastHall -/
def RX0 : String := "ForecastHall"
def TX0 : u_T := fun k => match k with
  | 0 => ("ForecastHall", "length", "I", false)
  | 1 => ("ForecastHall", "text", "[B", true)
  | 2 => ("ForecastHall", "reader", "LForecastHall$Reader;", true)
  | 3 => ("ForecastHall", "draft", "LForecastHall$Plan;", true)
  | 4 => ("ForecastHall", "plan", "LForecastHall$Plan;", true)
  | 5 => ("ForecastHall", "wide", "I", false)
  | 6 => ("ForecastHall", "high", "I", false)
  | 7 => ("ForecastHall", "edge", "I", false)
  | 8 => ("ForecastHall", "rims", "[I", true)
  | 9 => ("ForecastHall", "firsts", "[I", true)
  | 10 => ("ForecastHall", "slipMany", "I", false)
  | 11 => ("ForecastHall", "slipStep", "[I", true)
  | 12 => ("ForecastHall", "slipCell", "[I", true)
  | 13 => ("ForecastHall", "slipLetter", "[I", true)
  | 14 => ("ForecastHall", "slipAmount", "[I", true)
  | 15 => ("ForecastHall", "isFresh", "Z", false)
  | 16 => ("ForecastHall", "right", "LForecastHall$Sky;", true)
  | 17 => ("ForecastHall", "hall", "LForecastHall$Sky;", true)
  | 18 => ("ForecastHall", "other", "LForecastHall$Sky;", true)
  | 19 => ("ForecastHall", "toldStep", "I", false)
  | 20 => ("ForecastHall", "toldLetter", "I", false)
  | 21 => ("ForecastHall", "told", "[J", true)
  | 22 => ("ForecastHall", "offs", "[J", true)
  | 23 => ("ForecastHall", "groups", "[I", true)
  | 24 => ("ForecastHall", "judged", "[I", true)
  | 25 => ("ForecastHall", "walk", "I", false)
  | 26 => ("ForecastHall", "paces", "[I", true)
  | 27 => ("ForecastHall", "owners", "[I", true)
  | 28 => ("ForecastHall", "trial", "[I", true)
  | 29 => ("ForecastHall", "ends", "[I", true)
  | 30 => ("ForecastHall", "frees", "[I", true)
  | 31 => ("ForecastHall", "best", "[I", true)
  | 32 => ("ForecastHall", "kept", "[LForecastHall$Kept;", true)
  | _ => ("ForecastHall", "keptMany", "I", false)
def tyX0 : Nat → FieldType := fun k => match k with
  | 0 => .int
  | 1 => .array .byte
  | 2 => .object "ForecastHall$Reader"
  | 3 => .object "ForecastHall$Plan"
  | 4 => .object "ForecastHall$Plan"
  | 5 => .int
  | 6 => .int
  | 7 => .int
  | 8 => .array .int
  | 9 => .array .int
  | 10 => .int
  | 11 => .array .int
  | 12 => .array .int
  | 13 => .array .int
  | 14 => .array .int
  | 15 => .boolean
  | 16 => .object "ForecastHall$Sky"
  | 17 => .object "ForecastHall$Sky"
  | 18 => .object "ForecastHall$Sky"
  | 19 => .int
  | 20 => .int
  | 21 => .array .long
  | 22 => .array .long
  | 23 => .array .int
  | 24 => .array .int
  | 25 => .int
  | 26 => .array .int
  | 27 => .array .int
  | 28 => .array .int
  | 29 => .array .int
  | 30 => .array .int
  | 31 => .array .int
  | 32 => .array (.object "ForecastHall$Kept")
  | _ => .int
abbrev wsX00 : List Cond := u_ws RX0 TX0 34
theorem nmX0 : ∀ a, a < 34 → ∀ b, b < 34 → a ≠ b → (TX0 a).2.1 ≠ (TX0 b).2.1 := by decide +kernel
theorem tyX0_ok : ∀ k, k < 34 → parseFieldDescriptor (TX0 k).2.2.1 = some (tyX0 k) := by decide +kernel
abbrev cX0_init : ByteArray := prog_1_method_3_code
def yX0_init : MethodName := ⟨RX0, "<init>", "()V"⟩
abbrev cX0_clearSky : ByteArray := prog_1_method_7_code
def yX0_clearSky : MethodName := ⟨RX0, "clearSky", "()V"⟩
abbrev cX0_clearTold : ByteArray := prog_1_method_28_code
def yX0_clearTold : MethodName := ⟨RX0, "clearTold", "()V"⟩
abbrev cX0_sky : ByteArray := prog_1_method_8_code
def yX0_sky : MethodName := ⟨RX0, "sky", "(II)I"⟩
abbrev cX0_isIn : ByteArray := prog_1_method_1_code
def yX0_isIn : MethodName := ⟨RX0, "isIn", "(JJJ)Z"⟩
abbrev cX0_cells : ByteArray := prog_1_method_4_code
def yX0_cells : MethodName := ⟨RX0, "cells", "()I"⟩
abbrev cX0_rule : ByteArray := prog_1_method_9_code
def yX0_rule : MethodName := ⟨RX0, "rule", "(II)I"⟩
abbrev cX0_rim : ByteArray := prog_1_method_10_code
def yX0_rim : MethodName := ⟨RX0, "rim", "(II)I"⟩
abbrev cX0_isLetter : ByteArray := prog_1_method_2_code
def yX0_isLetter : MethodName := ⟨RX0, "isLetter", "(I)Z"⟩
abbrev cX0_write : ByteArray := prog_1_method_11_code
def yX0_write : MethodName := ⟨RX0, "write", "(IJ)I"⟩
abbrev cX0_wipe : ByteArray := prog_1_method_12_code
def yX0_wipe : MethodName := ⟨RX0, "wipe", "()I"⟩
abbrev cX0_fault : ByteArray := prog_1_method_13_code
def yX0_fault : MethodName := ⟨RX0, "fault", "()I"⟩
abbrev cX0_plan : ByteArray := prog_1_method_14_code
def yX0_plan : MethodName := ⟨RX0, "plan", "()I"⟩
abbrev cX0_line : ByteArray := prog_1_method_15_code
def yX0_line : MethodName := ⟨RX0, "line", "(II)I"⟩
abbrev cX0_first : ByteArray := prog_1_method_17_code
def yX0_first : MethodName := ⟨RX0, "first", "(III)I"⟩
abbrev cX0_isCell : ByteArray := prog_1_method_5_code
def yX0_isCell : MethodName := ⟨RX0, "isCell", "(I)Z"⟩
abbrev cX0_at : ByteArray := prog_1_method_19_code
def yX0_at : MethodName := ⟨RX0, "at", "(ZIII)I"⟩
abbrev cX0_isPlace : ByteArray := prog_1_method_18_code
def yX0_isPlace : MethodName := ⟨RX0, "isPlace", "(III)Z"⟩
abbrev cX0_isStep : ByteArray := prog_1_method_6_code
def yX0_isStep : MethodName := ⟨RX0, "isStep", "(I)Z"⟩
abbrev cX0_refresh : ByteArray := prog_1_method_16_code
def yX0_refresh : MethodName := ⟨RX0, "refresh", "()V"⟩
abbrev cX0_marked : ByteArray := prog_1_method_20_code
def yX0_marked : MethodName := ⟨RX0, "marked", "(III)I"⟩
abbrev cX0_sum : ByteArray := prog_1_method_22_code
def yX0_sum : MethodName := ⟨RX0, "sum", "(ZII)J"⟩
abbrev cX0_countOf : ByteArray := prog_1_method_21_code
def yX0_countOf : MethodName := ⟨RX0, "countOf", "(I)J"⟩
abbrev cX0_slip : ByteArray := prog_1_method_23_code
def yX0_slip : MethodName := ⟨RX0, "slip", "(IIII)I"⟩
abbrev cX0_mend : ByteArray := prog_1_method_24_code
def yX0_mend : MethodName := ⟨RX0, "mend", "()I"⟩
abbrev cX0_spread : ByteArray := prog_1_method_25_code
def yX0_spread : MethodName := ⟨RX0, "spread", "(III)I"⟩
abbrev cX0_kept : ByteArray := prog_1_method_26_code
def yX0_kept : MethodName := ⟨RX0, "kept", "(I)I"⟩
abbrev cX0_grows : ByteArray := prog_1_method_27_code
def yX0_grows : MethodName := ⟨RX0, "grows", "()I"⟩
abbrev cX0_tell : ByteArray := prog_1_method_30_code
def yX0_tell : MethodName := ⟨RX0, "tell", "(IIZIJ)I"⟩
abbrev cX0_fails : ByteArray := prog_1_method_32_code
def yX0_fails : MethodName := ⟨RX0, "fails", "()I"⟩
abbrev cX0_toldMany : ByteArray := prog_1_method_29_code
def yX0_toldMany : MethodName := ⟨RX0, "toldMany", "()I"⟩
abbrev cX0_offOf : ByteArray := prog_1_method_31_code
def yX0_offOf : MethodName := ⟨RX0, "offOf", "(I)J"⟩
abbrev cX0_least : ByteArray := prog_1_method_34_code
def yX0_least : MethodName := ⟨RX0, "least", "()I"⟩
abbrev cX0_isGroup : ByteArray := prog_1_method_33_code
def yX0_isGroup : MethodName := ⟨RX0, "isGroup", "(I)Z"⟩
abbrev cX0_second : ByteArray := prog_1_method_35_code
def yX0_second : MethodName := ⟨RX0, "second", "(II)I"⟩
abbrev cX0_anew : ByteArray := prog_1_method_36_code
def yX0_anew : MethodName := ⟨RX0, "anew", "(III)I"⟩
abbrev cX0_put : ByteArray := prog_1_method_37_code
def yX0_put : MethodName := ⟨RX0, "put", "(II)I"⟩
abbrev cX0_judge : ByteArray := prog_1_method_38_code
def yX0_judge : MethodName := ⟨RX0, "judge", "(II)I"⟩
abbrev cX0_pace : ByteArray := prog_1_method_40_code
def yX0_pace : MethodName := ⟨RX0, "pace", "(II)I"⟩
abbrev cX0_isPerson : ByteArray := prog_1_method_39_code
def yX0_isPerson : MethodName := ⟨RX0, "isPerson", "(I)Z"⟩
abbrev cX0_give : ByteArray := prog_1_method_41_code
def yX0_give : MethodName := ⟨RX0, "give", "(II)I"⟩
abbrev cX0_when : ByteArray := prog_1_method_44_code
def yX0_when : MethodName := ⟨RX0, "when", "(II)I"⟩
abbrev cX0_layEnds : ByteArray := prog_1_method_42_code
def yX0_layEnds : MethodName := ⟨RX0, "layEnds", "([II)V"⟩
abbrev cX0_lastOf : ByteArray := prog_1_method_43_code
def yX0_lastOf : MethodName := ⟨RX0, "lastOf", "(I)I"⟩
abbrev cX0_slowest : ByteArray := prog_1_method_45_code
def yX0_slowest : MethodName := ⟨RX0, "slowest", "(I)I"⟩
abbrev cX0_given : ByteArray := prog_1_method_46_code
def yX0_given : MethodName := ⟨RX0, "given", "(III)I"⟩
abbrev cX0_known : ByteArray := prog_1_method_47_code
def yX0_known : MethodName := ⟨RX0, "known", "(II)I"⟩
abbrev cX0_coarse : ByteArray := prog_1_method_48_code
def yX0_coarse : MethodName := ⟨RX0, "coarse", "(III)I"⟩
abbrev cX0_keep : ByteArray := prog_1_method_49_code
def yX0_keep : MethodName := ⟨RX0, "keep", "()I"⟩
abbrev cX0_back : ByteArray := prog_1_method_50_code
def yX0_back : MethodName := ⟨RX0, "back", "()I"⟩
abbrev cX0_count : ByteArray := prog_1_method_51_code
def yX0_count : MethodName := ⟨RX0, "count", "(I)I"⟩
theorem q61 : (Jvm.Cond.initialized "ForecastHall") ∈ lw_all := lw_g (lw_at lw_m1 1 rfl) rfl
theorem q71 : (Jvm.Cond.instantiable "ForecastHall" (34 : Nat)) ∈ lw_all := lw_g (lw_at lw_m1 11 rfl) rfl
theorem q73 : (Jvm.Cond.instanceMethod ({ cls := "ForecastHall", name := "<init>", desc := "()V" } : Jvm.MethodName)) ∈ lw_all := lw_g (lw_at lw_m1 13 rfl) rfl
theorem q74 : (Jvm.Cond.code ({ cls := "ForecastHall", name := "<init>", desc := "()V" } : Jvm.MethodName) prog_1_method_3_code (2 : Nat) (Option.none : Option Jvm.ClassFile.FieldType)) ∈ lw_all := lw_g (lw_at lw_m1 14 rfl) rfl
theorem q75 : (Jvm.Cond.methodLink "ForecastHall" (9 : Nat) ({ cls := "java/lang/Object", name := "<init>", desc := "()V" } : Jvm.MethodName)) ∈ lw_all := lw_g (lw_at lw_m1 15 rfl) rfl
theorem q78 : (Jvm.Cond.classLink "ForecastHall" (19 : Nat) "ForecastHall$Reader") ∈ lw_all := lw_g (lw_at lw_m1 18 rfl) rfl
theorem q80 : (Jvm.Cond.methodLinkNest "ForecastHall" (21 : Nat) ({ cls := "ForecastHall$Reader", name := "<init>", desc := "(LForecastHall;)V" } : Jvm.MethodName) "ForecastHall") ∈ lw_tbl := lw_at lw_m1 20 rfl
theorem q101 : (Jvm.Cond.classLink "ForecastHall" (28 : Nat) "ForecastHall$Plan") ∈ lw_all := lw_g (lw_at lw_m1 41 rfl) rfl
theorem q103 : (Jvm.Cond.methodLinkNest "ForecastHall" (30 : Nat) ({ cls := "ForecastHall$Plan", name := "<init>", desc := "()V" } : Jvm.MethodName) "ForecastHall") ∈ lw_tbl := lw_at lw_m1 43 rfl
theorem q110 : (Jvm.Cond.fieldLinkNest "ForecastHall" (171 : Nat) "ForecastHall$Plan" "lineMany" "I" "ForecastHall") ∈ lw_tbl := lw_at lw_m1 50 rfl
theorem q117 : (Jvm.Cond.fieldLinkNest "ForecastHall" (180 : Nat) "ForecastHall$Plan" "from" "[I" "ForecastHall") ∈ lw_tbl := lw_at lw_m1 57 rfl
theorem q121 : (Jvm.Cond.fieldLinkNest "ForecastHall" (183 : Nat) "ForecastHall$Plan" "divisor" "[I" "ForecastHall") ∈ lw_tbl := lw_at lw_m1 61 rfl
theorem q125 : (Jvm.Cond.fieldLinkNest "ForecastHall" (186 : Nat) "ForecastHall$Plan" "isNearest" "[Z" "ForecastHall") ∈ lw_tbl := lw_at lw_m1 65 rfl
theorem q158 : (Jvm.Cond.classLink "ForecastHall" (64 : Nat) "ForecastHall$Sky") ∈ lw_all := lw_g (lw_at lw_m1 98 rfl) rfl
theorem q160 : (Jvm.Cond.methodLinkNest "ForecastHall" (66 : Nat) ({ cls := "ForecastHall$Sky", name := "<init>", desc := "(LForecastHall;)V" } : Jvm.MethodName) "ForecastHall") ∈ lw_tbl := lw_at lw_m1 100 rfl
theorem q165 : (Jvm.Cond.fieldLinkNest "ForecastHall" (281 : Nat) "ForecastHall$Sky" "w" "I" "ForecastHall") ∈ lw_tbl := lw_at lw_m1 105 rfl
theorem q167 : (Jvm.Cond.fieldLinkNest "ForecastHall" (284 : Nat) "ForecastHall$Sky" "h" "I" "ForecastHall") ∈ lw_tbl := lw_at lw_m1 107 rfl
theorem q170 : (Jvm.Cond.fieldLinkNest "ForecastHall" (218 : Nat) "ForecastHall$Sky" "isMarked" "[Z" "ForecastHall") ∈ lw_tbl := lw_at lw_m1 110 rfl
theorem q183 : (Jvm.Cond.classLink "ForecastHall" (111 : Nat) "ForecastHall$Kept") ∈ lw_all := lw_g (lw_at lw_m1 123 rfl) rfl
theorem q186 : (Jvm.Cond.methodLinkNest "ForecastHall" (117 : Nat) ({ cls := "ForecastHall$Kept", name := "<init>", desc := "()V" } : Jvm.MethodName) "ForecastHall") ∈ lw_tbl := lw_at lw_m1 126 rfl
theorem q212 : (Jvm.Cond.methodLink "ForecastHall" (118 : Nat) ({ cls := "ForecastHall", name := "clearSky", desc := "()V" } : Jvm.MethodName)) ∈ lw_all := lw_g (lw_at lw_m1 152 rfl) rfl
theorem q213 : (Jvm.Cond.privateMethod ({ cls := "ForecastHall", name := "clearSky", desc := "()V" } : Jvm.MethodName)) ∈ lw_tbl := lw_at lw_m1 153 rfl
theorem q214 : (Jvm.Cond.instanceMethod ({ cls := "ForecastHall", name := "clearSky", desc := "()V" } : Jvm.MethodName)) ∈ lw_all := lw_g (lw_at lw_m1 154 rfl) rfl
theorem q215 : (Jvm.Cond.code ({ cls := "ForecastHall", name := "clearSky", desc := "()V" } : Jvm.MethodName) prog_1_method_7_code (2 : Nat) (Option.none : Option Jvm.ClassFile.FieldType)) ∈ lw_all := lw_g (lw_at lw_m1 155 rfl) rfl
theorem q216 : (Jvm.Cond.constant "ForecastHall" (127 : Nat) (2000000 : Int32)) ∈ lw_all := lw_g (lw_at lw_m1 156 rfl) rfl
theorem q217 : (Jvm.Cond.methodLink "ForecastHall" (134 : Nat) ({ cls := "ForecastHall", name := "clearTold", desc := "()V" } : Jvm.MethodName)) ∈ lw_all := lw_g (lw_at lw_m1 157 rfl) rfl
theorem q218 : (Jvm.Cond.privateMethod ({ cls := "ForecastHall", name := "clearTold", desc := "()V" } : Jvm.MethodName)) ∈ lw_tbl := lw_at lw_m1 158 rfl
theorem q219 : (Jvm.Cond.instanceMethod ({ cls := "ForecastHall", name := "clearTold", desc := "()V" } : Jvm.MethodName)) ∈ lw_all := lw_g (lw_at lw_m1 159 rfl) rfl
theorem q220 : (Jvm.Cond.code ({ cls := "ForecastHall", name := "clearTold", desc := "()V" } : Jvm.MethodName) prog_1_method_28_code (2 : Nat) (Option.none : Option Jvm.ClassFile.FieldType)) ∈ lw_all := lw_g (lw_at lw_m1 160 rfl) rfl
theorem q221 : (Jvm.Cond.constantLong "ForecastHall" (238 : Nat) (2000000000000 : Int64)) ∈ lw_all := lw_g (lw_at lw_m1 161 rfl) rfl
theorem q223 : (Jvm.Cond.fieldLink "ForecastHall" (161 : Nat) "ForecastHall" "length" "I") ∈ lw_all := lw_g (lw_at lw_m1 163 rfl) rfl
theorem q225 : (Jvm.Cond.fieldLink "ForecastHall" (15 : Nat) "ForecastHall" "text" "[B") ∈ lw_all := lw_g (lw_at lw_m1 165 rfl) rfl
theorem q226 : (Jvm.Cond.fieldLink "ForecastHall" (24 : Nat) "ForecastHall" "reader" "LForecastHall$Reader;") ∈ lw_all := lw_g (lw_at lw_m1 166 rfl) rfl
theorem q227 : (Jvm.Cond.fieldLink "ForecastHall" (31 : Nat) "ForecastHall" "draft" "LForecastHall$Plan;") ∈ lw_all := lw_g (lw_at lw_m1 167 rfl) rfl
theorem q230 : (Jvm.Cond.fieldLink "ForecastHall" (35 : Nat) "ForecastHall" "plan" "LForecastHall$Plan;") ∈ lw_all := lw_g (lw_at lw_m1 170 rfl) rfl
theorem q232 : (Jvm.Cond.fieldLink "ForecastHall" (38 : Nat) "ForecastHall" "wide" "I") ∈ lw_all := lw_g (lw_at lw_m1 172 rfl) rfl
theorem q234 : (Jvm.Cond.fieldLink "ForecastHall" (42 : Nat) "ForecastHall" "high" "I") ∈ lw_all := lw_g (lw_at lw_m1 174 rfl) rfl
theorem q238 : (Jvm.Cond.fieldLink "ForecastHall" (147 : Nat) "ForecastHall" "edge" "I") ∈ lw_all := lw_g (lw_at lw_m1 178 rfl) rfl
theorem q240 : (Jvm.Cond.fieldLink "ForecastHall" (45 : Nat) "ForecastHall" "rims" "[I") ∈ lw_all := lw_g (lw_at lw_m1 180 rfl) rfl
theorem q243 : (Jvm.Cond.fieldLink "ForecastHall" (49 : Nat) "ForecastHall" "firsts" "[I") ∈ lw_all := lw_g (lw_at lw_m1 183 rfl) rfl
theorem q246 : (Jvm.Cond.fieldLink "ForecastHall" (128 : Nat) "ForecastHall" "slipMany" "I") ∈ lw_all := lw_g (lw_at lw_m1 186 rfl) rfl
theorem q249 : (Jvm.Cond.fieldLink "ForecastHall" (52 : Nat) "ForecastHall" "slipStep" "[I") ∈ lw_all := lw_g (lw_at lw_m1 189 rfl) rfl
theorem q252 : (Jvm.Cond.fieldLink "ForecastHall" (55 : Nat) "ForecastHall" "slipCell" "[I") ∈ lw_all := lw_g (lw_at lw_m1 192 rfl) rfl
theorem q255 : (Jvm.Cond.fieldLink "ForecastHall" (58 : Nat) "ForecastHall" "slipLetter" "[I") ∈ lw_all := lw_g (lw_at lw_m1 195 rfl) rfl
theorem q258 : (Jvm.Cond.fieldLink "ForecastHall" (61 : Nat) "ForecastHall" "slipAmount" "[I") ∈ lw_all := lw_g (lw_at lw_m1 198 rfl) rfl
theorem q261 : (Jvm.Cond.fieldLink "ForecastHall" (137 : Nat) "ForecastHall" "isFresh" "Z") ∈ lw_all := lw_g (lw_at lw_m1 201 rfl) rfl
theorem q262 : (Jvm.Cond.fieldLink "ForecastHall" (67 : Nat) "ForecastHall" "right" "LForecastHall$Sky;") ∈ lw_all := lw_g (lw_at lw_m1 202 rfl) rfl
theorem q263 : (Jvm.Cond.fieldLink "ForecastHall" (71 : Nat) "ForecastHall" "hall" "LForecastHall$Sky;") ∈ lw_all := lw_g (lw_at lw_m1 203 rfl) rfl
theorem q264 : (Jvm.Cond.fieldLink "ForecastHall" (74 : Nat) "ForecastHall" "other" "LForecastHall$Sky;") ∈ lw_all := lw_g (lw_at lw_m1 204 rfl) rfl
theorem q265 : (Jvm.Cond.fieldLink "ForecastHall" (244 : Nat) "ForecastHall" "toldStep" "I") ∈ lw_all := lw_g (lw_at lw_m1 205 rfl) rfl
theorem q266 : (Jvm.Cond.fieldLink "ForecastHall" (247 : Nat) "ForecastHall" "toldLetter" "I") ∈ lw_all := lw_g (lw_at lw_m1 206 rfl) rfl
theorem q267 : (Jvm.Cond.fieldLink "ForecastHall" (77 : Nat) "ForecastHall" "told" "[J") ∈ lw_all := lw_g (lw_at lw_m1 207 rfl) rfl
theorem q268 : (Jvm.Cond.fieldLink "ForecastHall" (81 : Nat) "ForecastHall" "offs" "[J") ∈ lw_all := lw_g (lw_at lw_m1 208 rfl) rfl
theorem q269 : (Jvm.Cond.fieldLink "ForecastHall" (84 : Nat) "ForecastHall" "groups" "[I") ∈ lw_all := lw_g (lw_at lw_m1 209 rfl) rfl
theorem q270 : (Jvm.Cond.fieldLink "ForecastHall" (87 : Nat) "ForecastHall" "judged" "[I") ∈ lw_all := lw_g (lw_at lw_m1 210 rfl) rfl
theorem q271 : (Jvm.Cond.fieldLink "ForecastHall" (90 : Nat) "ForecastHall" "walk" "I") ∈ lw_all := lw_g (lw_at lw_m1 211 rfl) rfl
theorem q272 : (Jvm.Cond.fieldLink "ForecastHall" (93 : Nat) "ForecastHall" "paces" "[I") ∈ lw_all := lw_g (lw_at lw_m1 212 rfl) rfl
theorem q273 : (Jvm.Cond.fieldLink "ForecastHall" (96 : Nat) "ForecastHall" "owners" "[I") ∈ lw_all := lw_g (lw_at lw_m1 213 rfl) rfl
theorem q274 : (Jvm.Cond.fieldLink "ForecastHall" (99 : Nat) "ForecastHall" "trial" "[I") ∈ lw_all := lw_g (lw_at lw_m1 214 rfl) rfl
theorem q275 : (Jvm.Cond.fieldLink "ForecastHall" (102 : Nat) "ForecastHall" "ends" "[I") ∈ lw_all := lw_g (lw_at lw_m1 215 rfl) rfl
theorem q276 : (Jvm.Cond.fieldLink "ForecastHall" (105 : Nat) "ForecastHall" "frees" "[I") ∈ lw_all := lw_g (lw_at lw_m1 216 rfl) rfl
theorem q277 : (Jvm.Cond.fieldLink "ForecastHall" (108 : Nat) "ForecastHall" "best" "[I") ∈ lw_all := lw_g (lw_at lw_m1 217 rfl) rfl
theorem q278 : (Jvm.Cond.fieldLink "ForecastHall" (113 : Nat) "ForecastHall" "kept" "[LForecastHall$Kept;") ∈ lw_all := lw_g (lw_at lw_m1 218 rfl) rfl
theorem q279 : (Jvm.Cond.fieldLink "ForecastHall" (131 : Nat) "ForecastHall" "keptMany" "I") ∈ lw_all := lw_g (lw_at lw_m1 219 rfl) rfl
theorem q280 : (Jvm.Cond.lays "ForecastHall" "ForecastHall" "length" "I") ∈ lw_all := lw_g (lw_at lw_m1 220 rfl) rfl
theorem q281 : (Jvm.Cond.soleField "ForecastHall" "length") ∈ lw_all := lw_g (lw_at lw_m1 221 rfl) rfl
theorem q282 : (Jvm.Cond.laysFinal "ForecastHall" "ForecastHall" "text" "[B") ∈ lw_all := lw_g (lw_at lw_m1 222 rfl) rfl
theorem q283 : (Jvm.Cond.soleField "ForecastHall" "text") ∈ lw_all := lw_g (lw_at lw_m1 223 rfl) rfl
theorem q284 : (Jvm.Cond.laysFinal "ForecastHall" "ForecastHall" "reader" "LForecastHall$Reader;") ∈ lw_all := lw_g (lw_at lw_m1 224 rfl) rfl
theorem q285 : (Jvm.Cond.soleField "ForecastHall" "reader") ∈ lw_all := lw_g (lw_at lw_m1 225 rfl) rfl
theorem q286 : (Jvm.Cond.laysFinal "ForecastHall" "ForecastHall" "draft" "LForecastHall$Plan;") ∈ lw_all := lw_g (lw_at lw_m1 226 rfl) rfl
theorem q287 : (Jvm.Cond.soleField "ForecastHall" "draft") ∈ lw_all := lw_g (lw_at lw_m1 227 rfl) rfl
theorem q288 : (Jvm.Cond.laysFinal "ForecastHall" "ForecastHall" "plan" "LForecastHall$Plan;") ∈ lw_all := lw_g (lw_at lw_m1 228 rfl) rfl
theorem q289 : (Jvm.Cond.soleField "ForecastHall" "plan") ∈ lw_all := lw_g (lw_at lw_m1 229 rfl) rfl
theorem q290 : (Jvm.Cond.lays "ForecastHall" "ForecastHall" "wide" "I") ∈ lw_all := lw_g (lw_at lw_m1 230 rfl) rfl
theorem q291 : (Jvm.Cond.soleField "ForecastHall" "wide") ∈ lw_all := lw_g (lw_at lw_m1 231 rfl) rfl
theorem q292 : (Jvm.Cond.lays "ForecastHall" "ForecastHall" "high" "I") ∈ lw_all := lw_g (lw_at lw_m1 232 rfl) rfl
theorem q293 : (Jvm.Cond.soleField "ForecastHall" "high") ∈ lw_all := lw_g (lw_at lw_m1 233 rfl) rfl
theorem q294 : (Jvm.Cond.lays "ForecastHall" "ForecastHall" "edge" "I") ∈ lw_all := lw_g (lw_at lw_m1 234 rfl) rfl
theorem q295 : (Jvm.Cond.soleField "ForecastHall" "edge") ∈ lw_all := lw_g (lw_at lw_m1 235 rfl) rfl
theorem q296 : (Jvm.Cond.laysFinal "ForecastHall" "ForecastHall" "rims" "[I") ∈ lw_all := lw_g (lw_at lw_m1 236 rfl) rfl
theorem q297 : (Jvm.Cond.soleField "ForecastHall" "rims") ∈ lw_all := lw_g (lw_at lw_m1 237 rfl) rfl
theorem q298 : (Jvm.Cond.laysFinal "ForecastHall" "ForecastHall" "firsts" "[I") ∈ lw_all := lw_g (lw_at lw_m1 238 rfl) rfl
theorem q299 : (Jvm.Cond.soleField "ForecastHall" "firsts") ∈ lw_all := lw_g (lw_at lw_m1 239 rfl) rfl
theorem q300 : (Jvm.Cond.lays "ForecastHall" "ForecastHall" "slipMany" "I") ∈ lw_all := lw_g (lw_at lw_m2 0 rfl) rfl
theorem q301 : (Jvm.Cond.soleField "ForecastHall" "slipMany") ∈ lw_all := lw_g (lw_at lw_m2 1 rfl) rfl
theorem q302 : (Jvm.Cond.laysFinal "ForecastHall" "ForecastHall" "slipStep" "[I") ∈ lw_all := lw_g (lw_at lw_m2 2 rfl) rfl
theorem q303 : (Jvm.Cond.soleField "ForecastHall" "slipStep") ∈ lw_all := lw_g (lw_at lw_m2 3 rfl) rfl
theorem q304 : (Jvm.Cond.laysFinal "ForecastHall" "ForecastHall" "slipCell" "[I") ∈ lw_all := lw_g (lw_at lw_m2 4 rfl) rfl
theorem q305 : (Jvm.Cond.soleField "ForecastHall" "slipCell") ∈ lw_all := lw_g (lw_at lw_m2 5 rfl) rfl
theorem q306 : (Jvm.Cond.laysFinal "ForecastHall" "ForecastHall" "slipLetter" "[I") ∈ lw_all := lw_g (lw_at lw_m2 6 rfl) rfl
theorem q307 : (Jvm.Cond.soleField "ForecastHall" "slipLetter") ∈ lw_all := lw_g (lw_at lw_m2 7 rfl) rfl
theorem q308 : (Jvm.Cond.laysFinal "ForecastHall" "ForecastHall" "slipAmount" "[I") ∈ lw_all := lw_g (lw_at lw_m2 8 rfl) rfl
theorem q309 : (Jvm.Cond.soleField "ForecastHall" "slipAmount") ∈ lw_all := lw_g (lw_at lw_m2 9 rfl) rfl
theorem q310 : (Jvm.Cond.lays "ForecastHall" "ForecastHall" "isFresh" "Z") ∈ lw_all := lw_g (lw_at lw_m2 10 rfl) rfl
theorem q311 : (Jvm.Cond.soleField "ForecastHall" "isFresh") ∈ lw_all := lw_g (lw_at lw_m2 11 rfl) rfl
theorem q312 : (Jvm.Cond.laysFinal "ForecastHall" "ForecastHall" "right" "LForecastHall$Sky;") ∈ lw_all := lw_g (lw_at lw_m2 12 rfl) rfl
theorem q313 : (Jvm.Cond.soleField "ForecastHall" "right") ∈ lw_all := lw_g (lw_at lw_m2 13 rfl) rfl
theorem q314 : (Jvm.Cond.laysFinal "ForecastHall" "ForecastHall" "hall" "LForecastHall$Sky;") ∈ lw_all := lw_g (lw_at lw_m2 14 rfl) rfl
theorem q315 : (Jvm.Cond.soleField "ForecastHall" "hall") ∈ lw_all := lw_g (lw_at lw_m2 15 rfl) rfl
theorem q316 : (Jvm.Cond.laysFinal "ForecastHall" "ForecastHall" "other" "LForecastHall$Sky;") ∈ lw_all := lw_g (lw_at lw_m2 16 rfl) rfl
theorem q317 : (Jvm.Cond.soleField "ForecastHall" "other") ∈ lw_all := lw_g (lw_at lw_m2 17 rfl) rfl
theorem q318 : (Jvm.Cond.lays "ForecastHall" "ForecastHall" "toldStep" "I") ∈ lw_all := lw_g (lw_at lw_m2 18 rfl) rfl
theorem q319 : (Jvm.Cond.soleField "ForecastHall" "toldStep") ∈ lw_all := lw_g (lw_at lw_m2 19 rfl) rfl
theorem q320 : (Jvm.Cond.lays "ForecastHall" "ForecastHall" "toldLetter" "I") ∈ lw_all := lw_g (lw_at lw_m2 20 rfl) rfl
theorem q321 : (Jvm.Cond.soleField "ForecastHall" "toldLetter") ∈ lw_all := lw_g (lw_at lw_m2 21 rfl) rfl
theorem q322 : (Jvm.Cond.laysFinal "ForecastHall" "ForecastHall" "told" "[J") ∈ lw_all := lw_g (lw_at lw_m2 22 rfl) rfl
theorem q323 : (Jvm.Cond.soleField "ForecastHall" "told") ∈ lw_all := lw_g (lw_at lw_m2 23 rfl) rfl
theorem q324 : (Jvm.Cond.laysFinal "ForecastHall" "ForecastHall" "offs" "[J") ∈ lw_all := lw_g (lw_at lw_m2 24 rfl) rfl
theorem q325 : (Jvm.Cond.soleField "ForecastHall" "offs") ∈ lw_all := lw_g (lw_at lw_m2 25 rfl) rfl
theorem q326 : (Jvm.Cond.laysFinal "ForecastHall" "ForecastHall" "groups" "[I") ∈ lw_all := lw_g (lw_at lw_m2 26 rfl) rfl
theorem q327 : (Jvm.Cond.soleField "ForecastHall" "groups") ∈ lw_all := lw_g (lw_at lw_m2 27 rfl) rfl
theorem q328 : (Jvm.Cond.laysFinal "ForecastHall" "ForecastHall" "judged" "[I") ∈ lw_all := lw_g (lw_at lw_m2 28 rfl) rfl
theorem q329 : (Jvm.Cond.soleField "ForecastHall" "judged") ∈ lw_all := lw_g (lw_at lw_m2 29 rfl) rfl
theorem q330 : (Jvm.Cond.lays "ForecastHall" "ForecastHall" "walk" "I") ∈ lw_all := lw_g (lw_at lw_m2 30 rfl) rfl
theorem q331 : (Jvm.Cond.soleField "ForecastHall" "walk") ∈ lw_all := lw_g (lw_at lw_m2 31 rfl) rfl
theorem q332 : (Jvm.Cond.laysFinal "ForecastHall" "ForecastHall" "paces" "[I") ∈ lw_all := lw_g (lw_at lw_m2 32 rfl) rfl
theorem q333 : (Jvm.Cond.soleField "ForecastHall" "paces") ∈ lw_all := lw_g (lw_at lw_m2 33 rfl) rfl
theorem q334 : (Jvm.Cond.laysFinal "ForecastHall" "ForecastHall" "owners" "[I") ∈ lw_all := lw_g (lw_at lw_m2 34 rfl) rfl
theorem q335 : (Jvm.Cond.soleField "ForecastHall" "owners") ∈ lw_all := lw_g (lw_at lw_m2 35 rfl) rfl
theorem q336 : (Jvm.Cond.laysFinal "ForecastHall" "ForecastHall" "trial" "[I") ∈ lw_all := lw_g (lw_at lw_m2 36 rfl) rfl
theorem q337 : (Jvm.Cond.soleField "ForecastHall" "trial") ∈ lw_all := lw_g (lw_at lw_m2 37 rfl) rfl
theorem q338 : (Jvm.Cond.laysFinal "ForecastHall" "ForecastHall" "ends" "[I") ∈ lw_all := lw_g (lw_at lw_m2 38 rfl) rfl
theorem q339 : (Jvm.Cond.soleField "ForecastHall" "ends") ∈ lw_all := lw_g (lw_at lw_m2 39 rfl) rfl
theorem q340 : (Jvm.Cond.laysFinal "ForecastHall" "ForecastHall" "frees" "[I") ∈ lw_all := lw_g (lw_at lw_m2 40 rfl) rfl
theorem q341 : (Jvm.Cond.soleField "ForecastHall" "frees") ∈ lw_all := lw_g (lw_at lw_m2 41 rfl) rfl
theorem q342 : (Jvm.Cond.laysFinal "ForecastHall" "ForecastHall" "best" "[I") ∈ lw_all := lw_g (lw_at lw_m2 42 rfl) rfl
theorem q343 : (Jvm.Cond.soleField "ForecastHall" "best") ∈ lw_all := lw_g (lw_at lw_m2 43 rfl) rfl
theorem q344 : (Jvm.Cond.laysFinal "ForecastHall" "ForecastHall" "kept" "[LForecastHall$Kept;") ∈ lw_all := lw_g (lw_at lw_m2 44 rfl) rfl
theorem q345 : (Jvm.Cond.soleField "ForecastHall" "kept") ∈ lw_all := lw_g (lw_at lw_m2 45 rfl) rfl
theorem q346 : (Jvm.Cond.lays "ForecastHall" "ForecastHall" "keptMany" "I") ∈ lw_all := lw_g (lw_at lw_m2 46 rfl) rfl
theorem q347 : (Jvm.Cond.soleField "ForecastHall" "keptMany") ∈ lw_all := lw_g (lw_at lw_m2 47 rfl) rfl
theorem q348 : (Jvm.Cond.superclass "ForecastHall" "java/lang/Object") ∈ lw_all := lw_g (lw_at lw_m2 48 rfl) rfl
theorem q350 : (Jvm.Cond.instanceMethod ({ cls := "ForecastHall", name := "sky", desc := "(II)I" } : Jvm.MethodName)) ∈ lw_all := lw_g (lw_at lw_m2 50 rfl) rfl
theorem q351 : (Jvm.Cond.selects "ForecastHall" ({ cls := "ForecastHall", name := "sky", desc := "(II)I" } : Jvm.MethodName) ({ cls := "ForecastHall", name := "sky", desc := "(II)I" } : Jvm.MethodName)) ∈ lw_all := lw_g (lw_at lw_m2 51 rfl) rfl
theorem q352 : (Jvm.Cond.code ({ cls := "ForecastHall", name := "sky", desc := "(II)I" } : Jvm.MethodName) prog_1_method_8_code (3 : Nat) (Option.some Jvm.ClassFile.FieldType.int)) ∈ lw_all := lw_g (lw_at lw_m2 52 rfl) rfl
theorem q353 : (Jvm.Cond.constantLong "ForecastHall" (141 : Nat) (2 : Int64)) ∈ lw_all := lw_g (lw_at lw_m2 53 rfl) rfl
theorem q354 : (Jvm.Cond.constantLong "ForecastHall" (143 : Nat) (6 : Int64)) ∈ lw_all := lw_g (lw_at lw_m2 54 rfl) rfl
theorem q355 : (Jvm.Cond.methodLink "ForecastHall" (5 : Nat) ({ cls := "ForecastHall", name := "isIn", desc := "(JJJ)Z" } : Jvm.MethodName)) ∈ lw_all := lw_g (lw_at lw_m2 55 rfl) rfl
theorem q356 : (Jvm.Cond.static ({ cls := "ForecastHall", name := "isIn", desc := "(JJJ)Z" } : Jvm.MethodName)) ∈ lw_all := lw_g (lw_at lw_m2 56 rfl) rfl
theorem q357 : (Jvm.Cond.code ({ cls := "ForecastHall", name := "isIn", desc := "(JJJ)Z" } : Jvm.MethodName) prog_1_method_1_code (6 : Nat) (Option.some Jvm.ClassFile.FieldType.boolean)) ∈ lw_all := lw_g (lw_at lw_m2 57 rfl) rfl
theorem q358 : (Jvm.Cond.methodLink "ForecastHall" (121 : Nat) ({ cls := "ForecastHall", name := "cells", desc := "()I" } : Jvm.MethodName)) ∈ lw_all := lw_g (lw_at lw_m2 58 rfl) rfl
theorem q359 : (Jvm.Cond.privateMethod ({ cls := "ForecastHall", name := "cells", desc := "()I" } : Jvm.MethodName)) ∈ lw_tbl := lw_at lw_m2 59 rfl
theorem q360 : (Jvm.Cond.instanceMethod ({ cls := "ForecastHall", name := "cells", desc := "()I" } : Jvm.MethodName)) ∈ lw_all := lw_g (lw_at lw_m2 60 rfl) rfl
theorem q361 : (Jvm.Cond.code ({ cls := "ForecastHall", name := "cells", desc := "()I" } : Jvm.MethodName) prog_1_method_4_code (1 : Nat) (Option.some Jvm.ClassFile.FieldType.int)) ∈ lw_all := lw_g (lw_at lw_m2 61 rfl) rfl
theorem q363 : (Jvm.Cond.instanceMethod ({ cls := "ForecastHall", name := "rule", desc := "(II)I" } : Jvm.MethodName)) ∈ lw_all := lw_g (lw_at lw_m2 63 rfl) rfl
theorem q364 : (Jvm.Cond.selects "ForecastHall" ({ cls := "ForecastHall", name := "rule", desc := "(II)I" } : Jvm.MethodName) ({ cls := "ForecastHall", name := "rule", desc := "(II)I" } : Jvm.MethodName)) ∈ lw_all := lw_g (lw_at lw_m2 64 rfl) rfl
theorem q365 : (Jvm.Cond.code ({ cls := "ForecastHall", name := "rule", desc := "(II)I" } : Jvm.MethodName) prog_1_method_9_code (4 : Nat) (Option.some Jvm.ClassFile.FieldType.int)) ∈ lw_all := lw_g (lw_at lw_m2 65 rfl) rfl
theorem q366 : (Jvm.Cond.constantLong "ForecastHall" (145 : Nat) (9 : Int64)) ∈ lw_all := lw_g (lw_at lw_m2 66 rfl) rfl
theorem q368 : (Jvm.Cond.instanceMethod ({ cls := "ForecastHall", name := "rim", desc := "(II)I" } : Jvm.MethodName)) ∈ lw_all := lw_g (lw_at lw_m2 68 rfl) rfl
theorem q369 : (Jvm.Cond.selects "ForecastHall" ({ cls := "ForecastHall", name := "rim", desc := "(II)I" } : Jvm.MethodName) ({ cls := "ForecastHall", name := "rim", desc := "(II)I" } : Jvm.MethodName)) ∈ lw_all := lw_g (lw_at lw_m2 69 rfl) rfl
theorem q370 : (Jvm.Cond.code ({ cls := "ForecastHall", name := "rim", desc := "(II)I" } : Jvm.MethodName) prog_1_method_10_code (4 : Nat) (Option.some Jvm.ClassFile.FieldType.int)) ∈ lw_all := lw_g (lw_at lw_m2 70 rfl) rfl
theorem q371 : (Jvm.Cond.methodLink "ForecastHall" (150 : Nat) ({ cls := "ForecastHall", name := "isLetter", desc := "(I)Z" } : Jvm.MethodName)) ∈ lw_all := lw_g (lw_at lw_m2 71 rfl) rfl
theorem q372 : (Jvm.Cond.static ({ cls := "ForecastHall", name := "isLetter", desc := "(I)Z" } : Jvm.MethodName)) ∈ lw_all := lw_g (lw_at lw_m2 72 rfl) rfl
theorem q373 : (Jvm.Cond.code ({ cls := "ForecastHall", name := "isLetter", desc := "(I)Z" } : Jvm.MethodName) prog_1_method_2_code (1 : Nat) (Option.some Jvm.ClassFile.FieldType.boolean)) ∈ lw_all := lw_g (lw_at lw_m2 73 rfl) rfl
theorem q374 : (Jvm.Cond.constantLong "ForecastHall" (3 : Nat) (3 : Int64)) ∈ lw_all := lw_g (lw_at lw_m2 74 rfl) rfl
theorem q375 : (Jvm.Cond.constantLong "ForecastHall" (154 : Nat) (-1000000 : Int64)) ∈ lw_all := lw_g (lw_at lw_m2 75 rfl) rfl
theorem q376 : (Jvm.Cond.constantLong "ForecastHall" (156 : Nat) (1000000 : Int64)) ∈ lw_all := lw_g (lw_at lw_m2 76 rfl) rfl
theorem q377 : (Jvm.Cond.constant "ForecastHall" (158 : Nat) (-2000000 : Int32)) ∈ lw_all := lw_g (lw_at lw_m2 77 rfl) rfl
theorem q379 : (Jvm.Cond.instanceMethod ({ cls := "ForecastHall", name := "write", desc := "(IJ)I" } : Jvm.MethodName)) ∈ lw_all := lw_g (lw_at lw_m2 79 rfl) rfl
theorem q380 : (Jvm.Cond.selects "ForecastHall" ({ cls := "ForecastHall", name := "write", desc := "(IJ)I" } : Jvm.MethodName) ({ cls := "ForecastHall", name := "write", desc := "(IJ)I" } : Jvm.MethodName)) ∈ lw_all := lw_g (lw_at lw_m2 80 rfl) rfl
theorem q381 : (Jvm.Cond.code ({ cls := "ForecastHall", name := "write", desc := "(IJ)I" } : Jvm.MethodName) prog_1_method_11_code (5 : Nat) (Option.some Jvm.ClassFile.FieldType.int)) ∈ lw_all := lw_g (lw_at lw_m2 81 rfl) rfl
theorem q382 : (Jvm.Cond.constantLong "ForecastHall" (159 : Nat) (8 : Int64)) ∈ lw_all := lw_g (lw_at lw_m2 82 rfl) rfl
theorem q384 : (Jvm.Cond.instanceMethod ({ cls := "ForecastHall", name := "wipe", desc := "()I" } : Jvm.MethodName)) ∈ lw_all := lw_g (lw_at lw_m2 84 rfl) rfl
theorem q385 : (Jvm.Cond.selects "ForecastHall" ({ cls := "ForecastHall", name := "wipe", desc := "()I" } : Jvm.MethodName) ({ cls := "ForecastHall", name := "wipe", desc := "()I" } : Jvm.MethodName)) ∈ lw_all := lw_g (lw_at lw_m2 85 rfl) rfl
theorem q386 : (Jvm.Cond.code ({ cls := "ForecastHall", name := "wipe", desc := "()I" } : Jvm.MethodName) prog_1_method_12_code (2 : Nat) (Option.some Jvm.ClassFile.FieldType.int)) ∈ lw_all := lw_g (lw_at lw_m2 86 rfl) rfl
theorem q388 : (Jvm.Cond.instanceMethod ({ cls := "ForecastHall", name := "fault", desc := "()I" } : Jvm.MethodName)) ∈ lw_all := lw_g (lw_at lw_m2 88 rfl) rfl
theorem q389 : (Jvm.Cond.selects "ForecastHall" ({ cls := "ForecastHall", name := "fault", desc := "()I" } : Jvm.MethodName) ({ cls := "ForecastHall", name := "fault", desc := "()I" } : Jvm.MethodName)) ∈ lw_all := lw_g (lw_at lw_m2 89 rfl) rfl
theorem q390 : (Jvm.Cond.code ({ cls := "ForecastHall", name := "fault", desc := "()I" } : Jvm.MethodName) prog_1_method_13_code (1 : Nat) (Option.some Jvm.ClassFile.FieldType.int)) ∈ lw_all := lw_g (lw_at lw_m2 90 rfl) rfl
theorem q391 : (Jvm.Cond.methodLink "ForecastHall" (164 : Nat) ({ cls := "ForecastHall$Reader", name := "reads", desc := "()I" } : Jvm.MethodName)) ∈ lw_all := lw_g (lw_at lw_m2 91 rfl) rfl
theorem q440 : (Jvm.Cond.instanceMethod ({ cls := "ForecastHall", name := "plan", desc := "()I" } : Jvm.MethodName)) ∈ lw_all := lw_g (lw_at lw_m2 140 rfl) rfl
theorem q441 : (Jvm.Cond.selects "ForecastHall" ({ cls := "ForecastHall", name := "plan", desc := "()I" } : Jvm.MethodName) ({ cls := "ForecastHall", name := "plan", desc := "()I" } : Jvm.MethodName)) ∈ lw_all := lw_g (lw_at lw_m2 141 rfl) rfl
theorem q442 : (Jvm.Cond.code ({ cls := "ForecastHall", name := "plan", desc := "()I" } : Jvm.MethodName) prog_1_method_14_code (1 : Nat) (Option.some Jvm.ClassFile.FieldType.int)) ∈ lw_all := lw_g (lw_at lw_m2 142 rfl) rfl
theorem q443 : (Jvm.Cond.methodLink "ForecastHall" (167 : Nat) ({ cls := "ForecastHall$Plan", name := "copy", desc := "(LForecastHall$Plan;)V" } : Jvm.MethodName)) ∈ lw_all := lw_g (lw_at lw_m2 143 rfl) rfl
theorem q451 : (Jvm.Cond.instanceMethod ({ cls := "ForecastHall", name := "line", desc := "(II)I" } : Jvm.MethodName)) ∈ lw_all := lw_g (lw_at lw_m2 151 rfl) rfl
theorem q452 : (Jvm.Cond.selects "ForecastHall" ({ cls := "ForecastHall", name := "line", desc := "(II)I" } : Jvm.MethodName) ({ cls := "ForecastHall", name := "line", desc := "(II)I" } : Jvm.MethodName)) ∈ lw_all := lw_g (lw_at lw_m2 152 rfl) rfl
theorem q453 : (Jvm.Cond.code ({ cls := "ForecastHall", name := "line", desc := "(II)I" } : Jvm.MethodName) prog_1_method_15_code (4 : Nat) (Option.some Jvm.ClassFile.FieldType.int)) ∈ lw_all := lw_g (lw_at lw_m2 153 rfl) rfl
theorem q454 : (Jvm.Cond.constantLong "ForecastHall" (174 : Nat) (4 : Int64)) ∈ lw_all := lw_g (lw_at lw_m2 154 rfl) rfl
theorem q455 : (Jvm.Cond.methodLink "ForecastHall" (176 : Nat) ({ cls := "ForecastHall$Plan", name := "lineOf", desc := "(I)I" } : Jvm.MethodName)) ∈ lw_all := lw_g (lw_at lw_m2 155 rfl) rfl
theorem q456 : (Jvm.Cond.methodLink "ForecastHall" (190 : Nat) ({ cls := "ForecastHall$Plan", name := "hasProduct", desc := "(I)Z" } : Jvm.MethodName)) ∈ lw_all := lw_g (lw_at lw_m2 156 rfl) rfl
theorem q461 : (Jvm.Cond.instanceMethod ({ cls := "ForecastHall", name := "first", desc := "(III)I" } : Jvm.MethodName)) ∈ lw_all := lw_g (lw_at lw_m2 161 rfl) rfl
theorem q462 : (Jvm.Cond.selects "ForecastHall" ({ cls := "ForecastHall", name := "first", desc := "(III)I" } : Jvm.MethodName) ({ cls := "ForecastHall", name := "first", desc := "(III)I" } : Jvm.MethodName)) ∈ lw_all := lw_g (lw_at lw_m2 162 rfl) rfl
theorem q463 : (Jvm.Cond.code ({ cls := "ForecastHall", name := "first", desc := "(III)I" } : Jvm.MethodName) prog_1_method_17_code (5 : Nat) (Option.some Jvm.ClassFile.FieldType.int)) ∈ lw_all := lw_g (lw_at lw_m2 163 rfl) rfl
theorem q464 : (Jvm.Cond.methodLink "ForecastHall" (200 : Nat) ({ cls := "ForecastHall", name := "isCell", desc := "(I)Z" } : Jvm.MethodName)) ∈ lw_all := lw_g (lw_at lw_m2 164 rfl) rfl
theorem q465 : (Jvm.Cond.privateMethod ({ cls := "ForecastHall", name := "isCell", desc := "(I)Z" } : Jvm.MethodName)) ∈ lw_tbl := lw_at lw_m2 165 rfl
theorem q466 : (Jvm.Cond.instanceMethod ({ cls := "ForecastHall", name := "isCell", desc := "(I)Z" } : Jvm.MethodName)) ∈ lw_all := lw_g (lw_at lw_m2 166 rfl) rfl
theorem q467 : (Jvm.Cond.code ({ cls := "ForecastHall", name := "isCell", desc := "(I)Z" } : Jvm.MethodName) prog_1_method_5_code (2 : Nat) (Option.some Jvm.ClassFile.FieldType.boolean)) ∈ lw_all := lw_g (lw_at lw_m2 167 rfl) rfl
theorem q469 : (Jvm.Cond.instanceMethod ({ cls := "ForecastHall", name := "at", desc := "(ZIII)I" } : Jvm.MethodName)) ∈ lw_all := lw_g (lw_at lw_m2 169 rfl) rfl
theorem q470 : (Jvm.Cond.selects "ForecastHall" ({ cls := "ForecastHall", name := "at", desc := "(ZIII)I" } : Jvm.MethodName) ({ cls := "ForecastHall", name := "at", desc := "(ZIII)I" } : Jvm.MethodName)) ∈ lw_all := lw_g (lw_at lw_m2 170 rfl) rfl
theorem q471 : (Jvm.Cond.code ({ cls := "ForecastHall", name := "at", desc := "(ZIII)I" } : Jvm.MethodName) prog_1_method_19_code (5 : Nat) (Option.some Jvm.ClassFile.FieldType.int)) ∈ lw_all := lw_g (lw_at lw_m2 171 rfl) rfl
theorem q472 : (Jvm.Cond.methodLink "ForecastHall" (206 : Nat) ({ cls := "ForecastHall", name := "isPlace", desc := "(III)Z" } : Jvm.MethodName)) ∈ lw_all := lw_g (lw_at lw_m2 172 rfl) rfl
theorem q473 : (Jvm.Cond.privateMethod ({ cls := "ForecastHall", name := "isPlace", desc := "(III)Z" } : Jvm.MethodName)) ∈ lw_tbl := lw_at lw_m2 173 rfl
theorem q474 : (Jvm.Cond.instanceMethod ({ cls := "ForecastHall", name := "isPlace", desc := "(III)Z" } : Jvm.MethodName)) ∈ lw_all := lw_g (lw_at lw_m2 174 rfl) rfl
theorem q475 : (Jvm.Cond.code ({ cls := "ForecastHall", name := "isPlace", desc := "(III)Z" } : Jvm.MethodName) prog_1_method_18_code (4 : Nat) (Option.some Jvm.ClassFile.FieldType.boolean)) ∈ lw_all := lw_g (lw_at lw_m2 175 rfl) rfl
theorem q476 : (Jvm.Cond.methodLink "ForecastHall" (203 : Nat) ({ cls := "ForecastHall", name := "isStep", desc := "(I)Z" } : Jvm.MethodName)) ∈ lw_all := lw_g (lw_at lw_m2 176 rfl) rfl
theorem q477 : (Jvm.Cond.static ({ cls := "ForecastHall", name := "isStep", desc := "(I)Z" } : Jvm.MethodName)) ∈ lw_all := lw_g (lw_at lw_m2 177 rfl) rfl
theorem q478 : (Jvm.Cond.code ({ cls := "ForecastHall", name := "isStep", desc := "(I)Z" } : Jvm.MethodName) prog_1_method_6_code (1 : Nat) (Option.some Jvm.ClassFile.FieldType.boolean)) ∈ lw_all := lw_g (lw_at lw_m2 178 rfl) rfl
theorem q479 : (Jvm.Cond.constantLong "ForecastHall" (125 : Nat) (12 : Int64)) ∈ lw_all := lw_g (lw_at lw_m2 179 rfl) rfl
theorem q480 : (Jvm.Cond.constant "ForecastHall" (210 : Nat) (-2000000000 : Int32)) ∈ lw_all := lw_g (lw_at lw_m2 180 rfl) rfl
theorem q481 : (Jvm.Cond.methodLink "ForecastHall" (211 : Nat) ({ cls := "ForecastHall", name := "refresh", desc := "()V" } : Jvm.MethodName)) ∈ lw_all := lw_g (lw_at lw_m2 181 rfl) rfl
theorem q482 : (Jvm.Cond.privateMethod ({ cls := "ForecastHall", name := "refresh", desc := "()V" } : Jvm.MethodName)) ∈ lw_tbl := lw_at lw_m2 182 rfl
theorem q483 : (Jvm.Cond.instanceMethod ({ cls := "ForecastHall", name := "refresh", desc := "()V" } : Jvm.MethodName)) ∈ lw_all := lw_g (lw_at lw_m2 183 rfl) rfl
theorem q484 : (Jvm.Cond.code ({ cls := "ForecastHall", name := "refresh", desc := "()V" } : Jvm.MethodName) prog_1_method_16_code (1 : Nat) (Option.none : Option Jvm.ClassFile.FieldType)) ∈ lw_all := lw_g (lw_at lw_m2 184 rfl) rfl
theorem q485 : (Jvm.Cond.methodLink "ForecastHall" (193 : Nat) ({ cls := "ForecastHall$Sky", name := "begin", desc := "()V" } : Jvm.MethodName)) ∈ lw_all := lw_g (lw_at lw_m2 185 rfl) rfl
theorem q510 : (Jvm.Cond.methodLink "ForecastHall" (196 : Nat) ({ cls := "ForecastHall$Sky", name := "run", desc := "(II)V" } : Jvm.MethodName)) ∈ lw_all := lw_g (lw_at lw_m2 210 rfl) rfl
theorem q553 : (Jvm.Cond.methodLink "ForecastHall" (214 : Nat) ({ cls := "ForecastHall$Sky", name := "at", desc := "(III)I" } : Jvm.MethodName)) ∈ lw_all := lw_g (lw_at lw_m3 13 rfl) rfl
theorem q555 : (Jvm.Cond.instanceMethod ({ cls := "ForecastHall", name := "marked", desc := "(III)I" } : Jvm.MethodName)) ∈ lw_all := lw_g (lw_at lw_m3 15 rfl) rfl
theorem q556 : (Jvm.Cond.selects "ForecastHall" ({ cls := "ForecastHall", name := "marked", desc := "(III)I" } : Jvm.MethodName) ({ cls := "ForecastHall", name := "marked", desc := "(III)I" } : Jvm.MethodName)) ∈ lw_all := lw_g (lw_at lw_m3 16 rfl) rfl
theorem q557 : (Jvm.Cond.code ({ cls := "ForecastHall", name := "marked", desc := "(III)I" } : Jvm.MethodName) prog_1_method_20_code (4 : Nat) (Option.some Jvm.ClassFile.FieldType.int)) ∈ lw_all := lw_g (lw_at lw_m3 17 rfl) rfl
theorem q558 : (Jvm.Cond.methodLink "ForecastHall" (221 : Nat) ({ cls := "ForecastHall$Sky", name := "place", desc := "(III)I" } : Jvm.MethodName)) ∈ lw_all := lw_g (lw_at lw_m3 18 rfl) rfl
theorem q560 : (Jvm.Cond.instanceMethod ({ cls := "ForecastHall", name := "sum", desc := "(ZII)J" } : Jvm.MethodName)) ∈ lw_all := lw_g (lw_at lw_m3 20 rfl) rfl
theorem q561 : (Jvm.Cond.selects "ForecastHall" ({ cls := "ForecastHall", name := "sum", desc := "(ZII)J" } : Jvm.MethodName) ({ cls := "ForecastHall", name := "sum", desc := "(ZII)J" } : Jvm.MethodName)) ∈ lw_all := lw_g (lw_at lw_m3 21 rfl) rfl
theorem q562 : (Jvm.Cond.code ({ cls := "ForecastHall", name := "sum", desc := "(ZII)J" } : Jvm.MethodName) prog_1_method_22_code (7 : Nat) (Option.some Jvm.ClassFile.FieldType.long)) ∈ lw_all := lw_g (lw_at lw_m3 22 rfl) rfl
theorem q563 : (Jvm.Cond.constantLong "ForecastHall" (225 : Nat) (-2000000000000 : Int64)) ∈ lw_all := lw_g (lw_at lw_m3 23 rfl) rfl
theorem q564 : (Jvm.Cond.methodLink "ForecastHall" (227 : Nat) ({ cls := "ForecastHall", name := "countOf", desc := "(I)J" } : Jvm.MethodName)) ∈ lw_all := lw_g (lw_at lw_m3 24 rfl) rfl
theorem q565 : (Jvm.Cond.static ({ cls := "ForecastHall", name := "countOf", desc := "(I)J" } : Jvm.MethodName)) ∈ lw_all := lw_g (lw_at lw_m3 25 rfl) rfl
theorem q566 : (Jvm.Cond.code ({ cls := "ForecastHall", name := "countOf", desc := "(I)J" } : Jvm.MethodName) prog_1_method_21_code (1 : Nat) (Option.some Jvm.ClassFile.FieldType.long)) ∈ lw_all := lw_g (lw_at lw_m3 26 rfl) rfl
theorem q567 : (Jvm.Cond.constant "ForecastHall" (224 : Nat) (2000000000 : Int32)) ∈ lw_all := lw_g (lw_at lw_m3 27 rfl) rfl
theorem q569 : (Jvm.Cond.instanceMethod ({ cls := "ForecastHall", name := "slip", desc := "(IIII)I" } : Jvm.MethodName)) ∈ lw_all := lw_g (lw_at lw_m3 29 rfl) rfl
theorem q570 : (Jvm.Cond.selects "ForecastHall" ({ cls := "ForecastHall", name := "slip", desc := "(IIII)I" } : Jvm.MethodName) ({ cls := "ForecastHall", name := "slip", desc := "(IIII)I" } : Jvm.MethodName)) ∈ lw_all := lw_g (lw_at lw_m3 30 rfl) rfl
theorem q571 : (Jvm.Cond.code ({ cls := "ForecastHall", name := "slip", desc := "(IIII)I" } : Jvm.MethodName) prog_1_method_23_code (5 : Nat) (Option.some Jvm.ClassFile.FieldType.int)) ∈ lw_all := lw_g (lw_at lw_m3 31 rfl) rfl
theorem q573 : (Jvm.Cond.instanceMethod ({ cls := "ForecastHall", name := "mend", desc := "()I" } : Jvm.MethodName)) ∈ lw_all := lw_g (lw_at lw_m3 33 rfl) rfl
theorem q574 : (Jvm.Cond.selects "ForecastHall" ({ cls := "ForecastHall", name := "mend", desc := "()I" } : Jvm.MethodName) ({ cls := "ForecastHall", name := "mend", desc := "()I" } : Jvm.MethodName)) ∈ lw_all := lw_g (lw_at lw_m3 34 rfl) rfl
theorem q575 : (Jvm.Cond.code ({ cls := "ForecastHall", name := "mend", desc := "()I" } : Jvm.MethodName) prog_1_method_24_code (1 : Nat) (Option.some Jvm.ClassFile.FieldType.int)) ∈ lw_all := lw_g (lw_at lw_m3 35 rfl) rfl
theorem q577 : (Jvm.Cond.instanceMethod ({ cls := "ForecastHall", name := "spread", desc := "(III)I" } : Jvm.MethodName)) ∈ lw_all := lw_g (lw_at lw_m3 37 rfl) rfl
theorem q578 : (Jvm.Cond.selects "ForecastHall" ({ cls := "ForecastHall", name := "spread", desc := "(III)I" } : Jvm.MethodName) ({ cls := "ForecastHall", name := "spread", desc := "(III)I" } : Jvm.MethodName)) ∈ lw_all := lw_g (lw_at lw_m3 38 rfl) rfl
theorem q579 : (Jvm.Cond.code ({ cls := "ForecastHall", name := "spread", desc := "(III)I" } : Jvm.MethodName) prog_1_method_25_code (10 : Nat) (Option.some Jvm.ClassFile.FieldType.int)) ∈ lw_all := lw_g (lw_at lw_m3 39 rfl) rfl
theorem q581 : (Jvm.Cond.instanceMethod ({ cls := "ForecastHall", name := "kept", desc := "(I)I" } : Jvm.MethodName)) ∈ lw_all := lw_g (lw_at lw_m3 41 rfl) rfl
theorem q582 : (Jvm.Cond.selects "ForecastHall" ({ cls := "ForecastHall", name := "kept", desc := "(I)I" } : Jvm.MethodName) ({ cls := "ForecastHall", name := "kept", desc := "(I)I" } : Jvm.MethodName)) ∈ lw_all := lw_g (lw_at lw_m3 42 rfl) rfl
theorem q583 : (Jvm.Cond.code ({ cls := "ForecastHall", name := "kept", desc := "(I)I" } : Jvm.MethodName) prog_1_method_26_code (4 : Nat) (Option.some Jvm.ClassFile.FieldType.int)) ∈ lw_all := lw_g (lw_at lw_m3 43 rfl) rfl
theorem q584 : (Jvm.Cond.methodLink "ForecastHall" (231 : Nat) ({ cls := "ForecastHall$Plan", name := "isOwn", desc := "(I)Z" } : Jvm.MethodName)) ∈ lw_all := lw_g (lw_at lw_m3 44 rfl) rfl
theorem q588 : (Jvm.Cond.methodLink "ForecastHall" (234 : Nat) ({ cls := "ForecastHall$Plan", name := "factors", desc := "(IZ)I" } : Jvm.MethodName)) ∈ lw_all := lw_g (lw_at lw_m3 48 rfl) rfl
theorem q596 : (Jvm.Cond.instanceMethod ({ cls := "ForecastHall", name := "grows", desc := "()I" } : Jvm.MethodName)) ∈ lw_all := lw_g (lw_at lw_m3 56 rfl) rfl
theorem q597 : (Jvm.Cond.selects "ForecastHall" ({ cls := "ForecastHall", name := "grows", desc := "()I" } : Jvm.MethodName) ({ cls := "ForecastHall", name := "grows", desc := "()I" } : Jvm.MethodName)) ∈ lw_all := lw_g (lw_at lw_m3 57 rfl) rfl
theorem q598 : (Jvm.Cond.code ({ cls := "ForecastHall", name := "grows", desc := "()I" } : Jvm.MethodName) prog_1_method_27_code (3 : Nat) (Option.some Jvm.ClassFile.FieldType.int)) ∈ lw_all := lw_g (lw_at lw_m3 58 rfl) rfl
theorem q600 : (Jvm.Cond.instanceMethod ({ cls := "ForecastHall", name := "tell", desc := "(IIZIJ)I" } : Jvm.MethodName)) ∈ lw_all := lw_g (lw_at lw_m3 60 rfl) rfl
theorem q601 : (Jvm.Cond.selects "ForecastHall" ({ cls := "ForecastHall", name := "tell", desc := "(IIZIJ)I" } : Jvm.MethodName) ({ cls := "ForecastHall", name := "tell", desc := "(IIZIJ)I" } : Jvm.MethodName)) ∈ lw_all := lw_g (lw_at lw_m3 61 rfl) rfl
theorem q602 : (Jvm.Cond.code ({ cls := "ForecastHall", name := "tell", desc := "(IIZIJ)I" } : Jvm.MethodName) prog_1_method_30_code (8 : Nat) (Option.some Jvm.ClassFile.FieldType.int)) ∈ lw_all := lw_g (lw_at lw_m3 62 rfl) rfl
theorem q603 : (Jvm.Cond.constantLong "ForecastHall" (240 : Nat) (-1000000000000 : Int64)) ∈ lw_all := lw_g (lw_at lw_m3 63 rfl) rfl
theorem q604 : (Jvm.Cond.constantLong "ForecastHall" (242 : Nat) (1000000000000 : Int64)) ∈ lw_all := lw_g (lw_at lw_m3 64 rfl) rfl
theorem q606 : (Jvm.Cond.instanceMethod ({ cls := "ForecastHall", name := "fails", desc := "()I" } : Jvm.MethodName)) ∈ lw_all := lw_g (lw_at lw_m3 66 rfl) rfl
theorem q607 : (Jvm.Cond.selects "ForecastHall" ({ cls := "ForecastHall", name := "fails", desc := "()I" } : Jvm.MethodName) ({ cls := "ForecastHall", name := "fails", desc := "()I" } : Jvm.MethodName)) ∈ lw_all := lw_g (lw_at lw_m3 67 rfl) rfl
theorem q608 : (Jvm.Cond.code ({ cls := "ForecastHall", name := "fails", desc := "()I" } : Jvm.MethodName) prog_1_method_32_code (3 : Nat) (Option.some Jvm.ClassFile.FieldType.int)) ∈ lw_all := lw_g (lw_at lw_m3 68 rfl) rfl
theorem q609 : (Jvm.Cond.methodLink "ForecastHall" (250 : Nat) ({ cls := "ForecastHall", name := "toldMany", desc := "()I" } : Jvm.MethodName)) ∈ lw_all := lw_g (lw_at lw_m3 69 rfl) rfl
theorem q610 : (Jvm.Cond.privateMethod ({ cls := "ForecastHall", name := "toldMany", desc := "()I" } : Jvm.MethodName)) ∈ lw_tbl := lw_at lw_m3 70 rfl
theorem q611 : (Jvm.Cond.instanceMethod ({ cls := "ForecastHall", name := "toldMany", desc := "()I" } : Jvm.MethodName)) ∈ lw_all := lw_g (lw_at lw_m3 71 rfl) rfl
theorem q612 : (Jvm.Cond.code ({ cls := "ForecastHall", name := "toldMany", desc := "()I" } : Jvm.MethodName) prog_1_method_29_code (7 : Nat) (Option.some Jvm.ClassFile.FieldType.int)) ∈ lw_all := lw_g (lw_at lw_m3 72 rfl) rfl
theorem q613 : (Jvm.Cond.methodLink "ForecastHall" (253 : Nat) ({ cls := "ForecastHall", name := "offOf", desc := "(I)J" } : Jvm.MethodName)) ∈ lw_all := lw_g (lw_at lw_m3 73 rfl) rfl
theorem q614 : (Jvm.Cond.privateMethod ({ cls := "ForecastHall", name := "offOf", desc := "(I)J" } : Jvm.MethodName)) ∈ lw_tbl := lw_at lw_m3 74 rfl
theorem q615 : (Jvm.Cond.instanceMethod ({ cls := "ForecastHall", name := "offOf", desc := "(I)J" } : Jvm.MethodName)) ∈ lw_all := lw_g (lw_at lw_m3 75 rfl) rfl
theorem q616 : (Jvm.Cond.code ({ cls := "ForecastHall", name := "offOf", desc := "(I)J" } : Jvm.MethodName) prog_1_method_31_code (5 : Nat) (Option.some Jvm.ClassFile.FieldType.long)) ∈ lw_all := lw_g (lw_at lw_m3 76 rfl) rfl
theorem q618 : (Jvm.Cond.instanceMethod ({ cls := "ForecastHall", name := "least", desc := "()I" } : Jvm.MethodName)) ∈ lw_all := lw_g (lw_at lw_m3 78 rfl) rfl
theorem q619 : (Jvm.Cond.selects "ForecastHall" ({ cls := "ForecastHall", name := "least", desc := "()I" } : Jvm.MethodName) ({ cls := "ForecastHall", name := "least", desc := "()I" } : Jvm.MethodName)) ∈ lw_all := lw_g (lw_at lw_m3 79 rfl) rfl
theorem q620 : (Jvm.Cond.code ({ cls := "ForecastHall", name := "least", desc := "()I" } : Jvm.MethodName) prog_1_method_34_code (7 : Nat) (Option.some Jvm.ClassFile.FieldType.int)) ∈ lw_all := lw_g (lw_at lw_m3 80 rfl) rfl
theorem q621 : (Jvm.Cond.methodLink "ForecastHall" (256 : Nat) ({ cls := "ForecastHall", name := "isGroup", desc := "(I)Z" } : Jvm.MethodName)) ∈ lw_all := lw_g (lw_at lw_m3 81 rfl) rfl
theorem q622 : (Jvm.Cond.privateMethod ({ cls := "ForecastHall", name := "isGroup", desc := "(I)Z" } : Jvm.MethodName)) ∈ lw_tbl := lw_at lw_m3 82 rfl
theorem q623 : (Jvm.Cond.instanceMethod ({ cls := "ForecastHall", name := "isGroup", desc := "(I)Z" } : Jvm.MethodName)) ∈ lw_all := lw_g (lw_at lw_m3 83 rfl) rfl
theorem q624 : (Jvm.Cond.code ({ cls := "ForecastHall", name := "isGroup", desc := "(I)Z" } : Jvm.MethodName) prog_1_method_33_code (5 : Nat) (Option.some Jvm.ClassFile.FieldType.boolean)) ∈ lw_all := lw_g (lw_at lw_m3 84 rfl) rfl
theorem q625 : (Jvm.Cond.methodLink "ForecastHall" (259 : Nat) ({ cls := "java/lang/Integer", name := "bitCount", desc := "(I)I" } : Jvm.MethodName)) ∈ lw_all := lw_g (lw_at lw_m3 85 rfl) rfl
theorem q632 : (Jvm.Cond.instanceMethod ({ cls := "ForecastHall", name := "second", desc := "(II)I" } : Jvm.MethodName)) ∈ lw_all := lw_g (lw_at lw_m3 92 rfl) rfl
theorem q633 : (Jvm.Cond.selects "ForecastHall" ({ cls := "ForecastHall", name := "second", desc := "(II)I" } : Jvm.MethodName) ({ cls := "ForecastHall", name := "second", desc := "(II)I" } : Jvm.MethodName)) ∈ lw_all := lw_g (lw_at lw_m3 93 rfl) rfl
theorem q634 : (Jvm.Cond.code ({ cls := "ForecastHall", name := "second", desc := "(II)I" } : Jvm.MethodName) prog_1_method_35_code (5 : Nat) (Option.some Jvm.ClassFile.FieldType.int)) ∈ lw_all := lw_g (lw_at lw_m3 94 rfl) rfl
theorem q635 : (Jvm.Cond.methodLink "ForecastHall" (264 : Nat) ({ cls := "ForecastHall", name := "anew", desc := "(III)I" } : Jvm.MethodName)) ∈ lw_all := lw_g (lw_at lw_m3 95 rfl) rfl
theorem q636 : (Jvm.Cond.privateMethod ({ cls := "ForecastHall", name := "anew", desc := "(III)I" } : Jvm.MethodName)) ∈ lw_tbl := lw_at lw_m3 96 rfl
theorem q637 : (Jvm.Cond.instanceMethod ({ cls := "ForecastHall", name := "anew", desc := "(III)I" } : Jvm.MethodName)) ∈ lw_all := lw_g (lw_at lw_m3 97 rfl) rfl
theorem q638 : (Jvm.Cond.code ({ cls := "ForecastHall", name := "anew", desc := "(III)I" } : Jvm.MethodName) prog_1_method_36_code (5 : Nat) (Option.some Jvm.ClassFile.FieldType.int)) ∈ lw_all := lw_g (lw_at lw_m3 98 rfl) rfl
theorem q639 : (Jvm.Cond.methodLink "ForecastHall" (267 : Nat) ({ cls := "ForecastHall$Sky", name := "made", desc := "(III)I" } : Jvm.MethodName)) ∈ lw_all := lw_g (lw_at lw_m3 99 rfl) rfl
theorem q641 : (Jvm.Cond.instanceMethod ({ cls := "ForecastHall", name := "put", desc := "(II)I" } : Jvm.MethodName)) ∈ lw_all := lw_g (lw_at lw_m3 101 rfl) rfl
theorem q642 : (Jvm.Cond.selects "ForecastHall" ({ cls := "ForecastHall", name := "put", desc := "(II)I" } : Jvm.MethodName) ({ cls := "ForecastHall", name := "put", desc := "(II)I" } : Jvm.MethodName)) ∈ lw_all := lw_g (lw_at lw_m3 102 rfl) rfl
theorem q643 : (Jvm.Cond.code ({ cls := "ForecastHall", name := "put", desc := "(II)I" } : Jvm.MethodName) prog_1_method_37_code (4 : Nat) (Option.some Jvm.ClassFile.FieldType.int)) ∈ lw_all := lw_g (lw_at lw_m3 103 rfl) rfl
theorem q644 : (Jvm.Cond.constantLong "ForecastHall" (270 : Nat) (-1000000000 : Int64)) ∈ lw_all := lw_g (lw_at lw_m3 104 rfl) rfl
theorem q645 : (Jvm.Cond.constantLong "ForecastHall" (272 : Nat) (1000000000 : Int64)) ∈ lw_all := lw_g (lw_at lw_m3 105 rfl) rfl
theorem q647 : (Jvm.Cond.instanceMethod ({ cls := "ForecastHall", name := "judge", desc := "(II)I" } : Jvm.MethodName)) ∈ lw_all := lw_g (lw_at lw_m3 107 rfl) rfl
theorem q648 : (Jvm.Cond.selects "ForecastHall" ({ cls := "ForecastHall", name := "judge", desc := "(II)I" } : Jvm.MethodName) ({ cls := "ForecastHall", name := "judge", desc := "(II)I" } : Jvm.MethodName)) ∈ lw_all := lw_g (lw_at lw_m3 108 rfl) rfl
theorem q649 : (Jvm.Cond.code ({ cls := "ForecastHall", name := "judge", desc := "(II)I" } : Jvm.MethodName) prog_1_method_38_code (4 : Nat) (Option.some Jvm.ClassFile.FieldType.int)) ∈ lw_all := lw_g (lw_at lw_m3 109 rfl) rfl
theorem q651 : (Jvm.Cond.instanceMethod ({ cls := "ForecastHall", name := "pace", desc := "(II)I" } : Jvm.MethodName)) ∈ lw_all := lw_g (lw_at lw_m3 111 rfl) rfl
theorem q652 : (Jvm.Cond.selects "ForecastHall" ({ cls := "ForecastHall", name := "pace", desc := "(II)I" } : Jvm.MethodName) ({ cls := "ForecastHall", name := "pace", desc := "(II)I" } : Jvm.MethodName)) ∈ lw_all := lw_g (lw_at lw_m3 112 rfl) rfl
theorem q653 : (Jvm.Cond.code ({ cls := "ForecastHall", name := "pace", desc := "(II)I" } : Jvm.MethodName) prog_1_method_40_code (4 : Nat) (Option.some Jvm.ClassFile.FieldType.int)) ∈ lw_all := lw_g (lw_at lw_m3 113 rfl) rfl
theorem q654 : (Jvm.Cond.methodLink "ForecastHall" (276 : Nat) ({ cls := "ForecastHall", name := "isPerson", desc := "(I)Z" } : Jvm.MethodName)) ∈ lw_all := lw_g (lw_at lw_m3 114 rfl) rfl
theorem q655 : (Jvm.Cond.static ({ cls := "ForecastHall", name := "isPerson", desc := "(I)Z" } : Jvm.MethodName)) ∈ lw_all := lw_g (lw_at lw_m3 115 rfl) rfl
theorem q656 : (Jvm.Cond.code ({ cls := "ForecastHall", name := "isPerson", desc := "(I)Z" } : Jvm.MethodName) prog_1_method_39_code (1 : Nat) (Option.some Jvm.ClassFile.FieldType.boolean)) ∈ lw_all := lw_g (lw_at lw_m3 116 rfl) rfl
theorem q657 : (Jvm.Cond.constantLong "ForecastHall" (274 : Nat) (5 : Int64)) ∈ lw_all := lw_g (lw_at lw_m3 117 rfl) rfl
theorem q658 : (Jvm.Cond.constantLong "ForecastHall" (279 : Nat) (20 : Int64)) ∈ lw_all := lw_g (lw_at lw_m3 118 rfl) rfl
theorem q660 : (Jvm.Cond.instanceMethod ({ cls := "ForecastHall", name := "give", desc := "(II)I" } : Jvm.MethodName)) ∈ lw_all := lw_g (lw_at lw_m3 120 rfl) rfl
theorem q661 : (Jvm.Cond.selects "ForecastHall" ({ cls := "ForecastHall", name := "give", desc := "(II)I" } : Jvm.MethodName) ({ cls := "ForecastHall", name := "give", desc := "(II)I" } : Jvm.MethodName)) ∈ lw_all := lw_g (lw_at lw_m3 121 rfl) rfl
theorem q662 : (Jvm.Cond.code ({ cls := "ForecastHall", name := "give", desc := "(II)I" } : Jvm.MethodName) prog_1_method_41_code (4 : Nat) (Option.some Jvm.ClassFile.FieldType.int)) ∈ lw_all := lw_g (lw_at lw_m3 122 rfl) rfl
theorem q664 : (Jvm.Cond.instanceMethod ({ cls := "ForecastHall", name := "when", desc := "(II)I" } : Jvm.MethodName)) ∈ lw_all := lw_g (lw_at lw_m3 124 rfl) rfl
theorem q665 : (Jvm.Cond.selects "ForecastHall" ({ cls := "ForecastHall", name := "when", desc := "(II)I" } : Jvm.MethodName) ({ cls := "ForecastHall", name := "when", desc := "(II)I" } : Jvm.MethodName)) ∈ lw_all := lw_g (lw_at lw_m3 125 rfl) rfl
theorem q666 : (Jvm.Cond.code ({ cls := "ForecastHall", name := "when", desc := "(II)I" } : Jvm.MethodName) prog_1_method_44_code (3 : Nat) (Option.some Jvm.ClassFile.FieldType.int)) ∈ lw_all := lw_g (lw_at lw_m3 126 rfl) rfl
theorem q667 : (Jvm.Cond.methodLink "ForecastHall" (296 : Nat) ({ cls := "ForecastHall", name := "layEnds", desc := "([II)V" } : Jvm.MethodName)) ∈ lw_all := lw_g (lw_at lw_m3 127 rfl) rfl
theorem q668 : (Jvm.Cond.privateMethod ({ cls := "ForecastHall", name := "layEnds", desc := "([II)V" } : Jvm.MethodName)) ∈ lw_tbl := lw_at lw_m3 128 rfl
theorem q669 : (Jvm.Cond.instanceMethod ({ cls := "ForecastHall", name := "layEnds", desc := "([II)V" } : Jvm.MethodName)) ∈ lw_all := lw_g (lw_at lw_m3 129 rfl) rfl
theorem q670 : (Jvm.Cond.code ({ cls := "ForecastHall", name := "layEnds", desc := "([II)V" } : Jvm.MethodName) prog_1_method_42_code (8 : Nat) (Option.none : Option Jvm.ClassFile.FieldType)) ∈ lw_all := lw_g (lw_at lw_m3 130 rfl) rfl
theorem q671 : (Jvm.Cond.methodLink "ForecastHall" (287 : Nat) ({ cls := "ForecastHall$Sky", name := "neighbour", desc := "(II)I" } : Jvm.MethodName)) ∈ lw_all := lw_g (lw_at lw_m3 131 rfl) rfl
theorem q672 : (Jvm.Cond.methodLink "ForecastHall" (291 : Nat) ({ cls := "java/lang/Math", name := "max", desc := "(II)I" } : Jvm.MethodName)) ∈ lw_all := lw_g (lw_at lw_m3 132 rfl) rfl
theorem q675 : (Jvm.Cond.methodLink "ForecastHall" (300 : Nat) ({ cls := "ForecastHall", name := "lastOf", desc := "(I)I" } : Jvm.MethodName)) ∈ lw_all := lw_g (lw_at lw_m3 135 rfl) rfl
theorem q676 : (Jvm.Cond.privateMethod ({ cls := "ForecastHall", name := "lastOf", desc := "(I)I" } : Jvm.MethodName)) ∈ lw_tbl := lw_at lw_m3 136 rfl
theorem q677 : (Jvm.Cond.instanceMethod ({ cls := "ForecastHall", name := "lastOf", desc := "(I)I" } : Jvm.MethodName)) ∈ lw_all := lw_g (lw_at lw_m3 137 rfl) rfl
theorem q678 : (Jvm.Cond.code ({ cls := "ForecastHall", name := "lastOf", desc := "(I)I" } : Jvm.MethodName) prog_1_method_43_code (4 : Nat) (Option.some Jvm.ClassFile.FieldType.int)) ∈ lw_all := lw_g (lw_at lw_m3 138 rfl) rfl
theorem q680 : (Jvm.Cond.instanceMethod ({ cls := "ForecastHall", name := "slowest", desc := "(I)I" } : Jvm.MethodName)) ∈ lw_all := lw_g (lw_at lw_m3 140 rfl) rfl
theorem q681 : (Jvm.Cond.selects "ForecastHall" ({ cls := "ForecastHall", name := "slowest", desc := "(I)I" } : Jvm.MethodName) ({ cls := "ForecastHall", name := "slowest", desc := "(I)I" } : Jvm.MethodName)) ∈ lw_all := lw_g (lw_at lw_m3 141 rfl) rfl
theorem q682 : (Jvm.Cond.code ({ cls := "ForecastHall", name := "slowest", desc := "(I)I" } : Jvm.MethodName) prog_1_method_45_code (2 : Nat) (Option.some Jvm.ClassFile.FieldType.int)) ∈ lw_all := lw_g (lw_at lw_m3 142 rfl) rfl
theorem q684 : (Jvm.Cond.instanceMethod ({ cls := "ForecastHall", name := "given", desc := "(III)I" } : Jvm.MethodName)) ∈ lw_all := lw_g (lw_at lw_m3 144 rfl) rfl
theorem q685 : (Jvm.Cond.selects "ForecastHall" ({ cls := "ForecastHall", name := "given", desc := "(III)I" } : Jvm.MethodName) ({ cls := "ForecastHall", name := "given", desc := "(III)I" } : Jvm.MethodName)) ∈ lw_all := lw_g (lw_at lw_m3 145 rfl) rfl
theorem q686 : (Jvm.Cond.code ({ cls := "ForecastHall", name := "given", desc := "(III)I" } : Jvm.MethodName) prog_1_method_46_code (9 : Nat) (Option.some Jvm.ClassFile.FieldType.int)) ∈ lw_all := lw_g (lw_at lw_m3 146 rfl) rfl
theorem q687 : (Jvm.Cond.constant "ForecastHall" (303 : Nat) (2147483647 : Int32)) ∈ lw_all := lw_g (lw_at lw_m3 147 rfl) rfl
theorem q688 : (Jvm.Cond.methodLink "ForecastHall" (304 : Nat) ({ cls := "java/lang/System", name := "arraycopy", desc := "(Ljava/lang/Object;ILjava/lang/Object;II)V" } : Jvm.MethodName)) ∈ lw_all := lw_g (lw_at lw_m3 148 rfl) rfl
theorem q690 : (Jvm.Cond.instanceMethod ({ cls := "ForecastHall", name := "known", desc := "(II)I" } : Jvm.MethodName)) ∈ lw_all := lw_g (lw_at lw_m3 150 rfl) rfl
theorem q691 : (Jvm.Cond.selects "ForecastHall" ({ cls := "ForecastHall", name := "known", desc := "(II)I" } : Jvm.MethodName) ({ cls := "ForecastHall", name := "known", desc := "(II)I" } : Jvm.MethodName)) ∈ lw_all := lw_g (lw_at lw_m3 151 rfl) rfl
theorem q692 : (Jvm.Cond.code ({ cls := "ForecastHall", name := "known", desc := "(II)I" } : Jvm.MethodName) prog_1_method_47_code (4 : Nat) (Option.some Jvm.ClassFile.FieldType.int)) ∈ lw_all := lw_g (lw_at lw_m3 152 rfl) rfl
theorem q693 : (Jvm.Cond.constantLong "ForecastHall" (310 : Nat) (100000 : Int64)) ∈ lw_all := lw_g (lw_at lw_m3 153 rfl) rfl
theorem q695 : (Jvm.Cond.instanceMethod ({ cls := "ForecastHall", name := "coarse", desc := "(III)I" } : Jvm.MethodName)) ∈ lw_all := lw_g (lw_at lw_m3 155 rfl) rfl
theorem q696 : (Jvm.Cond.selects "ForecastHall" ({ cls := "ForecastHall", name := "coarse", desc := "(III)I" } : Jvm.MethodName) ({ cls := "ForecastHall", name := "coarse", desc := "(III)I" } : Jvm.MethodName)) ∈ lw_all := lw_g (lw_at lw_m3 156 rfl) rfl
theorem q697 : (Jvm.Cond.code ({ cls := "ForecastHall", name := "coarse", desc := "(III)I" } : Jvm.MethodName) prog_1_method_48_code (8 : Nat) (Option.some Jvm.ClassFile.FieldType.int)) ∈ lw_all := lw_g (lw_at lw_m3 157 rfl) rfl
theorem q698 : (Jvm.Cond.methodLink "ForecastHall" (312 : Nat) ({ cls := "ForecastHall$Sky", name := "beginCoarse", desc := "(LForecastHall$Sky;)V" } : Jvm.MethodName)) ∈ lw_all := lw_g (lw_at lw_m3 158 rfl) rfl
theorem q707 : (Jvm.Cond.methodLinkNest "ForecastHall" (316 : Nat) ({ cls := "ForecastHall$Sky", name := "meanOf", desc := "(LForecastHall$Sky;III)I" } : Jvm.MethodName) "ForecastHall") ∈ lw_tbl := lw_at lw_m3 167 rfl
theorem q708 : (Jvm.Cond.methodLink "ForecastHall" (320 : Nat) ({ cls := "java/lang/Math", name := "abs", desc := "(J)J" } : Jvm.MethodName)) ∈ lw_all := lw_g (lw_at lw_m3 168 rfl) rfl
theorem q710 : (Jvm.Cond.instanceMethod ({ cls := "ForecastHall", name := "keep", desc := "()I" } : Jvm.MethodName)) ∈ lw_all := lw_g (lw_at lw_m3 170 rfl) rfl
theorem q711 : (Jvm.Cond.selects "ForecastHall" ({ cls := "ForecastHall", name := "keep", desc := "()I" } : Jvm.MethodName) ({ cls := "ForecastHall", name := "keep", desc := "()I" } : Jvm.MethodName)) ∈ lw_all := lw_g (lw_at lw_m3 171 rfl) rfl
theorem q712 : (Jvm.Cond.code ({ cls := "ForecastHall", name := "keep", desc := "()I" } : Jvm.MethodName) prog_1_method_49_code (1 : Nat) (Option.some Jvm.ClassFile.FieldType.int)) ∈ lw_all := lw_g (lw_at lw_m3 172 rfl) rfl
theorem q713 : (Jvm.Cond.methodLink "ForecastHall" (324 : Nat) ({ cls := "ForecastHall$Kept", name := "keep", desc := "(LForecastHall;)V" } : Jvm.MethodName)) ∈ lw_all := lw_g (lw_at lw_m3 173 rfl) rfl
theorem q720 : (Jvm.Cond.instanceMethod ({ cls := "ForecastHall", name := "back", desc := "()I" } : Jvm.MethodName)) ∈ lw_all := lw_g (lw_at lw_m3 180 rfl) rfl
theorem q721 : (Jvm.Cond.selects "ForecastHall" ({ cls := "ForecastHall", name := "back", desc := "()I" } : Jvm.MethodName) ({ cls := "ForecastHall", name := "back", desc := "()I" } : Jvm.MethodName)) ∈ lw_all := lw_g (lw_at lw_m3 181 rfl) rfl
theorem q722 : (Jvm.Cond.code ({ cls := "ForecastHall", name := "back", desc := "()I" } : Jvm.MethodName) prog_1_method_50_code (1 : Nat) (Option.some Jvm.ClassFile.FieldType.int)) ∈ lw_all := lw_g (lw_at lw_m3 182 rfl) rfl
theorem q723 : (Jvm.Cond.methodLink "ForecastHall" (327 : Nat) ({ cls := "ForecastHall$Kept", name := "back", desc := "(LForecastHall;)V" } : Jvm.MethodName)) ∈ lw_all := lw_g (lw_at lw_m3 183 rfl) rfl
theorem q728 : (Jvm.Cond.instanceMethod ({ cls := "ForecastHall", name := "count", desc := "(I)I" } : Jvm.MethodName)) ∈ lw_all := lw_g (lw_at lw_m3 188 rfl) rfl
theorem q729 : (Jvm.Cond.selects "ForecastHall" ({ cls := "ForecastHall", name := "count", desc := "(I)I" } : Jvm.MethodName) ({ cls := "ForecastHall", name := "count", desc := "(I)I" } : Jvm.MethodName)) ∈ lw_all := lw_g (lw_at lw_m3 189 rfl) rfl
theorem q730 : (Jvm.Cond.code ({ cls := "ForecastHall", name := "count", desc := "(I)I" } : Jvm.MethodName) prog_1_method_51_code (4 : Nat) (Option.some Jvm.ClassFile.FieldType.int)) ∈ lw_all := lw_g (lw_at lw_m3 190 rfl) rfl
theorem in_X0 : ∀ w ∈ wsX00, w ∈ lw_all := lw_in wsX00 [280, 282, 284, 286, 288, 290, 292, 294, 296, 298, 300, 302, 304, 306, 308, 310, 312, 314, 316, 318, 320, 322, 324, 326, 328, 330, 332, 334, 336, 338, 340, 342, 344, 346] (by decide +kernel) (by decide +kernel)
/-! ForecastHall$Reader -/
def RX1 : String := "ForecastHall$Reader"
def TX1 : u_T := fun k => match k with
  | 0 => ("ForecastHall$Reader", "at", "I", false)
  | 1 => ("ForecastHall$Reader", "wrong", "I", false)
  | 2 => ("ForecastHall$Reader", "value", "I", false)
  | 3 => ("ForecastHall$Reader", "name", "I", false)
  | _ => ("ForecastHall$Reader", "this$0", "LForecastHall;", true)
def tyX1 : Nat → FieldType := fun k => match k with
  | 0 => .int
  | 1 => .int
  | 2 => .int
  | 3 => .int
  | _ => .object "ForecastHall"
abbrev wsX10 : List Cond := u_ws RX1 TX1 5
theorem nmX1 : ∀ a, a < 5 → ∀ b, b < 5 → a ≠ b → (TX1 a).2.1 ≠ (TX1 b).2.1 := by decide +kernel
theorem tyX1_ok : ∀ k, k < 5 → parseFieldDescriptor (TX1 k).2.2.1 = some (tyX1 k) := by decide +kernel
abbrev cX1_init : ByteArray := prog_4_method_1_code
def yX1_init : MethodName := ⟨RX1, "<init>", "(LForecastHall;)V"⟩
abbrev cX1_reads : ByteArray := prog_4_method_10_code
def yX1_reads : MethodName := ⟨RX1, "reads", "()I"⟩
abbrev cX1_line : ByteArray := prog_4_method_9_code
def yX1_line : MethodName := ⟨RX1, "line", "()Z"⟩
abbrev cX1_here : ByteArray := prog_4_method_2_code
def yX1_here : MethodName := ⟨RX1, "here", "()I"⟩
abbrev cX1_fails : ByteArray := prog_4_method_3_code
def yX1_fails : MethodName := ⟨RX1, "fails", "(I)Z"⟩
abbrev cX1_eats : ByteArray := prog_4_method_4_code
def yX1_eats : MethodName := ⟨RX1, "eats", "(I)Z"⟩
abbrev cX1_term : ByteArray := prog_4_method_8_code
def yX1_term : MethodName := ⟨RX1, "term", "(Z)Z"⟩
abbrev cX1_isFigure : ByteArray := prog_4_method_5_code
def yX1_isFigure : MethodName := ⟨RX1, "isFigure", "()Z"⟩
abbrev cX1_number : ByteArray := prog_4_method_6_code
def yX1_number : MethodName := ⟨RX1, "number", "(I)Z"⟩
abbrev cX1_name : ByteArray := prog_4_method_7_code
def yX1_name : MethodName := ⟨RX1, "name", "()Z"⟩
theorem q62 : (Jvm.Cond.initialized "ForecastHall$Reader") ∈ lw_all := lw_g (lw_at lw_m1 2 rfl) rfl
theorem q79 : (Jvm.Cond.instantiable "ForecastHall$Reader" (5 : Nat)) ∈ lw_all := lw_g (lw_at lw_m1 19 rfl) rfl
theorem q81 : (Jvm.Cond.instanceMethod ({ cls := "ForecastHall$Reader", name := "<init>", desc := "(LForecastHall;)V" } : Jvm.MethodName)) ∈ lw_all := lw_g (lw_at lw_m1 21 rfl) rfl
theorem q82 : (Jvm.Cond.code ({ cls := "ForecastHall$Reader", name := "<init>", desc := "(LForecastHall;)V" } : Jvm.MethodName) prog_4_method_1_code (2 : Nat) (Option.none : Option Jvm.ClassFile.FieldType)) ∈ lw_all := lw_g (lw_at lw_m1 22 rfl) rfl
theorem q83 : (Jvm.Cond.methodLink "ForecastHall$Reader" (9 : Nat) ({ cls := "java/lang/Object", name := "<init>", desc := "()V" } : Jvm.MethodName)) ∈ lw_all := lw_g (lw_at lw_m1 23 rfl) rfl
theorem q84 : (Jvm.Cond.fieldLink "ForecastHall$Reader" (15 : Nat) "ForecastHall$Reader" "at" "I") ∈ lw_all := lw_g (lw_at lw_m1 24 rfl) rfl
theorem q85 : (Jvm.Cond.fieldLink "ForecastHall$Reader" (26 : Nat) "ForecastHall$Reader" "wrong" "I") ∈ lw_all := lw_g (lw_at lw_m1 25 rfl) rfl
theorem q86 : (Jvm.Cond.fieldLink "ForecastHall$Reader" (41 : Nat) "ForecastHall$Reader" "value" "I") ∈ lw_all := lw_g (lw_at lw_m1 26 rfl) rfl
theorem q87 : (Jvm.Cond.fieldLink "ForecastHall$Reader" (75 : Nat) "ForecastHall$Reader" "name" "I") ∈ lw_all := lw_g (lw_at lw_m1 27 rfl) rfl
theorem q88 : (Jvm.Cond.fieldLink "ForecastHall$Reader" (3 : Nat) "ForecastHall$Reader" "this$0" "LForecastHall;") ∈ lw_all := lw_g (lw_at lw_m1 28 rfl) rfl
theorem q89 : (Jvm.Cond.lays "ForecastHall$Reader" "ForecastHall$Reader" "at" "I") ∈ lw_all := lw_g (lw_at lw_m1 29 rfl) rfl
theorem q90 : (Jvm.Cond.soleField "ForecastHall$Reader" "at") ∈ lw_all := lw_g (lw_at lw_m1 30 rfl) rfl
theorem q91 : (Jvm.Cond.lays "ForecastHall$Reader" "ForecastHall$Reader" "wrong" "I") ∈ lw_all := lw_g (lw_at lw_m1 31 rfl) rfl
theorem q92 : (Jvm.Cond.soleField "ForecastHall$Reader" "wrong") ∈ lw_all := lw_g (lw_at lw_m1 32 rfl) rfl
theorem q93 : (Jvm.Cond.lays "ForecastHall$Reader" "ForecastHall$Reader" "value" "I") ∈ lw_all := lw_g (lw_at lw_m1 33 rfl) rfl
theorem q94 : (Jvm.Cond.soleField "ForecastHall$Reader" "value") ∈ lw_all := lw_g (lw_at lw_m1 34 rfl) rfl
theorem q95 : (Jvm.Cond.lays "ForecastHall$Reader" "ForecastHall$Reader" "name" "I") ∈ lw_all := lw_g (lw_at lw_m1 35 rfl) rfl
theorem q96 : (Jvm.Cond.soleField "ForecastHall$Reader" "name") ∈ lw_all := lw_g (lw_at lw_m1 36 rfl) rfl
theorem q97 : (Jvm.Cond.laysFinal "ForecastHall$Reader" "ForecastHall$Reader" "this$0" "LForecastHall;") ∈ lw_all := lw_g (lw_at lw_m1 37 rfl) rfl
theorem q98 : (Jvm.Cond.soleField "ForecastHall$Reader" "this$0") ∈ lw_all := lw_g (lw_at lw_m1 38 rfl) rfl
theorem q99 : (Jvm.Cond.superclass "ForecastHall$Reader" "java/lang/Object") ∈ lw_all := lw_g (lw_at lw_m1 39 rfl) rfl
theorem q108 : (Jvm.Cond.fieldLinkNest "ForecastHall$Reader" (96 : Nat) "ForecastHall$Plan" "lineMany" "I" "ForecastHall") ∈ lw_tbl := lw_at lw_m1 48 rfl
theorem q112 : (Jvm.Cond.fieldLinkNest "ForecastHall$Reader" (113 : Nat) "ForecastHall$Plan" "letter" "[I" "ForecastHall") ∈ lw_tbl := lw_at lw_m1 52 rfl
theorem q116 : (Jvm.Cond.fieldLinkNest "ForecastHall$Reader" (99 : Nat) "ForecastHall$Plan" "from" "[I" "ForecastHall") ∈ lw_tbl := lw_at lw_m1 56 rfl
theorem q120 : (Jvm.Cond.fieldLinkNest "ForecastHall$Reader" (106 : Nat) "ForecastHall$Plan" "divisor" "[I" "ForecastHall") ∈ lw_tbl := lw_at lw_m1 60 rfl
theorem q124 : (Jvm.Cond.fieldLinkNest "ForecastHall$Reader" (109 : Nat) "ForecastHall$Plan" "isNearest" "[Z" "ForecastHall") ∈ lw_tbl := lw_at lw_m1 64 rfl
theorem q127 : (Jvm.Cond.fieldLinkNest "ForecastHall$Reader" (83 : Nat) "ForecastHall$Plan" "termMany" "I" "ForecastHall") ∈ lw_tbl := lw_at lw_m1 67 rfl
theorem q129 : (Jvm.Cond.fieldLinkNest "ForecastHall$Reader" (86 : Nat) "ForecastHall$Plan" "factor" "[I" "ForecastHall") ∈ lw_tbl := lw_at lw_m1 69 rfl
theorem q133 : (Jvm.Cond.fieldLinkNest "ForecastHall$Reader" (90 : Nat) "ForecastHall$Plan" "first" "[I" "ForecastHall") ∈ lw_tbl := lw_at lw_m1 73 rfl
theorem q136 : (Jvm.Cond.fieldLinkNest "ForecastHall$Reader" (93 : Nat) "ForecastHall$Plan" "second" "[I" "ForecastHall") ∈ lw_tbl := lw_at lw_m1 76 rfl
theorem q222 : (Jvm.Cond.fieldLinkNest "ForecastHall$Reader" (19 : Nat) "ForecastHall" "length" "I" "ForecastHall") ∈ lw_tbl := lw_at lw_m1 162 rfl
theorem q224 : (Jvm.Cond.fieldLinkNest "ForecastHall$Reader" (22 : Nat) "ForecastHall" "text" "[B" "ForecastHall") ∈ lw_tbl := lw_at lw_m1 164 rfl
theorem q228 : (Jvm.Cond.fieldLinkNest "ForecastHall$Reader" (65 : Nat) "ForecastHall" "draft" "LForecastHall$Plan;" "ForecastHall") ∈ lw_tbl := lw_at lw_m1 168 rfl
theorem q392 : (Jvm.Cond.instanceMethod ({ cls := "ForecastHall$Reader", name := "reads", desc := "()I" } : Jvm.MethodName)) ∈ lw_all := lw_g (lw_at lw_m2 92 rfl) rfl
theorem q393 : (Jvm.Cond.selects "ForecastHall$Reader" ({ cls := "ForecastHall$Reader", name := "reads", desc := "()I" } : Jvm.MethodName) ({ cls := "ForecastHall$Reader", name := "reads", desc := "()I" } : Jvm.MethodName)) ∈ lw_all := lw_g (lw_at lw_m2 93 rfl) rfl
theorem q394 : (Jvm.Cond.code ({ cls := "ForecastHall$Reader", name := "reads", desc := "()I" } : Jvm.MethodName) prog_4_method_10_code (1 : Nat) (Option.some Jvm.ClassFile.FieldType.int)) ∈ lw_all := lw_g (lw_at lw_m2 94 rfl) rfl
theorem q395 : (Jvm.Cond.methodLink "ForecastHall$Reader" (116 : Nat) ({ cls := "ForecastHall$Reader", name := "line", desc := "()Z" } : Jvm.MethodName)) ∈ lw_all := lw_g (lw_at lw_m2 95 rfl) rfl
theorem q396 : (Jvm.Cond.privateMethod ({ cls := "ForecastHall$Reader", name := "line", desc := "()Z" } : Jvm.MethodName)) ∈ lw_tbl := lw_at lw_m2 96 rfl
theorem q397 : (Jvm.Cond.instanceMethod ({ cls := "ForecastHall$Reader", name := "line", desc := "()Z" } : Jvm.MethodName)) ∈ lw_all := lw_g (lw_at lw_m2 97 rfl) rfl
theorem q398 : (Jvm.Cond.code ({ cls := "ForecastHall$Reader", name := "line", desc := "()Z" } : Jvm.MethodName) prog_4_method_9_code (3 : Nat) (Option.some Jvm.ClassFile.FieldType.boolean)) ∈ lw_all := lw_g (lw_at lw_m2 98 rfl) rfl
theorem q399 : (Jvm.Cond.methodLink "ForecastHall$Reader" (29 : Nat) ({ cls := "ForecastHall$Reader", name := "here", desc := "()I" } : Jvm.MethodName)) ∈ lw_all := lw_g (lw_at lw_m2 99 rfl) rfl
theorem q400 : (Jvm.Cond.privateMethod ({ cls := "ForecastHall$Reader", name := "here", desc := "()I" } : Jvm.MethodName)) ∈ lw_tbl := lw_at lw_m2 100 rfl
theorem q401 : (Jvm.Cond.instanceMethod ({ cls := "ForecastHall$Reader", name := "here", desc := "()I" } : Jvm.MethodName)) ∈ lw_all := lw_g (lw_at lw_m2 101 rfl) rfl
theorem q402 : (Jvm.Cond.code ({ cls := "ForecastHall$Reader", name := "here", desc := "()I" } : Jvm.MethodName) prog_4_method_2_code (1 : Nat) (Option.some Jvm.ClassFile.FieldType.int)) ∈ lw_all := lw_g (lw_at lw_m2 102 rfl) rfl
theorem q403 : (Jvm.Cond.methodLinkNest "ForecastHall$Reader" (59 : Nat) ({ cls := "ForecastHall", name := "isLetter", desc := "(I)Z" } : Jvm.MethodName) "ForecastHall") ∈ lw_tbl := lw_at lw_m2 103 rfl
theorem q404 : (Jvm.Cond.methodLink "ForecastHall$Reader" (69 : Nat) ({ cls := "ForecastHall$Plan", name := "lineOf", desc := "(I)I" } : Jvm.MethodName)) ∈ lw_all := lw_g (lw_at lw_m2 104 rfl) rfl
theorem q408 : (Jvm.Cond.methodLink "ForecastHall$Reader" (55 : Nat) ({ cls := "ForecastHall$Reader", name := "fails", desc := "(I)Z" } : Jvm.MethodName)) ∈ lw_all := lw_g (lw_at lw_m2 108 rfl) rfl
theorem q409 : (Jvm.Cond.privateMethod ({ cls := "ForecastHall$Reader", name := "fails", desc := "(I)Z" } : Jvm.MethodName)) ∈ lw_tbl := lw_at lw_m2 109 rfl
theorem q410 : (Jvm.Cond.instanceMethod ({ cls := "ForecastHall$Reader", name := "fails", desc := "(I)Z" } : Jvm.MethodName)) ∈ lw_all := lw_g (lw_at lw_m2 110 rfl) rfl
theorem q411 : (Jvm.Cond.code ({ cls := "ForecastHall$Reader", name := "fails", desc := "(I)Z" } : Jvm.MethodName) prog_4_method_3_code (2 : Nat) (Option.some Jvm.ClassFile.FieldType.boolean)) ∈ lw_all := lw_g (lw_at lw_m2 111 rfl) rfl
theorem q412 : (Jvm.Cond.methodLink "ForecastHall$Reader" (62 : Nat) ({ cls := "ForecastHall$Reader", name := "eats", desc := "(I)Z" } : Jvm.MethodName)) ∈ lw_all := lw_g (lw_at lw_m2 112 rfl) rfl
theorem q413 : (Jvm.Cond.privateMethod ({ cls := "ForecastHall$Reader", name := "eats", desc := "(I)Z" } : Jvm.MethodName)) ∈ lw_tbl := lw_at lw_m2 113 rfl
theorem q414 : (Jvm.Cond.instanceMethod ({ cls := "ForecastHall$Reader", name := "eats", desc := "(I)Z" } : Jvm.MethodName)) ∈ lw_all := lw_g (lw_at lw_m2 114 rfl) rfl
theorem q415 : (Jvm.Cond.code ({ cls := "ForecastHall$Reader", name := "eats", desc := "(I)Z" } : Jvm.MethodName) prog_4_method_4_code (3 : Nat) (Option.some Jvm.ClassFile.FieldType.boolean)) ∈ lw_all := lw_g (lw_at lw_m2 115 rfl) rfl
theorem q416 : (Jvm.Cond.methodLink "ForecastHall$Reader" (102 : Nat) ({ cls := "ForecastHall$Reader", name := "term", desc := "(Z)Z" } : Jvm.MethodName)) ∈ lw_all := lw_g (lw_at lw_m2 116 rfl) rfl
theorem q417 : (Jvm.Cond.privateMethod ({ cls := "ForecastHall$Reader", name := "term", desc := "(Z)Z" } : Jvm.MethodName)) ∈ lw_tbl := lw_at lw_m2 117 rfl
theorem q418 : (Jvm.Cond.instanceMethod ({ cls := "ForecastHall$Reader", name := "term", desc := "(Z)Z" } : Jvm.MethodName)) ∈ lw_all := lw_g (lw_at lw_m2 118 rfl) rfl
theorem q419 : (Jvm.Cond.code ({ cls := "ForecastHall$Reader", name := "term", desc := "(Z)Z" } : Jvm.MethodName) prog_4_method_8_code (5 : Nat) (Option.some Jvm.ClassFile.FieldType.boolean)) ∈ lw_all := lw_g (lw_at lw_m2 119 rfl) rfl
theorem q420 : (Jvm.Cond.methodLink "ForecastHall$Reader" (44 : Nat) ({ cls := "ForecastHall$Reader", name := "isFigure", desc := "()Z" } : Jvm.MethodName)) ∈ lw_all := lw_g (lw_at lw_m2 120 rfl) rfl
theorem q421 : (Jvm.Cond.privateMethod ({ cls := "ForecastHall$Reader", name := "isFigure", desc := "()Z" } : Jvm.MethodName)) ∈ lw_tbl := lw_at lw_m2 121 rfl
theorem q422 : (Jvm.Cond.instanceMethod ({ cls := "ForecastHall$Reader", name := "isFigure", desc := "()Z" } : Jvm.MethodName)) ∈ lw_all := lw_g (lw_at lw_m2 122 rfl) rfl
theorem q423 : (Jvm.Cond.code ({ cls := "ForecastHall$Reader", name := "isFigure", desc := "()Z" } : Jvm.MethodName) prog_4_method_5_code (1 : Nat) (Option.some Jvm.ClassFile.FieldType.boolean)) ∈ lw_all := lw_g (lw_at lw_m2 123 rfl) rfl
theorem q424 : (Jvm.Cond.constantLong "ForecastHall$Reader" (33 : Nat) (48 : Int64)) ∈ lw_all := lw_g (lw_at lw_m2 124 rfl) rfl
theorem q425 : (Jvm.Cond.constantLong "ForecastHall$Reader" (35 : Nat) (57 : Int64)) ∈ lw_all := lw_g (lw_at lw_m2 125 rfl) rfl
theorem q426 : (Jvm.Cond.methodLinkNest "ForecastHall$Reader" (37 : Nat) ({ cls := "ForecastHall", name := "isIn", desc := "(JJJ)Z" } : Jvm.MethodName) "ForecastHall") ∈ lw_tbl := lw_at lw_m2 126 rfl
theorem q427 : (Jvm.Cond.methodLink "ForecastHall$Reader" (78 : Nat) ({ cls := "ForecastHall$Reader", name := "number", desc := "(I)Z" } : Jvm.MethodName)) ∈ lw_all := lw_g (lw_at lw_m2 127 rfl) rfl
theorem q428 : (Jvm.Cond.privateMethod ({ cls := "ForecastHall$Reader", name := "number", desc := "(I)Z" } : Jvm.MethodName)) ∈ lw_tbl := lw_at lw_m2 128 rfl
theorem q429 : (Jvm.Cond.instanceMethod ({ cls := "ForecastHall$Reader", name := "number", desc := "(I)Z" } : Jvm.MethodName)) ∈ lw_all := lw_g (lw_at lw_m2 129 rfl) rfl
theorem q430 : (Jvm.Cond.code ({ cls := "ForecastHall$Reader", name := "number", desc := "(I)Z" } : Jvm.MethodName) prog_4_method_6_code (4 : Nat) (Option.some Jvm.ClassFile.FieldType.boolean)) ∈ lw_all := lw_g (lw_at lw_m2 130 rfl) rfl
theorem q431 : (Jvm.Cond.constant "ForecastHall$Reader" (48 : Nat) (100000 : Int32)) ∈ lw_all := lw_g (lw_at lw_m2 131 rfl) rfl
theorem q432 : (Jvm.Cond.methodLink "ForecastHall$Reader" (49 : Nat) ({ cls := "java/lang/Math", name := "min", desc := "(II)I" } : Jvm.MethodName)) ∈ lw_all := lw_g (lw_at lw_m2 132 rfl) rfl
theorem q435 : (Jvm.Cond.methodLink "ForecastHall$Reader" (81 : Nat) ({ cls := "ForecastHall$Reader", name := "name", desc := "()Z" } : Jvm.MethodName)) ∈ lw_all := lw_g (lw_at lw_m2 135 rfl) rfl
theorem q436 : (Jvm.Cond.privateMethod ({ cls := "ForecastHall$Reader", name := "name", desc := "()Z" } : Jvm.MethodName)) ∈ lw_tbl := lw_at lw_m2 136 rfl
theorem q437 : (Jvm.Cond.instanceMethod ({ cls := "ForecastHall$Reader", name := "name", desc := "()Z" } : Jvm.MethodName)) ∈ lw_all := lw_g (lw_at lw_m2 137 rfl) rfl
theorem q438 : (Jvm.Cond.code ({ cls := "ForecastHall$Reader", name := "name", desc := "()Z" } : Jvm.MethodName) prog_4_method_7_code (5 : Nat) (Option.some Jvm.ClassFile.FieldType.boolean)) ∈ lw_all := lw_g (lw_at lw_m2 138 rfl) rfl
theorem in_X1 : ∀ w ∈ wsX10, w ∈ lw_all := lw_in wsX10 [89, 91, 93, 95, 97] (by decide +kernel) (by decide +kernel)
/-! ForecastHall$Plan -/
def RX2 : String := "ForecastHall$Plan"
def TX2 : u_T := fun k => match k with
  | 0 => ("ForecastHall$Plan", "lineMany", "I", false)
  | 1 => ("ForecastHall$Plan", "letter", "[I", true)
  | 2 => ("ForecastHall$Plan", "from", "[I", true)
  | 3 => ("ForecastHall$Plan", "divisor", "[I", true)
  | 4 => ("ForecastHall$Plan", "isNearest", "[Z", true)
  | 5 => ("ForecastHall$Plan", "termMany", "I", false)
  | 6 => ("ForecastHall$Plan", "factor", "[I", true)
  | 7 => ("ForecastHall$Plan", "first", "[I", true)
  | _ => ("ForecastHall$Plan", "second", "[I", true)
def tyX2 : Nat → FieldType := fun k => match k with
  | 0 => .int
  | 1 => .array .int
  | 2 => .array .int
  | 3 => .array .int
  | 4 => .array .boolean
  | 5 => .int
  | 6 => .array .int
  | 7 => .array .int
  | _ => .array .int
abbrev wsX20 : List Cond := u_ws RX2 TX2 9
theorem nmX2 : ∀ a, a < 9 → ∀ b, b < 9 → a ≠ b → (TX2 a).2.1 ≠ (TX2 b).2.1 := by decide +kernel
theorem tyX2_ok : ∀ k, k < 9 → parseFieldDescriptor (TX2 k).2.2.1 = some (tyX2 k) := by decide +kernel
abbrev cX2_init : ByteArray := prog_3_method_1_code
def yX2_init : MethodName := ⟨RX2, "<init>", "()V"⟩
abbrev cX2_lineOf : ByteArray := prog_3_method_3_code
def yX2_lineOf : MethodName := ⟨RX2, "lineOf", "(I)I"⟩
abbrev cX2_copy : ByteArray := prog_3_method_2_code
def yX2_copy : MethodName := ⟨RX2, "copy", "(LForecastHall$Plan;)V"⟩
abbrev cX2_hasProduct : ByteArray := prog_3_method_4_code
def yX2_hasProduct : MethodName := ⟨RX2, "hasProduct", "(I)Z"⟩
abbrev cX2_isOwn : ByteArray := prog_3_method_6_code
def yX2_isOwn : MethodName := ⟨RX2, "isOwn", "(I)Z"⟩
abbrev cX2_factors : ByteArray := prog_3_method_5_code
def yX2_factors : MethodName := ⟨RX2, "factors", "(IZ)I"⟩
theorem q63 : (Jvm.Cond.initialized "ForecastHall$Plan") ∈ lw_all := lw_g (lw_at lw_m1 3 rfl) rfl
theorem q102 : (Jvm.Cond.instantiable "ForecastHall$Plan" (9 : Nat)) ∈ lw_all := lw_g (lw_at lw_m1 42 rfl) rfl
theorem q104 : (Jvm.Cond.instanceMethod ({ cls := "ForecastHall$Plan", name := "<init>", desc := "()V" } : Jvm.MethodName)) ∈ lw_all := lw_g (lw_at lw_m1 44 rfl) rfl
theorem q105 : (Jvm.Cond.code ({ cls := "ForecastHall$Plan", name := "<init>", desc := "()V" } : Jvm.MethodName) prog_3_method_1_code (1 : Nat) (Option.none : Option Jvm.ClassFile.FieldType)) ∈ lw_all := lw_g (lw_at lw_m1 45 rfl) rfl
theorem q106 : (Jvm.Cond.methodLink "ForecastHall$Plan" (3 : Nat) ({ cls := "java/lang/Object", name := "<init>", desc := "()V" } : Jvm.MethodName)) ∈ lw_all := lw_g (lw_at lw_m1 46 rfl) rfl
theorem q107 : (Jvm.Cond.fieldLink "ForecastHall$Plan" (34 : Nat) "ForecastHall$Plan" "lineMany" "I") ∈ lw_all := lw_g (lw_at lw_m1 47 rfl) rfl
theorem q111 : (Jvm.Cond.fieldLink "ForecastHall$Plan" (9 : Nat) "ForecastHall$Plan" "letter" "[I") ∈ lw_all := lw_g (lw_at lw_m1 51 rfl) rfl
theorem q114 : (Jvm.Cond.fieldLink "ForecastHall$Plan" (15 : Nat) "ForecastHall$Plan" "from" "[I") ∈ lw_all := lw_g (lw_at lw_m1 54 rfl) rfl
theorem q118 : (Jvm.Cond.fieldLink "ForecastHall$Plan" (18 : Nat) "ForecastHall$Plan" "divisor" "[I") ∈ lw_all := lw_g (lw_at lw_m1 58 rfl) rfl
theorem q122 : (Jvm.Cond.fieldLink "ForecastHall$Plan" (21 : Nat) "ForecastHall$Plan" "isNearest" "[Z") ∈ lw_all := lw_g (lw_at lw_m1 62 rfl) rfl
theorem q126 : (Jvm.Cond.fieldLink "ForecastHall$Plan" (38 : Nat) "ForecastHall$Plan" "termMany" "I") ∈ lw_all := lw_g (lw_at lw_m1 66 rfl) rfl
theorem q128 : (Jvm.Cond.fieldLink "ForecastHall$Plan" (25 : Nat) "ForecastHall$Plan" "factor" "[I") ∈ lw_all := lw_g (lw_at lw_m1 68 rfl) rfl
theorem q131 : (Jvm.Cond.fieldLink "ForecastHall$Plan" (28 : Nat) "ForecastHall$Plan" "first" "[I") ∈ lw_all := lw_g (lw_at lw_m1 71 rfl) rfl
theorem q134 : (Jvm.Cond.fieldLink "ForecastHall$Plan" (31 : Nat) "ForecastHall$Plan" "second" "[I") ∈ lw_all := lw_g (lw_at lw_m1 74 rfl) rfl
theorem q137 : (Jvm.Cond.lays "ForecastHall$Plan" "ForecastHall$Plan" "lineMany" "I") ∈ lw_all := lw_g (lw_at lw_m1 77 rfl) rfl
theorem q138 : (Jvm.Cond.soleField "ForecastHall$Plan" "lineMany") ∈ lw_all := lw_g (lw_at lw_m1 78 rfl) rfl
theorem q139 : (Jvm.Cond.laysFinal "ForecastHall$Plan" "ForecastHall$Plan" "letter" "[I") ∈ lw_all := lw_g (lw_at lw_m1 79 rfl) rfl
theorem q140 : (Jvm.Cond.soleField "ForecastHall$Plan" "letter") ∈ lw_all := lw_g (lw_at lw_m1 80 rfl) rfl
theorem q141 : (Jvm.Cond.laysFinal "ForecastHall$Plan" "ForecastHall$Plan" "from" "[I") ∈ lw_all := lw_g (lw_at lw_m1 81 rfl) rfl
theorem q142 : (Jvm.Cond.soleField "ForecastHall$Plan" "from") ∈ lw_all := lw_g (lw_at lw_m1 82 rfl) rfl
theorem q143 : (Jvm.Cond.laysFinal "ForecastHall$Plan" "ForecastHall$Plan" "divisor" "[I") ∈ lw_all := lw_g (lw_at lw_m1 83 rfl) rfl
theorem q144 : (Jvm.Cond.soleField "ForecastHall$Plan" "divisor") ∈ lw_all := lw_g (lw_at lw_m1 84 rfl) rfl
theorem q145 : (Jvm.Cond.laysFinal "ForecastHall$Plan" "ForecastHall$Plan" "isNearest" "[Z") ∈ lw_all := lw_g (lw_at lw_m1 85 rfl) rfl
theorem q146 : (Jvm.Cond.soleField "ForecastHall$Plan" "isNearest") ∈ lw_all := lw_g (lw_at lw_m1 86 rfl) rfl
theorem q147 : (Jvm.Cond.lays "ForecastHall$Plan" "ForecastHall$Plan" "termMany" "I") ∈ lw_all := lw_g (lw_at lw_m1 87 rfl) rfl
theorem q148 : (Jvm.Cond.soleField "ForecastHall$Plan" "termMany") ∈ lw_all := lw_g (lw_at lw_m1 88 rfl) rfl
theorem q149 : (Jvm.Cond.laysFinal "ForecastHall$Plan" "ForecastHall$Plan" "factor" "[I") ∈ lw_all := lw_g (lw_at lw_m1 89 rfl) rfl
theorem q150 : (Jvm.Cond.soleField "ForecastHall$Plan" "factor") ∈ lw_all := lw_g (lw_at lw_m1 90 rfl) rfl
theorem q151 : (Jvm.Cond.laysFinal "ForecastHall$Plan" "ForecastHall$Plan" "first" "[I") ∈ lw_all := lw_g (lw_at lw_m1 91 rfl) rfl
theorem q152 : (Jvm.Cond.soleField "ForecastHall$Plan" "first") ∈ lw_all := lw_g (lw_at lw_m1 92 rfl) rfl
theorem q153 : (Jvm.Cond.laysFinal "ForecastHall$Plan" "ForecastHall$Plan" "second" "[I") ∈ lw_all := lw_g (lw_at lw_m1 93 rfl) rfl
theorem q154 : (Jvm.Cond.soleField "ForecastHall$Plan" "second") ∈ lw_all := lw_g (lw_at lw_m1 94 rfl) rfl
theorem q155 : (Jvm.Cond.superclass "ForecastHall$Plan" "java/lang/Object") ∈ lw_all := lw_g (lw_at lw_m1 95 rfl) rfl
theorem q405 : (Jvm.Cond.instanceMethod ({ cls := "ForecastHall$Plan", name := "lineOf", desc := "(I)I" } : Jvm.MethodName)) ∈ lw_all := lw_g (lw_at lw_m2 105 rfl) rfl
theorem q406 : (Jvm.Cond.selects "ForecastHall$Plan" ({ cls := "ForecastHall$Plan", name := "lineOf", desc := "(I)I" } : Jvm.MethodName) ({ cls := "ForecastHall$Plan", name := "lineOf", desc := "(I)I" } : Jvm.MethodName)) ∈ lw_all := lw_g (lw_at lw_m2 106 rfl) rfl
theorem q407 : (Jvm.Cond.code ({ cls := "ForecastHall$Plan", name := "lineOf", desc := "(I)I" } : Jvm.MethodName) prog_3_method_3_code (3 : Nat) (Option.some Jvm.ClassFile.FieldType.int)) ∈ lw_all := lw_g (lw_at lw_m2 107 rfl) rfl
theorem q444 : (Jvm.Cond.instanceMethod ({ cls := "ForecastHall$Plan", name := "copy", desc := "(LForecastHall$Plan;)V" } : Jvm.MethodName)) ∈ lw_all := lw_g (lw_at lw_m2 144 rfl) rfl
theorem q445 : (Jvm.Cond.selects "ForecastHall$Plan" ({ cls := "ForecastHall$Plan", name := "copy", desc := "(LForecastHall$Plan;)V" } : Jvm.MethodName) ({ cls := "ForecastHall$Plan", name := "copy", desc := "(LForecastHall$Plan;)V" } : Jvm.MethodName)) ∈ lw_all := lw_g (lw_at lw_m2 145 rfl) rfl
theorem q446 : (Jvm.Cond.code ({ cls := "ForecastHall$Plan", name := "copy", desc := "(LForecastHall$Plan;)V" } : Jvm.MethodName) prog_3_method_2_code (2 : Nat) (Option.none : Option Jvm.ClassFile.FieldType)) ∈ lw_all := lw_g (lw_at lw_m2 146 rfl) rfl
theorem q447 : (Jvm.Cond.methodLink "ForecastHall$Plan" (41 : Nat) ({ cls := "java/lang/System", name := "arraycopy", desc := "(Ljava/lang/Object;ILjava/lang/Object;II)V" } : Jvm.MethodName)) ∈ lw_all := lw_g (lw_at lw_m2 147 rfl) rfl
theorem q457 : (Jvm.Cond.instanceMethod ({ cls := "ForecastHall$Plan", name := "hasProduct", desc := "(I)Z" } : Jvm.MethodName)) ∈ lw_all := lw_g (lw_at lw_m2 157 rfl) rfl
theorem q458 : (Jvm.Cond.selects "ForecastHall$Plan" ({ cls := "ForecastHall$Plan", name := "hasProduct", desc := "(I)Z" } : Jvm.MethodName) ({ cls := "ForecastHall$Plan", name := "hasProduct", desc := "(I)Z" } : Jvm.MethodName)) ∈ lw_all := lw_g (lw_at lw_m2 158 rfl) rfl
theorem q459 : (Jvm.Cond.code ({ cls := "ForecastHall$Plan", name := "hasProduct", desc := "(I)Z" } : Jvm.MethodName) prog_3_method_4_code (4 : Nat) (Option.some Jvm.ClassFile.FieldType.boolean)) ∈ lw_all := lw_g (lw_at lw_m2 159 rfl) rfl
theorem q585 : (Jvm.Cond.instanceMethod ({ cls := "ForecastHall$Plan", name := "isOwn", desc := "(I)Z" } : Jvm.MethodName)) ∈ lw_all := lw_g (lw_at lw_m3 45 rfl) rfl
theorem q586 : (Jvm.Cond.selects "ForecastHall$Plan" ({ cls := "ForecastHall$Plan", name := "isOwn", desc := "(I)Z" } : Jvm.MethodName) ({ cls := "ForecastHall$Plan", name := "isOwn", desc := "(I)Z" } : Jvm.MethodName)) ∈ lw_all := lw_g (lw_at lw_m3 46 rfl) rfl
theorem q587 : (Jvm.Cond.code ({ cls := "ForecastHall$Plan", name := "isOwn", desc := "(I)Z" } : Jvm.MethodName) prog_3_method_6_code (4 : Nat) (Option.some Jvm.ClassFile.FieldType.boolean)) ∈ lw_all := lw_g (lw_at lw_m3 47 rfl) rfl
theorem q589 : (Jvm.Cond.instanceMethod ({ cls := "ForecastHall$Plan", name := "factors", desc := "(IZ)I" } : Jvm.MethodName)) ∈ lw_all := lw_g (lw_at lw_m3 49 rfl) rfl
theorem q590 : (Jvm.Cond.selects "ForecastHall$Plan" ({ cls := "ForecastHall$Plan", name := "factors", desc := "(IZ)I" } : Jvm.MethodName) ({ cls := "ForecastHall$Plan", name := "factors", desc := "(IZ)I" } : Jvm.MethodName)) ∈ lw_all := lw_g (lw_at lw_m3 50 rfl) rfl
theorem q591 : (Jvm.Cond.code ({ cls := "ForecastHall$Plan", name := "factors", desc := "(IZ)I" } : Jvm.MethodName) prog_3_method_5_code (5 : Nat) (Option.some Jvm.ClassFile.FieldType.int)) ∈ lw_all := lw_g (lw_at lw_m3 51 rfl) rfl
theorem q592 : (Jvm.Cond.methodLink "ForecastHall$Plan" (47 : Nat) ({ cls := "java/lang/Math", name := "abs", desc := "(I)I" } : Jvm.MethodName)) ∈ lw_all := lw_g (lw_at lw_m3 52 rfl) rfl
theorem in_X2 : ∀ w ∈ wsX20, w ∈ lw_all := lw_in wsX20 [137, 139, 141, 143, 145, 147, 149, 151, 153] (by decide +kernel) (by decide +kernel)
/-! ForecastHall$Sky -/
def RX3 : String := "ForecastHall$Sky"
def TX3 : u_T := fun k => match k with
  | 0 => ("ForecastHall$Sky", "w", "I", false)
  | 1 => ("ForecastHall$Sky", "h", "I", false)
  | 2 => ("ForecastHall$Sky", "numbers", "[I", true)
  | 3 => ("ForecastHall$Sky", "isMarked", "[Z", true)
  | _ => ("ForecastHall$Sky", "this$0", "LForecastHall;", true)
def tyX3 : Nat → FieldType := fun k => match k with
  | 0 => .int
  | 1 => .int
  | 2 => .array .int
  | 3 => .array .boolean
  | _ => .object "ForecastHall"
abbrev wsX30 : List Cond := u_ws RX3 TX3 5
theorem nmX3 : ∀ a, a < 5 → ∀ b, b < 5 → a ≠ b → (TX3 a).2.1 ≠ (TX3 b).2.1 := by decide +kernel
theorem tyX3_ok : ∀ k, k < 5 → parseFieldDescriptor (TX3 k).2.2.1 = some (tyX3 k) := by decide +kernel
abbrev cX3_init : ByteArray := prog_5_method_1_code
def yX3_init : MethodName := ⟨RX3, "<init>", "(LForecastHall;)V"⟩
abbrev cX3_begin : ByteArray := prog_5_method_14_code
def yX3_begin : MethodName := ⟨RX3, "begin", "()V"⟩
abbrev cX3_filled : ByteArray := prog_5_method_13_code
def yX3_filled : MethodName := ⟨RX3, "filled", "(II)I"⟩
abbrev cX3_neighbour : ByteArray := prog_5_method_4_code
def yX3_neighbour : MethodName := ⟨RX3, "neighbour", "(II)I"⟩
abbrev cX3_put : ByteArray := prog_5_method_10_code
def yX3_put : MethodName := ⟨RX3, "put", "(IIIIZ)V"⟩
abbrev cX3_place : ByteArray := prog_5_method_2_code
def yX3_place : MethodName := ⟨RX3, "place", "(III)I"⟩
abbrev cX3_run : ByteArray := prog_5_method_12_code
def yX3_run : MethodName := ⟨RX3, "run", "(II)V"⟩
abbrev cX3_at : ByteArray := prog_5_method_3_code
def yX3_at : MethodName := ⟨RX3, "at", "(III)I"⟩
abbrev cX3_slipped : ByteArray := prog_5_method_11_code
def yX3_slipped : MethodName := ⟨RX3, "slipped", "(IIIII)I"⟩
abbrev cX3_marksOf : ByteArray := prog_5_method_9_code
def yX3_marksOf : MethodName := ⟨RX3, "marksOf", "(III)Z"⟩
abbrev cX3_marks : ByteArray := prog_5_method_7_code
def yX3_marks : MethodName := ⟨RX3, "marks", "(III)Z"⟩
abbrev cX3_stepOf : ByteArray := prog_5_method_5_code
def yX3_stepOf : MethodName := ⟨RX3, "stepOf", "(II)I"⟩
abbrev cX3_made : ByteArray := prog_5_method_8_code
def yX3_made : MethodName := ⟨RX3, "made", "(III)I"⟩
abbrev cX3_valueOf : ByteArray := prog_5_method_6_code
def yX3_valueOf : MethodName := ⟨RX3, "valueOf", "(III)I"⟩
abbrev cX3_beginCoarse : ByteArray := prog_5_method_16_code
def yX3_beginCoarse : MethodName := ⟨RX3, "beginCoarse", "(LForecastHall$Sky;)V"⟩
abbrev cX3_meanOf : ByteArray := prog_5_method_15_code
def yX3_meanOf : MethodName := ⟨RX3, "meanOf", "(LForecastHall$Sky;III)I"⟩
theorem q64 : (Jvm.Cond.initialized "ForecastHall$Sky") ∈ lw_all := lw_g (lw_at lw_m1 4 rfl) rfl
theorem q109 : (Jvm.Cond.fieldLinkNest "ForecastHall$Sky" (125 : Nat) "ForecastHall$Plan" "lineMany" "I" "ForecastHall") ∈ lw_tbl := lw_at lw_m1 49 rfl
theorem q113 : (Jvm.Cond.fieldLinkNest "ForecastHall$Sky" (128 : Nat) "ForecastHall$Plan" "letter" "[I" "ForecastHall") ∈ lw_tbl := lw_at lw_m1 53 rfl
theorem q115 : (Jvm.Cond.fieldLinkNest "ForecastHall$Sky" (54 : Nat) "ForecastHall$Plan" "from" "[I" "ForecastHall") ∈ lw_tbl := lw_at lw_m1 55 rfl
theorem q119 : (Jvm.Cond.fieldLinkNest "ForecastHall$Sky" (80 : Nat) "ForecastHall$Plan" "divisor" "[I" "ForecastHall") ∈ lw_tbl := lw_at lw_m1 59 rfl
theorem q123 : (Jvm.Cond.fieldLinkNest "ForecastHall$Sky" (83 : Nat) "ForecastHall$Plan" "isNearest" "[Z" "ForecastHall") ∈ lw_tbl := lw_at lw_m1 63 rfl
theorem q130 : (Jvm.Cond.fieldLinkNest "ForecastHall$Sky" (77 : Nat) "ForecastHall$Plan" "factor" "[I" "ForecastHall") ∈ lw_tbl := lw_at lw_m1 70 rfl
theorem q132 : (Jvm.Cond.fieldLinkNest "ForecastHall$Sky" (59 : Nat) "ForecastHall$Plan" "first" "[I" "ForecastHall") ∈ lw_tbl := lw_at lw_m1 72 rfl
theorem q135 : (Jvm.Cond.fieldLinkNest "ForecastHall$Sky" (65 : Nat) "ForecastHall$Plan" "second" "[I" "ForecastHall") ∈ lw_tbl := lw_at lw_m1 75 rfl
theorem q159 : (Jvm.Cond.instantiable "ForecastHall$Sky" (5 : Nat)) ∈ lw_all := lw_g (lw_at lw_m1 99 rfl) rfl
theorem q161 : (Jvm.Cond.instanceMethod ({ cls := "ForecastHall$Sky", name := "<init>", desc := "(LForecastHall;)V" } : Jvm.MethodName)) ∈ lw_all := lw_g (lw_at lw_m1 101 rfl) rfl
theorem q162 : (Jvm.Cond.code ({ cls := "ForecastHall$Sky", name := "<init>", desc := "(LForecastHall;)V" } : Jvm.MethodName) prog_5_method_1_code (2 : Nat) (Option.none : Option Jvm.ClassFile.FieldType)) ∈ lw_all := lw_g (lw_at lw_m1 102 rfl) rfl
theorem q163 : (Jvm.Cond.methodLink "ForecastHall$Sky" (9 : Nat) ({ cls := "java/lang/Object", name := "<init>", desc := "()V" } : Jvm.MethodName)) ∈ lw_all := lw_g (lw_at lw_m1 103 rfl) rfl
theorem q164 : (Jvm.Cond.fieldLink "ForecastHall$Sky" (27 : Nat) "ForecastHall$Sky" "w" "I") ∈ lw_all := lw_g (lw_at lw_m1 104 rfl) rfl
theorem q166 : (Jvm.Cond.fieldLink "ForecastHall$Sky" (31 : Nat) "ForecastHall$Sky" "h" "I") ∈ lw_all := lw_g (lw_at lw_m1 106 rfl) rfl
theorem q168 : (Jvm.Cond.fieldLink "ForecastHall$Sky" (15 : Nat) "ForecastHall$Sky" "numbers" "[I") ∈ lw_all := lw_g (lw_at lw_m1 108 rfl) rfl
theorem q169 : (Jvm.Cond.fieldLink "ForecastHall$Sky" (19 : Nat) "ForecastHall$Sky" "isMarked" "[Z") ∈ lw_all := lw_g (lw_at lw_m1 109 rfl) rfl
theorem q171 : (Jvm.Cond.fieldLink "ForecastHall$Sky" (3 : Nat) "ForecastHall$Sky" "this$0" "LForecastHall;") ∈ lw_all := lw_g (lw_at lw_m1 111 rfl) rfl
theorem q172 : (Jvm.Cond.lays "ForecastHall$Sky" "ForecastHall$Sky" "w" "I") ∈ lw_all := lw_g (lw_at lw_m1 112 rfl) rfl
theorem q173 : (Jvm.Cond.soleField "ForecastHall$Sky" "w") ∈ lw_all := lw_g (lw_at lw_m1 113 rfl) rfl
theorem q174 : (Jvm.Cond.lays "ForecastHall$Sky" "ForecastHall$Sky" "h" "I") ∈ lw_all := lw_g (lw_at lw_m1 114 rfl) rfl
theorem q175 : (Jvm.Cond.soleField "ForecastHall$Sky" "h") ∈ lw_all := lw_g (lw_at lw_m1 115 rfl) rfl
theorem q176 : (Jvm.Cond.laysFinal "ForecastHall$Sky" "ForecastHall$Sky" "numbers" "[I") ∈ lw_all := lw_g (lw_at lw_m1 116 rfl) rfl
theorem q177 : (Jvm.Cond.soleField "ForecastHall$Sky" "numbers") ∈ lw_all := lw_g (lw_at lw_m1 117 rfl) rfl
theorem q178 : (Jvm.Cond.laysFinal "ForecastHall$Sky" "ForecastHall$Sky" "isMarked" "[Z") ∈ lw_all := lw_g (lw_at lw_m1 118 rfl) rfl
theorem q179 : (Jvm.Cond.soleField "ForecastHall$Sky" "isMarked") ∈ lw_all := lw_g (lw_at lw_m1 119 rfl) rfl
theorem q180 : (Jvm.Cond.laysFinal "ForecastHall$Sky" "ForecastHall$Sky" "this$0" "LForecastHall;") ∈ lw_all := lw_g (lw_at lw_m1 120 rfl) rfl
theorem q181 : (Jvm.Cond.soleField "ForecastHall$Sky" "this$0") ∈ lw_all := lw_g (lw_at lw_m1 121 rfl) rfl
theorem q182 : (Jvm.Cond.superclass "ForecastHall$Sky" "java/lang/Object") ∈ lw_all := lw_g (lw_at lw_m1 122 rfl) rfl
theorem q231 : (Jvm.Cond.fieldLinkNest "ForecastHall$Sky" (50 : Nat) "ForecastHall" "plan" "LForecastHall$Plan;" "ForecastHall") ∈ lw_tbl := lw_at lw_m1 171 rfl
theorem q233 : (Jvm.Cond.fieldLinkNest "ForecastHall$Sky" (143 : Nat) "ForecastHall" "wide" "I" "ForecastHall") ∈ lw_tbl := lw_at lw_m1 173 rfl
theorem q235 : (Jvm.Cond.fieldLinkNest "ForecastHall$Sky" (146 : Nat) "ForecastHall" "high" "I" "ForecastHall") ∈ lw_tbl := lw_at lw_m1 175 rfl
theorem q237 : (Jvm.Cond.fieldLinkNest "ForecastHall$Sky" (34 : Nat) "ForecastHall" "edge" "I" "ForecastHall") ∈ lw_tbl := lw_at lw_m1 177 rfl
theorem q241 : (Jvm.Cond.fieldLinkNest "ForecastHall$Sky" (41 : Nat) "ForecastHall" "rims" "[I" "ForecastHall") ∈ lw_tbl := lw_at lw_m1 181 rfl
theorem q244 : (Jvm.Cond.fieldLinkNest "ForecastHall$Sky" (137 : Nat) "ForecastHall" "firsts" "[I" "ForecastHall") ∈ lw_tbl := lw_at lw_m1 184 rfl
theorem q247 : (Jvm.Cond.fieldLinkNest "ForecastHall$Sky" (98 : Nat) "ForecastHall" "slipMany" "I" "ForecastHall") ∈ lw_tbl := lw_at lw_m1 187 rfl
theorem q250 : (Jvm.Cond.fieldLinkNest "ForecastHall$Sky" (101 : Nat) "ForecastHall" "slipStep" "[I" "ForecastHall") ∈ lw_tbl := lw_at lw_m1 190 rfl
theorem q253 : (Jvm.Cond.fieldLinkNest "ForecastHall$Sky" (104 : Nat) "ForecastHall" "slipCell" "[I" "ForecastHall") ∈ lw_tbl := lw_at lw_m1 193 rfl
theorem q256 : (Jvm.Cond.fieldLinkNest "ForecastHall$Sky" (107 : Nat) "ForecastHall" "slipLetter" "[I" "ForecastHall") ∈ lw_tbl := lw_at lw_m1 196 rfl
theorem q259 : (Jvm.Cond.fieldLinkNest "ForecastHall$Sky" (110 : Nat) "ForecastHall" "slipAmount" "[I" "ForecastHall") ∈ lw_tbl := lw_at lw_m1 199 rfl
theorem q486 : (Jvm.Cond.instanceMethod ({ cls := "ForecastHall$Sky", name := "begin", desc := "()V" } : Jvm.MethodName)) ∈ lw_all := lw_g (lw_at lw_m2 186 rfl) rfl
theorem q487 : (Jvm.Cond.selects "ForecastHall$Sky" ({ cls := "ForecastHall$Sky", name := "begin", desc := "()V" } : Jvm.MethodName) ({ cls := "ForecastHall$Sky", name := "begin", desc := "()V" } : Jvm.MethodName)) ∈ lw_all := lw_g (lw_at lw_m2 187 rfl) rfl
theorem q488 : (Jvm.Cond.code ({ cls := "ForecastHall$Sky", name := "begin", desc := "()V" } : Jvm.MethodName) prog_5_method_14_code (4 : Nat) (Option.none : Option Jvm.ClassFile.FieldType)) ∈ lw_all := lw_g (lw_at lw_m2 188 rfl) rfl
theorem q489 : (Jvm.Cond.methodLinkNest "ForecastHall$Sky" (149 : Nat) ({ cls := "ForecastHall", name := "cells", desc := "()I" } : Jvm.MethodName) "ForecastHall") ∈ lw_tbl := lw_at lw_m2 189 rfl
theorem q490 : (Jvm.Cond.constant "ForecastHall$Sky" (140 : Nat) (2000000 : Int32)) ∈ lw_all := lw_g (lw_at lw_m2 190 rfl) rfl
theorem q491 : (Jvm.Cond.methodLink "ForecastHall$Sky" (153 : Nat) ({ cls := "ForecastHall$Sky", name := "filled", desc := "(II)I" } : Jvm.MethodName)) ∈ lw_all := lw_g (lw_at lw_m2 191 rfl) rfl
theorem q492 : (Jvm.Cond.privateMethod ({ cls := "ForecastHall$Sky", name := "filled", desc := "(II)I" } : Jvm.MethodName)) ∈ lw_tbl := lw_at lw_m2 192 rfl
theorem q493 : (Jvm.Cond.instanceMethod ({ cls := "ForecastHall$Sky", name := "filled", desc := "(II)I" } : Jvm.MethodName)) ∈ lw_all := lw_g (lw_at lw_m2 193 rfl) rfl
theorem q494 : (Jvm.Cond.code ({ cls := "ForecastHall$Sky", name := "filled", desc := "(II)I" } : Jvm.MethodName) prog_5_method_13_code (8 : Nat) (Option.some Jvm.ClassFile.FieldType.int)) ∈ lw_all := lw_g (lw_at lw_m2 194 rfl) rfl
theorem q495 : (Jvm.Cond.methodLink "ForecastHall$Sky" (37 : Nat) ({ cls := "ForecastHall$Sky", name := "neighbour", desc := "(II)I" } : Jvm.MethodName)) ∈ lw_all := lw_g (lw_at lw_m2 195 rfl) rfl
theorem q496 : (Jvm.Cond.instanceMethod ({ cls := "ForecastHall$Sky", name := "neighbour", desc := "(II)I" } : Jvm.MethodName)) ∈ lw_all := lw_g (lw_at lw_m2 196 rfl) rfl
theorem q497 : (Jvm.Cond.selects "ForecastHall$Sky" ({ cls := "ForecastHall$Sky", name := "neighbour", desc := "(II)I" } : Jvm.MethodName) ({ cls := "ForecastHall$Sky", name := "neighbour", desc := "(II)I" } : Jvm.MethodName)) ∈ lw_all := lw_g (lw_at lw_m2 197 rfl) rfl
theorem q498 : (Jvm.Cond.code ({ cls := "ForecastHall$Sky", name := "neighbour", desc := "(II)I" } : Jvm.MethodName) prog_5_method_4_code (5 : Nat) (Option.some Jvm.ClassFile.FieldType.int)) ∈ lw_all := lw_g (lw_at lw_m2 198 rfl) rfl
theorem q499 : (Jvm.Cond.methodLink "ForecastHall$Sky" (141 : Nat) ({ cls := "java/lang/Math", name := "floorDiv", desc := "(II)I" } : Jvm.MethodName)) ∈ lw_all := lw_g (lw_at lw_m2 199 rfl) rfl
theorem q502 : (Jvm.Cond.methodLink "ForecastHall$Sky" (121 : Nat) ({ cls := "ForecastHall$Sky", name := "put", desc := "(IIIIZ)V" } : Jvm.MethodName)) ∈ lw_all := lw_g (lw_at lw_m2 202 rfl) rfl
theorem q503 : (Jvm.Cond.privateMethod ({ cls := "ForecastHall$Sky", name := "put", desc := "(IIIIZ)V" } : Jvm.MethodName)) ∈ lw_tbl := lw_at lw_m2 203 rfl
theorem q504 : (Jvm.Cond.instanceMethod ({ cls := "ForecastHall$Sky", name := "put", desc := "(IIIIZ)V" } : Jvm.MethodName)) ∈ lw_all := lw_g (lw_at lw_m2 204 rfl) rfl
theorem q505 : (Jvm.Cond.code ({ cls := "ForecastHall$Sky", name := "put", desc := "(IIIIZ)V" } : Jvm.MethodName) prog_5_method_10_code (6 : Nat) (Option.none : Option Jvm.ClassFile.FieldType)) ∈ lw_all := lw_g (lw_at lw_m2 205 rfl) rfl
theorem q506 : (Jvm.Cond.methodLink "ForecastHall$Sky" (23 : Nat) ({ cls := "ForecastHall$Sky", name := "place", desc := "(III)I" } : Jvm.MethodName)) ∈ lw_all := lw_g (lw_at lw_m2 206 rfl) rfl
theorem q507 : (Jvm.Cond.instanceMethod ({ cls := "ForecastHall$Sky", name := "place", desc := "(III)I" } : Jvm.MethodName)) ∈ lw_all := lw_g (lw_at lw_m2 207 rfl) rfl
theorem q508 : (Jvm.Cond.selects "ForecastHall$Sky" ({ cls := "ForecastHall$Sky", name := "place", desc := "(III)I" } : Jvm.MethodName) ({ cls := "ForecastHall$Sky", name := "place", desc := "(III)I" } : Jvm.MethodName)) ∈ lw_all := lw_g (lw_at lw_m2 208 rfl) rfl
theorem q509 : (Jvm.Cond.code ({ cls := "ForecastHall$Sky", name := "place", desc := "(III)I" } : Jvm.MethodName) prog_5_method_2_code (4 : Nat) (Option.some Jvm.ClassFile.FieldType.int)) ∈ lw_all := lw_g (lw_at lw_m2 209 rfl) rfl
theorem q511 : (Jvm.Cond.instanceMethod ({ cls := "ForecastHall$Sky", name := "run", desc := "(II)V" } : Jvm.MethodName)) ∈ lw_all := lw_g (lw_at lw_m2 211 rfl) rfl
theorem q512 : (Jvm.Cond.selects "ForecastHall$Sky" ({ cls := "ForecastHall$Sky", name := "run", desc := "(II)V" } : Jvm.MethodName) ({ cls := "ForecastHall$Sky", name := "run", desc := "(II)V" } : Jvm.MethodName)) ∈ lw_all := lw_g (lw_at lw_m2 212 rfl) rfl
theorem q513 : (Jvm.Cond.code ({ cls := "ForecastHall$Sky", name := "run", desc := "(II)V" } : Jvm.MethodName) prog_5_method_12_code (8 : Nat) (Option.none : Option Jvm.ClassFile.FieldType)) ∈ lw_all := lw_g (lw_at lw_m2 213 rfl) rfl
theorem q514 : (Jvm.Cond.methodLink "ForecastHall$Sky" (113 : Nat) ({ cls := "ForecastHall$Plan", name := "lineOf", desc := "(I)I" } : Jvm.MethodName)) ∈ lw_all := lw_g (lw_at lw_m2 214 rfl) rfl
theorem q515 : (Jvm.Cond.methodLink "ForecastHall$Sky" (47 : Nat) ({ cls := "ForecastHall$Sky", name := "at", desc := "(III)I" } : Jvm.MethodName)) ∈ lw_all := lw_g (lw_at lw_m2 215 rfl) rfl
theorem q516 : (Jvm.Cond.instanceMethod ({ cls := "ForecastHall$Sky", name := "at", desc := "(III)I" } : Jvm.MethodName)) ∈ lw_all := lw_g (lw_at lw_m2 216 rfl) rfl
theorem q517 : (Jvm.Cond.selects "ForecastHall$Sky" ({ cls := "ForecastHall$Sky", name := "at", desc := "(III)I" } : Jvm.MethodName) ({ cls := "ForecastHall$Sky", name := "at", desc := "(III)I" } : Jvm.MethodName)) ∈ lw_all := lw_g (lw_at lw_m2 217 rfl) rfl
theorem q518 : (Jvm.Cond.code ({ cls := "ForecastHall$Sky", name := "at", desc := "(III)I" } : Jvm.MethodName) prog_5_method_3_code (4 : Nat) (Option.some Jvm.ClassFile.FieldType.int)) ∈ lw_all := lw_g (lw_at lw_m2 218 rfl) rfl
theorem q519 : (Jvm.Cond.methodLink "ForecastHall$Sky" (117 : Nat) ({ cls := "ForecastHall$Sky", name := "slipped", desc := "(IIIII)I" } : Jvm.MethodName)) ∈ lw_all := lw_g (lw_at lw_m2 219 rfl) rfl
theorem q520 : (Jvm.Cond.privateMethod ({ cls := "ForecastHall$Sky", name := "slipped", desc := "(IIIII)I" } : Jvm.MethodName)) ∈ lw_tbl := lw_at lw_m2 220 rfl
theorem q521 : (Jvm.Cond.instanceMethod ({ cls := "ForecastHall$Sky", name := "slipped", desc := "(IIIII)I" } : Jvm.MethodName)) ∈ lw_all := lw_g (lw_at lw_m2 221 rfl) rfl
theorem q522 : (Jvm.Cond.code ({ cls := "ForecastHall$Sky", name := "slipped", desc := "(IIIII)I" } : Jvm.MethodName) prog_5_method_11_code (11 : Nat) (Option.some Jvm.ClassFile.FieldType.int)) ∈ lw_all := lw_g (lw_at lw_m2 222 rfl) rfl
theorem q523 : (Jvm.Cond.constant "ForecastHall$Sky" (68 : Nat) (2000000000 : Int32)) ∈ lw_all := lw_g (lw_at lw_m2 223 rfl) rfl
theorem q524 : (Jvm.Cond.methodLink "ForecastHall$Sky" (69 : Nat) ({ cls := "java/lang/Math", name := "abs", desc := "(J)J" } : Jvm.MethodName)) ∈ lw_all := lw_g (lw_at lw_m2 224 rfl) rfl
theorem q527 : (Jvm.Cond.constantLong "ForecastHall$Sky" (92 : Nat) (1000000000 : Int64)) ∈ lw_all := lw_g (lw_at lw_m2 227 rfl) rfl
theorem q528 : (Jvm.Cond.methodLink "ForecastHall$Sky" (131 : Nat) ({ cls := "ForecastHall$Sky", name := "marksOf", desc := "(III)Z" } : Jvm.MethodName)) ∈ lw_all := lw_g (lw_at lw_m2 228 rfl) rfl
theorem q529 : (Jvm.Cond.privateMethod ({ cls := "ForecastHall$Sky", name := "marksOf", desc := "(III)Z" } : Jvm.MethodName)) ∈ lw_tbl := lw_at lw_m2 229 rfl
theorem q530 : (Jvm.Cond.instanceMethod ({ cls := "ForecastHall$Sky", name := "marksOf", desc := "(III)Z" } : Jvm.MethodName)) ∈ lw_all := lw_g (lw_at lw_m2 230 rfl) rfl
theorem q531 : (Jvm.Cond.code ({ cls := "ForecastHall$Sky", name := "marksOf", desc := "(III)Z" } : Jvm.MethodName) prog_5_method_9_code (6 : Nat) (Option.some Jvm.ClassFile.FieldType.boolean)) ∈ lw_all := lw_g (lw_at lw_m2 231 rfl) rfl
theorem q532 : (Jvm.Cond.methodLink "ForecastHall$Sky" (94 : Nat) ({ cls := "ForecastHall$Sky", name := "marks", desc := "(III)Z" } : Jvm.MethodName)) ∈ lw_all := lw_g (lw_at lw_m2 232 rfl) rfl
theorem q533 : (Jvm.Cond.privateMethod ({ cls := "ForecastHall$Sky", name := "marks", desc := "(III)Z" } : Jvm.MethodName)) ∈ lw_tbl := lw_at lw_m2 233 rfl
theorem q534 : (Jvm.Cond.instanceMethod ({ cls := "ForecastHall$Sky", name := "marks", desc := "(III)Z" } : Jvm.MethodName)) ∈ lw_all := lw_g (lw_at lw_m2 234 rfl) rfl
theorem q535 : (Jvm.Cond.code ({ cls := "ForecastHall$Sky", name := "marks", desc := "(III)Z" } : Jvm.MethodName) prog_5_method_7_code (5 : Nat) (Option.some Jvm.ClassFile.FieldType.boolean)) ∈ lw_all := lw_g (lw_at lw_m2 235 rfl) rfl
theorem q536 : (Jvm.Cond.methodLink "ForecastHall$Sky" (44 : Nat) ({ cls := "ForecastHall$Sky", name := "stepOf", desc := "(II)I" } : Jvm.MethodName)) ∈ lw_all := lw_g (lw_at lw_m2 236 rfl) rfl
theorem q537 : (Jvm.Cond.privateMethod ({ cls := "ForecastHall$Sky", name := "stepOf", desc := "(II)I" } : Jvm.MethodName)) ∈ lw_tbl := lw_at lw_m2 237 rfl
theorem q538 : (Jvm.Cond.instanceMethod ({ cls := "ForecastHall$Sky", name := "stepOf", desc := "(II)I" } : Jvm.MethodName)) ∈ lw_all := lw_g (lw_at lw_m2 238 rfl) rfl
theorem q539 : (Jvm.Cond.code ({ cls := "ForecastHall$Sky", name := "stepOf", desc := "(II)I" } : Jvm.MethodName) prog_5_method_5_code (3 : Nat) (Option.some Jvm.ClassFile.FieldType.int)) ∈ lw_all := lw_g (lw_at lw_m2 239 rfl) rfl
theorem q540 : (Jvm.Cond.methodLink "ForecastHall$Sky" (134 : Nat) ({ cls := "ForecastHall$Sky", name := "made", desc := "(III)I" } : Jvm.MethodName)) ∈ lw_all := lw_g (lw_at lw_m3 0 rfl) rfl
theorem q541 : (Jvm.Cond.instanceMethod ({ cls := "ForecastHall$Sky", name := "made", desc := "(III)I" } : Jvm.MethodName)) ∈ lw_all := lw_g (lw_at lw_m3 1 rfl) rfl
theorem q542 : (Jvm.Cond.selects "ForecastHall$Sky" ({ cls := "ForecastHall$Sky", name := "made", desc := "(III)I" } : Jvm.MethodName) ({ cls := "ForecastHall$Sky", name := "made", desc := "(III)I" } : Jvm.MethodName)) ∈ lw_all := lw_g (lw_at lw_m3 2 rfl) rfl
theorem q543 : (Jvm.Cond.code ({ cls := "ForecastHall$Sky", name := "made", desc := "(III)I" } : Jvm.MethodName) prog_5_method_8_code (11 : Nat) (Option.some Jvm.ClassFile.FieldType.int)) ∈ lw_all := lw_g (lw_at lw_m3 3 rfl) rfl
theorem q544 : (Jvm.Cond.methodLink "ForecastHall$Sky" (62 : Nat) ({ cls := "ForecastHall$Sky", name := "valueOf", desc := "(III)I" } : Jvm.MethodName)) ∈ lw_all := lw_g (lw_at lw_m3 4 rfl) rfl
theorem q545 : (Jvm.Cond.privateMethod ({ cls := "ForecastHall$Sky", name := "valueOf", desc := "(III)I" } : Jvm.MethodName)) ∈ lw_tbl := lw_at lw_m3 5 rfl
theorem q546 : (Jvm.Cond.instanceMethod ({ cls := "ForecastHall$Sky", name := "valueOf", desc := "(III)I" } : Jvm.MethodName)) ∈ lw_all := lw_g (lw_at lw_m3 6 rfl) rfl
theorem q547 : (Jvm.Cond.code ({ cls := "ForecastHall$Sky", name := "valueOf", desc := "(III)I" } : Jvm.MethodName) prog_5_method_6_code (5 : Nat) (Option.some Jvm.ClassFile.FieldType.int)) ∈ lw_all := lw_g (lw_at lw_m3 7 rfl) rfl
theorem q548 : (Jvm.Cond.constantLong "ForecastHall$Sky" (75 : Nat) (1000000000000000 : Int64)) ∈ lw_all := lw_g (lw_at lw_m3 8 rfl) rfl
theorem q549 : (Jvm.Cond.constantLong "ForecastHall$Sky" (86 : Nat) (2 : Int64)) ∈ lw_all := lw_g (lw_at lw_m3 9 rfl) rfl
theorem q550 : (Jvm.Cond.methodLink "ForecastHall$Sky" (88 : Nat) ({ cls := "java/lang/Math", name := "floorDiv", desc := "(JJ)J" } : Jvm.MethodName)) ∈ lw_all := lw_g (lw_at lw_m3 10 rfl) rfl
theorem q699 : (Jvm.Cond.instanceMethod ({ cls := "ForecastHall$Sky", name := "beginCoarse", desc := "(LForecastHall$Sky;)V" } : Jvm.MethodName)) ∈ lw_all := lw_g (lw_at lw_m3 159 rfl) rfl
theorem q700 : (Jvm.Cond.selects "ForecastHall$Sky" ({ cls := "ForecastHall$Sky", name := "beginCoarse", desc := "(LForecastHall$Sky;)V" } : Jvm.MethodName) ({ cls := "ForecastHall$Sky", name := "beginCoarse", desc := "(LForecastHall$Sky;)V" } : Jvm.MethodName)) ∈ lw_all := lw_g (lw_at lw_m3 160 rfl) rfl
theorem q701 : (Jvm.Cond.code ({ cls := "ForecastHall$Sky", name := "beginCoarse", desc := "(LForecastHall$Sky;)V" } : Jvm.MethodName) prog_5_method_16_code (4 : Nat) (Option.none : Option Jvm.ClassFile.FieldType)) ∈ lw_all := lw_g (lw_at lw_m3 161 rfl) rfl
theorem q702 : (Jvm.Cond.methodLink "ForecastHall$Sky" (158 : Nat) ({ cls := "ForecastHall$Sky", name := "meanOf", desc := "(LForecastHall$Sky;III)I" } : Jvm.MethodName)) ∈ lw_all := lw_g (lw_at lw_m3 162 rfl) rfl
theorem q703 : (Jvm.Cond.privateMethod ({ cls := "ForecastHall$Sky", name := "meanOf", desc := "(LForecastHall$Sky;III)I" } : Jvm.MethodName)) ∈ lw_tbl := lw_at lw_m3 163 rfl
theorem q704 : (Jvm.Cond.instanceMethod ({ cls := "ForecastHall$Sky", name := "meanOf", desc := "(LForecastHall$Sky;III)I" } : Jvm.MethodName)) ∈ lw_all := lw_g (lw_at lw_m3 164 rfl) rfl
theorem q705 : (Jvm.Cond.code ({ cls := "ForecastHall$Sky", name := "meanOf", desc := "(LForecastHall$Sky;III)I" } : Jvm.MethodName) prog_5_method_15_code (11 : Nat) (Option.some Jvm.ClassFile.FieldType.int)) ∈ lw_all := lw_g (lw_at lw_m3 165 rfl) rfl
theorem q706 : (Jvm.Cond.constantLong "ForecastHall$Sky" (156 : Nat) (4 : Int64)) ∈ lw_all := lw_g (lw_at lw_m3 166 rfl) rfl
theorem in_X3 : ∀ w ∈ wsX30, w ∈ lw_all := lw_in wsX30 [172, 174, 176, 178, 180] (by decide +kernel) (by decide +kernel)
/-! ForecastHall$Kept -/
def RX4 : String := "ForecastHall$Kept"
def TX4 : u_T := fun k => match k with
  | 0 => ("ForecastHall$Kept", "plan", "LForecastHall$Plan;", true)
  | 1 => ("ForecastHall$Kept", "firsts", "[I", true)
  | 2 => ("ForecastHall$Kept", "slipMany", "I", false)
  | 3 => ("ForecastHall$Kept", "slips", "[I", true)
  | 4 => ("ForecastHall$Kept", "edge", "I", false)
  | _ => ("ForecastHall$Kept", "rims", "[I", true)
def tyX4 : Nat → FieldType := fun k => match k with
  | 0 => .object "ForecastHall$Plan"
  | 1 => .array .int
  | 2 => .int
  | 3 => .array .int
  | 4 => .int
  | _ => .array .int
abbrev wsX40 : List Cond := u_ws RX4 TX4 6
theorem nmX4 : ∀ a, a < 6 → ∀ b, b < 6 → a ≠ b → (TX4 a).2.1 ≠ (TX4 b).2.1 := by decide +kernel
theorem tyX4_ok : ∀ k, k < 6 → parseFieldDescriptor (TX4 k).2.2.1 = some (tyX4 k) := by decide +kernel
abbrev cX4_init : ByteArray := prog_2_method_1_code
def yX4_init : MethodName := ⟨RX4, "<init>", "()V"⟩
abbrev cX4_keep : ByteArray := prog_2_method_2_code
def yX4_keep : MethodName := ⟨RX4, "keep", "(LForecastHall;)V"⟩
abbrev cX4_back : ByteArray := prog_2_method_3_code
def yX4_back : MethodName := ⟨RX4, "back", "(LForecastHall;)V"⟩
theorem q65 : (Jvm.Cond.initialized "ForecastHall$Kept") ∈ lw_all := lw_g (lw_at lw_m1 5 rfl) rfl
theorem q185 : (Jvm.Cond.instantiable "ForecastHall$Kept" (6 : Nat)) ∈ lw_all := lw_g (lw_at lw_m1 125 rfl) rfl
theorem q187 : (Jvm.Cond.instanceMethod ({ cls := "ForecastHall$Kept", name := "<init>", desc := "()V" } : Jvm.MethodName)) ∈ lw_all := lw_g (lw_at lw_m1 127 rfl) rfl
theorem q188 : (Jvm.Cond.code ({ cls := "ForecastHall$Kept", name := "<init>", desc := "()V" } : Jvm.MethodName) prog_2_method_1_code (1 : Nat) (Option.none : Option Jvm.ClassFile.FieldType)) ∈ lw_all := lw_g (lw_at lw_m1 128 rfl) rfl
theorem q189 : (Jvm.Cond.methodLink "ForecastHall$Kept" (3 : Nat) ({ cls := "java/lang/Object", name := "<init>", desc := "()V" } : Jvm.MethodName)) ∈ lw_all := lw_g (lw_at lw_m1 129 rfl) rfl
theorem q190 : (Jvm.Cond.classLink "ForecastHall$Kept" (9 : Nat) "ForecastHall$Plan") ∈ lw_all := lw_g (lw_at lw_m1 130 rfl) rfl
theorem q191 : (Jvm.Cond.methodLinkNest "ForecastHall$Kept" (11 : Nat) ({ cls := "ForecastHall$Plan", name := "<init>", desc := "()V" } : Jvm.MethodName) "ForecastHall") ∈ lw_tbl := lw_at lw_m1 131 rfl
theorem q192 : (Jvm.Cond.fieldLink "ForecastHall$Kept" (12 : Nat) "ForecastHall$Kept" "plan" "LForecastHall$Plan;") ∈ lw_all := lw_g (lw_at lw_m1 132 rfl) rfl
theorem q193 : (Jvm.Cond.fieldLink "ForecastHall$Kept" (18 : Nat) "ForecastHall$Kept" "firsts" "[I") ∈ lw_all := lw_g (lw_at lw_m1 133 rfl) rfl
theorem q194 : (Jvm.Cond.fieldLink "ForecastHall$Kept" (45 : Nat) "ForecastHall$Kept" "slipMany" "I") ∈ lw_all := lw_g (lw_at lw_m1 134 rfl) rfl
theorem q195 : (Jvm.Cond.fieldLink "ForecastHall$Kept" (22 : Nat) "ForecastHall$Kept" "slips" "[I") ∈ lw_all := lw_g (lw_at lw_m1 135 rfl) rfl
theorem q196 : (Jvm.Cond.fieldLink "ForecastHall$Kept" (61 : Nat) "ForecastHall$Kept" "edge" "I") ∈ lw_all := lw_g (lw_at lw_m1 136 rfl) rfl
theorem q197 : (Jvm.Cond.fieldLink "ForecastHall$Kept" (25 : Nat) "ForecastHall$Kept" "rims" "[I") ∈ lw_all := lw_g (lw_at lw_m1 137 rfl) rfl
theorem q198 : (Jvm.Cond.laysFinal "ForecastHall$Kept" "ForecastHall$Kept" "plan" "LForecastHall$Plan;") ∈ lw_all := lw_g (lw_at lw_m1 138 rfl) rfl
theorem q199 : (Jvm.Cond.soleField "ForecastHall$Kept" "plan") ∈ lw_all := lw_g (lw_at lw_m1 139 rfl) rfl
theorem q200 : (Jvm.Cond.laysFinal "ForecastHall$Kept" "ForecastHall$Kept" "firsts" "[I") ∈ lw_all := lw_g (lw_at lw_m1 140 rfl) rfl
theorem q201 : (Jvm.Cond.soleField "ForecastHall$Kept" "firsts") ∈ lw_all := lw_g (lw_at lw_m1 141 rfl) rfl
theorem q202 : (Jvm.Cond.lays "ForecastHall$Kept" "ForecastHall$Kept" "slipMany" "I") ∈ lw_all := lw_g (lw_at lw_m1 142 rfl) rfl
theorem q203 : (Jvm.Cond.soleField "ForecastHall$Kept" "slipMany") ∈ lw_all := lw_g (lw_at lw_m1 143 rfl) rfl
theorem q204 : (Jvm.Cond.laysFinal "ForecastHall$Kept" "ForecastHall$Kept" "slips" "[I") ∈ lw_all := lw_g (lw_at lw_m1 144 rfl) rfl
theorem q205 : (Jvm.Cond.soleField "ForecastHall$Kept" "slips") ∈ lw_all := lw_g (lw_at lw_m1 145 rfl) rfl
theorem q206 : (Jvm.Cond.lays "ForecastHall$Kept" "ForecastHall$Kept" "edge" "I") ∈ lw_all := lw_g (lw_at lw_m1 146 rfl) rfl
theorem q207 : (Jvm.Cond.soleField "ForecastHall$Kept" "edge") ∈ lw_all := lw_g (lw_at lw_m1 147 rfl) rfl
theorem q208 : (Jvm.Cond.laysFinal "ForecastHall$Kept" "ForecastHall$Kept" "rims" "[I") ∈ lw_all := lw_g (lw_at lw_m1 148 rfl) rfl
theorem q209 : (Jvm.Cond.soleField "ForecastHall$Kept" "rims") ∈ lw_all := lw_g (lw_at lw_m1 149 rfl) rfl
theorem q210 : (Jvm.Cond.superclass "ForecastHall$Kept" "java/lang/Object") ∈ lw_all := lw_g (lw_at lw_m1 150 rfl) rfl
theorem q229 : (Jvm.Cond.fieldLinkNest "ForecastHall$Kept" (28 : Nat) "ForecastHall" "plan" "LForecastHall$Plan;" "ForecastHall") ∈ lw_tbl := lw_at lw_m1 169 rfl
theorem q236 : (Jvm.Cond.fieldLinkNest "ForecastHall$Kept" (58 : Nat) "ForecastHall" "edge" "I" "ForecastHall") ∈ lw_tbl := lw_at lw_m1 176 rfl
theorem q239 : (Jvm.Cond.fieldLinkNest "ForecastHall$Kept" (40 : Nat) "ForecastHall" "rims" "[I" "ForecastHall") ∈ lw_tbl := lw_at lw_m1 179 rfl
theorem q242 : (Jvm.Cond.fieldLinkNest "ForecastHall$Kept" (33 : Nat) "ForecastHall" "firsts" "[I" "ForecastHall") ∈ lw_tbl := lw_at lw_m1 182 rfl
theorem q245 : (Jvm.Cond.fieldLinkNest "ForecastHall$Kept" (41 : Nat) "ForecastHall" "slipMany" "I" "ForecastHall") ∈ lw_tbl := lw_at lw_m1 185 rfl
theorem q248 : (Jvm.Cond.fieldLinkNest "ForecastHall$Kept" (46 : Nat) "ForecastHall" "slipStep" "[I" "ForecastHall") ∈ lw_tbl := lw_at lw_m1 188 rfl
theorem q251 : (Jvm.Cond.fieldLinkNest "ForecastHall$Kept" (49 : Nat) "ForecastHall" "slipCell" "[I" "ForecastHall") ∈ lw_tbl := lw_at lw_m1 191 rfl
theorem q254 : (Jvm.Cond.fieldLinkNest "ForecastHall$Kept" (52 : Nat) "ForecastHall" "slipLetter" "[I" "ForecastHall") ∈ lw_tbl := lw_at lw_m1 194 rfl
theorem q257 : (Jvm.Cond.fieldLinkNest "ForecastHall$Kept" (55 : Nat) "ForecastHall" "slipAmount" "[I" "ForecastHall") ∈ lw_tbl := lw_at lw_m1 197 rfl
theorem q260 : (Jvm.Cond.fieldLinkNest "ForecastHall$Kept" (62 : Nat) "ForecastHall" "isFresh" "Z" "ForecastHall") ∈ lw_tbl := lw_at lw_m1 200 rfl
theorem q714 : (Jvm.Cond.instanceMethod ({ cls := "ForecastHall$Kept", name := "keep", desc := "(LForecastHall;)V" } : Jvm.MethodName)) ∈ lw_all := lw_g (lw_at lw_m3 174 rfl) rfl
theorem q715 : (Jvm.Cond.selects "ForecastHall$Kept" ({ cls := "ForecastHall$Kept", name := "keep", desc := "(LForecastHall;)V" } : Jvm.MethodName) ({ cls := "ForecastHall$Kept", name := "keep", desc := "(LForecastHall;)V" } : Jvm.MethodName)) ∈ lw_all := lw_g (lw_at lw_m3 175 rfl) rfl
theorem q716 : (Jvm.Cond.code ({ cls := "ForecastHall$Kept", name := "keep", desc := "(LForecastHall;)V" } : Jvm.MethodName) prog_2_method_2_code (2 : Nat) (Option.none : Option Jvm.ClassFile.FieldType)) ∈ lw_all := lw_g (lw_at lw_m3 176 rfl) rfl
theorem q717 : (Jvm.Cond.methodLink "ForecastHall$Kept" (29 : Nat) ({ cls := "ForecastHall$Plan", name := "copy", desc := "(LForecastHall$Plan;)V" } : Jvm.MethodName)) ∈ lw_all := lw_g (lw_at lw_m3 177 rfl) rfl
theorem q718 : (Jvm.Cond.methodLink "ForecastHall$Kept" (34 : Nat) ({ cls := "java/lang/System", name := "arraycopy", desc := "(Ljava/lang/Object;ILjava/lang/Object;II)V" } : Jvm.MethodName)) ∈ lw_all := lw_g (lw_at lw_m3 178 rfl) rfl
theorem q724 : (Jvm.Cond.instanceMethod ({ cls := "ForecastHall$Kept", name := "back", desc := "(LForecastHall;)V" } : Jvm.MethodName)) ∈ lw_all := lw_g (lw_at lw_m3 184 rfl) rfl
theorem q725 : (Jvm.Cond.selects "ForecastHall$Kept" ({ cls := "ForecastHall$Kept", name := "back", desc := "(LForecastHall;)V" } : Jvm.MethodName) ({ cls := "ForecastHall$Kept", name := "back", desc := "(LForecastHall;)V" } : Jvm.MethodName)) ∈ lw_all := lw_g (lw_at lw_m3 185 rfl) rfl
theorem q726 : (Jvm.Cond.code ({ cls := "ForecastHall$Kept", name := "back", desc := "(LForecastHall;)V" } : Jvm.MethodName) prog_2_method_3_code (2 : Nat) (Option.none : Option Jvm.ClassFile.FieldType)) ∈ lw_all := lw_g (lw_at lw_m3 186 rfl) rfl
theorem in_X4 : ∀ w ∈ wsX40, w ∈ lw_all := lw_in wsX40 [198, 200, 202, 204, 206, 208] (by decide +kernel) (by decide +kernel)
/-! ForecastHallModel -/
def RX5 : String := "ForecastHallModel"
def TX5 : u_T := fun k => match k with
  | 0 => ("ForecastHallModel", "wide", "I", false)
  | 1 => ("ForecastHallModel", "high", "I", false)
  | 2 => ("ForecastHallModel", "edge", "I", false)
  | 3 => ("ForecastHallModel", "walk", "I", false)
  | 4 => ("ForecastHallModel", "rim", "[I", true)
  | 5 => ("ForecastHallModel", "length", "I", false)
  | 6 => ("ForecastHallModel", "text", "[I", true)
  | 7 => ("ForecastHallModel", "lines", "I", false)
  | 8 => ("ForecastHallModel", "readLines", "I", false)
  | 9 => ("ForecastHallModel", "lineLetter", "[I", true)
  | 10 => ("ForecastHallModel", "lineOf", "[I", true)
  | 11 => ("ForecastHallModel", "termFrom", "[I", true)
  | 12 => ("ForecastHallModel", "termMany", "[I", true)
  | 13 => ("ForecastHallModel", "divisor", "[I", true)
  | 14 => ("ForecastHallModel", "nearest", "[I", true)
  | 15 => ("ForecastHallModel", "factor", "[I", true)
  | 16 => ("ForecastHallModel", "one", "[I", true)
  | 17 => ("ForecastHallModel", "two", "[I", true)
  | 18 => ("ForecastHallModel", "first", "[I", true)
  | 19 => ("ForecastHallModel", "slips", "I", false)
  | 20 => ("ForecastHallModel", "slipStep", "[I", true)
  | 21 => ("ForecastHallModel", "slipCell", "[I", true)
  | 22 => ("ForecastHallModel", "slipLetter", "[I", true)
  | 23 => ("ForecastHallModel", "slipAmount", "[I", true)
  | 24 => ("ForecastHallModel", "tellStep", "I", false)
  | 25 => ("ForecastHallModel", "tellLetter", "I", false)
  | 26 => ("ForecastHallModel", "told", "[J", true)
  | 27 => ("ForecastHallModel", "judged", "[I", true)
  | 28 => ("ForecastHallModel", "paces", "[I", true)
  | 29 => ("ForecastHallModel", "owner", "[I", true)
  | 30 => ("ForecastHallModel", "keptMany", "I", false)
  | 31 => ("ForecastHallModel", "kept", "[I", true)
  | 32 => ("ForecastHallModel", "at", "I", false)
  | 33 => ("ForecastHallModel", "wrong", "I", false)
  | 34 => ("ForecastHallModel", "terms", "I", false)
  | 35 => ("ForecastHallModel", "w", "I", false)
  | 36 => ("ForecastHallModel", "h", "I", false)
  | 37 => ("ForecastHallModel", "m", "[I", true)
  | 38 => ("ForecastHallModel", "n", "[I", true)
  | 39 => ("ForecastHallModel", "isMarked", "[Z", true)
  | 40 => ("ForecastHallModel", "have", "[J", true)
  | 41 => ("ForecastHallModel", "off", "[J", true)
  | 42 => ("ForecastHallModel", "groups", "[I", true)
  | 43 => ("ForecastHallModel", "ended", "[I", true)
  | 44 => ("ForecastHallModel", "by", "[I", true)
  | _ => ("ForecastHallModel", "free", "[I", true)
def tyX5 : Nat → FieldType := fun k => match k with
  | 0 => .int
  | 1 => .int
  | 2 => .int
  | 3 => .int
  | 4 => .array .int
  | 5 => .int
  | 6 => .array .int
  | 7 => .int
  | 8 => .int
  | 9 => .array .int
  | 10 => .array .int
  | 11 => .array .int
  | 12 => .array .int
  | 13 => .array .int
  | 14 => .array .int
  | 15 => .array .int
  | 16 => .array .int
  | 17 => .array .int
  | 18 => .array .int
  | 19 => .int
  | 20 => .array .int
  | 21 => .array .int
  | 22 => .array .int
  | 23 => .array .int
  | 24 => .int
  | 25 => .int
  | 26 => .array .long
  | 27 => .array .int
  | 28 => .array .int
  | 29 => .array .int
  | 30 => .int
  | 31 => .array .int
  | 32 => .int
  | 33 => .int
  | 34 => .int
  | 35 => .int
  | 36 => .int
  | 37 => .array .int
  | 38 => .array .int
  | 39 => .array .boolean
  | 40 => .array .long
  | 41 => .array .long
  | 42 => .array .int
  | 43 => .array .int
  | 44 => .array .int
  | _ => .array .int
abbrev wsX50 : List Cond := u_ws RX5 TX5 46
theorem nmX5 : ∀ a, a < 46 → ∀ b, b < 46 → a ≠ b → (TX5 a).2.1 ≠ (TX5 b).2.1 := by decide +kernel
theorem tyX5_ok : ∀ k, k < 46 → parseFieldDescriptor (TX5 k).2.2.1 = some (tyX5 k) := by decide +kernel
abbrev cX5_init : ByteArray := prog_7_method_1_code
def yX5_init : MethodName := ⟨RX5, "<init>", "()V"⟩
abbrev cX5_begins : ByteArray := prog_7_method_3_code
def yX5_begins : MethodName := ⟨RX5, "begins", "()V"⟩
abbrev cX5_clears : ByteArray := prog_7_method_4_code
def yX5_clears : MethodName := ⟨RX5, "clears", "()V"⟩
abbrev cX5_sky : ByteArray := prog_7_method_8_code
def yX5_sky : MethodName := ⟨RX5, "sky", "(II)I"⟩
abbrev cX5_in : ByteArray := prog_7_method_2_code
def yX5_in : MethodName := ⟨RX5, "in", "(JJJ)Z"⟩
abbrev cX5_cells : ByteArray := prog_7_method_5_code
def yX5_cells : MethodName := ⟨RX5, "cells", "()I"⟩
abbrev cX5_rule : ByteArray := prog_7_method_9_code
def yX5_rule : MethodName := ⟨RX5, "rule", "(II)I"⟩
abbrev cX5_rim : ByteArray := prog_7_method_10_code
def yX5_rim : MethodName := ⟨RX5, "rim", "(II)I"⟩
abbrev cX5_isLetter : ByteArray := prog_7_method_7_code
def yX5_isLetter : MethodName := ⟨RX5, "isLetter", "(I)Z"⟩
abbrev cX5_write : ByteArray := prog_7_method_11_code
def yX5_write : MethodName := ⟨RX5, "write", "(IJ)I"⟩
abbrev cX5_wipe : ByteArray := prog_7_method_12_code
def yX5_wipe : MethodName := ⟨RX5, "wipe", "()I"⟩
abbrev cX5_fault : ByteArray := prog_7_method_20_code
def yX5_fault : MethodName := ⟨RX5, "fault", "()I"⟩
abbrev cX5_faultOf : ByteArray := prog_7_method_19_code
def yX5_faultOf : MethodName := ⟨RX5, "faultOf", "()I"⟩
abbrev cX5_readLine : ByteArray := prog_7_method_18_code
def yX5_readLine : MethodName := ⟨RX5, "readLine", "()V"⟩
abbrev cX5_byteAt : ByteArray := prog_7_method_13_code
def yX5_byteAt : MethodName := ⟨RX5, "byteAt", "(I)I"⟩
abbrev cX5_fails : ByteArray := prog_7_method_14_code
def yX5_fails : MethodName := ⟨RX5, "fails", "(I)V"⟩
abbrev cX5_term : ByteArray := prog_7_method_17_code
def yX5_term : MethodName := ⟨RX5, "term", "(Z)V"⟩
abbrev cX5_number : ByteArray := prog_7_method_15_code
def yX5_number : MethodName := ⟨RX5, "number", "(I)I"⟩
abbrev cX5_name : ByteArray := prog_7_method_16_code
def yX5_name : MethodName := ⟨RX5, "name", "()I"⟩
abbrev cX5_plan : ByteArray := prog_7_method_21_code
def yX5_plan : MethodName := ⟨RX5, "plan", "()I"⟩
abbrev cX5_line : ByteArray := prog_7_method_23_code
def yX5_line : MethodName := ⟨RX5, "line", "(II)I"⟩
abbrev cX5_hasProduct : ByteArray := prog_7_method_22_code
def yX5_hasProduct : MethodName := ⟨RX5, "hasProduct", "(I)Z"⟩
abbrev cX5_first : ByteArray := prog_7_method_38_code
def yX5_first : MethodName := ⟨RX5, "first", "(III)I"⟩
abbrev cX5_isCell : ByteArray := prog_7_method_6_code
def yX5_isCell : MethodName := ⟨RX5, "isCell", "(I)Z"⟩
abbrev cX5_at : ByteArray := prog_7_method_40_code
def yX5_at : MethodName := ⟨RX5, "at", "(ZIII)I"⟩
abbrev cX5_isPlace : ByteArray := prog_7_method_39_code
def yX5_isPlace : MethodName := ⟨RX5, "isPlace", "(III)Z"⟩
abbrev cX5_all : ByteArray := prog_7_method_37_code
def yX5_all : MethodName := ⟨RX5, "all", "()I"⟩
abbrev cX5_hall : ByteArray := prog_7_method_36_code
def yX5_hall : MethodName := ⟨RX5, "hall", "([II)V"⟩
abbrev cX5_place : ByteArray := prog_7_method_24_code
def yX5_place : MethodName := ⟨RX5, "place", "(III)I"⟩
abbrev cX5_filled : ByteArray := prog_7_method_35_code
def yX5_filled : MethodName := ⟨RX5, "filled", "(II)I"⟩
abbrev cX5_next : ByteArray := prog_7_method_25_code
def yX5_next : MethodName := ⟨RX5, "next", "(II)I"⟩
abbrev cX5_down : ByteArray := prog_7_method_26_code
def yX5_down : MethodName := ⟨RX5, "down", "(JJ)I"⟩
abbrev cX5_steps : ByteArray := prog_7_method_34_code
def yX5_steps : MethodName := ⟨RX5, "steps", "([II)V"⟩
abbrev cX5_made : ByteArray := prog_7_method_31_code
def yX5_made : MethodName := ⟨RX5, "made", "([IIII)I"⟩
abbrev cX5_named : ByteArray := prog_7_method_29_code
def yX5_named : MethodName := ⟨RX5, "named", "([IIII)I"⟩
abbrev cX5_size : ByteArray := prog_7_method_28_code
def yX5_size : MethodName := ⟨RX5, "size", "(J)J"⟩
abbrev cX5_downLong : ByteArray := prog_7_method_27_code
def yX5_downLong : MethodName := ⟨RX5, "downLong", "(JJ)J"⟩
abbrev cX5_slipped : ByteArray := prog_7_method_33_code
def yX5_slipped : MethodName := ⟨RX5, "slipped", "(IIIII)I"⟩
abbrev cX5_madeMarked : ByteArray := prog_7_method_32_code
def yX5_madeMarked : MethodName := ⟨RX5, "madeMarked", "(III)Z"⟩
abbrev cX5_namedMarked : ByteArray := prog_7_method_30_code
def yX5_namedMarked : MethodName := ⟨RX5, "namedMarked", "(III)Z"⟩
abbrev cX5_marked : ByteArray := prog_7_method_41_code
def yX5_marked : MethodName := ⟨RX5, "marked", "(III)I"⟩
abbrev cX5_sum : ByteArray := prog_7_method_42_code
def yX5_sum : MethodName := ⟨RX5, "sum", "(ZII)J"⟩
abbrev cX5_slip : ByteArray := prog_7_method_43_code
def yX5_slip : MethodName := ⟨RX5, "slip", "(IIII)I"⟩
abbrev cX5_mend : ByteArray := prog_7_method_44_code
def yX5_mend : MethodName := ⟨RX5, "mend", "()I"⟩
abbrev cX5_spread : ByteArray := prog_7_method_45_code
def yX5_spread : MethodName := ⟨RX5, "spread", "(III)I"⟩
abbrev cX5_kept : ByteArray := prog_7_method_46_code
def yX5_kept : MethodName := ⟨RX5, "kept", "(I)I"⟩
abbrev cX5_grows : ByteArray := prog_7_method_47_code
def yX5_grows : MethodName := ⟨RX5, "grows", "()I"⟩
abbrev cX5_tell : ByteArray := prog_7_method_48_code
def yX5_tell : MethodName := ⟨RX5, "tell", "(IIZIJ)I"⟩
abbrev cX5_fails_2 : ByteArray := prog_7_method_50_code
def yX5_fails_2 : MethodName := ⟨RX5, "fails", "()I"⟩
abbrev cX5_tells : ByteArray := prog_7_method_49_code
def yX5_tells : MethodName := ⟨RX5, "tells", "()I"⟩
abbrev cX5_least : ByteArray := prog_7_method_52_code
def yX5_least : MethodName := ⟨RX5, "least", "()I"⟩
abbrev cX5_isEven : ByteArray := prog_7_method_51_code
def yX5_isEven : MethodName := ⟨RX5, "isEven", "(II)Z"⟩
abbrev cX5_second : ByteArray := prog_7_method_53_code
def yX5_second : MethodName := ⟨RX5, "second", "(II)I"⟩
abbrev cX5_put : ByteArray := prog_7_method_54_code
def yX5_put : MethodName := ⟨RX5, "put", "(II)I"⟩
abbrev cX5_judge : ByteArray := prog_7_method_55_code
def yX5_judge : MethodName := ⟨RX5, "judge", "(II)I"⟩
abbrev cX5_pace : ByteArray := prog_7_method_56_code
def yX5_pace : MethodName := ⟨RX5, "pace", "(II)I"⟩
abbrev cX5_give : ByteArray := prog_7_method_57_code
def yX5_give : MethodName := ⟨RX5, "give", "(II)I"⟩
abbrev cX5_when : ByteArray := prog_7_method_61_code
def yX5_when : MethodName := ⟨RX5, "when", "(II)I"⟩
abbrev cX5_ownEnds : ByteArray := prog_7_method_59_code
def yX5_ownEnds : MethodName := ⟨RX5, "ownEnds", "()V"⟩
abbrev cX5_ends : ByteArray := prog_7_method_58_code
def yX5_ends : MethodName := ⟨RX5, "ends", "(I)V"⟩
abbrev cX5_lastOf : ByteArray := prog_7_method_60_code
def yX5_lastOf : MethodName := ⟨RX5, "lastOf", "(I)I"⟩
abbrev cX5_slowest : ByteArray := prog_7_method_62_code
def yX5_slowest : MethodName := ⟨RX5, "slowest", "(I)I"⟩
abbrev cX5_given : ByteArray := prog_7_method_64_code
def yX5_given : MethodName := ⟨RX5, "given", "(III)I"⟩
abbrev cX5_gives : ByteArray := prog_7_method_63_code
def yX5_gives : MethodName := ⟨RX5, "gives", "(II)V"⟩
abbrev cX5_known : ByteArray := prog_7_method_65_code
def yX5_known : MethodName := ⟨RX5, "known", "(II)I"⟩
abbrev cX5_coarse : ByteArray := prog_7_method_66_code
def yX5_coarse : MethodName := ⟨RX5, "coarse", "(III)I"⟩
abbrev cX5_keep : ByteArray := prog_7_method_70_code
def yX5_keep : MethodName := ⟨RX5, "keep", "()I"⟩
abbrev cX5_moveAll : ByteArray := prog_7_method_69_code
def yX5_moveAll : MethodName := ⟨RX5, "moveAll", "(IZ)V"⟩
abbrev cX5_moves : ByteArray := prog_7_method_68_code
def yX5_moves : MethodName := ⟨RX5, "moves", "(IIIZ)I"⟩
abbrev cX5_slot : ByteArray := prog_7_method_67_code
def yX5_slot : MethodName := ⟨RX5, "slot", "(IIIIZ)I"⟩
abbrev cX5_back : ByteArray := prog_7_method_71_code
def yX5_back : MethodName := ⟨RX5, "back", "()I"⟩
abbrev cX5_count : ByteArray := prog_7_method_72_code
def yX5_count : MethodName := ⟨RX5, "count", "(I)I"⟩
theorem q66 : (Jvm.Cond.initialized "ForecastHallModel") ∈ lw_all := lw_g (lw_at lw_m1 6 rfl) rfl
theorem q732 : (Jvm.Cond.instantiable "ForecastHallModel" (46 : Nat)) ∈ lw_all := lw_g (lw_at lw_m3 192 rfl) rfl
theorem q734 : (Jvm.Cond.instanceMethod ({ cls := "ForecastHallModel", name := "<init>", desc := "()V" } : Jvm.MethodName)) ∈ lw_all := lw_g (lw_at lw_m3 194 rfl) rfl
theorem q735 : (Jvm.Cond.code ({ cls := "ForecastHallModel", name := "<init>", desc := "()V" } : Jvm.MethodName) prog_7_method_1_code (2 : Nat) (Option.none : Option Jvm.ClassFile.FieldType)) ∈ lw_all := lw_g (lw_at lw_m3 195 rfl) rfl
theorem q736 : (Jvm.Cond.methodLink "ForecastHallModel" (1 : Nat) ({ cls := "java/lang/Object", name := "<init>", desc := "()V" } : Jvm.MethodName)) ∈ lw_all := lw_g (lw_at lw_m3 196 rfl) rfl
theorem q737 : (Jvm.Cond.methodLink "ForecastHallModel" (112 : Nat) ({ cls := "ForecastHallModel", name := "begins", desc := "()V" } : Jvm.MethodName)) ∈ lw_all := lw_g (lw_at lw_m3 197 rfl) rfl
theorem q738 : (Jvm.Cond.privateMethod ({ cls := "ForecastHallModel", name := "begins", desc := "()V" } : Jvm.MethodName)) ∈ lw_tbl := lw_at lw_m3 198 rfl
theorem q739 : (Jvm.Cond.instanceMethod ({ cls := "ForecastHallModel", name := "begins", desc := "()V" } : Jvm.MethodName)) ∈ lw_all := lw_g (lw_at lw_m3 199 rfl) rfl
theorem q740 : (Jvm.Cond.code ({ cls := "ForecastHallModel", name := "begins", desc := "()V" } : Jvm.MethodName) prog_7_method_3_code (2 : Nat) (Option.none : Option Jvm.ClassFile.FieldType)) ∈ lw_all := lw_g (lw_at lw_m3 200 rfl) rfl
theorem q741 : (Jvm.Cond.constant "ForecastHallModel" (115 : Nat) (2000000 : Int32)) ∈ lw_all := lw_g (lw_at lw_m3 201 rfl) rfl
theorem q742 : (Jvm.Cond.methodLink "ForecastHallModel" (119 : Nat) ({ cls := "ForecastHallModel", name := "clears", desc := "()V" } : Jvm.MethodName)) ∈ lw_all := lw_g (lw_at lw_m3 202 rfl) rfl
theorem q743 : (Jvm.Cond.privateMethod ({ cls := "ForecastHallModel", name := "clears", desc := "()V" } : Jvm.MethodName)) ∈ lw_tbl := lw_at lw_m3 203 rfl
theorem q744 : (Jvm.Cond.instanceMethod ({ cls := "ForecastHallModel", name := "clears", desc := "()V" } : Jvm.MethodName)) ∈ lw_all := lw_g (lw_at lw_m3 204 rfl) rfl
theorem q745 : (Jvm.Cond.code ({ cls := "ForecastHallModel", name := "clears", desc := "()V" } : Jvm.MethodName) prog_7_method_4_code (2 : Nat) (Option.none : Option Jvm.ClassFile.FieldType)) ∈ lw_all := lw_g (lw_at lw_m3 205 rfl) rfl
theorem q746 : (Jvm.Cond.constantLong "ForecastHallModel" (122 : Nat) (2000000000000 : Int64)) ∈ lw_all := lw_g (lw_at lw_m3 206 rfl) rfl
theorem q747 : (Jvm.Cond.fieldLink "ForecastHallModel" (7 : Nat) "ForecastHallModel" "wide" "I") ∈ lw_all := lw_g (lw_at lw_m3 207 rfl) rfl
theorem q748 : (Jvm.Cond.fieldLink "ForecastHallModel" (13 : Nat) "ForecastHallModel" "high" "I") ∈ lw_all := lw_g (lw_at lw_m3 208 rfl) rfl
theorem q749 : (Jvm.Cond.fieldLink "ForecastHallModel" (143 : Nat) "ForecastHallModel" "edge" "I") ∈ lw_all := lw_g (lw_at lw_m3 209 rfl) rfl
theorem q750 : (Jvm.Cond.fieldLink "ForecastHallModel" (16 : Nat) "ForecastHallModel" "walk" "I") ∈ lw_all := lw_g (lw_at lw_m3 210 rfl) rfl
theorem q751 : (Jvm.Cond.fieldLink "ForecastHallModel" (19 : Nat) "ForecastHallModel" "rim" "[I") ∈ lw_all := lw_g (lw_at lw_m3 211 rfl) rfl
theorem q752 : (Jvm.Cond.fieldLink "ForecastHallModel" (157 : Nat) "ForecastHallModel" "length" "I") ∈ lw_all := lw_g (lw_at lw_m3 212 rfl) rfl
theorem q753 : (Jvm.Cond.fieldLink "ForecastHallModel" (23 : Nat) "ForecastHallModel" "text" "[I") ∈ lw_all := lw_g (lw_at lw_m3 213 rfl) rfl
theorem q754 : (Jvm.Cond.fieldLink "ForecastHallModel" (203 : Nat) "ForecastHallModel" "lines" "I") ∈ lw_all := lw_g (lw_at lw_m3 214 rfl) rfl
theorem q755 : (Jvm.Cond.fieldLink "ForecastHallModel" (181 : Nat) "ForecastHallModel" "readLines" "I") ∈ lw_all := lw_g (lw_at lw_m3 215 rfl) rfl
theorem q756 : (Jvm.Cond.fieldLink "ForecastHallModel" (26 : Nat) "ForecastHallModel" "lineLetter" "[I") ∈ lw_all := lw_g (lw_at lw_m3 216 rfl) rfl
theorem q757 : (Jvm.Cond.fieldLink "ForecastHallModel" (29 : Nat) "ForecastHallModel" "lineOf" "[I") ∈ lw_all := lw_g (lw_at lw_m3 217 rfl) rfl
theorem q758 : (Jvm.Cond.fieldLink "ForecastHallModel" (32 : Nat) "ForecastHallModel" "termFrom" "[I") ∈ lw_all := lw_g (lw_at lw_m3 218 rfl) rfl
theorem q759 : (Jvm.Cond.fieldLink "ForecastHallModel" (35 : Nat) "ForecastHallModel" "termMany" "[I") ∈ lw_all := lw_g (lw_at lw_m3 219 rfl) rfl
theorem q760 : (Jvm.Cond.fieldLink "ForecastHallModel" (38 : Nat) "ForecastHallModel" "divisor" "[I") ∈ lw_all := lw_g (lw_at lw_m3 220 rfl) rfl
theorem q761 : (Jvm.Cond.fieldLink "ForecastHallModel" (41 : Nat) "ForecastHallModel" "nearest" "[I") ∈ lw_all := lw_g (lw_at lw_m3 221 rfl) rfl
theorem q762 : (Jvm.Cond.fieldLink "ForecastHallModel" (44 : Nat) "ForecastHallModel" "factor" "[I") ∈ lw_all := lw_g (lw_at lw_m3 222 rfl) rfl
theorem q763 : (Jvm.Cond.fieldLink "ForecastHallModel" (47 : Nat) "ForecastHallModel" "one" "[I") ∈ lw_all := lw_g (lw_at lw_m3 223 rfl) rfl
theorem q764 : (Jvm.Cond.fieldLink "ForecastHallModel" (50 : Nat) "ForecastHallModel" "two" "[I") ∈ lw_all := lw_g (lw_at lw_m3 224 rfl) rfl
theorem q765 : (Jvm.Cond.fieldLink "ForecastHallModel" (53 : Nat) "ForecastHallModel" "first" "[I") ∈ lw_all := lw_g (lw_at lw_m3 225 rfl) rfl
theorem q766 : (Jvm.Cond.fieldLink "ForecastHallModel" (116 : Nat) "ForecastHallModel" "slips" "I") ∈ lw_all := lw_g (lw_at lw_m3 226 rfl) rfl
theorem q767 : (Jvm.Cond.fieldLink "ForecastHallModel" (56 : Nat) "ForecastHallModel" "slipStep" "[I") ∈ lw_all := lw_g (lw_at lw_m3 227 rfl) rfl
theorem q768 : (Jvm.Cond.fieldLink "ForecastHallModel" (59 : Nat) "ForecastHallModel" "slipCell" "[I") ∈ lw_all := lw_g (lw_at lw_m3 228 rfl) rfl
theorem q769 : (Jvm.Cond.fieldLink "ForecastHallModel" (62 : Nat) "ForecastHallModel" "slipLetter" "[I") ∈ lw_all := lw_g (lw_at lw_m3 229 rfl) rfl
theorem q770 : (Jvm.Cond.fieldLink "ForecastHallModel" (65 : Nat) "ForecastHallModel" "slipAmount" "[I") ∈ lw_all := lw_g (lw_at lw_m3 230 rfl) rfl
theorem q771 : (Jvm.Cond.fieldLink "ForecastHallModel" (290 : Nat) "ForecastHallModel" "tellStep" "I") ∈ lw_all := lw_g (lw_at lw_m3 231 rfl) rfl
theorem q772 : (Jvm.Cond.fieldLink "ForecastHallModel" (293 : Nat) "ForecastHallModel" "tellLetter" "I") ∈ lw_all := lw_g (lw_at lw_m3 232 rfl) rfl
theorem q773 : (Jvm.Cond.fieldLink "ForecastHallModel" (68 : Nat) "ForecastHallModel" "told" "[J") ∈ lw_all := lw_g (lw_at lw_m3 233 rfl) rfl
theorem q774 : (Jvm.Cond.fieldLink "ForecastHallModel" (72 : Nat) "ForecastHallModel" "judged" "[I") ∈ lw_all := lw_g (lw_at lw_m3 234 rfl) rfl
theorem q775 : (Jvm.Cond.fieldLink "ForecastHallModel" (75 : Nat) "ForecastHallModel" "paces" "[I") ∈ lw_all := lw_g (lw_at lw_m3 235 rfl) rfl
theorem q776 : (Jvm.Cond.fieldLink "ForecastHallModel" (78 : Nat) "ForecastHallModel" "owner" "[I") ∈ lw_all := lw_g (lw_at lw_m3 236 rfl) rfl
theorem q777 : (Jvm.Cond.fieldLink "ForecastHallModel" (138 : Nat) "ForecastHallModel" "keptMany" "I") ∈ lw_all := lw_g (lw_at lw_m3 237 rfl) rfl
theorem q778 : (Jvm.Cond.fieldLink "ForecastHallModel" (81 : Nat) "ForecastHallModel" "kept" "[I") ∈ lw_all := lw_g (lw_at lw_m3 238 rfl) rfl
theorem q779 : (Jvm.Cond.fieldLink "ForecastHallModel" (165 : Nat) "ForecastHallModel" "at" "I") ∈ lw_all := lw_g (lw_at lw_m3 239 rfl) rfl
theorem q780 : (Jvm.Cond.fieldLink "ForecastHallModel" (162 : Nat) "ForecastHallModel" "wrong" "I") ∈ lw_all := lw_g (lw_at lw_m4 0 rfl) rfl
theorem q781 : (Jvm.Cond.fieldLink "ForecastHallModel" (187 : Nat) "ForecastHallModel" "terms" "I") ∈ lw_all := lw_g (lw_at lw_m4 1 rfl) rfl
theorem q782 : (Jvm.Cond.fieldLink "ForecastHallModel" (211 : Nat) "ForecastHallModel" "w" "I") ∈ lw_all := lw_g (lw_at lw_m4 2 rfl) rfl
theorem q783 : (Jvm.Cond.fieldLink "ForecastHallModel" (214 : Nat) "ForecastHallModel" "h" "I") ∈ lw_all := lw_g (lw_at lw_m4 3 rfl) rfl
theorem q784 : (Jvm.Cond.fieldLink "ForecastHallModel" (84 : Nat) "ForecastHallModel" "m" "[I") ∈ lw_all := lw_g (lw_at lw_m4 4 rfl) rfl
theorem q785 : (Jvm.Cond.fieldLink "ForecastHallModel" (87 : Nat) "ForecastHallModel" "n" "[I") ∈ lw_all := lw_g (lw_at lw_m4 5 rfl) rfl
theorem q786 : (Jvm.Cond.fieldLink "ForecastHallModel" (90 : Nat) "ForecastHallModel" "isMarked" "[Z") ∈ lw_all := lw_g (lw_at lw_m4 6 rfl) rfl
theorem q787 : (Jvm.Cond.fieldLink "ForecastHallModel" (94 : Nat) "ForecastHallModel" "have" "[J") ∈ lw_all := lw_g (lw_at lw_m4 7 rfl) rfl
theorem q788 : (Jvm.Cond.fieldLink "ForecastHallModel" (97 : Nat) "ForecastHallModel" "off" "[J") ∈ lw_all := lw_g (lw_at lw_m4 8 rfl) rfl
theorem q789 : (Jvm.Cond.fieldLink "ForecastHallModel" (100 : Nat) "ForecastHallModel" "groups" "[I") ∈ lw_all := lw_g (lw_at lw_m4 9 rfl) rfl
theorem q790 : (Jvm.Cond.fieldLink "ForecastHallModel" (103 : Nat) "ForecastHallModel" "ended" "[I") ∈ lw_all := lw_g (lw_at lw_m4 10 rfl) rfl
theorem q791 : (Jvm.Cond.fieldLink "ForecastHallModel" (106 : Nat) "ForecastHallModel" "by" "[I") ∈ lw_all := lw_g (lw_at lw_m4 11 rfl) rfl
theorem q792 : (Jvm.Cond.fieldLink "ForecastHallModel" (109 : Nat) "ForecastHallModel" "free" "[I") ∈ lw_all := lw_g (lw_at lw_m4 12 rfl) rfl
theorem q793 : (Jvm.Cond.lays "ForecastHallModel" "ForecastHallModel" "wide" "I") ∈ lw_all := lw_g (lw_at lw_m4 13 rfl) rfl
theorem q794 : (Jvm.Cond.soleField "ForecastHallModel" "wide") ∈ lw_all := lw_g (lw_at lw_m4 14 rfl) rfl
theorem q795 : (Jvm.Cond.lays "ForecastHallModel" "ForecastHallModel" "high" "I") ∈ lw_all := lw_g (lw_at lw_m4 15 rfl) rfl
theorem q796 : (Jvm.Cond.soleField "ForecastHallModel" "high") ∈ lw_all := lw_g (lw_at lw_m4 16 rfl) rfl
theorem q797 : (Jvm.Cond.lays "ForecastHallModel" "ForecastHallModel" "edge" "I") ∈ lw_all := lw_g (lw_at lw_m4 17 rfl) rfl
theorem q798 : (Jvm.Cond.soleField "ForecastHallModel" "edge") ∈ lw_all := lw_g (lw_at lw_m4 18 rfl) rfl
theorem q799 : (Jvm.Cond.lays "ForecastHallModel" "ForecastHallModel" "walk" "I") ∈ lw_all := lw_g (lw_at lw_m4 19 rfl) rfl
theorem q800 : (Jvm.Cond.soleField "ForecastHallModel" "walk") ∈ lw_all := lw_g (lw_at lw_m4 20 rfl) rfl
theorem q801 : (Jvm.Cond.laysFinal "ForecastHallModel" "ForecastHallModel" "rim" "[I") ∈ lw_all := lw_g (lw_at lw_m4 21 rfl) rfl
theorem q802 : (Jvm.Cond.soleField "ForecastHallModel" "rim") ∈ lw_all := lw_g (lw_at lw_m4 22 rfl) rfl
theorem q803 : (Jvm.Cond.lays "ForecastHallModel" "ForecastHallModel" "length" "I") ∈ lw_all := lw_g (lw_at lw_m4 23 rfl) rfl
theorem q804 : (Jvm.Cond.soleField "ForecastHallModel" "length") ∈ lw_all := lw_g (lw_at lw_m4 24 rfl) rfl
theorem q805 : (Jvm.Cond.laysFinal "ForecastHallModel" "ForecastHallModel" "text" "[I") ∈ lw_all := lw_g (lw_at lw_m4 25 rfl) rfl
theorem q806 : (Jvm.Cond.soleField "ForecastHallModel" "text") ∈ lw_all := lw_g (lw_at lw_m4 26 rfl) rfl
theorem q807 : (Jvm.Cond.lays "ForecastHallModel" "ForecastHallModel" "lines" "I") ∈ lw_all := lw_g (lw_at lw_m4 27 rfl) rfl
theorem q808 : (Jvm.Cond.soleField "ForecastHallModel" "lines") ∈ lw_all := lw_g (lw_at lw_m4 28 rfl) rfl
theorem q809 : (Jvm.Cond.lays "ForecastHallModel" "ForecastHallModel" "readLines" "I") ∈ lw_all := lw_g (lw_at lw_m4 29 rfl) rfl
theorem q810 : (Jvm.Cond.soleField "ForecastHallModel" "readLines") ∈ lw_all := lw_g (lw_at lw_m4 30 rfl) rfl
theorem q811 : (Jvm.Cond.laysFinal "ForecastHallModel" "ForecastHallModel" "lineLetter" "[I") ∈ lw_all := lw_g (lw_at lw_m4 31 rfl) rfl
theorem q812 : (Jvm.Cond.soleField "ForecastHallModel" "lineLetter") ∈ lw_all := lw_g (lw_at lw_m4 32 rfl) rfl
theorem q813 : (Jvm.Cond.laysFinal "ForecastHallModel" "ForecastHallModel" "lineOf" "[I") ∈ lw_all := lw_g (lw_at lw_m4 33 rfl) rfl
theorem q814 : (Jvm.Cond.soleField "ForecastHallModel" "lineOf") ∈ lw_all := lw_g (lw_at lw_m4 34 rfl) rfl
theorem q815 : (Jvm.Cond.laysFinal "ForecastHallModel" "ForecastHallModel" "termFrom" "[I") ∈ lw_all := lw_g (lw_at lw_m4 35 rfl) rfl
theorem q816 : (Jvm.Cond.soleField "ForecastHallModel" "termFrom") ∈ lw_all := lw_g (lw_at lw_m4 36 rfl) rfl
theorem q817 : (Jvm.Cond.laysFinal "ForecastHallModel" "ForecastHallModel" "termMany" "[I") ∈ lw_all := lw_g (lw_at lw_m4 37 rfl) rfl
theorem q818 : (Jvm.Cond.soleField "ForecastHallModel" "termMany") ∈ lw_all := lw_g (lw_at lw_m4 38 rfl) rfl
theorem q819 : (Jvm.Cond.laysFinal "ForecastHallModel" "ForecastHallModel" "divisor" "[I") ∈ lw_all := lw_g (lw_at lw_m4 39 rfl) rfl
theorem q820 : (Jvm.Cond.soleField "ForecastHallModel" "divisor") ∈ lw_all := lw_g (lw_at lw_m4 40 rfl) rfl
theorem q821 : (Jvm.Cond.laysFinal "ForecastHallModel" "ForecastHallModel" "nearest" "[I") ∈ lw_all := lw_g (lw_at lw_m4 41 rfl) rfl
theorem q822 : (Jvm.Cond.soleField "ForecastHallModel" "nearest") ∈ lw_all := lw_g (lw_at lw_m4 42 rfl) rfl
theorem q823 : (Jvm.Cond.laysFinal "ForecastHallModel" "ForecastHallModel" "factor" "[I") ∈ lw_all := lw_g (lw_at lw_m4 43 rfl) rfl
theorem q824 : (Jvm.Cond.soleField "ForecastHallModel" "factor") ∈ lw_all := lw_g (lw_at lw_m4 44 rfl) rfl
theorem q825 : (Jvm.Cond.laysFinal "ForecastHallModel" "ForecastHallModel" "one" "[I") ∈ lw_all := lw_g (lw_at lw_m4 45 rfl) rfl
theorem q826 : (Jvm.Cond.soleField "ForecastHallModel" "one") ∈ lw_all := lw_g (lw_at lw_m4 46 rfl) rfl
theorem q827 : (Jvm.Cond.laysFinal "ForecastHallModel" "ForecastHallModel" "two" "[I") ∈ lw_all := lw_g (lw_at lw_m4 47 rfl) rfl
theorem q828 : (Jvm.Cond.soleField "ForecastHallModel" "two") ∈ lw_all := lw_g (lw_at lw_m4 48 rfl) rfl
theorem q829 : (Jvm.Cond.laysFinal "ForecastHallModel" "ForecastHallModel" "first" "[I") ∈ lw_all := lw_g (lw_at lw_m4 49 rfl) rfl
theorem q830 : (Jvm.Cond.soleField "ForecastHallModel" "first") ∈ lw_all := lw_g (lw_at lw_m4 50 rfl) rfl
theorem q831 : (Jvm.Cond.lays "ForecastHallModel" "ForecastHallModel" "slips" "I") ∈ lw_all := lw_g (lw_at lw_m4 51 rfl) rfl
theorem q832 : (Jvm.Cond.soleField "ForecastHallModel" "slips") ∈ lw_all := lw_g (lw_at lw_m4 52 rfl) rfl
theorem q833 : (Jvm.Cond.laysFinal "ForecastHallModel" "ForecastHallModel" "slipStep" "[I") ∈ lw_all := lw_g (lw_at lw_m4 53 rfl) rfl
theorem q834 : (Jvm.Cond.soleField "ForecastHallModel" "slipStep") ∈ lw_all := lw_g (lw_at lw_m4 54 rfl) rfl
theorem q835 : (Jvm.Cond.laysFinal "ForecastHallModel" "ForecastHallModel" "slipCell" "[I") ∈ lw_all := lw_g (lw_at lw_m4 55 rfl) rfl
theorem q836 : (Jvm.Cond.soleField "ForecastHallModel" "slipCell") ∈ lw_all := lw_g (lw_at lw_m4 56 rfl) rfl
theorem q837 : (Jvm.Cond.laysFinal "ForecastHallModel" "ForecastHallModel" "slipLetter" "[I") ∈ lw_all := lw_g (lw_at lw_m4 57 rfl) rfl
theorem q838 : (Jvm.Cond.soleField "ForecastHallModel" "slipLetter") ∈ lw_all := lw_g (lw_at lw_m4 58 rfl) rfl
theorem q839 : (Jvm.Cond.laysFinal "ForecastHallModel" "ForecastHallModel" "slipAmount" "[I") ∈ lw_all := lw_g (lw_at lw_m4 59 rfl) rfl
theorem q840 : (Jvm.Cond.soleField "ForecastHallModel" "slipAmount") ∈ lw_all := lw_g (lw_at lw_m4 60 rfl) rfl
theorem q841 : (Jvm.Cond.lays "ForecastHallModel" "ForecastHallModel" "tellStep" "I") ∈ lw_all := lw_g (lw_at lw_m4 61 rfl) rfl
theorem q842 : (Jvm.Cond.soleField "ForecastHallModel" "tellStep") ∈ lw_all := lw_g (lw_at lw_m4 62 rfl) rfl
theorem q843 : (Jvm.Cond.lays "ForecastHallModel" "ForecastHallModel" "tellLetter" "I") ∈ lw_all := lw_g (lw_at lw_m4 63 rfl) rfl
theorem q844 : (Jvm.Cond.soleField "ForecastHallModel" "tellLetter") ∈ lw_all := lw_g (lw_at lw_m4 64 rfl) rfl
theorem q845 : (Jvm.Cond.laysFinal "ForecastHallModel" "ForecastHallModel" "told" "[J") ∈ lw_all := lw_g (lw_at lw_m4 65 rfl) rfl
theorem q846 : (Jvm.Cond.soleField "ForecastHallModel" "told") ∈ lw_all := lw_g (lw_at lw_m4 66 rfl) rfl
theorem q847 : (Jvm.Cond.laysFinal "ForecastHallModel" "ForecastHallModel" "judged" "[I") ∈ lw_all := lw_g (lw_at lw_m4 67 rfl) rfl
theorem q848 : (Jvm.Cond.soleField "ForecastHallModel" "judged") ∈ lw_all := lw_g (lw_at lw_m4 68 rfl) rfl
theorem q849 : (Jvm.Cond.laysFinal "ForecastHallModel" "ForecastHallModel" "paces" "[I") ∈ lw_all := lw_g (lw_at lw_m4 69 rfl) rfl
theorem q850 : (Jvm.Cond.soleField "ForecastHallModel" "paces") ∈ lw_all := lw_g (lw_at lw_m4 70 rfl) rfl
theorem q851 : (Jvm.Cond.laysFinal "ForecastHallModel" "ForecastHallModel" "owner" "[I") ∈ lw_all := lw_g (lw_at lw_m4 71 rfl) rfl
theorem q852 : (Jvm.Cond.soleField "ForecastHallModel" "owner") ∈ lw_all := lw_g (lw_at lw_m4 72 rfl) rfl
theorem q853 : (Jvm.Cond.lays "ForecastHallModel" "ForecastHallModel" "keptMany" "I") ∈ lw_all := lw_g (lw_at lw_m4 73 rfl) rfl
theorem q854 : (Jvm.Cond.soleField "ForecastHallModel" "keptMany") ∈ lw_all := lw_g (lw_at lw_m4 74 rfl) rfl
theorem q855 : (Jvm.Cond.laysFinal "ForecastHallModel" "ForecastHallModel" "kept" "[I") ∈ lw_all := lw_g (lw_at lw_m4 75 rfl) rfl
theorem q856 : (Jvm.Cond.soleField "ForecastHallModel" "kept") ∈ lw_all := lw_g (lw_at lw_m4 76 rfl) rfl
theorem q857 : (Jvm.Cond.lays "ForecastHallModel" "ForecastHallModel" "at" "I") ∈ lw_all := lw_g (lw_at lw_m4 77 rfl) rfl
theorem q858 : (Jvm.Cond.soleField "ForecastHallModel" "at") ∈ lw_all := lw_g (lw_at lw_m4 78 rfl) rfl
theorem q859 : (Jvm.Cond.lays "ForecastHallModel" "ForecastHallModel" "wrong" "I") ∈ lw_all := lw_g (lw_at lw_m4 79 rfl) rfl
theorem q860 : (Jvm.Cond.soleField "ForecastHallModel" "wrong") ∈ lw_all := lw_g (lw_at lw_m4 80 rfl) rfl
theorem q861 : (Jvm.Cond.lays "ForecastHallModel" "ForecastHallModel" "terms" "I") ∈ lw_all := lw_g (lw_at lw_m4 81 rfl) rfl
theorem q862 : (Jvm.Cond.soleField "ForecastHallModel" "terms") ∈ lw_all := lw_g (lw_at lw_m4 82 rfl) rfl
theorem q863 : (Jvm.Cond.lays "ForecastHallModel" "ForecastHallModel" "w" "I") ∈ lw_all := lw_g (lw_at lw_m4 83 rfl) rfl
theorem q864 : (Jvm.Cond.soleField "ForecastHallModel" "w") ∈ lw_all := lw_g (lw_at lw_m4 84 rfl) rfl
theorem q865 : (Jvm.Cond.lays "ForecastHallModel" "ForecastHallModel" "h" "I") ∈ lw_all := lw_g (lw_at lw_m4 85 rfl) rfl
theorem q866 : (Jvm.Cond.soleField "ForecastHallModel" "h") ∈ lw_all := lw_g (lw_at lw_m4 86 rfl) rfl
theorem q867 : (Jvm.Cond.laysFinal "ForecastHallModel" "ForecastHallModel" "m" "[I") ∈ lw_all := lw_g (lw_at lw_m4 87 rfl) rfl
theorem q868 : (Jvm.Cond.soleField "ForecastHallModel" "m") ∈ lw_all := lw_g (lw_at lw_m4 88 rfl) rfl
theorem q869 : (Jvm.Cond.laysFinal "ForecastHallModel" "ForecastHallModel" "n" "[I") ∈ lw_all := lw_g (lw_at lw_m4 89 rfl) rfl
theorem q870 : (Jvm.Cond.soleField "ForecastHallModel" "n") ∈ lw_all := lw_g (lw_at lw_m4 90 rfl) rfl
theorem q871 : (Jvm.Cond.laysFinal "ForecastHallModel" "ForecastHallModel" "isMarked" "[Z") ∈ lw_all := lw_g (lw_at lw_m4 91 rfl) rfl
theorem q872 : (Jvm.Cond.soleField "ForecastHallModel" "isMarked") ∈ lw_all := lw_g (lw_at lw_m4 92 rfl) rfl
theorem q873 : (Jvm.Cond.laysFinal "ForecastHallModel" "ForecastHallModel" "have" "[J") ∈ lw_all := lw_g (lw_at lw_m4 93 rfl) rfl
theorem q874 : (Jvm.Cond.soleField "ForecastHallModel" "have") ∈ lw_all := lw_g (lw_at lw_m4 94 rfl) rfl
theorem q875 : (Jvm.Cond.laysFinal "ForecastHallModel" "ForecastHallModel" "off" "[J") ∈ lw_all := lw_g (lw_at lw_m4 95 rfl) rfl
theorem q876 : (Jvm.Cond.soleField "ForecastHallModel" "off") ∈ lw_all := lw_g (lw_at lw_m4 96 rfl) rfl
theorem q877 : (Jvm.Cond.laysFinal "ForecastHallModel" "ForecastHallModel" "groups" "[I") ∈ lw_all := lw_g (lw_at lw_m4 97 rfl) rfl
theorem q878 : (Jvm.Cond.soleField "ForecastHallModel" "groups") ∈ lw_all := lw_g (lw_at lw_m4 98 rfl) rfl
theorem q879 : (Jvm.Cond.laysFinal "ForecastHallModel" "ForecastHallModel" "ended" "[I") ∈ lw_all := lw_g (lw_at lw_m4 99 rfl) rfl
theorem q880 : (Jvm.Cond.soleField "ForecastHallModel" "ended") ∈ lw_all := lw_g (lw_at lw_m4 100 rfl) rfl
theorem q881 : (Jvm.Cond.laysFinal "ForecastHallModel" "ForecastHallModel" "by" "[I") ∈ lw_all := lw_g (lw_at lw_m4 101 rfl) rfl
theorem q882 : (Jvm.Cond.soleField "ForecastHallModel" "by") ∈ lw_all := lw_g (lw_at lw_m4 102 rfl) rfl
theorem q883 : (Jvm.Cond.laysFinal "ForecastHallModel" "ForecastHallModel" "free" "[I") ∈ lw_all := lw_g (lw_at lw_m4 103 rfl) rfl
theorem q884 : (Jvm.Cond.soleField "ForecastHallModel" "free") ∈ lw_all := lw_g (lw_at lw_m4 104 rfl) rfl
theorem q885 : (Jvm.Cond.superclass "ForecastHallModel" "java/lang/Object") ∈ lw_all := lw_g (lw_at lw_m4 105 rfl) rfl
theorem q887 : (Jvm.Cond.instanceMethod ({ cls := "ForecastHallModel", name := "sky", desc := "(II)I" } : Jvm.MethodName)) ∈ lw_all := lw_g (lw_at lw_m4 107 rfl) rfl
theorem q888 : (Jvm.Cond.selects "ForecastHallModel" ({ cls := "ForecastHallModel", name := "sky", desc := "(II)I" } : Jvm.MethodName) ({ cls := "ForecastHallModel", name := "sky", desc := "(II)I" } : Jvm.MethodName)) ∈ lw_all := lw_g (lw_at lw_m4 108 rfl) rfl
theorem q889 : (Jvm.Cond.code ({ cls := "ForecastHallModel", name := "sky", desc := "(II)I" } : Jvm.MethodName) prog_7_method_8_code (3 : Nat) (Option.some Jvm.ClassFile.FieldType.int)) ∈ lw_all := lw_g (lw_at lw_m4 109 rfl) rfl
theorem q890 : (Jvm.Cond.constantLong "ForecastHallModel" (134 : Nat) (2 : Int64)) ∈ lw_all := lw_g (lw_at lw_m4 110 rfl) rfl
theorem q891 : (Jvm.Cond.constantLong "ForecastHallModel" (136 : Nat) (6 : Int64)) ∈ lw_all := lw_g (lw_at lw_m4 111 rfl) rfl
theorem q892 : (Jvm.Cond.methodLink "ForecastHallModel" (128 : Nat) ({ cls := "ForecastHallModel", name := "in", desc := "(JJJ)Z" } : Jvm.MethodName)) ∈ lw_all := lw_g (lw_at lw_m4 112 rfl) rfl
theorem q893 : (Jvm.Cond.static ({ cls := "ForecastHallModel", name := "in", desc := "(JJJ)Z" } : Jvm.MethodName)) ∈ lw_all := lw_g (lw_at lw_m4 113 rfl) rfl
theorem q894 : (Jvm.Cond.code ({ cls := "ForecastHallModel", name := "in", desc := "(JJJ)Z" } : Jvm.MethodName) prog_7_method_2_code (6 : Nat) (Option.some Jvm.ClassFile.FieldType.boolean)) ∈ lw_all := lw_g (lw_at lw_m4 114 rfl) rfl
theorem q895 : (Jvm.Cond.methodLink "ForecastHallModel" (124 : Nat) ({ cls := "ForecastHallModel", name := "cells", desc := "()I" } : Jvm.MethodName)) ∈ lw_all := lw_g (lw_at lw_m4 115 rfl) rfl
theorem q896 : (Jvm.Cond.privateMethod ({ cls := "ForecastHallModel", name := "cells", desc := "()I" } : Jvm.MethodName)) ∈ lw_tbl := lw_at lw_m4 116 rfl
theorem q897 : (Jvm.Cond.instanceMethod ({ cls := "ForecastHallModel", name := "cells", desc := "()I" } : Jvm.MethodName)) ∈ lw_all := lw_g (lw_at lw_m4 117 rfl) rfl
theorem q898 : (Jvm.Cond.code ({ cls := "ForecastHallModel", name := "cells", desc := "()I" } : Jvm.MethodName) prog_7_method_5_code (1 : Nat) (Option.some Jvm.ClassFile.FieldType.int)) ∈ lw_all := lw_g (lw_at lw_m4 118 rfl) rfl
theorem q900 : (Jvm.Cond.instanceMethod ({ cls := "ForecastHallModel", name := "rule", desc := "(II)I" } : Jvm.MethodName)) ∈ lw_all := lw_g (lw_at lw_m4 120 rfl) rfl
theorem q901 : (Jvm.Cond.selects "ForecastHallModel" ({ cls := "ForecastHallModel", name := "rule", desc := "(II)I" } : Jvm.MethodName) ({ cls := "ForecastHallModel", name := "rule", desc := "(II)I" } : Jvm.MethodName)) ∈ lw_all := lw_g (lw_at lw_m4 121 rfl) rfl
theorem q902 : (Jvm.Cond.code ({ cls := "ForecastHallModel", name := "rule", desc := "(II)I" } : Jvm.MethodName) prog_7_method_9_code (4 : Nat) (Option.some Jvm.ClassFile.FieldType.int)) ∈ lw_all := lw_g (lw_at lw_m4 122 rfl) rfl
theorem q903 : (Jvm.Cond.constantLong "ForecastHallModel" (141 : Nat) (9 : Int64)) ∈ lw_all := lw_g (lw_at lw_m4 123 rfl) rfl
theorem q905 : (Jvm.Cond.instanceMethod ({ cls := "ForecastHallModel", name := "rim", desc := "(II)I" } : Jvm.MethodName)) ∈ lw_all := lw_g (lw_at lw_m4 125 rfl) rfl
theorem q906 : (Jvm.Cond.selects "ForecastHallModel" ({ cls := "ForecastHallModel", name := "rim", desc := "(II)I" } : Jvm.MethodName) ({ cls := "ForecastHallModel", name := "rim", desc := "(II)I" } : Jvm.MethodName)) ∈ lw_all := lw_g (lw_at lw_m4 126 rfl) rfl
theorem q907 : (Jvm.Cond.code ({ cls := "ForecastHallModel", name := "rim", desc := "(II)I" } : Jvm.MethodName) prog_7_method_10_code (4 : Nat) (Option.some Jvm.ClassFile.FieldType.int)) ∈ lw_all := lw_g (lw_at lw_m4 127 rfl) rfl
theorem q908 : (Jvm.Cond.methodLink "ForecastHallModel" (146 : Nat) ({ cls := "ForecastHallModel", name := "isLetter", desc := "(I)Z" } : Jvm.MethodName)) ∈ lw_all := lw_g (lw_at lw_m4 128 rfl) rfl
theorem q909 : (Jvm.Cond.static ({ cls := "ForecastHallModel", name := "isLetter", desc := "(I)Z" } : Jvm.MethodName)) ∈ lw_all := lw_g (lw_at lw_m4 129 rfl) rfl
theorem q910 : (Jvm.Cond.code ({ cls := "ForecastHallModel", name := "isLetter", desc := "(I)Z" } : Jvm.MethodName) prog_7_method_7_code (1 : Nat) (Option.some Jvm.ClassFile.FieldType.boolean)) ∈ lw_all := lw_g (lw_at lw_m4 130 rfl) rfl
theorem q911 : (Jvm.Cond.constantLong "ForecastHallModel" (132 : Nat) (3 : Int64)) ∈ lw_all := lw_g (lw_at lw_m4 131 rfl) rfl
theorem q912 : (Jvm.Cond.constantLong "ForecastHallModel" (150 : Nat) (-1000000 : Int64)) ∈ lw_all := lw_g (lw_at lw_m4 132 rfl) rfl
theorem q913 : (Jvm.Cond.constantLong "ForecastHallModel" (152 : Nat) (1000000 : Int64)) ∈ lw_all := lw_g (lw_at lw_m4 133 rfl) rfl
theorem q914 : (Jvm.Cond.constant "ForecastHallModel" (154 : Nat) (-2000000 : Int32)) ∈ lw_all := lw_g (lw_at lw_m4 134 rfl) rfl
theorem q916 : (Jvm.Cond.instanceMethod ({ cls := "ForecastHallModel", name := "write", desc := "(IJ)I" } : Jvm.MethodName)) ∈ lw_all := lw_g (lw_at lw_m4 136 rfl) rfl
theorem q917 : (Jvm.Cond.selects "ForecastHallModel" ({ cls := "ForecastHallModel", name := "write", desc := "(IJ)I" } : Jvm.MethodName) ({ cls := "ForecastHallModel", name := "write", desc := "(IJ)I" } : Jvm.MethodName)) ∈ lw_all := lw_g (lw_at lw_m4 137 rfl) rfl
theorem q918 : (Jvm.Cond.code ({ cls := "ForecastHallModel", name := "write", desc := "(IJ)I" } : Jvm.MethodName) prog_7_method_11_code (5 : Nat) (Option.some Jvm.ClassFile.FieldType.int)) ∈ lw_all := lw_g (lw_at lw_m4 138 rfl) rfl
theorem q919 : (Jvm.Cond.constantLong "ForecastHallModel" (155 : Nat) (8 : Int64)) ∈ lw_all := lw_g (lw_at lw_m4 139 rfl) rfl
theorem q920 : (Jvm.Cond.constantLong "ForecastHallModel" (160 : Nat) (255 : Int64)) ∈ lw_all := lw_g (lw_at lw_m4 140 rfl) rfl
theorem q922 : (Jvm.Cond.instanceMethod ({ cls := "ForecastHallModel", name := "wipe", desc := "()I" } : Jvm.MethodName)) ∈ lw_all := lw_g (lw_at lw_m4 142 rfl) rfl
theorem q923 : (Jvm.Cond.selects "ForecastHallModel" ({ cls := "ForecastHallModel", name := "wipe", desc := "()I" } : Jvm.MethodName) ({ cls := "ForecastHallModel", name := "wipe", desc := "()I" } : Jvm.MethodName)) ∈ lw_all := lw_g (lw_at lw_m4 143 rfl) rfl
theorem q924 : (Jvm.Cond.code ({ cls := "ForecastHallModel", name := "wipe", desc := "()I" } : Jvm.MethodName) prog_7_method_12_code (2 : Nat) (Option.some Jvm.ClassFile.FieldType.int)) ∈ lw_all := lw_g (lw_at lw_m4 144 rfl) rfl
theorem q926 : (Jvm.Cond.instanceMethod ({ cls := "ForecastHallModel", name := "fault", desc := "()I" } : Jvm.MethodName)) ∈ lw_all := lw_g (lw_at lw_m4 146 rfl) rfl
theorem q927 : (Jvm.Cond.selects "ForecastHallModel" ({ cls := "ForecastHallModel", name := "fault", desc := "()I" } : Jvm.MethodName) ({ cls := "ForecastHallModel", name := "fault", desc := "()I" } : Jvm.MethodName)) ∈ lw_all := lw_g (lw_at lw_m4 147 rfl) rfl
theorem q928 : (Jvm.Cond.code ({ cls := "ForecastHallModel", name := "fault", desc := "()I" } : Jvm.MethodName) prog_7_method_20_code (1 : Nat) (Option.some Jvm.ClassFile.FieldType.int)) ∈ lw_all := lw_g (lw_at lw_m4 148 rfl) rfl
theorem q929 : (Jvm.Cond.methodLink "ForecastHallModel" (200 : Nat) ({ cls := "ForecastHallModel", name := "faultOf", desc := "()I" } : Jvm.MethodName)) ∈ lw_all := lw_g (lw_at lw_m4 149 rfl) rfl
theorem q930 : (Jvm.Cond.privateMethod ({ cls := "ForecastHallModel", name := "faultOf", desc := "()I" } : Jvm.MethodName)) ∈ lw_tbl := lw_at lw_m4 150 rfl
theorem q931 : (Jvm.Cond.instanceMethod ({ cls := "ForecastHallModel", name := "faultOf", desc := "()I" } : Jvm.MethodName)) ∈ lw_all := lw_g (lw_at lw_m4 151 rfl) rfl
theorem q932 : (Jvm.Cond.code ({ cls := "ForecastHallModel", name := "faultOf", desc := "()I" } : Jvm.MethodName) prog_7_method_19_code (2 : Nat) (Option.some Jvm.ClassFile.FieldType.int)) ∈ lw_all := lw_g (lw_at lw_m4 152 rfl) rfl
theorem q933 : (Jvm.Cond.methodLink "ForecastHallModel" (197 : Nat) ({ cls := "ForecastHallModel", name := "readLine", desc := "()V" } : Jvm.MethodName)) ∈ lw_all := lw_g (lw_at lw_m4 153 rfl) rfl
theorem q934 : (Jvm.Cond.privateMethod ({ cls := "ForecastHallModel", name := "readLine", desc := "()V" } : Jvm.MethodName)) ∈ lw_tbl := lw_at lw_m4 154 rfl
theorem q935 : (Jvm.Cond.instanceMethod ({ cls := "ForecastHallModel", name := "readLine", desc := "()V" } : Jvm.MethodName)) ∈ lw_all := lw_g (lw_at lw_m4 155 rfl) rfl
theorem q936 : (Jvm.Cond.code ({ cls := "ForecastHallModel", name := "readLine", desc := "()V" } : Jvm.MethodName) prog_7_method_18_code (6 : Nat) (Option.none : Option Jvm.ClassFile.FieldType)) ∈ lw_all := lw_g (lw_at lw_m4 156 rfl) rfl
theorem q937 : (Jvm.Cond.methodLink "ForecastHallModel" (168 : Nat) ({ cls := "ForecastHallModel", name := "byteAt", desc := "(I)I" } : Jvm.MethodName)) ∈ lw_all := lw_g (lw_at lw_m4 157 rfl) rfl
theorem q938 : (Jvm.Cond.privateMethod ({ cls := "ForecastHallModel", name := "byteAt", desc := "(I)I" } : Jvm.MethodName)) ∈ lw_tbl := lw_at lw_m4 158 rfl
theorem q939 : (Jvm.Cond.instanceMethod ({ cls := "ForecastHallModel", name := "byteAt", desc := "(I)I" } : Jvm.MethodName)) ∈ lw_all := lw_g (lw_at lw_m4 159 rfl) rfl
theorem q940 : (Jvm.Cond.code ({ cls := "ForecastHallModel", name := "byteAt", desc := "(I)I" } : Jvm.MethodName) prog_7_method_13_code (2 : Nat) (Option.some Jvm.ClassFile.FieldType.int)) ∈ lw_all := lw_g (lw_at lw_m4 160 rfl) rfl
theorem q941 : (Jvm.Cond.methodLink "ForecastHallModel" (177 : Nat) ({ cls := "ForecastHallModel", name := "fails", desc := "(I)V" } : Jvm.MethodName)) ∈ lw_all := lw_g (lw_at lw_m4 161 rfl) rfl
theorem q942 : (Jvm.Cond.privateMethod ({ cls := "ForecastHallModel", name := "fails", desc := "(I)V" } : Jvm.MethodName)) ∈ lw_tbl := lw_at lw_m4 162 rfl
theorem q943 : (Jvm.Cond.instanceMethod ({ cls := "ForecastHallModel", name := "fails", desc := "(I)V" } : Jvm.MethodName)) ∈ lw_all := lw_g (lw_at lw_m4 163 rfl) rfl
theorem q944 : (Jvm.Cond.code ({ cls := "ForecastHallModel", name := "fails", desc := "(I)V" } : Jvm.MethodName) prog_7_method_14_code (2 : Nat) (Option.none : Option Jvm.ClassFile.FieldType)) ∈ lw_all := lw_g (lw_at lw_m4 164 rfl) rfl
theorem q945 : (Jvm.Cond.methodLink "ForecastHallModel" (193 : Nat) ({ cls := "ForecastHallModel", name := "term", desc := "(Z)V" } : Jvm.MethodName)) ∈ lw_all := lw_g (lw_at lw_m4 165 rfl) rfl
theorem q946 : (Jvm.Cond.privateMethod ({ cls := "ForecastHallModel", name := "term", desc := "(Z)V" } : Jvm.MethodName)) ∈ lw_tbl := lw_at lw_m4 166 rfl
theorem q947 : (Jvm.Cond.instanceMethod ({ cls := "ForecastHallModel", name := "term", desc := "(Z)V" } : Jvm.MethodName)) ∈ lw_all := lw_g (lw_at lw_m4 167 rfl) rfl
theorem q948 : (Jvm.Cond.code ({ cls := "ForecastHallModel", name := "term", desc := "(Z)V" } : Jvm.MethodName) prog_7_method_17_code (4 : Nat) (Option.none : Option Jvm.ClassFile.FieldType)) ∈ lw_all := lw_g (lw_at lw_m4 168 rfl) rfl
theorem q949 : (Jvm.Cond.methodLink "ForecastHallModel" (184 : Nat) ({ cls := "ForecastHallModel", name := "number", desc := "(I)I" } : Jvm.MethodName)) ∈ lw_all := lw_g (lw_at lw_m4 169 rfl) rfl
theorem q950 : (Jvm.Cond.privateMethod ({ cls := "ForecastHallModel", name := "number", desc := "(I)I" } : Jvm.MethodName)) ∈ lw_tbl := lw_at lw_m4 170 rfl
theorem q951 : (Jvm.Cond.instanceMethod ({ cls := "ForecastHallModel", name := "number", desc := "(I)I" } : Jvm.MethodName)) ∈ lw_all := lw_g (lw_at lw_m4 171 rfl) rfl
theorem q952 : (Jvm.Cond.code ({ cls := "ForecastHallModel", name := "number", desc := "(I)I" } : Jvm.MethodName) prog_7_method_15_code (4 : Nat) (Option.some Jvm.ClassFile.FieldType.int)) ∈ lw_all := lw_g (lw_at lw_m4 172 rfl) rfl
theorem q953 : (Jvm.Cond.constantLong "ForecastHallModel" (172 : Nat) (48 : Int64)) ∈ lw_all := lw_g (lw_at lw_m4 173 rfl) rfl
theorem q954 : (Jvm.Cond.constantLong "ForecastHallModel" (174 : Nat) (57 : Int64)) ∈ lw_all := lw_g (lw_at lw_m4 174 rfl) rfl
theorem q955 : (Jvm.Cond.constant "ForecastHallModel" (176 : Nat) (100000 : Int32)) ∈ lw_all := lw_g (lw_at lw_m4 175 rfl) rfl
theorem q956 : (Jvm.Cond.methodLink "ForecastHallModel" (190 : Nat) ({ cls := "ForecastHallModel", name := "name", desc := "()I" } : Jvm.MethodName)) ∈ lw_all := lw_g (lw_at lw_m4 176 rfl) rfl
theorem q957 : (Jvm.Cond.privateMethod ({ cls := "ForecastHallModel", name := "name", desc := "()I" } : Jvm.MethodName)) ∈ lw_tbl := lw_at lw_m4 177 rfl
theorem q958 : (Jvm.Cond.instanceMethod ({ cls := "ForecastHallModel", name := "name", desc := "()I" } : Jvm.MethodName)) ∈ lw_all := lw_g (lw_at lw_m4 178 rfl) rfl
theorem q959 : (Jvm.Cond.code ({ cls := "ForecastHallModel", name := "name", desc := "()I" } : Jvm.MethodName) prog_7_method_16_code (7 : Nat) (Option.some Jvm.ClassFile.FieldType.int)) ∈ lw_all := lw_g (lw_at lw_m4 179 rfl) rfl
theorem q961 : (Jvm.Cond.instanceMethod ({ cls := "ForecastHallModel", name := "plan", desc := "()I" } : Jvm.MethodName)) ∈ lw_all := lw_g (lw_at lw_m4 181 rfl) rfl
theorem q962 : (Jvm.Cond.selects "ForecastHallModel" ({ cls := "ForecastHallModel", name := "plan", desc := "()I" } : Jvm.MethodName) ({ cls := "ForecastHallModel", name := "plan", desc := "()I" } : Jvm.MethodName)) ∈ lw_all := lw_g (lw_at lw_m4 182 rfl) rfl
theorem q963 : (Jvm.Cond.code ({ cls := "ForecastHallModel", name := "plan", desc := "()I" } : Jvm.MethodName) prog_7_method_21_code (2 : Nat) (Option.some Jvm.ClassFile.FieldType.int)) ∈ lw_all := lw_g (lw_at lw_m4 183 rfl) rfl
theorem q965 : (Jvm.Cond.instanceMethod ({ cls := "ForecastHallModel", name := "line", desc := "(II)I" } : Jvm.MethodName)) ∈ lw_all := lw_g (lw_at lw_m4 185 rfl) rfl
theorem q966 : (Jvm.Cond.selects "ForecastHallModel" ({ cls := "ForecastHallModel", name := "line", desc := "(II)I" } : Jvm.MethodName) ({ cls := "ForecastHallModel", name := "line", desc := "(II)I" } : Jvm.MethodName)) ∈ lw_all := lw_g (lw_at lw_m4 186 rfl) rfl
theorem q967 : (Jvm.Cond.code ({ cls := "ForecastHallModel", name := "line", desc := "(II)I" } : Jvm.MethodName) prog_7_method_23_code (3 : Nat) (Option.some Jvm.ClassFile.FieldType.int)) ∈ lw_all := lw_g (lw_at lw_m4 187 rfl) rfl
theorem q968 : (Jvm.Cond.constantLong "ForecastHallModel" (206 : Nat) (4 : Int64)) ∈ lw_all := lw_g (lw_at lw_m4 188 rfl) rfl
theorem q969 : (Jvm.Cond.methodLink "ForecastHallModel" (208 : Nat) ({ cls := "ForecastHallModel", name := "hasProduct", desc := "(I)Z" } : Jvm.MethodName)) ∈ lw_all := lw_g (lw_at lw_m4 189 rfl) rfl
theorem q970 : (Jvm.Cond.privateMethod ({ cls := "ForecastHallModel", name := "hasProduct", desc := "(I)Z" } : Jvm.MethodName)) ∈ lw_tbl := lw_at lw_m4 190 rfl
theorem q971 : (Jvm.Cond.instanceMethod ({ cls := "ForecastHallModel", name := "hasProduct", desc := "(I)Z" } : Jvm.MethodName)) ∈ lw_all := lw_g (lw_at lw_m4 191 rfl) rfl
theorem q972 : (Jvm.Cond.code ({ cls := "ForecastHallModel", name := "hasProduct", desc := "(I)Z" } : Jvm.MethodName) prog_7_method_22_code (4 : Nat) (Option.some Jvm.ClassFile.FieldType.boolean)) ∈ lw_all := lw_g (lw_at lw_m4 192 rfl) rfl
theorem q974 : (Jvm.Cond.instanceMethod ({ cls := "ForecastHallModel", name := "first", desc := "(III)I" } : Jvm.MethodName)) ∈ lw_all := lw_g (lw_at lw_m4 194 rfl) rfl
theorem q975 : (Jvm.Cond.selects "ForecastHallModel" ({ cls := "ForecastHallModel", name := "first", desc := "(III)I" } : Jvm.MethodName) ({ cls := "ForecastHallModel", name := "first", desc := "(III)I" } : Jvm.MethodName)) ∈ lw_all := lw_g (lw_at lw_m4 195 rfl) rfl
theorem q976 : (Jvm.Cond.code ({ cls := "ForecastHallModel", name := "first", desc := "(III)I" } : Jvm.MethodName) prog_7_method_38_code (5 : Nat) (Option.some Jvm.ClassFile.FieldType.int)) ∈ lw_all := lw_g (lw_at lw_m4 196 rfl) rfl
theorem q977 : (Jvm.Cond.methodLink "ForecastHallModel" (269 : Nat) ({ cls := "ForecastHallModel", name := "isCell", desc := "(I)Z" } : Jvm.MethodName)) ∈ lw_all := lw_g (lw_at lw_m4 197 rfl) rfl
theorem q978 : (Jvm.Cond.privateMethod ({ cls := "ForecastHallModel", name := "isCell", desc := "(I)Z" } : Jvm.MethodName)) ∈ lw_tbl := lw_at lw_m4 198 rfl
theorem q979 : (Jvm.Cond.instanceMethod ({ cls := "ForecastHallModel", name := "isCell", desc := "(I)Z" } : Jvm.MethodName)) ∈ lw_all := lw_g (lw_at lw_m4 199 rfl) rfl
theorem q980 : (Jvm.Cond.code ({ cls := "ForecastHallModel", name := "isCell", desc := "(I)Z" } : Jvm.MethodName) prog_7_method_6_code (2 : Nat) (Option.some Jvm.ClassFile.FieldType.boolean)) ∈ lw_all := lw_g (lw_at lw_m4 200 rfl) rfl
theorem q982 : (Jvm.Cond.instanceMethod ({ cls := "ForecastHallModel", name := "at", desc := "(ZIII)I" } : Jvm.MethodName)) ∈ lw_all := lw_g (lw_at lw_m4 202 rfl) rfl
theorem q983 : (Jvm.Cond.selects "ForecastHallModel" ({ cls := "ForecastHallModel", name := "at", desc := "(ZIII)I" } : Jvm.MethodName) ({ cls := "ForecastHallModel", name := "at", desc := "(ZIII)I" } : Jvm.MethodName)) ∈ lw_all := lw_g (lw_at lw_m4 203 rfl) rfl
theorem q984 : (Jvm.Cond.code ({ cls := "ForecastHallModel", name := "at", desc := "(ZIII)I" } : Jvm.MethodName) prog_7_method_40_code (5 : Nat) (Option.some Jvm.ClassFile.FieldType.int)) ∈ lw_all := lw_g (lw_at lw_m4 204 rfl) rfl
theorem q985 : (Jvm.Cond.methodLink "ForecastHallModel" (274 : Nat) ({ cls := "ForecastHallModel", name := "isPlace", desc := "(III)Z" } : Jvm.MethodName)) ∈ lw_all := lw_g (lw_at lw_m4 205 rfl) rfl
theorem q986 : (Jvm.Cond.privateMethod ({ cls := "ForecastHallModel", name := "isPlace", desc := "(III)Z" } : Jvm.MethodName)) ∈ lw_tbl := lw_at lw_m4 206 rfl
theorem q987 : (Jvm.Cond.instanceMethod ({ cls := "ForecastHallModel", name := "isPlace", desc := "(III)Z" } : Jvm.MethodName)) ∈ lw_all := lw_g (lw_at lw_m4 207 rfl) rfl
theorem q988 : (Jvm.Cond.code ({ cls := "ForecastHallModel", name := "isPlace", desc := "(III)Z" } : Jvm.MethodName) prog_7_method_39_code (4 : Nat) (Option.some Jvm.ClassFile.FieldType.boolean)) ∈ lw_all := lw_g (lw_at lw_m4 208 rfl) rfl
theorem q989 : (Jvm.Cond.constantLong "ForecastHallModel" (272 : Nat) (12 : Int64)) ∈ lw_all := lw_g (lw_at lw_m4 209 rfl) rfl
theorem q990 : (Jvm.Cond.constant "ForecastHallModel" (277 : Nat) (-2000000000 : Int32)) ∈ lw_all := lw_g (lw_at lw_m4 210 rfl) rfl
theorem q991 : (Jvm.Cond.methodLink "ForecastHallModel" (278 : Nat) ({ cls := "ForecastHallModel", name := "all", desc := "()I" } : Jvm.MethodName)) ∈ lw_all := lw_g (lw_at lw_m4 211 rfl) rfl
theorem q992 : (Jvm.Cond.privateMethod ({ cls := "ForecastHallModel", name := "all", desc := "()I" } : Jvm.MethodName)) ∈ lw_tbl := lw_at lw_m4 212 rfl
theorem q993 : (Jvm.Cond.instanceMethod ({ cls := "ForecastHallModel", name := "all", desc := "()I" } : Jvm.MethodName)) ∈ lw_all := lw_g (lw_at lw_m4 213 rfl) rfl
theorem q994 : (Jvm.Cond.code ({ cls := "ForecastHallModel", name := "all", desc := "()I" } : Jvm.MethodName) prog_7_method_37_code (1 : Nat) (Option.some Jvm.ClassFile.FieldType.int)) ∈ lw_all := lw_g (lw_at lw_m4 214 rfl) rfl
theorem q995 : (Jvm.Cond.methodLink "ForecastHallModel" (281 : Nat) ({ cls := "ForecastHallModel", name := "hall", desc := "([II)V" } : Jvm.MethodName)) ∈ lw_all := lw_g (lw_at lw_m4 215 rfl) rfl
theorem q996 : (Jvm.Cond.privateMethod ({ cls := "ForecastHallModel", name := "hall", desc := "([II)V" } : Jvm.MethodName)) ∈ lw_tbl := lw_at lw_m4 216 rfl
theorem q997 : (Jvm.Cond.instanceMethod ({ cls := "ForecastHallModel", name := "hall", desc := "([II)V" } : Jvm.MethodName)) ∈ lw_all := lw_g (lw_at lw_m4 217 rfl) rfl
theorem q998 : (Jvm.Cond.code ({ cls := "ForecastHallModel", name := "hall", desc := "([II)V" } : Jvm.MethodName) prog_7_method_36_code (5 : Nat) (Option.none : Option Jvm.ClassFile.FieldType)) ∈ lw_all := lw_g (lw_at lw_m4 218 rfl) rfl
theorem q999 : (Jvm.Cond.methodLink "ForecastHallModel" (217 : Nat) ({ cls := "ForecastHallModel", name := "place", desc := "(III)I" } : Jvm.MethodName)) ∈ lw_all := lw_g (lw_at lw_m4 219 rfl) rfl
theorem q1000 : (Jvm.Cond.static ({ cls := "ForecastHallModel", name := "place", desc := "(III)I" } : Jvm.MethodName)) ∈ lw_all := lw_g (lw_at lw_m4 220 rfl) rfl
theorem q1001 : (Jvm.Cond.code ({ cls := "ForecastHallModel", name := "place", desc := "(III)I" } : Jvm.MethodName) prog_7_method_24_code (3 : Nat) (Option.some Jvm.ClassFile.FieldType.int)) ∈ lw_all := lw_g (lw_at lw_m4 221 rfl) rfl
theorem q1002 : (Jvm.Cond.methodLink "ForecastHallModel" (262 : Nat) ({ cls := "ForecastHallModel", name := "filled", desc := "(II)I" } : Jvm.MethodName)) ∈ lw_all := lw_g (lw_at lw_m4 222 rfl) rfl
theorem q1003 : (Jvm.Cond.privateMethod ({ cls := "ForecastHallModel", name := "filled", desc := "(II)I" } : Jvm.MethodName)) ∈ lw_tbl := lw_at lw_m4 223 rfl
theorem q1004 : (Jvm.Cond.instanceMethod ({ cls := "ForecastHallModel", name := "filled", desc := "(II)I" } : Jvm.MethodName)) ∈ lw_all := lw_g (lw_at lw_m4 224 rfl) rfl
theorem q1005 : (Jvm.Cond.code ({ cls := "ForecastHallModel", name := "filled", desc := "(II)I" } : Jvm.MethodName) prog_7_method_35_code (10 : Nat) (Option.some Jvm.ClassFile.FieldType.int)) ∈ lw_all := lw_g (lw_at lw_m4 225 rfl) rfl
theorem q1006 : (Jvm.Cond.methodLink "ForecastHallModel" (221 : Nat) ({ cls := "ForecastHallModel", name := "next", desc := "(II)I" } : Jvm.MethodName)) ∈ lw_all := lw_g (lw_at lw_m4 226 rfl) rfl
theorem q1007 : (Jvm.Cond.privateMethod ({ cls := "ForecastHallModel", name := "next", desc := "(II)I" } : Jvm.MethodName)) ∈ lw_tbl := lw_at lw_m4 227 rfl
theorem q1008 : (Jvm.Cond.instanceMethod ({ cls := "ForecastHallModel", name := "next", desc := "(II)I" } : Jvm.MethodName)) ∈ lw_all := lw_g (lw_at lw_m4 228 rfl) rfl
theorem q1009 : (Jvm.Cond.code ({ cls := "ForecastHallModel", name := "next", desc := "(II)I" } : Jvm.MethodName) prog_7_method_25_code (5 : Nat) (Option.some Jvm.ClassFile.FieldType.int)) ∈ lw_all := lw_g (lw_at lw_m4 229 rfl) rfl
theorem q1010 : (Jvm.Cond.methodLink "ForecastHallModel" (258 : Nat) ({ cls := "ForecastHallModel", name := "down", desc := "(JJ)I" } : Jvm.MethodName)) ∈ lw_all := lw_g (lw_at lw_m4 230 rfl) rfl
theorem q1011 : (Jvm.Cond.static ({ cls := "ForecastHallModel", name := "down", desc := "(JJ)I" } : Jvm.MethodName)) ∈ lw_all := lw_g (lw_at lw_m4 231 rfl) rfl
theorem q1012 : (Jvm.Cond.code ({ cls := "ForecastHallModel", name := "down", desc := "(JJ)I" } : Jvm.MethodName) prog_7_method_26_code (4 : Nat) (Option.some Jvm.ClassFile.FieldType.int)) ∈ lw_all := lw_g (lw_at lw_m4 232 rfl) rfl
theorem q1013 : (Jvm.Cond.methodLink "ForecastHallModel" (265 : Nat) ({ cls := "ForecastHallModel", name := "steps", desc := "([II)V" } : Jvm.MethodName)) ∈ lw_all := lw_g (lw_at lw_m4 233 rfl) rfl
theorem q1014 : (Jvm.Cond.privateMethod ({ cls := "ForecastHallModel", name := "steps", desc := "([II)V" } : Jvm.MethodName)) ∈ lw_tbl := lw_at lw_m4 234 rfl
theorem q1015 : (Jvm.Cond.instanceMethod ({ cls := "ForecastHallModel", name := "steps", desc := "([II)V" } : Jvm.MethodName)) ∈ lw_all := lw_g (lw_at lw_m4 235 rfl) rfl
theorem q1016 : (Jvm.Cond.code ({ cls := "ForecastHallModel", name := "steps", desc := "([II)V" } : Jvm.MethodName) prog_7_method_34_code (8 : Nat) (Option.none : Option Jvm.ClassFile.FieldType)) ∈ lw_all := lw_g (lw_at lw_m4 236 rfl) rfl
theorem q1017 : (Jvm.Cond.methodLink "ForecastHallModel" (248 : Nat) ({ cls := "ForecastHallModel", name := "made", desc := "([IIII)I" } : Jvm.MethodName)) ∈ lw_all := lw_g (lw_at lw_m4 237 rfl) rfl
theorem q1018 : (Jvm.Cond.privateMethod ({ cls := "ForecastHallModel", name := "made", desc := "([IIII)I" } : Jvm.MethodName)) ∈ lw_tbl := lw_at lw_m4 238 rfl
theorem q1019 : (Jvm.Cond.instanceMethod ({ cls := "ForecastHallModel", name := "made", desc := "([IIII)I" } : Jvm.MethodName)) ∈ lw_all := lw_g (lw_at lw_m4 239 rfl) rfl
theorem q1020 : (Jvm.Cond.code ({ cls := "ForecastHallModel", name := "made", desc := "([IIII)I" } : Jvm.MethodName) prog_7_method_31_code (14 : Nat) (Option.some Jvm.ClassFile.FieldType.int)) ∈ lw_all := lw_g (lw_at lw_m5 0 rfl) rfl
theorem q1021 : (Jvm.Cond.methodLink "ForecastHallModel" (225 : Nat) ({ cls := "ForecastHallModel", name := "named", desc := "([IIII)I" } : Jvm.MethodName)) ∈ lw_all := lw_g (lw_at lw_m5 1 rfl) rfl
theorem q1022 : (Jvm.Cond.privateMethod ({ cls := "ForecastHallModel", name := "named", desc := "([IIII)I" } : Jvm.MethodName)) ∈ lw_tbl := lw_at lw_m5 2 rfl
theorem q1023 : (Jvm.Cond.instanceMethod ({ cls := "ForecastHallModel", name := "named", desc := "([IIII)I" } : Jvm.MethodName)) ∈ lw_all := lw_g (lw_at lw_m5 3 rfl) rfl
theorem q1024 : (Jvm.Cond.code ({ cls := "ForecastHallModel", name := "named", desc := "([IIII)I" } : Jvm.MethodName) prog_7_method_29_code (8 : Nat) (Option.some Jvm.ClassFile.FieldType.int)) ∈ lw_all := lw_g (lw_at lw_m5 4 rfl) rfl
theorem q1025 : (Jvm.Cond.constantLong "ForecastHallModel" (229 : Nat) (2000000000 : Int64)) ∈ lw_all := lw_g (lw_at lw_m5 5 rfl) rfl
theorem q1026 : (Jvm.Cond.methodLink "ForecastHallModel" (231 : Nat) ({ cls := "ForecastHallModel", name := "size", desc := "(J)J" } : Jvm.MethodName)) ∈ lw_all := lw_g (lw_at lw_m5 6 rfl) rfl
theorem q1027 : (Jvm.Cond.static ({ cls := "ForecastHallModel", name := "size", desc := "(J)J" } : Jvm.MethodName)) ∈ lw_all := lw_g (lw_at lw_m5 7 rfl) rfl
theorem q1028 : (Jvm.Cond.code ({ cls := "ForecastHallModel", name := "size", desc := "(J)J" } : Jvm.MethodName) prog_7_method_28_code (2 : Nat) (Option.some Jvm.ClassFile.FieldType.long)) ∈ lw_all := lw_g (lw_at lw_m5 8 rfl) rfl
theorem q1029 : (Jvm.Cond.constantLong "ForecastHallModel" (235 : Nat) (1000000000000000 : Int64)) ∈ lw_all := lw_g (lw_at lw_m5 9 rfl) rfl
theorem q1030 : (Jvm.Cond.constant "ForecastHallModel" (237 : Nat) (2000000000 : Int32)) ∈ lw_all := lw_g (lw_at lw_m5 10 rfl) rfl
theorem q1031 : (Jvm.Cond.methodLink "ForecastHallModel" (238 : Nat) ({ cls := "ForecastHallModel", name := "downLong", desc := "(JJ)J" } : Jvm.MethodName)) ∈ lw_all := lw_g (lw_at lw_m5 11 rfl) rfl
theorem q1032 : (Jvm.Cond.static ({ cls := "ForecastHallModel", name := "downLong", desc := "(JJ)J" } : Jvm.MethodName)) ∈ lw_all := lw_g (lw_at lw_m5 12 rfl) rfl
theorem q1033 : (Jvm.Cond.code ({ cls := "ForecastHallModel", name := "downLong", desc := "(JJ)J" } : Jvm.MethodName) prog_7_method_27_code (4 : Nat) (Option.some Jvm.ClassFile.FieldType.long)) ∈ lw_all := lw_g (lw_at lw_m5 13 rfl) rfl
theorem q1034 : (Jvm.Cond.constantLong "ForecastHallModel" (242 : Nat) (1000000000 : Int64)) ∈ lw_all := lw_g (lw_at lw_m5 14 rfl) rfl
theorem q1035 : (Jvm.Cond.methodLink "ForecastHallModel" (251 : Nat) ({ cls := "ForecastHallModel", name := "slipped", desc := "(IIIII)I" } : Jvm.MethodName)) ∈ lw_all := lw_g (lw_at lw_m5 15 rfl) rfl
theorem q1036 : (Jvm.Cond.privateMethod ({ cls := "ForecastHallModel", name := "slipped", desc := "(IIIII)I" } : Jvm.MethodName)) ∈ lw_tbl := lw_at lw_m5 16 rfl
theorem q1037 : (Jvm.Cond.instanceMethod ({ cls := "ForecastHallModel", name := "slipped", desc := "(IIIII)I" } : Jvm.MethodName)) ∈ lw_all := lw_g (lw_at lw_m5 17 rfl) rfl
theorem q1038 : (Jvm.Cond.code ({ cls := "ForecastHallModel", name := "slipped", desc := "(IIIII)I" } : Jvm.MethodName) prog_7_method_33_code (8 : Nat) (Option.some Jvm.ClassFile.FieldType.int)) ∈ lw_all := lw_g (lw_at lw_m5 18 rfl) rfl
theorem q1039 : (Jvm.Cond.methodLink "ForecastHallModel" (255 : Nat) ({ cls := "ForecastHallModel", name := "madeMarked", desc := "(III)Z" } : Jvm.MethodName)) ∈ lw_all := lw_g (lw_at lw_m5 19 rfl) rfl
theorem q1040 : (Jvm.Cond.privateMethod ({ cls := "ForecastHallModel", name := "madeMarked", desc := "(III)Z" } : Jvm.MethodName)) ∈ lw_tbl := lw_at lw_m5 20 rfl
theorem q1041 : (Jvm.Cond.instanceMethod ({ cls := "ForecastHallModel", name := "madeMarked", desc := "(III)Z" } : Jvm.MethodName)) ∈ lw_all := lw_g (lw_at lw_m5 21 rfl) rfl
theorem q1042 : (Jvm.Cond.code ({ cls := "ForecastHallModel", name := "madeMarked", desc := "(III)Z" } : Jvm.MethodName) prog_7_method_32_code (6 : Nat) (Option.some Jvm.ClassFile.FieldType.boolean)) ∈ lw_all := lw_g (lw_at lw_m5 22 rfl) rfl
theorem q1043 : (Jvm.Cond.methodLink "ForecastHallModel" (244 : Nat) ({ cls := "ForecastHallModel", name := "namedMarked", desc := "(III)Z" } : Jvm.MethodName)) ∈ lw_all := lw_g (lw_at lw_m5 23 rfl) rfl
theorem q1044 : (Jvm.Cond.privateMethod ({ cls := "ForecastHallModel", name := "namedMarked", desc := "(III)Z" } : Jvm.MethodName)) ∈ lw_tbl := lw_at lw_m5 24 rfl
theorem q1045 : (Jvm.Cond.instanceMethod ({ cls := "ForecastHallModel", name := "namedMarked", desc := "(III)Z" } : Jvm.MethodName)) ∈ lw_all := lw_g (lw_at lw_m5 25 rfl) rfl
theorem q1046 : (Jvm.Cond.code ({ cls := "ForecastHallModel", name := "namedMarked", desc := "(III)Z" } : Jvm.MethodName) prog_7_method_30_code (7 : Nat) (Option.some Jvm.ClassFile.FieldType.boolean)) ∈ lw_all := lw_g (lw_at lw_m5 26 rfl) rfl
theorem q1048 : (Jvm.Cond.instanceMethod ({ cls := "ForecastHallModel", name := "marked", desc := "(III)I" } : Jvm.MethodName)) ∈ lw_all := lw_g (lw_at lw_m5 28 rfl) rfl
theorem q1049 : (Jvm.Cond.selects "ForecastHallModel" ({ cls := "ForecastHallModel", name := "marked", desc := "(III)I" } : Jvm.MethodName) ({ cls := "ForecastHallModel", name := "marked", desc := "(III)I" } : Jvm.MethodName)) ∈ lw_all := lw_g (lw_at lw_m5 29 rfl) rfl
theorem q1050 : (Jvm.Cond.code ({ cls := "ForecastHallModel", name := "marked", desc := "(III)I" } : Jvm.MethodName) prog_7_method_41_code (4 : Nat) (Option.some Jvm.ClassFile.FieldType.int)) ∈ lw_all := lw_g (lw_at lw_m5 30 rfl) rfl
theorem q1052 : (Jvm.Cond.instanceMethod ({ cls := "ForecastHallModel", name := "sum", desc := "(ZII)J" } : Jvm.MethodName)) ∈ lw_all := lw_g (lw_at lw_m5 32 rfl) rfl
theorem q1053 : (Jvm.Cond.selects "ForecastHallModel" ({ cls := "ForecastHallModel", name := "sum", desc := "(ZII)J" } : Jvm.MethodName) ({ cls := "ForecastHallModel", name := "sum", desc := "(ZII)J" } : Jvm.MethodName)) ∈ lw_all := lw_g (lw_at lw_m5 33 rfl) rfl
theorem q1054 : (Jvm.Cond.code ({ cls := "ForecastHallModel", name := "sum", desc := "(ZII)J" } : Jvm.MethodName) prog_7_method_42_code (8 : Nat) (Option.some Jvm.ClassFile.FieldType.long)) ∈ lw_all := lw_g (lw_at lw_m5 34 rfl) rfl
theorem q1055 : (Jvm.Cond.constantLong "ForecastHallModel" (284 : Nat) (-2000000000000 : Int64)) ∈ lw_all := lw_g (lw_at lw_m5 35 rfl) rfl
theorem q1057 : (Jvm.Cond.instanceMethod ({ cls := "ForecastHallModel", name := "slip", desc := "(IIII)I" } : Jvm.MethodName)) ∈ lw_all := lw_g (lw_at lw_m5 37 rfl) rfl
theorem q1058 : (Jvm.Cond.selects "ForecastHallModel" ({ cls := "ForecastHallModel", name := "slip", desc := "(IIII)I" } : Jvm.MethodName) ({ cls := "ForecastHallModel", name := "slip", desc := "(IIII)I" } : Jvm.MethodName)) ∈ lw_all := lw_g (lw_at lw_m5 38 rfl) rfl
theorem q1059 : (Jvm.Cond.code ({ cls := "ForecastHallModel", name := "slip", desc := "(IIII)I" } : Jvm.MethodName) prog_7_method_43_code (5 : Nat) (Option.some Jvm.ClassFile.FieldType.int)) ∈ lw_all := lw_g (lw_at lw_m5 39 rfl) rfl
theorem q1061 : (Jvm.Cond.instanceMethod ({ cls := "ForecastHallModel", name := "mend", desc := "()I" } : Jvm.MethodName)) ∈ lw_all := lw_g (lw_at lw_m5 41 rfl) rfl
theorem q1062 : (Jvm.Cond.selects "ForecastHallModel" ({ cls := "ForecastHallModel", name := "mend", desc := "()I" } : Jvm.MethodName) ({ cls := "ForecastHallModel", name := "mend", desc := "()I" } : Jvm.MethodName)) ∈ lw_all := lw_g (lw_at lw_m5 42 rfl) rfl
theorem q1063 : (Jvm.Cond.code ({ cls := "ForecastHallModel", name := "mend", desc := "()I" } : Jvm.MethodName) prog_7_method_44_code (1 : Nat) (Option.some Jvm.ClassFile.FieldType.int)) ∈ lw_all := lw_g (lw_at lw_m5 43 rfl) rfl
theorem q1065 : (Jvm.Cond.instanceMethod ({ cls := "ForecastHallModel", name := "spread", desc := "(III)I" } : Jvm.MethodName)) ∈ lw_all := lw_g (lw_at lw_m5 45 rfl) rfl
theorem q1066 : (Jvm.Cond.selects "ForecastHallModel" ({ cls := "ForecastHallModel", name := "spread", desc := "(III)I" } : Jvm.MethodName) ({ cls := "ForecastHallModel", name := "spread", desc := "(III)I" } : Jvm.MethodName)) ∈ lw_all := lw_g (lw_at lw_m5 46 rfl) rfl
theorem q1067 : (Jvm.Cond.code ({ cls := "ForecastHallModel", name := "spread", desc := "(III)I" } : Jvm.MethodName) prog_7_method_45_code (8 : Nat) (Option.some Jvm.ClassFile.FieldType.int)) ∈ lw_all := lw_g (lw_at lw_m5 47 rfl) rfl
theorem q1069 : (Jvm.Cond.instanceMethod ({ cls := "ForecastHallModel", name := "kept", desc := "(I)I" } : Jvm.MethodName)) ∈ lw_all := lw_g (lw_at lw_m5 49 rfl) rfl
theorem q1070 : (Jvm.Cond.selects "ForecastHallModel" ({ cls := "ForecastHallModel", name := "kept", desc := "(I)I" } : Jvm.MethodName) ({ cls := "ForecastHallModel", name := "kept", desc := "(I)I" } : Jvm.MethodName)) ∈ lw_all := lw_g (lw_at lw_m5 50 rfl) rfl
theorem q1071 : (Jvm.Cond.code ({ cls := "ForecastHallModel", name := "kept", desc := "(I)I" } : Jvm.MethodName) prog_7_method_46_code (5 : Nat) (Option.some Jvm.ClassFile.FieldType.int)) ∈ lw_all := lw_g (lw_at lw_m5 51 rfl) rfl
theorem q1073 : (Jvm.Cond.instanceMethod ({ cls := "ForecastHallModel", name := "grows", desc := "()I" } : Jvm.MethodName)) ∈ lw_all := lw_g (lw_at lw_m5 53 rfl) rfl
theorem q1074 : (Jvm.Cond.selects "ForecastHallModel" ({ cls := "ForecastHallModel", name := "grows", desc := "()I" } : Jvm.MethodName) ({ cls := "ForecastHallModel", name := "grows", desc := "()I" } : Jvm.MethodName)) ∈ lw_all := lw_g (lw_at lw_m5 54 rfl) rfl
theorem q1075 : (Jvm.Cond.code ({ cls := "ForecastHallModel", name := "grows", desc := "()I" } : Jvm.MethodName) prog_7_method_47_code (5 : Nat) (Option.some Jvm.ClassFile.FieldType.int)) ∈ lw_all := lw_g (lw_at lw_m5 55 rfl) rfl
theorem q1077 : (Jvm.Cond.instanceMethod ({ cls := "ForecastHallModel", name := "tell", desc := "(IIZIJ)I" } : Jvm.MethodName)) ∈ lw_all := lw_g (lw_at lw_m5 57 rfl) rfl
theorem q1078 : (Jvm.Cond.selects "ForecastHallModel" ({ cls := "ForecastHallModel", name := "tell", desc := "(IIZIJ)I" } : Jvm.MethodName) ({ cls := "ForecastHallModel", name := "tell", desc := "(IIZIJ)I" } : Jvm.MethodName)) ∈ lw_all := lw_g (lw_at lw_m5 58 rfl) rfl
theorem q1079 : (Jvm.Cond.code ({ cls := "ForecastHallModel", name := "tell", desc := "(IIZIJ)I" } : Jvm.MethodName) prog_7_method_48_code (8 : Nat) (Option.some Jvm.ClassFile.FieldType.int)) ∈ lw_all := lw_g (lw_at lw_m5 59 rfl) rfl
theorem q1080 : (Jvm.Cond.constantLong "ForecastHallModel" (286 : Nat) (-1000000000000 : Int64)) ∈ lw_all := lw_g (lw_at lw_m5 60 rfl) rfl
theorem q1081 : (Jvm.Cond.constantLong "ForecastHallModel" (288 : Nat) (1000000000000 : Int64)) ∈ lw_all := lw_g (lw_at lw_m5 61 rfl) rfl
theorem q1083 : (Jvm.Cond.instanceMethod ({ cls := "ForecastHallModel", name := "fails", desc := "()I" } : Jvm.MethodName)) ∈ lw_all := lw_g (lw_at lw_m5 63 rfl) rfl
theorem q1084 : (Jvm.Cond.selects "ForecastHallModel" ({ cls := "ForecastHallModel", name := "fails", desc := "()I" } : Jvm.MethodName) ({ cls := "ForecastHallModel", name := "fails", desc := "()I" } : Jvm.MethodName)) ∈ lw_all := lw_g (lw_at lw_m5 64 rfl) rfl
theorem q1085 : (Jvm.Cond.code ({ cls := "ForecastHallModel", name := "fails", desc := "()I" } : Jvm.MethodName) prog_7_method_50_code (3 : Nat) (Option.some Jvm.ClassFile.FieldType.int)) ∈ lw_all := lw_g (lw_at lw_m5 65 rfl) rfl
theorem q1086 : (Jvm.Cond.methodLink "ForecastHallModel" (296 : Nat) ({ cls := "ForecastHallModel", name := "tells", desc := "()I" } : Jvm.MethodName)) ∈ lw_all := lw_g (lw_at lw_m5 66 rfl) rfl
theorem q1087 : (Jvm.Cond.privateMethod ({ cls := "ForecastHallModel", name := "tells", desc := "()I" } : Jvm.MethodName)) ∈ lw_tbl := lw_at lw_m5 67 rfl
theorem q1088 : (Jvm.Cond.instanceMethod ({ cls := "ForecastHallModel", name := "tells", desc := "()I" } : Jvm.MethodName)) ∈ lw_all := lw_g (lw_at lw_m5 68 rfl) rfl
theorem q1089 : (Jvm.Cond.code ({ cls := "ForecastHallModel", name := "tells", desc := "()I" } : Jvm.MethodName) prog_7_method_49_code (4 : Nat) (Option.some Jvm.ClassFile.FieldType.int)) ∈ lw_all := lw_g (lw_at lw_m5 69 rfl) rfl
theorem q1091 : (Jvm.Cond.instanceMethod ({ cls := "ForecastHallModel", name := "least", desc := "()I" } : Jvm.MethodName)) ∈ lw_all := lw_g (lw_at lw_m5 71 rfl) rfl
theorem q1092 : (Jvm.Cond.selects "ForecastHallModel" ({ cls := "ForecastHallModel", name := "least", desc := "()I" } : Jvm.MethodName) ({ cls := "ForecastHallModel", name := "least", desc := "()I" } : Jvm.MethodName)) ∈ lw_all := lw_g (lw_at lw_m5 72 rfl) rfl
theorem q1093 : (Jvm.Cond.code ({ cls := "ForecastHallModel", name := "least", desc := "()I" } : Jvm.MethodName) prog_7_method_52_code (9 : Nat) (Option.some Jvm.ClassFile.FieldType.int)) ∈ lw_all := lw_g (lw_at lw_m5 73 rfl) rfl
theorem q1094 : (Jvm.Cond.methodLink "ForecastHallModel" (299 : Nat) ({ cls := "ForecastHallModel", name := "isEven", desc := "(II)Z" } : Jvm.MethodName)) ∈ lw_all := lw_g (lw_at lw_m5 74 rfl) rfl
theorem q1095 : (Jvm.Cond.privateMethod ({ cls := "ForecastHallModel", name := "isEven", desc := "(II)Z" } : Jvm.MethodName)) ∈ lw_tbl := lw_at lw_m5 75 rfl
theorem q1096 : (Jvm.Cond.instanceMethod ({ cls := "ForecastHallModel", name := "isEven", desc := "(II)Z" } : Jvm.MethodName)) ∈ lw_all := lw_g (lw_at lw_m5 76 rfl) rfl
theorem q1097 : (Jvm.Cond.code ({ cls := "ForecastHallModel", name := "isEven", desc := "(II)Z" } : Jvm.MethodName) prog_7_method_51_code (7 : Nat) (Option.some Jvm.ClassFile.FieldType.boolean)) ∈ lw_all := lw_g (lw_at lw_m5 77 rfl) rfl
theorem q1099 : (Jvm.Cond.instanceMethod ({ cls := "ForecastHallModel", name := "second", desc := "(II)I" } : Jvm.MethodName)) ∈ lw_all := lw_g (lw_at lw_m5 79 rfl) rfl
theorem q1100 : (Jvm.Cond.selects "ForecastHallModel" ({ cls := "ForecastHallModel", name := "second", desc := "(II)I" } : Jvm.MethodName) ({ cls := "ForecastHallModel", name := "second", desc := "(II)I" } : Jvm.MethodName)) ∈ lw_all := lw_g (lw_at lw_m5 80 rfl) rfl
theorem q1101 : (Jvm.Cond.code ({ cls := "ForecastHallModel", name := "second", desc := "(II)I" } : Jvm.MethodName) prog_7_method_53_code (5 : Nat) (Option.some Jvm.ClassFile.FieldType.int)) ∈ lw_all := lw_g (lw_at lw_m5 81 rfl) rfl
theorem q1103 : (Jvm.Cond.instanceMethod ({ cls := "ForecastHallModel", name := "put", desc := "(II)I" } : Jvm.MethodName)) ∈ lw_all := lw_g (lw_at lw_m5 83 rfl) rfl
theorem q1104 : (Jvm.Cond.selects "ForecastHallModel" ({ cls := "ForecastHallModel", name := "put", desc := "(II)I" } : Jvm.MethodName) ({ cls := "ForecastHallModel", name := "put", desc := "(II)I" } : Jvm.MethodName)) ∈ lw_all := lw_g (lw_at lw_m5 84 rfl) rfl
theorem q1105 : (Jvm.Cond.code ({ cls := "ForecastHallModel", name := "put", desc := "(II)I" } : Jvm.MethodName) prog_7_method_54_code (4 : Nat) (Option.some Jvm.ClassFile.FieldType.int)) ∈ lw_all := lw_g (lw_at lw_m5 85 rfl) rfl
theorem q1106 : (Jvm.Cond.constantLong "ForecastHallModel" (303 : Nat) (-1000000000 : Int64)) ∈ lw_all := lw_g (lw_at lw_m5 86 rfl) rfl
theorem q1108 : (Jvm.Cond.instanceMethod ({ cls := "ForecastHallModel", name := "judge", desc := "(II)I" } : Jvm.MethodName)) ∈ lw_all := lw_g (lw_at lw_m5 88 rfl) rfl
theorem q1109 : (Jvm.Cond.selects "ForecastHallModel" ({ cls := "ForecastHallModel", name := "judge", desc := "(II)I" } : Jvm.MethodName) ({ cls := "ForecastHallModel", name := "judge", desc := "(II)I" } : Jvm.MethodName)) ∈ lw_all := lw_g (lw_at lw_m5 89 rfl) rfl
theorem q1110 : (Jvm.Cond.code ({ cls := "ForecastHallModel", name := "judge", desc := "(II)I" } : Jvm.MethodName) prog_7_method_55_code (4 : Nat) (Option.some Jvm.ClassFile.FieldType.int)) ∈ lw_all := lw_g (lw_at lw_m5 90 rfl) rfl
theorem q1112 : (Jvm.Cond.instanceMethod ({ cls := "ForecastHallModel", name := "pace", desc := "(II)I" } : Jvm.MethodName)) ∈ lw_all := lw_g (lw_at lw_m5 92 rfl) rfl
theorem q1113 : (Jvm.Cond.selects "ForecastHallModel" ({ cls := "ForecastHallModel", name := "pace", desc := "(II)I" } : Jvm.MethodName) ({ cls := "ForecastHallModel", name := "pace", desc := "(II)I" } : Jvm.MethodName)) ∈ lw_all := lw_g (lw_at lw_m5 93 rfl) rfl
theorem q1114 : (Jvm.Cond.code ({ cls := "ForecastHallModel", name := "pace", desc := "(II)I" } : Jvm.MethodName) prog_7_method_56_code (4 : Nat) (Option.some Jvm.ClassFile.FieldType.int)) ∈ lw_all := lw_g (lw_at lw_m5 94 rfl) rfl
theorem q1115 : (Jvm.Cond.constantLong "ForecastHallModel" (305 : Nat) (5 : Int64)) ∈ lw_all := lw_g (lw_at lw_m5 95 rfl) rfl
theorem q1116 : (Jvm.Cond.constantLong "ForecastHallModel" (307 : Nat) (20 : Int64)) ∈ lw_all := lw_g (lw_at lw_m5 96 rfl) rfl
theorem q1118 : (Jvm.Cond.instanceMethod ({ cls := "ForecastHallModel", name := "give", desc := "(II)I" } : Jvm.MethodName)) ∈ lw_all := lw_g (lw_at lw_m5 98 rfl) rfl
theorem q1119 : (Jvm.Cond.selects "ForecastHallModel" ({ cls := "ForecastHallModel", name := "give", desc := "(II)I" } : Jvm.MethodName) ({ cls := "ForecastHallModel", name := "give", desc := "(II)I" } : Jvm.MethodName)) ∈ lw_all := lw_g (lw_at lw_m5 99 rfl) rfl
theorem q1120 : (Jvm.Cond.code ({ cls := "ForecastHallModel", name := "give", desc := "(II)I" } : Jvm.MethodName) prog_7_method_57_code (4 : Nat) (Option.some Jvm.ClassFile.FieldType.int)) ∈ lw_all := lw_g (lw_at lw_m5 100 rfl) rfl
theorem q1122 : (Jvm.Cond.instanceMethod ({ cls := "ForecastHallModel", name := "when", desc := "(II)I" } : Jvm.MethodName)) ∈ lw_all := lw_g (lw_at lw_m5 102 rfl) rfl
theorem q1123 : (Jvm.Cond.selects "ForecastHallModel" ({ cls := "ForecastHallModel", name := "when", desc := "(II)I" } : Jvm.MethodName) ({ cls := "ForecastHallModel", name := "when", desc := "(II)I" } : Jvm.MethodName)) ∈ lw_all := lw_g (lw_at lw_m5 103 rfl) rfl
theorem q1124 : (Jvm.Cond.code ({ cls := "ForecastHallModel", name := "when", desc := "(II)I" } : Jvm.MethodName) prog_7_method_61_code (3 : Nat) (Option.some Jvm.ClassFile.FieldType.int)) ∈ lw_all := lw_g (lw_at lw_m5 104 rfl) rfl
theorem q1125 : (Jvm.Cond.constantLong "ForecastHallModel" (312 : Nat) (-1 : Int64)) ∈ lw_all := lw_g (lw_at lw_m5 105 rfl) rfl
theorem q1126 : (Jvm.Cond.methodLink "ForecastHallModel" (314 : Nat) ({ cls := "ForecastHallModel", name := "ownEnds", desc := "()V" } : Jvm.MethodName)) ∈ lw_all := lw_g (lw_at lw_m5 106 rfl) rfl
theorem q1127 : (Jvm.Cond.privateMethod ({ cls := "ForecastHallModel", name := "ownEnds", desc := "()V" } : Jvm.MethodName)) ∈ lw_tbl := lw_at lw_m5 107 rfl
theorem q1128 : (Jvm.Cond.instanceMethod ({ cls := "ForecastHallModel", name := "ownEnds", desc := "()V" } : Jvm.MethodName)) ∈ lw_all := lw_g (lw_at lw_m5 108 rfl) rfl
theorem q1129 : (Jvm.Cond.code ({ cls := "ForecastHallModel", name := "ownEnds", desc := "()V" } : Jvm.MethodName) prog_7_method_59_code (2 : Nat) (Option.none : Option Jvm.ClassFile.FieldType)) ∈ lw_all := lw_g (lw_at lw_m5 109 rfl) rfl
theorem q1130 : (Jvm.Cond.methodLink "ForecastHallModel" (309 : Nat) ({ cls := "ForecastHallModel", name := "ends", desc := "(I)V" } : Jvm.MethodName)) ∈ lw_all := lw_g (lw_at lw_m5 110 rfl) rfl
theorem q1131 : (Jvm.Cond.privateMethod ({ cls := "ForecastHallModel", name := "ends", desc := "(I)V" } : Jvm.MethodName)) ∈ lw_tbl := lw_at lw_m5 111 rfl
theorem q1132 : (Jvm.Cond.instanceMethod ({ cls := "ForecastHallModel", name := "ends", desc := "(I)V" } : Jvm.MethodName)) ∈ lw_all := lw_g (lw_at lw_m5 112 rfl) rfl
theorem q1133 : (Jvm.Cond.code ({ cls := "ForecastHallModel", name := "ends", desc := "(I)V" } : Jvm.MethodName) prog_7_method_58_code (9 : Nat) (Option.none : Option Jvm.ClassFile.FieldType)) ∈ lw_all := lw_g (lw_at lw_m5 113 rfl) rfl
theorem q1134 : (Jvm.Cond.methodLink "ForecastHallModel" (317 : Nat) ({ cls := "ForecastHallModel", name := "lastOf", desc := "(I)I" } : Jvm.MethodName)) ∈ lw_all := lw_g (lw_at lw_m5 114 rfl) rfl
theorem q1135 : (Jvm.Cond.privateMethod ({ cls := "ForecastHallModel", name := "lastOf", desc := "(I)I" } : Jvm.MethodName)) ∈ lw_tbl := lw_at lw_m5 115 rfl
theorem q1136 : (Jvm.Cond.instanceMethod ({ cls := "ForecastHallModel", name := "lastOf", desc := "(I)I" } : Jvm.MethodName)) ∈ lw_all := lw_g (lw_at lw_m5 116 rfl) rfl
theorem q1137 : (Jvm.Cond.code ({ cls := "ForecastHallModel", name := "lastOf", desc := "(I)I" } : Jvm.MethodName) prog_7_method_60_code (4 : Nat) (Option.some Jvm.ClassFile.FieldType.int)) ∈ lw_all := lw_g (lw_at lw_m5 117 rfl) rfl
theorem q1139 : (Jvm.Cond.instanceMethod ({ cls := "ForecastHallModel", name := "slowest", desc := "(I)I" } : Jvm.MethodName)) ∈ lw_all := lw_g (lw_at lw_m5 119 rfl) rfl
theorem q1140 : (Jvm.Cond.selects "ForecastHallModel" ({ cls := "ForecastHallModel", name := "slowest", desc := "(I)I" } : Jvm.MethodName) ({ cls := "ForecastHallModel", name := "slowest", desc := "(I)I" } : Jvm.MethodName)) ∈ lw_all := lw_g (lw_at lw_m5 120 rfl) rfl
theorem q1141 : (Jvm.Cond.code ({ cls := "ForecastHallModel", name := "slowest", desc := "(I)I" } : Jvm.MethodName) prog_7_method_62_code (3 : Nat) (Option.some Jvm.ClassFile.FieldType.int)) ∈ lw_all := lw_g (lw_at lw_m5 121 rfl) rfl
theorem q1143 : (Jvm.Cond.instanceMethod ({ cls := "ForecastHallModel", name := "given", desc := "(III)I" } : Jvm.MethodName)) ∈ lw_all := lw_g (lw_at lw_m5 123 rfl) rfl
theorem q1144 : (Jvm.Cond.selects "ForecastHallModel" ({ cls := "ForecastHallModel", name := "given", desc := "(III)I" } : Jvm.MethodName) ({ cls := "ForecastHallModel", name := "given", desc := "(III)I" } : Jvm.MethodName)) ∈ lw_all := lw_g (lw_at lw_m5 124 rfl) rfl
theorem q1145 : (Jvm.Cond.code ({ cls := "ForecastHallModel", name := "given", desc := "(III)I" } : Jvm.MethodName) prog_7_method_64_code (9 : Nat) (Option.some Jvm.ClassFile.FieldType.int)) ∈ lw_all := lw_g (lw_at lw_m5 125 rfl) rfl
theorem q1146 : (Jvm.Cond.methodLink "ForecastHallModel" (320 : Nat) ({ cls := "ForecastHallModel", name := "gives", desc := "(II)V" } : Jvm.MethodName)) ∈ lw_all := lw_g (lw_at lw_m5 126 rfl) rfl
theorem q1147 : (Jvm.Cond.privateMethod ({ cls := "ForecastHallModel", name := "gives", desc := "(II)V" } : Jvm.MethodName)) ∈ lw_tbl := lw_at lw_m5 127 rfl
theorem q1148 : (Jvm.Cond.instanceMethod ({ cls := "ForecastHallModel", name := "gives", desc := "(II)V" } : Jvm.MethodName)) ∈ lw_all := lw_g (lw_at lw_m5 128 rfl) rfl
theorem q1149 : (Jvm.Cond.code ({ cls := "ForecastHallModel", name := "gives", desc := "(II)V" } : Jvm.MethodName) prog_7_method_63_code (5 : Nat) (Option.none : Option Jvm.ClassFile.FieldType)) ∈ lw_all := lw_g (lw_at lw_m5 129 rfl) rfl
theorem q1151 : (Jvm.Cond.instanceMethod ({ cls := "ForecastHallModel", name := "known", desc := "(II)I" } : Jvm.MethodName)) ∈ lw_all := lw_g (lw_at lw_m5 131 rfl) rfl
theorem q1152 : (Jvm.Cond.selects "ForecastHallModel" ({ cls := "ForecastHallModel", name := "known", desc := "(II)I" } : Jvm.MethodName) ({ cls := "ForecastHallModel", name := "known", desc := "(II)I" } : Jvm.MethodName)) ∈ lw_all := lw_g (lw_at lw_m5 132 rfl) rfl
theorem q1153 : (Jvm.Cond.code ({ cls := "ForecastHallModel", name := "known", desc := "(II)I" } : Jvm.MethodName) prog_7_method_65_code (4 : Nat) (Option.some Jvm.ClassFile.FieldType.int)) ∈ lw_all := lw_g (lw_at lw_m5 133 rfl) rfl
theorem q1154 : (Jvm.Cond.constantLong "ForecastHallModel" (324 : Nat) (100000 : Int64)) ∈ lw_all := lw_g (lw_at lw_m5 134 rfl) rfl
theorem q1156 : (Jvm.Cond.instanceMethod ({ cls := "ForecastHallModel", name := "coarse", desc := "(III)I" } : Jvm.MethodName)) ∈ lw_all := lw_g (lw_at lw_m5 136 rfl) rfl
theorem q1157 : (Jvm.Cond.selects "ForecastHallModel" ({ cls := "ForecastHallModel", name := "coarse", desc := "(III)I" } : Jvm.MethodName) ({ cls := "ForecastHallModel", name := "coarse", desc := "(III)I" } : Jvm.MethodName)) ∈ lw_all := lw_g (lw_at lw_m5 137 rfl) rfl
theorem q1158 : (Jvm.Cond.code ({ cls := "ForecastHallModel", name := "coarse", desc := "(III)I" } : Jvm.MethodName) prog_7_method_66_code (12 : Nat) (Option.some Jvm.ClassFile.FieldType.int)) ∈ lw_all := lw_g (lw_at lw_m5 138 rfl) rfl
theorem q1160 : (Jvm.Cond.instanceMethod ({ cls := "ForecastHallModel", name := "keep", desc := "()I" } : Jvm.MethodName)) ∈ lw_all := lw_g (lw_at lw_m5 140 rfl) rfl
theorem q1161 : (Jvm.Cond.selects "ForecastHallModel" ({ cls := "ForecastHallModel", name := "keep", desc := "()I" } : Jvm.MethodName) ({ cls := "ForecastHallModel", name := "keep", desc := "()I" } : Jvm.MethodName)) ∈ lw_all := lw_g (lw_at lw_m5 141 rfl) rfl
theorem q1162 : (Jvm.Cond.code ({ cls := "ForecastHallModel", name := "keep", desc := "()I" } : Jvm.MethodName) prog_7_method_70_code (1 : Nat) (Option.some Jvm.ClassFile.FieldType.int)) ∈ lw_all := lw_g (lw_at lw_m5 142 rfl) rfl
theorem q1163 : (Jvm.Cond.methodLink "ForecastHallModel" (334 : Nat) ({ cls := "ForecastHallModel", name := "moveAll", desc := "(IZ)V" } : Jvm.MethodName)) ∈ lw_all := lw_g (lw_at lw_m5 143 rfl) rfl
theorem q1164 : (Jvm.Cond.privateMethod ({ cls := "ForecastHallModel", name := "moveAll", desc := "(IZ)V" } : Jvm.MethodName)) ∈ lw_tbl := lw_at lw_m5 144 rfl
theorem q1165 : (Jvm.Cond.instanceMethod ({ cls := "ForecastHallModel", name := "moveAll", desc := "(IZ)V" } : Jvm.MethodName)) ∈ lw_all := lw_g (lw_at lw_m5 145 rfl) rfl
theorem q1166 : (Jvm.Cond.code ({ cls := "ForecastHallModel", name := "moveAll", desc := "(IZ)V" } : Jvm.MethodName) prog_7_method_69_code (4 : Nat) (Option.none : Option Jvm.ClassFile.FieldType)) ∈ lw_all := lw_g (lw_at lw_m5 146 rfl) rfl
theorem q1167 : (Jvm.Cond.methodLink "ForecastHallModel" (330 : Nat) ({ cls := "ForecastHallModel", name := "moves", desc := "(IIIZ)I" } : Jvm.MethodName)) ∈ lw_all := lw_g (lw_at lw_m5 147 rfl) rfl
theorem q1168 : (Jvm.Cond.privateMethod ({ cls := "ForecastHallModel", name := "moves", desc := "(IIIZ)I" } : Jvm.MethodName)) ∈ lw_tbl := lw_at lw_m5 148 rfl
theorem q1169 : (Jvm.Cond.instanceMethod ({ cls := "ForecastHallModel", name := "moves", desc := "(IIIZ)I" } : Jvm.MethodName)) ∈ lw_all := lw_g (lw_at lw_m5 149 rfl) rfl
theorem q1170 : (Jvm.Cond.code ({ cls := "ForecastHallModel", name := "moves", desc := "(IIIZ)I" } : Jvm.MethodName) prog_7_method_68_code (6 : Nat) (Option.some Jvm.ClassFile.FieldType.int)) ∈ lw_all := lw_g (lw_at lw_m5 150 rfl) rfl
theorem q1171 : (Jvm.Cond.methodLink "ForecastHallModel" (326 : Nat) ({ cls := "ForecastHallModel", name := "slot", desc := "(IIIIZ)I" } : Jvm.MethodName)) ∈ lw_all := lw_g (lw_at lw_m5 151 rfl) rfl
theorem q1172 : (Jvm.Cond.privateMethod ({ cls := "ForecastHallModel", name := "slot", desc := "(IIIIZ)I" } : Jvm.MethodName)) ∈ lw_tbl := lw_at lw_m5 152 rfl
theorem q1173 : (Jvm.Cond.instanceMethod ({ cls := "ForecastHallModel", name := "slot", desc := "(IIIIZ)I" } : Jvm.MethodName)) ∈ lw_all := lw_g (lw_at lw_m5 153 rfl) rfl
theorem q1174 : (Jvm.Cond.code ({ cls := "ForecastHallModel", name := "slot", desc := "(IIIIZ)I" } : Jvm.MethodName) prog_7_method_67_code (8 : Nat) (Option.some Jvm.ClassFile.FieldType.int)) ∈ lw_all := lw_g (lw_at lw_m5 154 rfl) rfl
theorem q1176 : (Jvm.Cond.instanceMethod ({ cls := "ForecastHallModel", name := "back", desc := "()I" } : Jvm.MethodName)) ∈ lw_all := lw_g (lw_at lw_m5 156 rfl) rfl
theorem q1177 : (Jvm.Cond.selects "ForecastHallModel" ({ cls := "ForecastHallModel", name := "back", desc := "()I" } : Jvm.MethodName) ({ cls := "ForecastHallModel", name := "back", desc := "()I" } : Jvm.MethodName)) ∈ lw_all := lw_g (lw_at lw_m5 157 rfl) rfl
theorem q1178 : (Jvm.Cond.code ({ cls := "ForecastHallModel", name := "back", desc := "()I" } : Jvm.MethodName) prog_7_method_71_code (1 : Nat) (Option.some Jvm.ClassFile.FieldType.int)) ∈ lw_all := lw_g (lw_at lw_m5 158 rfl) rfl
theorem q1180 : (Jvm.Cond.instanceMethod ({ cls := "ForecastHallModel", name := "count", desc := "(I)I" } : Jvm.MethodName)) ∈ lw_all := lw_g (lw_at lw_m5 160 rfl) rfl
theorem q1181 : (Jvm.Cond.selects "ForecastHallModel" ({ cls := "ForecastHallModel", name := "count", desc := "(I)I" } : Jvm.MethodName) ({ cls := "ForecastHallModel", name := "count", desc := "(I)I" } : Jvm.MethodName)) ∈ lw_all := lw_g (lw_at lw_m5 161 rfl) rfl
theorem q1182 : (Jvm.Cond.code ({ cls := "ForecastHallModel", name := "count", desc := "(I)I" } : Jvm.MethodName) prog_7_method_72_code (5 : Nat) (Option.some Jvm.ClassFile.FieldType.int)) ∈ lw_all := lw_g (lw_at lw_m5 162 rfl) rfl
theorem in_X5 : ∀ w ∈ wsX50, w ∈ lw_all := lw_in wsX50 [793, 795, 797, 799, 801, 803, 805, 807, 809, 811, 813, 815, 817, 819, 821, 823, 825, 827, 829, 831, 833, 835, 837, 839, 841, 843, 845, 847, 849, 851, 853, 855, 857, 859, 861, 863, 865, 867, 869, 871, 873, 875, 877, 879, 881, 883] (by decide +kernel) (by decide +kernel)
theorem q60 : (Jvm.Cond.initialized "ForecastHallLaw") ∈ lw_all := lw_g (lw_at lw_m1 0 rfl) rfl
theorem q70 : (Jvm.Cond.classLink "ForecastHallLaw" (7 : Nat) "ForecastHall") ∈ lw_all := lw_g (lw_at lw_m1 10 rfl) rfl
theorem q72 : (Jvm.Cond.methodLink "ForecastHallLaw" (9 : Nat) ({ cls := "ForecastHall", name := "<init>", desc := "()V" } : Jvm.MethodName)) ∈ lw_all := lw_g (lw_at lw_m1 12 rfl) rfl
theorem q349 : (Jvm.Cond.methodLink "ForecastHallLaw" (13 : Nat) ({ cls := "ForecastHall", name := "sky", desc := "(II)I" } : Jvm.MethodName)) ∈ lw_all := lw_g (lw_at lw_m2 49 rfl) rfl
theorem q362 : (Jvm.Cond.methodLink "ForecastHallLaw" (18 : Nat) ({ cls := "ForecastHall", name := "rule", desc := "(II)I" } : Jvm.MethodName)) ∈ lw_all := lw_g (lw_at lw_m2 62 rfl) rfl
theorem q367 : (Jvm.Cond.methodLink "ForecastHallLaw" (22 : Nat) ({ cls := "ForecastHall", name := "rim", desc := "(II)I" } : Jvm.MethodName)) ∈ lw_all := lw_g (lw_at lw_m2 67 rfl) rfl
theorem q378 : (Jvm.Cond.methodLink "ForecastHallLaw" (28 : Nat) ({ cls := "ForecastHall", name := "write", desc := "(IJ)I" } : Jvm.MethodName)) ∈ lw_all := lw_g (lw_at lw_m2 78 rfl) rfl
theorem q383 : (Jvm.Cond.methodLink "ForecastHallLaw" (33 : Nat) ({ cls := "ForecastHall", name := "wipe", desc := "()I" } : Jvm.MethodName)) ∈ lw_all := lw_g (lw_at lw_m2 83 rfl) rfl
theorem q387 : (Jvm.Cond.methodLink "ForecastHallLaw" (38 : Nat) ({ cls := "ForecastHall", name := "fault", desc := "()I" } : Jvm.MethodName)) ∈ lw_all := lw_g (lw_at lw_m2 87 rfl) rfl
theorem q439 : (Jvm.Cond.methodLink "ForecastHallLaw" (42 : Nat) ({ cls := "ForecastHall", name := "plan", desc := "()I" } : Jvm.MethodName)) ∈ lw_all := lw_g (lw_at lw_m2 139 rfl) rfl
theorem q450 : (Jvm.Cond.methodLink "ForecastHallLaw" (46 : Nat) ({ cls := "ForecastHall", name := "line", desc := "(II)I" } : Jvm.MethodName)) ∈ lw_all := lw_g (lw_at lw_m2 150 rfl) rfl
theorem q460 : (Jvm.Cond.methodLink "ForecastHallLaw" (50 : Nat) ({ cls := "ForecastHall", name := "first", desc := "(III)I" } : Jvm.MethodName)) ∈ lw_all := lw_g (lw_at lw_m2 160 rfl) rfl
theorem q468 : (Jvm.Cond.methodLink "ForecastHallLaw" (55 : Nat) ({ cls := "ForecastHall", name := "at", desc := "(ZIII)I" } : Jvm.MethodName)) ∈ lw_all := lw_g (lw_at lw_m2 168 rfl) rfl
theorem q554 : (Jvm.Cond.methodLink "ForecastHallLaw" (60 : Nat) ({ cls := "ForecastHall", name := "marked", desc := "(III)I" } : Jvm.MethodName)) ∈ lw_all := lw_g (lw_at lw_m3 14 rfl) rfl
theorem q559 : (Jvm.Cond.methodLink "ForecastHallLaw" (64 : Nat) ({ cls := "ForecastHall", name := "sum", desc := "(ZII)J" } : Jvm.MethodName)) ∈ lw_all := lw_g (lw_at lw_m3 19 rfl) rfl
theorem q568 : (Jvm.Cond.methodLink "ForecastHallLaw" (69 : Nat) ({ cls := "ForecastHall", name := "slip", desc := "(IIII)I" } : Jvm.MethodName)) ∈ lw_all := lw_g (lw_at lw_m3 28 rfl) rfl
theorem q572 : (Jvm.Cond.methodLink "ForecastHallLaw" (74 : Nat) ({ cls := "ForecastHall", name := "mend", desc := "()I" } : Jvm.MethodName)) ∈ lw_all := lw_g (lw_at lw_m3 32 rfl) rfl
theorem q576 : (Jvm.Cond.methodLink "ForecastHallLaw" (78 : Nat) ({ cls := "ForecastHall", name := "spread", desc := "(III)I" } : Jvm.MethodName)) ∈ lw_all := lw_g (lw_at lw_m3 36 rfl) rfl
theorem q580 : (Jvm.Cond.methodLink "ForecastHallLaw" (82 : Nat) ({ cls := "ForecastHall", name := "kept", desc := "(I)I" } : Jvm.MethodName)) ∈ lw_all := lw_g (lw_at lw_m3 40 rfl) rfl
theorem q595 : (Jvm.Cond.methodLink "ForecastHallLaw" (87 : Nat) ({ cls := "ForecastHall", name := "grows", desc := "()I" } : Jvm.MethodName)) ∈ lw_all := lw_g (lw_at lw_m3 55 rfl) rfl
theorem q599 : (Jvm.Cond.methodLink "ForecastHallLaw" (91 : Nat) ({ cls := "ForecastHall", name := "tell", desc := "(IIZIJ)I" } : Jvm.MethodName)) ∈ lw_all := lw_g (lw_at lw_m3 59 rfl) rfl
theorem q605 : (Jvm.Cond.methodLink "ForecastHallLaw" (96 : Nat) ({ cls := "ForecastHall", name := "fails", desc := "()I" } : Jvm.MethodName)) ∈ lw_all := lw_g (lw_at lw_m3 65 rfl) rfl
theorem q617 : (Jvm.Cond.methodLink "ForecastHallLaw" (100 : Nat) ({ cls := "ForecastHall", name := "least", desc := "()I" } : Jvm.MethodName)) ∈ lw_all := lw_g (lw_at lw_m3 77 rfl) rfl
theorem q631 : (Jvm.Cond.methodLink "ForecastHallLaw" (104 : Nat) ({ cls := "ForecastHall", name := "second", desc := "(II)I" } : Jvm.MethodName)) ∈ lw_all := lw_g (lw_at lw_m3 91 rfl) rfl
theorem q640 : (Jvm.Cond.methodLink "ForecastHallLaw" (108 : Nat) ({ cls := "ForecastHall", name := "put", desc := "(II)I" } : Jvm.MethodName)) ∈ lw_all := lw_g (lw_at lw_m3 100 rfl) rfl
theorem q646 : (Jvm.Cond.methodLink "ForecastHallLaw" (112 : Nat) ({ cls := "ForecastHall", name := "judge", desc := "(II)I" } : Jvm.MethodName)) ∈ lw_all := lw_g (lw_at lw_m3 106 rfl) rfl
theorem q650 : (Jvm.Cond.methodLink "ForecastHallLaw" (116 : Nat) ({ cls := "ForecastHall", name := "pace", desc := "(II)I" } : Jvm.MethodName)) ∈ lw_all := lw_g (lw_at lw_m3 110 rfl) rfl
theorem q659 : (Jvm.Cond.methodLink "ForecastHallLaw" (120 : Nat) ({ cls := "ForecastHall", name := "give", desc := "(II)I" } : Jvm.MethodName)) ∈ lw_all := lw_g (lw_at lw_m3 119 rfl) rfl
theorem q663 : (Jvm.Cond.methodLink "ForecastHallLaw" (124 : Nat) ({ cls := "ForecastHall", name := "when", desc := "(II)I" } : Jvm.MethodName)) ∈ lw_all := lw_g (lw_at lw_m3 123 rfl) rfl
theorem q679 : (Jvm.Cond.methodLink "ForecastHallLaw" (128 : Nat) ({ cls := "ForecastHall", name := "slowest", desc := "(I)I" } : Jvm.MethodName)) ∈ lw_all := lw_g (lw_at lw_m3 139 rfl) rfl
theorem q683 : (Jvm.Cond.methodLink "ForecastHallLaw" (132 : Nat) ({ cls := "ForecastHall", name := "given", desc := "(III)I" } : Jvm.MethodName)) ∈ lw_all := lw_g (lw_at lw_m3 143 rfl) rfl
theorem q689 : (Jvm.Cond.methodLink "ForecastHallLaw" (136 : Nat) ({ cls := "ForecastHall", name := "known", desc := "(II)I" } : Jvm.MethodName)) ∈ lw_all := lw_g (lw_at lw_m3 149 rfl) rfl
theorem q694 : (Jvm.Cond.methodLink "ForecastHallLaw" (140 : Nat) ({ cls := "ForecastHall", name := "coarse", desc := "(III)I" } : Jvm.MethodName)) ∈ lw_all := lw_g (lw_at lw_m3 154 rfl) rfl
theorem q709 : (Jvm.Cond.methodLink "ForecastHallLaw" (144 : Nat) ({ cls := "ForecastHall", name := "keep", desc := "()I" } : Jvm.MethodName)) ∈ lw_all := lw_g (lw_at lw_m3 169 rfl) rfl
theorem q719 : (Jvm.Cond.methodLink "ForecastHallLaw" (148 : Nat) ({ cls := "ForecastHall", name := "back", desc := "()I" } : Jvm.MethodName)) ∈ lw_all := lw_g (lw_at lw_m3 179 rfl) rfl
theorem q727 : (Jvm.Cond.methodLink "ForecastHallLaw" (152 : Nat) ({ cls := "ForecastHall", name := "count", desc := "(I)I" } : Jvm.MethodName)) ∈ lw_all := lw_g (lw_at lw_m3 187 rfl) rfl
theorem q731 : (Jvm.Cond.classLink "ForecastHallLaw" (10 : Nat) "ForecastHallModel") ∈ lw_all := lw_g (lw_at lw_m3 191 rfl) rfl
theorem q733 : (Jvm.Cond.methodLink "ForecastHallLaw" (12 : Nat) ({ cls := "ForecastHallModel", name := "<init>", desc := "()V" } : Jvm.MethodName)) ∈ lw_all := lw_g (lw_at lw_m3 193 rfl) rfl
theorem q886 : (Jvm.Cond.methodLink "ForecastHallLaw" (17 : Nat) ({ cls := "ForecastHallModel", name := "sky", desc := "(II)I" } : Jvm.MethodName)) ∈ lw_all := lw_g (lw_at lw_m4 106 rfl) rfl
theorem q899 : (Jvm.Cond.methodLink "ForecastHallLaw" (21 : Nat) ({ cls := "ForecastHallModel", name := "rule", desc := "(II)I" } : Jvm.MethodName)) ∈ lw_all := lw_g (lw_at lw_m4 119 rfl) rfl
theorem q904 : (Jvm.Cond.methodLink "ForecastHallLaw" (25 : Nat) ({ cls := "ForecastHallModel", name := "rim", desc := "(II)I" } : Jvm.MethodName)) ∈ lw_all := lw_g (lw_at lw_m4 124 rfl) rfl
theorem q915 : (Jvm.Cond.methodLink "ForecastHallLaw" (32 : Nat) ({ cls := "ForecastHallModel", name := "write", desc := "(IJ)I" } : Jvm.MethodName)) ∈ lw_all := lw_g (lw_at lw_m4 135 rfl) rfl
theorem q921 : (Jvm.Cond.methodLink "ForecastHallLaw" (37 : Nat) ({ cls := "ForecastHallModel", name := "wipe", desc := "()I" } : Jvm.MethodName)) ∈ lw_all := lw_g (lw_at lw_m4 141 rfl) rfl
theorem q925 : (Jvm.Cond.methodLink "ForecastHallLaw" (41 : Nat) ({ cls := "ForecastHallModel", name := "fault", desc := "()I" } : Jvm.MethodName)) ∈ lw_all := lw_g (lw_at lw_m4 145 rfl) rfl
theorem q960 : (Jvm.Cond.methodLink "ForecastHallLaw" (45 : Nat) ({ cls := "ForecastHallModel", name := "plan", desc := "()I" } : Jvm.MethodName)) ∈ lw_all := lw_g (lw_at lw_m4 180 rfl) rfl
theorem q964 : (Jvm.Cond.methodLink "ForecastHallLaw" (49 : Nat) ({ cls := "ForecastHallModel", name := "line", desc := "(II)I" } : Jvm.MethodName)) ∈ lw_all := lw_g (lw_at lw_m4 184 rfl) rfl
theorem q973 : (Jvm.Cond.methodLink "ForecastHallLaw" (54 : Nat) ({ cls := "ForecastHallModel", name := "first", desc := "(III)I" } : Jvm.MethodName)) ∈ lw_all := lw_g (lw_at lw_m4 193 rfl) rfl
theorem q981 : (Jvm.Cond.methodLink "ForecastHallLaw" (59 : Nat) ({ cls := "ForecastHallModel", name := "at", desc := "(ZIII)I" } : Jvm.MethodName)) ∈ lw_all := lw_g (lw_at lw_m4 201 rfl) rfl
theorem q1047 : (Jvm.Cond.methodLink "ForecastHallLaw" (63 : Nat) ({ cls := "ForecastHallModel", name := "marked", desc := "(III)I" } : Jvm.MethodName)) ∈ lw_all := lw_g (lw_at lw_m5 27 rfl) rfl
theorem q1051 : (Jvm.Cond.methodLink "ForecastHallLaw" (68 : Nat) ({ cls := "ForecastHallModel", name := "sum", desc := "(ZII)J" } : Jvm.MethodName)) ∈ lw_all := lw_g (lw_at lw_m5 31 rfl) rfl
theorem q1056 : (Jvm.Cond.methodLink "ForecastHallLaw" (73 : Nat) ({ cls := "ForecastHallModel", name := "slip", desc := "(IIII)I" } : Jvm.MethodName)) ∈ lw_all := lw_g (lw_at lw_m5 36 rfl) rfl
theorem q1060 : (Jvm.Cond.methodLink "ForecastHallLaw" (77 : Nat) ({ cls := "ForecastHallModel", name := "mend", desc := "()I" } : Jvm.MethodName)) ∈ lw_all := lw_g (lw_at lw_m5 40 rfl) rfl
theorem q1064 : (Jvm.Cond.methodLink "ForecastHallLaw" (81 : Nat) ({ cls := "ForecastHallModel", name := "spread", desc := "(III)I" } : Jvm.MethodName)) ∈ lw_all := lw_g (lw_at lw_m5 44 rfl) rfl
theorem q1068 : (Jvm.Cond.methodLink "ForecastHallLaw" (86 : Nat) ({ cls := "ForecastHallModel", name := "kept", desc := "(I)I" } : Jvm.MethodName)) ∈ lw_all := lw_g (lw_at lw_m5 48 rfl) rfl
theorem q1072 : (Jvm.Cond.methodLink "ForecastHallLaw" (90 : Nat) ({ cls := "ForecastHallModel", name := "grows", desc := "()I" } : Jvm.MethodName)) ∈ lw_all := lw_g (lw_at lw_m5 52 rfl) rfl
theorem q1076 : (Jvm.Cond.methodLink "ForecastHallLaw" (95 : Nat) ({ cls := "ForecastHallModel", name := "tell", desc := "(IIZIJ)I" } : Jvm.MethodName)) ∈ lw_all := lw_g (lw_at lw_m5 56 rfl) rfl
theorem q1082 : (Jvm.Cond.methodLink "ForecastHallLaw" (99 : Nat) ({ cls := "ForecastHallModel", name := "fails", desc := "()I" } : Jvm.MethodName)) ∈ lw_all := lw_g (lw_at lw_m5 62 rfl) rfl
theorem q1090 : (Jvm.Cond.methodLink "ForecastHallLaw" (103 : Nat) ({ cls := "ForecastHallModel", name := "least", desc := "()I" } : Jvm.MethodName)) ∈ lw_all := lw_g (lw_at lw_m5 70 rfl) rfl
theorem q1098 : (Jvm.Cond.methodLink "ForecastHallLaw" (107 : Nat) ({ cls := "ForecastHallModel", name := "second", desc := "(II)I" } : Jvm.MethodName)) ∈ lw_all := lw_g (lw_at lw_m5 78 rfl) rfl
theorem q1102 : (Jvm.Cond.methodLink "ForecastHallLaw" (111 : Nat) ({ cls := "ForecastHallModel", name := "put", desc := "(II)I" } : Jvm.MethodName)) ∈ lw_all := lw_g (lw_at lw_m5 82 rfl) rfl
theorem q1107 : (Jvm.Cond.methodLink "ForecastHallLaw" (115 : Nat) ({ cls := "ForecastHallModel", name := "judge", desc := "(II)I" } : Jvm.MethodName)) ∈ lw_all := lw_g (lw_at lw_m5 87 rfl) rfl
theorem q1111 : (Jvm.Cond.methodLink "ForecastHallLaw" (119 : Nat) ({ cls := "ForecastHallModel", name := "pace", desc := "(II)I" } : Jvm.MethodName)) ∈ lw_all := lw_g (lw_at lw_m5 91 rfl) rfl
theorem q1117 : (Jvm.Cond.methodLink "ForecastHallLaw" (123 : Nat) ({ cls := "ForecastHallModel", name := "give", desc := "(II)I" } : Jvm.MethodName)) ∈ lw_all := lw_g (lw_at lw_m5 97 rfl) rfl
theorem q1121 : (Jvm.Cond.methodLink "ForecastHallLaw" (127 : Nat) ({ cls := "ForecastHallModel", name := "when", desc := "(II)I" } : Jvm.MethodName)) ∈ lw_all := lw_g (lw_at lw_m5 101 rfl) rfl
theorem q1138 : (Jvm.Cond.methodLink "ForecastHallLaw" (131 : Nat) ({ cls := "ForecastHallModel", name := "slowest", desc := "(I)I" } : Jvm.MethodName)) ∈ lw_all := lw_g (lw_at lw_m5 118 rfl) rfl
theorem q1142 : (Jvm.Cond.methodLink "ForecastHallLaw" (135 : Nat) ({ cls := "ForecastHallModel", name := "given", desc := "(III)I" } : Jvm.MethodName)) ∈ lw_all := lw_g (lw_at lw_m5 122 rfl) rfl
theorem q1150 : (Jvm.Cond.methodLink "ForecastHallLaw" (139 : Nat) ({ cls := "ForecastHallModel", name := "known", desc := "(II)I" } : Jvm.MethodName)) ∈ lw_all := lw_g (lw_at lw_m5 130 rfl) rfl
theorem q1155 : (Jvm.Cond.methodLink "ForecastHallLaw" (143 : Nat) ({ cls := "ForecastHallModel", name := "coarse", desc := "(III)I" } : Jvm.MethodName)) ∈ lw_all := lw_g (lw_at lw_m5 135 rfl) rfl
theorem q1159 : (Jvm.Cond.methodLink "ForecastHallLaw" (147 : Nat) ({ cls := "ForecastHallModel", name := "keep", desc := "()I" } : Jvm.MethodName)) ∈ lw_all := lw_g (lw_at lw_m5 139 rfl) rfl
theorem q1175 : (Jvm.Cond.methodLink "ForecastHallLaw" (151 : Nat) ({ cls := "ForecastHallModel", name := "back", desc := "()I" } : Jvm.MethodName)) ∈ lw_all := lw_g (lw_at lw_m5 155 rfl) rfl
theorem q1179 : (Jvm.Cond.methodLink "ForecastHallLaw" (155 : Nat) ({ cls := "ForecastHallModel", name := "count", desc := "(I)I" } : Jvm.MethodName)) ∈ lw_all := lw_g (lw_at lw_m5 159 rfl) rfl
theorem q1183 : (Jvm.Cond.constantLong "ForecastHallLaw" (26 : Nat) (4294967295 : Int64)) ∈ lw_all := lw_g (lw_at lw_m5 163 rfl) rfl
theorem q68 : (Jvm.Cond.initialized "java/lang/System") ∈ lw_all := lw_g (lw_at lw_m1 8 rfl) rfl
theorem q448 : (Jvm.Cond.static ({ cls := "java/lang/System", name := "arraycopy", desc := "(Ljava/lang/Object;ILjava/lang/Object;II)V" } : Jvm.MethodName)) ∈ lw_all := lw_g (lw_at lw_m2 148 rfl) rfl
theorem q449 : (Jvm.Cond.native ({ cls := "java/lang/System", name := "arraycopy", desc := "(Ljava/lang/Object;ILjava/lang/Object;II)V" } : Jvm.MethodName)) ∈ lw_all := lw_g (lw_at lw_m2 149 rfl) rfl
theorem q100 : (Jvm.Cond.arrayClass Jvm.ClassFile.FieldType.byte) ∈ lw_all := lw_g (lw_at lw_m1 40 rfl) rfl
theorem q156 : (Jvm.Cond.arrayClass Jvm.ClassFile.FieldType.int) ∈ lw_all := lw_g (lw_at lw_m1 96 rfl) rfl
theorem q157 : (Jvm.Cond.arrayClass Jvm.ClassFile.FieldType.boolean) ∈ lw_all := lw_g (lw_at lw_m1 97 rfl) rfl
theorem q184 : (Jvm.Cond.arrayOver (Jvm.ClassFile.FieldType.object "ForecastHall$Kept")) ∈ lw_tbl := lw_at lw_m1 124 rfl
theorem q211 : (Jvm.Cond.arrayClass Jvm.ClassFile.FieldType.long) ∈ lw_all := lw_g (lw_at lw_m1 151 rfl) rfl

/-- the classes, by their numbers -/
abbrev vCl : List vw_C := [(RX0, TX0, 34), (RX1, TX1, 5), (RX2, TX2, 9), (RX3, TX3, 5), (RX4, TX4, 6), (RX5, TX5, 46)]
/-- the nest mates' links: fields, methods -/
def ma_nF : List (String × Nat × String × String × String × String) := [("ForecastHall", 171, "ForecastHall$Plan", "lineMany", "I", "ForecastHall"),
  ("ForecastHall", 180, "ForecastHall$Plan", "from", "[I", "ForecastHall"),
  ("ForecastHall", 183, "ForecastHall$Plan", "divisor", "[I", "ForecastHall"),
  ("ForecastHall", 186, "ForecastHall$Plan", "isNearest", "[Z", "ForecastHall"),
  ("ForecastHall", 281, "ForecastHall$Sky", "w", "I", "ForecastHall"),
  ("ForecastHall", 284, "ForecastHall$Sky", "h", "I", "ForecastHall"),
  ("ForecastHall", 218, "ForecastHall$Sky", "isMarked", "[Z", "ForecastHall"),
  ("ForecastHall$Reader", 96, "ForecastHall$Plan", "lineMany", "I", "ForecastHall"),
  ("ForecastHall$Reader", 113, "ForecastHall$Plan", "letter", "[I", "ForecastHall"),
  ("ForecastHall$Reader", 99, "ForecastHall$Plan", "from", "[I", "ForecastHall"),
  ("ForecastHall$Reader", 106, "ForecastHall$Plan", "divisor", "[I", "ForecastHall"),
  ("ForecastHall$Reader", 109, "ForecastHall$Plan", "isNearest", "[Z", "ForecastHall"),
  ("ForecastHall$Reader", 83, "ForecastHall$Plan", "termMany", "I", "ForecastHall"),
  ("ForecastHall$Reader", 86, "ForecastHall$Plan", "factor", "[I", "ForecastHall"),
  ("ForecastHall$Reader", 90, "ForecastHall$Plan", "first", "[I", "ForecastHall"),
  ("ForecastHall$Reader", 93, "ForecastHall$Plan", "second", "[I", "ForecastHall"),
  ("ForecastHall$Reader", 19, "ForecastHall", "length", "I", "ForecastHall"),
  ("ForecastHall$Reader", 22, "ForecastHall", "text", "[B", "ForecastHall"),
  ("ForecastHall$Reader", 65, "ForecastHall", "draft", "LForecastHall$Plan;", "ForecastHall"),
  ("ForecastHall$Sky", 125, "ForecastHall$Plan", "lineMany", "I", "ForecastHall"),
  ("ForecastHall$Sky", 128, "ForecastHall$Plan", "letter", "[I", "ForecastHall"),
  ("ForecastHall$Sky", 54, "ForecastHall$Plan", "from", "[I", "ForecastHall"),
  ("ForecastHall$Sky", 80, "ForecastHall$Plan", "divisor", "[I", "ForecastHall"),
  ("ForecastHall$Sky", 83, "ForecastHall$Plan", "isNearest", "[Z", "ForecastHall"),
  ("ForecastHall$Sky", 77, "ForecastHall$Plan", "factor", "[I", "ForecastHall"),
  ("ForecastHall$Sky", 59, "ForecastHall$Plan", "first", "[I", "ForecastHall"),
  ("ForecastHall$Sky", 65, "ForecastHall$Plan", "second", "[I", "ForecastHall"),
  ("ForecastHall$Sky", 50, "ForecastHall", "plan", "LForecastHall$Plan;", "ForecastHall"),
  ("ForecastHall$Sky", 143, "ForecastHall", "wide", "I", "ForecastHall"),
  ("ForecastHall$Sky", 146, "ForecastHall", "high", "I", "ForecastHall"),
  ("ForecastHall$Sky", 34, "ForecastHall", "edge", "I", "ForecastHall"),
  ("ForecastHall$Sky", 41, "ForecastHall", "rims", "[I", "ForecastHall"),
  ("ForecastHall$Sky", 137, "ForecastHall", "firsts", "[I", "ForecastHall"),
  ("ForecastHall$Sky", 98, "ForecastHall", "slipMany", "I", "ForecastHall"),
  ("ForecastHall$Sky", 101, "ForecastHall", "slipStep", "[I", "ForecastHall"),
  ("ForecastHall$Sky", 104, "ForecastHall", "slipCell", "[I", "ForecastHall"),
  ("ForecastHall$Sky", 107, "ForecastHall", "slipLetter", "[I", "ForecastHall"),
  ("ForecastHall$Sky", 110, "ForecastHall", "slipAmount", "[I", "ForecastHall"),
  ("ForecastHall$Kept", 28, "ForecastHall", "plan", "LForecastHall$Plan;", "ForecastHall"),
  ("ForecastHall$Kept", 58, "ForecastHall", "edge", "I", "ForecastHall"),
  ("ForecastHall$Kept", 40, "ForecastHall", "rims", "[I", "ForecastHall"),
  ("ForecastHall$Kept", 33, "ForecastHall", "firsts", "[I", "ForecastHall"),
  ("ForecastHall$Kept", 41, "ForecastHall", "slipMany", "I", "ForecastHall"),
  ("ForecastHall$Kept", 46, "ForecastHall", "slipStep", "[I", "ForecastHall"),
  ("ForecastHall$Kept", 49, "ForecastHall", "slipCell", "[I", "ForecastHall"),
  ("ForecastHall$Kept", 52, "ForecastHall", "slipLetter", "[I", "ForecastHall"),
  ("ForecastHall$Kept", 55, "ForecastHall", "slipAmount", "[I", "ForecastHall"),
  ("ForecastHall$Kept", 62, "ForecastHall", "isFresh", "Z", "ForecastHall")]
def ma_nM : List (String × Nat × MethodName × String) := [("ForecastHall", 21, ⟨"ForecastHall$Reader", "<init>", "(LForecastHall;)V"⟩, "ForecastHall"),
  ("ForecastHall", 30, ⟨"ForecastHall$Plan", "<init>", "()V"⟩, "ForecastHall"),
  ("ForecastHall", 66, ⟨"ForecastHall$Sky", "<init>", "(LForecastHall;)V"⟩, "ForecastHall"),
  ("ForecastHall", 117, ⟨"ForecastHall$Kept", "<init>", "()V"⟩, "ForecastHall"),
  ("ForecastHall", 316, ⟨"ForecastHall$Sky", "meanOf", "(LForecastHall$Sky;III)I"⟩, "ForecastHall"),
  ("ForecastHall$Reader", 59, ⟨"ForecastHall", "isLetter", "(I)Z"⟩, "ForecastHall"),
  ("ForecastHall$Reader", 37, ⟨"ForecastHall", "isIn", "(JJJ)Z"⟩, "ForecastHall"),
  ("ForecastHall$Sky", 149, ⟨"ForecastHall", "cells", "()I"⟩, "ForecastHall"),
  ("ForecastHall$Kept", 11, ⟨"ForecastHall$Plan", "<init>", "()V"⟩, "ForecastHall")]
theorem ma_nF_tbl : ∀ q ∈ ma_nF, Cond.fieldLinkNest q.1 q.2.1 q.2.2.1 q.2.2.2.1 q.2.2.2.2.1 q.2.2.2.2.2 ∈ lw_tbl := by
  intro q hq
  simp only [ma_nF, List.mem_cons, List.not_mem_nil, or_false] at hq
  rcases hq with rfl | rfl | rfl | rfl | rfl | rfl | rfl | rfl | rfl | rfl | rfl | rfl | rfl | rfl | rfl | rfl | rfl | rfl | rfl | rfl | rfl | rfl | rfl | rfl | rfl | rfl | rfl | rfl | rfl | rfl | rfl | rfl | rfl | rfl | rfl | rfl | rfl | rfl | rfl | rfl | rfl | rfl | rfl | rfl | rfl | rfl | rfl | rfl
  · exact q110
  · exact q117
  · exact q121
  · exact q125
  · exact q165
  · exact q167
  · exact q170
  · exact q108
  · exact q112
  · exact q116
  · exact q120
  · exact q124
  · exact q127
  · exact q129
  · exact q133
  · exact q136
  · exact q222
  · exact q224
  · exact q228
  · exact q109
  · exact q113
  · exact q115
  · exact q119
  · exact q123
  · exact q130
  · exact q132
  · exact q135
  · exact q231
  · exact q233
  · exact q235
  · exact q237
  · exact q241
  · exact q244
  · exact q247
  · exact q250
  · exact q253
  · exact q256
  · exact q259
  · exact q229
  · exact q236
  · exact q239
  · exact q242
  · exact q245
  · exact q248
  · exact q251
  · exact q254
  · exact q257
  · exact q260
theorem ma_nM_tbl : ∀ q ∈ ma_nM, Cond.methodLinkNest q.1 q.2.1 q.2.2.1 q.2.2.2 ∈ lw_tbl := by
  intro q hq
  simp only [ma_nM, List.mem_cons, List.not_mem_nil, or_false] at hq
  rcases hq with rfl | rfl | rfl | rfl | rfl | rfl | rfl | rfl | rfl
  · exact q80
  · exact q103
  · exact q160
  · exact q186
  · exact q707
  · exact q403
  · exact q426
  · exact q489
  · exact q191
