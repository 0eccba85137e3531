/-! java/lang/Math -/
set_option maxRecDepth 100000
def RJ7 : String := "java/lang/Math"
abbrev cJ7_max : ByteArray := prog_35_method_65_code
def yJ7_max : MethodName := ⟨RJ7, "max", "(II)I"⟩
def dkwJ7_max_0 : List UInt8 := [26, 27, 161, 0, 7, 26, 167, 0, 4, 27, 172]
abbrev dktJ7_max_0 : List UInt8 := dkwJ7_max_0 ++ []
theorem dksJ7_max_0 : cJ7_max.data.toList.drop 0 = dktJ7_max_0 := by decide +kernel
theorem dJ7_max_0 : decode cJ7_max 0 = .ok (.iload_n 0, 1) := dk_26 (dk_at dksJ7_max_0 0 rfl rfl)
theorem dJ7_max_1 : decode cJ7_max 1 = .ok (.iload_n 1, 1) := dk_27 (dk_at dksJ7_max_0 1 rfl rfl)
theorem dJ7_max_2 : decode cJ7_max 2 = .ok (.if_icmp .lt 7, 3) := dk_161 0 7 (dk_at dksJ7_max_0 2 rfl rfl)
theorem dJ7_max_5 : decode cJ7_max 5 = .ok (.iload_n 0, 1) := dk_26 (dk_at dksJ7_max_0 5 rfl rfl)
theorem dJ7_max_6 : decode cJ7_max 6 = .ok (.goto 4, 3) := dk_167 0 4 (dk_at dksJ7_max_0 6 rfl rfl)
theorem dJ7_max_9 : decode cJ7_max 9 = .ok (.iload_n 1, 1) := dk_27 (dk_at dksJ7_max_0 9 rfl rfl)
theorem dJ7_max_10 : decode cJ7_max 10 = .ok (.ireturn, 1) := dk_172 (dk_at dksJ7_max_0 10 rfl rfl)
abbrev cJ7_min : ByteArray := prog_35_method_69_code
def yJ7_min : MethodName := ⟨RJ7, "min", "(II)I"⟩
def dkwJ7_min_0 : List UInt8 := [26, 27, 163, 0, 7, 26, 167, 0, 4, 27, 172]
abbrev dktJ7_min_0 : List UInt8 := dkwJ7_min_0 ++ []
theorem dksJ7_min_0 : cJ7_min.data.toList.drop 0 = dktJ7_min_0 := by decide +kernel
theorem dJ7_min_0 : decode cJ7_min 0 = .ok (.iload_n 0, 1) := dk_26 (dk_at dksJ7_min_0 0 rfl rfl)
theorem dJ7_min_1 : decode cJ7_min 1 = .ok (.iload_n 1, 1) := dk_27 (dk_at dksJ7_min_0 1 rfl rfl)
theorem dJ7_min_2 : decode cJ7_min 2 = .ok (.if_icmp .gt 7, 3) := dk_163 0 7 (dk_at dksJ7_min_0 2 rfl rfl)
theorem dJ7_min_5 : decode cJ7_min 5 = .ok (.iload_n 0, 1) := dk_26 (dk_at dksJ7_min_0 5 rfl rfl)
theorem dJ7_min_6 : decode cJ7_min 6 = .ok (.goto 4, 3) := dk_167 0 4 (dk_at dksJ7_min_0 6 rfl rfl)
theorem dJ7_min_9 : decode cJ7_min 9 = .ok (.iload_n 1, 1) := dk_27 (dk_at dksJ7_min_0 9 rfl rfl)
theorem dJ7_min_10 : decode cJ7_min 10 = .ok (.ireturn, 1) := dk_172 (dk_at dksJ7_min_0 10 rfl rfl)
abbrev cJ7_abs : ByteArray := prog_35_method_59_code
def yJ7_abs : MethodName := ⟨RJ7, "abs", "(I)I"⟩
def dkwJ7_abs_0 : List UInt8 := [26, 156, 0, 8, 26, 116, 167, 0, 4, 26, 172]
abbrev dktJ7_abs_0 : List UInt8 := dkwJ7_abs_0 ++ []
theorem dksJ7_abs_0 : cJ7_abs.data.toList.drop 0 = dktJ7_abs_0 := by decide +kernel
theorem dJ7_abs_0 : decode cJ7_abs 0 = .ok (.iload_n 0, 1) := dk_26 (dk_at dksJ7_abs_0 0 rfl rfl)
theorem dJ7_abs_1 : decode cJ7_abs 1 = .ok (.ifCond .ge 8, 3) := dk_156 0 8 (dk_at dksJ7_abs_0 1 rfl rfl)
theorem dJ7_abs_4 : decode cJ7_abs 4 = .ok (.iload_n 0, 1) := dk_26 (dk_at dksJ7_abs_0 4 rfl rfl)
theorem dJ7_abs_5 : decode cJ7_abs 5 = .ok (.ineg, 1) := dk_116 (dk_at dksJ7_abs_0 5 rfl rfl)
theorem dJ7_abs_6 : decode cJ7_abs 6 = .ok (.goto 4, 3) := dk_167 0 4 (dk_at dksJ7_abs_0 6 rfl rfl)
theorem dJ7_abs_9 : decode cJ7_abs 9 = .ok (.iload_n 0, 1) := dk_26 (dk_at dksJ7_abs_0 9 rfl rfl)
theorem dJ7_abs_10 : decode cJ7_abs 10 = .ok (.ireturn, 1) := dk_172 (dk_at dksJ7_abs_0 10 rfl rfl)
theorem q92 : (Jvm.Cond.initialized "java/lang/Math") ∈ lw_all := lw_g (lw_at lw_m1 15 rfl) rfl
theorem q419 : (Jvm.Cond.static ({ cls := "java/lang/Math", name := "max", desc := "(II)I" } : Jvm.MethodName)) ∈ lw_all := lw_g (lw_at lw_m2 102 rfl) rfl
theorem q420 : (Jvm.Cond.code ({ cls := "java/lang/Math", name := "max", desc := "(II)I" } : Jvm.MethodName) prog_35_method_65_code (2 : Nat) (Option.some Jvm.ClassFile.FieldType.int)) ∈ lw_all := lw_g (lw_at lw_m2 103 rfl) rfl
theorem q472 : (Jvm.Cond.static ({ cls := "java/lang/Math", name := "min", desc := "(II)I" } : Jvm.MethodName)) ∈ lw_all := lw_g (lw_at lw_m2 155 rfl) rfl
theorem q473 : (Jvm.Cond.code ({ cls := "java/lang/Math", name := "min", desc := "(II)I" } : Jvm.MethodName) prog_35_method_69_code (2 : Nat) (Option.some Jvm.ClassFile.FieldType.int)) ∈ lw_all := lw_g (lw_at lw_m2 156 rfl) rfl
theorem q2223 : (Jvm.Cond.static ({ cls := "java/lang/Math", name := "abs", desc := "(I)I" } : Jvm.MethodName)) ∈ lw_all := lw_g (lw_at lw_m9 226 rfl) rfl
theorem q2224 : (Jvm.Cond.code ({ cls := "java/lang/Math", name := "abs", desc := "(I)I" } : Jvm.MethodName) prog_35_method_59_code (1 : Nat) (Option.some Jvm.ClassFile.FieldType.int)) ∈ lw_all := lw_g (lw_at lw_m9 227 rfl) rfl
/-! CardLoomModel -/
set_option maxRecDepth 100000
def RX3 : String := "CardLoomModel"
def TX3 : u_T := fun k => match k with
  | 0 => ("CardLoomModel", "code", "I", false)
  | 1 => ("CardLoomModel", "many", "[I", true)
  | 2 => ("CardLoomModel", "rows", "[I", true)
  | 3 => ("CardLoomModel", "hole", "[I", true)
  | 4 => ("CardLoomModel", "slant", "[I", true)
  | 5 => ("CardLoomModel", "place", "[I", true)
  | 6 => ("CardLoomModel", "twist", "[I", true)
  | 7 => ("CardLoomModel", "fronts", "[I", true)
  | 8 => ("CardLoomModel", "backs", "[I", true)
  | 9 => ("CardLoomModel", "leans", "[I", true)
  | 10 => ("CardLoomModel", "turns", "[I", true)
  | 11 => ("CardLoomModel", "hasImage", "Z", false)
  | 12 => ("CardLoomModel", "letter", "[I", true)
  | 13 => ("CardLoomModel", "number", "[I", true)
  | 14 => ("CardLoomModel", "left", "[I", true)
  | 15 => ("CardLoomModel", "right", "[I", true)
  | 16 => ("CardLoomModel", "tape", "[I", true)
  | 17 => ("CardLoomModel", "taped", "I", false)
  | 18 => ("CardLoomModel", "at", "I", false)
  | 19 => ("CardLoomModel", "fault", "I", false)
  | 20 => ("CardLoomModel", "open", "I", false)
  | 21 => ("CardLoomModel", "nodes", "I", false)
  | 22 => ("CardLoomModel", "named", "I", false)
  | 23 => ("CardLoomModel", "newLetter", "[I", true)
  | 24 => ("CardLoomModel", "newNumber", "[I", true)
  | 25 => ("CardLoomModel", "newLeft", "[I", true)
  | 26 => ("CardLoomModel", "newRight", "[I", true)
  | 27 => ("CardLoomModel", "newHole", "[I", true)
  | 28 => ("CardLoomModel", "newSlant", "[I", true)
  | 29 => ("CardLoomModel", "next", "[I", true)
  | 30 => ("CardLoomModel", "minded", "[I", true)
  | 31 => ("CardLoomModel", "mindedTwist", "[I", true)
  | 32 => ("CardLoomModel", "lines", "I", false)
  | 33 => ("CardLoomModel", "picture", "[I", true)
  | 34 => ("CardLoomModel", "least", "[I", true)
  | 35 => ("CardLoomModel", "drafted", "[I", true)
  | 36 => ("CardLoomModel", "paper", "[I", true)
  | 37 => ("CardLoomModel", "papered", "I", false)
  | 38 => ("CardLoomModel", "holds", "[Z", true)
  | 39 => ("CardLoomModel", "size", "[I", true)
  | _ => ("CardLoomModel", "element", "[I", true)
def tyX3 : Nat → FieldType := fun k => match k with
  | 0 => .int
  | 1 => .array .int
  | 2 => .array .int
  | 3 => .array .int
  | 4 => .array .int
  | 5 => .array .int
  | 6 => .array .int
  | 7 => .array .int
  | 8 => .array .int
  | 9 => .array .int
  | 10 => .array .int
  | 11 => .boolean
  | 12 => .array .int
  | 13 => .array .int
  | 14 => .array .int
  | 15 => .array .int
  | 16 => .array .int
  | 17 => .int
  | 18 => .int
  | 19 => .int
  | 20 => .int
  | 21 => .int
  | 22 => .int
  | 23 => .array .int
  | 24 => .array .int
  | 25 => .array .int
  | 26 => .array .int
  | 27 => .array .int
  | 28 => .array .int
  | 29 => .array .int
  | 30 => .array .int
  | 31 => .array .int
  | 32 => .int
  | 33 => .array .int
  | 34 => .array .int
  | 35 => .array .int
  | 36 => .array .int
  | 37 => .int
  | 38 => .array .boolean
  | 39 => .array .int
  | _ => .array .int
abbrev wsX30 : List Cond := u_ws RX3 TX3 41
set_option maxRecDepth 100000 in
theorem nmX3 : ∀ a, a < 41 → ∀ b, b < 41 → a ≠ b → (TX3 a).2.1 ≠ (TX3 b).2.1 := by decide +kernel
set_option maxRecDepth 100000 in
theorem tyX3_ok : ∀ k, k < 41 → parseFieldDescriptor (TX3 k).2.2.1 = some (tyX3 k) := by decide +kernel
abbrev cX3_init : ByteArray := prog_20_method_3_code
def yX3_init : MethodName := ⟨RX3, "<init>", "()V"⟩
def dkwX3_init_11 : List UInt8 := [180, 0, 44, 3, 16, 105, 79, 177]
abbrev dktX3_init_11 : List UInt8 := dkwX3_init_11 ++ []
def dkwX3_init_10 : List UInt8 := [42, 7, 188, 4, 181, 0, 98, 42, 7, 188, 10, 181, 0, 102, 42, 16, 80, 188, 10, 181, 0, 105, 42]
abbrev dktX3_init_10 : List UInt8 := dkwX3_init_10 ++ dktX3_init_11
def dkwX3_init_9 : List UInt8 := [42, 16, 36, 188, 10, 181, 0, 89, 42, 16, 80, 188, 10, 181, 0, 92, 42, 16, 60, 188, 10, 181, 0, 95]
abbrev dktX3_init_9 : List UInt8 := dkwX3_init_9 ++ dktX3_init_10
def dkwX3_init_8 : List UInt8 := [42, 16, 10, 188, 10, 181, 0, 80, 42, 16, 10, 188, 10, 181, 0, 83, 42, 16, 80, 188, 10, 181, 0, 86]
abbrev dktX3_init_8 : List UInt8 := dkwX3_init_8 ++ dktX3_init_9
def dkwX3_init_7 : List UInt8 := [42, 16, 40, 188, 10, 181, 0, 71, 42, 16, 10, 188, 10, 181, 0, 74, 42, 16, 10, 188, 10, 181, 0, 77]
abbrev dktX3_init_7 : List UInt8 := dkwX3_init_7 ++ dktX3_init_8
def dkwX3_init_6 : List UInt8 := [42, 16, 80, 188, 10, 181, 0, 62, 42, 16, 80, 188, 10, 181, 0, 65, 42, 16, 80, 188, 10, 181, 0, 68]
abbrev dktX3_init_6 : List UInt8 := dkwX3_init_6 ++ dktX3_init_7
def dkwX3_init_5 : List UInt8 := [17, 0, 160, 188, 10, 181, 0, 53, 42, 16, 80, 188, 10, 181, 0, 56, 42, 16, 80, 188, 10, 181, 0, 59]
abbrev dktX3_init_5 : List UInt8 := dkwX3_init_5 ++ dktX3_init_6
def dkwX3_init_4 : List UInt8 := [181, 0, 44, 42, 17, 0, 160, 188, 10, 181, 0, 47, 42, 17, 0, 160, 188, 10, 181, 0, 50, 42]
abbrev dktX3_init_4 : List UInt8 := dkwX3_init_4 ++ dktX3_init_5
def dkwX3_init_3 : List UInt8 := [17, 3, 232, 188, 10, 181, 0, 38, 42, 17, 3, 232, 188, 10, 181, 0, 41, 42, 17, 0, 160, 188, 10]
abbrev dktX3_init_3 : List UInt8 := dkwX3_init_3 ++ dktX3_init_4
def dkwX3_init_2 : List UInt8 := [181, 0, 29, 42, 17, 3, 232, 188, 10, 181, 0, 32, 42, 17, 3, 232, 188, 10, 181, 0, 35, 42]
abbrev dktX3_init_2 : List UInt8 := dkwX3_init_2 ++ dktX3_init_3
def dkwX3_init_1 : List UInt8 := [181, 0, 20, 42, 16, 20, 188, 10, 181, 0, 23, 42, 16, 20, 188, 10, 181, 0, 26, 42, 16, 20, 188, 10]
abbrev dktX3_init_1 : List UInt8 := dkwX3_init_1 ++ dktX3_init_2
def dkwX3_init_0 : List UInt8 := [42, 183, 0, 7, 42, 5, 188, 10, 181, 0, 13, 42, 5, 188, 10, 181, 0, 17, 42, 16, 80, 188, 10]
abbrev dktX3_init_0 : List UInt8 := dkwX3_init_0 ++ dktX3_init_1
theorem dksX3_init_0 : cX3_init.data.toList.drop 0 = dktX3_init_0 := by decide +kernel
theorem dksX3_init_1 : cX3_init.data.toList.drop 23 = dktX3_init_1 := dk_seg dksX3_init_0 23 rfl rfl
theorem dksX3_init_2 : cX3_init.data.toList.drop 47 = dktX3_init_2 := dk_seg dksX3_init_1 24 rfl rfl
theorem dksX3_init_3 : cX3_init.data.toList.drop 69 = dktX3_init_3 := dk_seg dksX3_init_2 22 rfl rfl
theorem dksX3_init_4 : cX3_init.data.toList.drop 92 = dktX3_init_4 := dk_seg dksX3_init_3 23 rfl rfl
theorem dksX3_init_5 : cX3_init.data.toList.drop 114 = dktX3_init_5 := dk_seg dksX3_init_4 22 rfl rfl
theorem dksX3_init_6 : cX3_init.data.toList.drop 138 = dktX3_init_6 := dk_seg dksX3_init_5 24 rfl rfl
theorem dksX3_init_7 : cX3_init.data.toList.drop 162 = dktX3_init_7 := dk_seg dksX3_init_6 24 rfl rfl
theorem dksX3_init_8 : cX3_init.data.toList.drop 186 = dktX3_init_8 := dk_seg dksX3_init_7 24 rfl rfl
theorem dksX3_init_9 : cX3_init.data.toList.drop 210 = dktX3_init_9 := dk_seg dksX3_init_8 24 rfl rfl
theorem dksX3_init_10 : cX3_init.data.toList.drop 234 = dktX3_init_10 := dk_seg dksX3_init_9 24 rfl rfl
theorem dksX3_init_11 : cX3_init.data.toList.drop 257 = dktX3_init_11 := dk_seg dksX3_init_10 23 rfl rfl
theorem dX3_init_0 : decode cX3_init 0 = .ok (.aload_n 0, 1) := dk_42 (dk_at dksX3_init_0 0 rfl rfl)
theorem dX3_init_1 : decode cX3_init 1 = .ok (.invokespecial 7, 3) := dk_183 0 7 (dk_at dksX3_init_0 1 rfl rfl)
theorem dX3_init_4 : decode cX3_init 4 = .ok (.aload_n 0, 1) := dk_42 (dk_at dksX3_init_0 4 rfl rfl)
theorem dX3_init_5 : decode cX3_init 5 = .ok (.iconst 2, 1) := dk_5 (dk_at dksX3_init_0 5 rfl rfl)
theorem dX3_init_6 : decode cX3_init 6 = .ok (.newarray .int, 2) := dk_188_10 (dk_at dksX3_init_0 6 rfl rfl)
theorem dX3_init_8 : decode cX3_init 8 = .ok (.putfield 13, 3) := dk_181 0 13 (dk_at dksX3_init_0 8 rfl rfl)
theorem dX3_init_11 : decode cX3_init 11 = .ok (.aload_n 0, 1) := dk_42 (dk_at dksX3_init_0 11 rfl rfl)
theorem dX3_init_12 : decode cX3_init 12 = .ok (.iconst 2, 1) := dk_5 (dk_at dksX3_init_0 12 rfl rfl)
theorem dX3_init_13 : decode cX3_init 13 = .ok (.newarray .int, 2) := dk_188_10 (dk_at dksX3_init_0 13 rfl rfl)
theorem dX3_init_15 : decode cX3_init 15 = .ok (.putfield 17, 3) := dk_181 0 17 (dk_at dksX3_init_0 15 rfl rfl)
theorem dX3_init_18 : decode cX3_init 18 = .ok (.aload_n 0, 1) := dk_42 (dk_at dksX3_init_0 18 rfl rfl)
theorem dX3_init_19 : decode cX3_init 19 = .ok (.bipush 80, 2) := dk_16 80 (dk_at dksX3_init_0 19 rfl rfl)
theorem dX3_init_21 : decode cX3_init 21 = .ok (.newarray .int, 2) := dk_188_10 (dk_at dksX3_init_0 21 rfl rfl)
theorem dX3_init_23 : decode cX3_init 23 = .ok (.putfield 20, 3) := dk_181 0 20 (dk_at dksX3_init_1 0 rfl rfl)
theorem dX3_init_26 : decode cX3_init 26 = .ok (.aload_n 0, 1) := dk_42 (dk_at dksX3_init_1 3 rfl rfl)
theorem dX3_init_27 : decode cX3_init 27 = .ok (.bipush 20, 2) := dk_16 20 (dk_at dksX3_init_1 4 rfl rfl)
theorem dX3_init_29 : decode cX3_init 29 = .ok (.newarray .int, 2) := dk_188_10 (dk_at dksX3_init_1 6 rfl rfl)
theorem dX3_init_31 : decode cX3_init 31 = .ok (.putfield 23, 3) := dk_181 0 23 (dk_at dksX3_init_1 8 rfl rfl)
theorem dX3_init_34 : decode cX3_init 34 = .ok (.aload_n 0, 1) := dk_42 (dk_at dksX3_init_1 11 rfl rfl)
theorem dX3_init_35 : decode cX3_init 35 = .ok (.bipush 20, 2) := dk_16 20 (dk_at dksX3_init_1 12 rfl rfl)
theorem dX3_init_37 : decode cX3_init 37 = .ok (.newarray .int, 2) := dk_188_10 (dk_at dksX3_init_1 14 rfl rfl)
theorem dX3_init_39 : decode cX3_init 39 = .ok (.putfield 26, 3) := dk_181 0 26 (dk_at dksX3_init_1 16 rfl rfl)
theorem dX3_init_42 : decode cX3_init 42 = .ok (.aload_n 0, 1) := dk_42 (dk_at dksX3_init_1 19 rfl rfl)
theorem dX3_init_43 : decode cX3_init 43 = .ok (.bipush 20, 2) := dk_16 20 (dk_at dksX3_init_1 20 rfl rfl)
theorem dX3_init_45 : decode cX3_init 45 = .ok (.newarray .int, 2) := dk_188_10 (dk_at dksX3_init_1 22 rfl rfl)
theorem dX3_init_47 : decode cX3_init 47 = .ok (.putfield 29, 3) := dk_181 0 29 (dk_at dksX3_init_2 0 rfl rfl)
theorem dX3_init_50 : decode cX3_init 50 = .ok (.aload_n 0, 1) := dk_42 (dk_at dksX3_init_2 3 rfl rfl)
theorem dX3_init_51 : decode cX3_init 51 = .ok (.sipush 1000, 3) := dk_17 3 232 (dk_at dksX3_init_2 4 rfl rfl)
theorem dX3_init_54 : decode cX3_init 54 = .ok (.newarray .int, 2) := dk_188_10 (dk_at dksX3_init_2 7 rfl rfl)
theorem dX3_init_56 : decode cX3_init 56 = .ok (.putfield 32, 3) := dk_181 0 32 (dk_at dksX3_init_2 9 rfl rfl)
theorem dX3_init_59 : decode cX3_init 59 = .ok (.aload_n 0, 1) := dk_42 (dk_at dksX3_init_2 12 rfl rfl)
theorem dX3_init_60 : decode cX3_init 60 = .ok (.sipush 1000, 3) := dk_17 3 232 (dk_at dksX3_init_2 13 rfl rfl)
theorem dX3_init_63 : decode cX3_init 63 = .ok (.newarray .int, 2) := dk_188_10 (dk_at dksX3_init_2 16 rfl rfl)
theorem dX3_init_65 : decode cX3_init 65 = .ok (.putfield 35, 3) := dk_181 0 35 (dk_at dksX3_init_2 18 rfl rfl)
theorem dX3_init_68 : decode cX3_init 68 = .ok (.aload_n 0, 1) := dk_42 (dk_at dksX3_init_2 21 rfl rfl)
theorem dX3_init_69 : decode cX3_init 69 = .ok (.sipush 1000, 3) := dk_17 3 232 (dk_at dksX3_init_3 0 rfl rfl)
theorem dX3_init_72 : decode cX3_init 72 = .ok (.newarray .int, 2) := dk_188_10 (dk_at dksX3_init_3 3 rfl rfl)
theorem dX3_init_74 : decode cX3_init 74 = .ok (.putfield 38, 3) := dk_181 0 38 (dk_at dksX3_init_3 5 rfl rfl)
theorem dX3_init_77 : decode cX3_init 77 = .ok (.aload_n 0, 1) := dk_42 (dk_at dksX3_init_3 8 rfl rfl)
theorem dX3_init_78 : decode cX3_init 78 = .ok (.sipush 1000, 3) := dk_17 3 232 (dk_at dksX3_init_3 9 rfl rfl)
theorem dX3_init_81 : decode cX3_init 81 = .ok (.newarray .int, 2) := dk_188_10 (dk_at dksX3_init_3 12 rfl rfl)
theorem dX3_init_83 : decode cX3_init 83 = .ok (.putfield 41, 3) := dk_181 0 41 (dk_at dksX3_init_3 14 rfl rfl)
theorem dX3_init_86 : decode cX3_init 86 = .ok (.aload_n 0, 1) := dk_42 (dk_at dksX3_init_3 17 rfl rfl)
theorem dX3_init_87 : decode cX3_init 87 = .ok (.sipush 160, 3) := dk_17 0 160 (dk_at dksX3_init_3 18 rfl rfl)
theorem dX3_init_90 : decode cX3_init 90 = .ok (.newarray .int, 2) := dk_188_10 (dk_at dksX3_init_3 21 rfl rfl)
theorem dX3_init_92 : decode cX3_init 92 = .ok (.putfield 44, 3) := dk_181 0 44 (dk_at dksX3_init_4 0 rfl rfl)
theorem dX3_init_95 : decode cX3_init 95 = .ok (.aload_n 0, 1) := dk_42 (dk_at dksX3_init_4 3 rfl rfl)
theorem dX3_init_96 : decode cX3_init 96 = .ok (.sipush 160, 3) := dk_17 0 160 (dk_at dksX3_init_4 4 rfl rfl)
theorem dX3_init_99 : decode cX3_init 99 = .ok (.newarray .int, 2) := dk_188_10 (dk_at dksX3_init_4 7 rfl rfl)
theorem dX3_init_101 : decode cX3_init 101 = .ok (.putfield 47, 3) := dk_181 0 47 (dk_at dksX3_init_4 9 rfl rfl)
theorem dX3_init_104 : decode cX3_init 104 = .ok (.aload_n 0, 1) := dk_42 (dk_at dksX3_init_4 12 rfl rfl)
theorem dX3_init_105 : decode cX3_init 105 = .ok (.sipush 160, 3) := dk_17 0 160 (dk_at dksX3_init_4 13 rfl rfl)
theorem dX3_init_108 : decode cX3_init 108 = .ok (.newarray .int, 2) := dk_188_10 (dk_at dksX3_init_4 16 rfl rfl)
theorem dX3_init_110 : decode cX3_init 110 = .ok (.putfield 50, 3) := dk_181 0 50 (dk_at dksX3_init_4 18 rfl rfl)
theorem dX3_init_113 : decode cX3_init 113 = .ok (.aload_n 0, 1) := dk_42 (dk_at dksX3_init_4 21 rfl rfl)
theorem dX3_init_114 : decode cX3_init 114 = .ok (.sipush 160, 3) := dk_17 0 160 (dk_at dksX3_init_5 0 rfl rfl)
theorem dX3_init_117 : decode cX3_init 117 = .ok (.newarray .int, 2) := dk_188_10 (dk_at dksX3_init_5 3 rfl rfl)
theorem dX3_init_119 : decode cX3_init 119 = .ok (.putfield 53, 3) := dk_181 0 53 (dk_at dksX3_init_5 5 rfl rfl)
theorem dX3_init_122 : decode cX3_init 122 = .ok (.aload_n 0, 1) := dk_42 (dk_at dksX3_init_5 8 rfl rfl)
theorem dX3_init_123 : decode cX3_init 123 = .ok (.bipush 80, 2) := dk_16 80 (dk_at dksX3_init_5 9 rfl rfl)
theorem dX3_init_125 : decode cX3_init 125 = .ok (.newarray .int, 2) := dk_188_10 (dk_at dksX3_init_5 11 rfl rfl)
theorem dX3_init_127 : decode cX3_init 127 = .ok (.putfield 56, 3) := dk_181 0 56 (dk_at dksX3_init_5 13 rfl rfl)
theorem dX3_init_130 : decode cX3_init 130 = .ok (.aload_n 0, 1) := dk_42 (dk_at dksX3_init_5 16 rfl rfl)
theorem dX3_init_131 : decode cX3_init 131 = .ok (.bipush 80, 2) := dk_16 80 (dk_at dksX3_init_5 17 rfl rfl)
theorem dX3_init_133 : decode cX3_init 133 = .ok (.newarray .int, 2) := dk_188_10 (dk_at dksX3_init_5 19 rfl rfl)
theorem dX3_init_135 : decode cX3_init 135 = .ok (.putfield 59, 3) := dk_181 0 59 (dk_at dksX3_init_5 21 rfl rfl)
theorem dX3_init_138 : decode cX3_init 138 = .ok (.aload_n 0, 1) := dk_42 (dk_at dksX3_init_6 0 rfl rfl)
theorem dX3_init_139 : decode cX3_init 139 = .ok (.bipush 80, 2) := dk_16 80 (dk_at dksX3_init_6 1 rfl rfl)
theorem dX3_init_141 : decode cX3_init 141 = .ok (.newarray .int, 2) := dk_188_10 (dk_at dksX3_init_6 3 rfl rfl)
theorem dX3_init_143 : decode cX3_init 143 = .ok (.putfield 62, 3) := dk_181 0 62 (dk_at dksX3_init_6 5 rfl rfl)
theorem dX3_init_146 : decode cX3_init 146 = .ok (.aload_n 0, 1) := dk_42 (dk_at dksX3_init_6 8 rfl rfl)
theorem dX3_init_147 : decode cX3_init 147 = .ok (.bipush 80, 2) := dk_16 80 (dk_at dksX3_init_6 9 rfl rfl)
theorem dX3_init_149 : decode cX3_init 149 = .ok (.newarray .int, 2) := dk_188_10 (dk_at dksX3_init_6 11 rfl rfl)
theorem dX3_init_151 : decode cX3_init 151 = .ok (.putfield 65, 3) := dk_181 0 65 (dk_at dksX3_init_6 13 rfl rfl)
theorem dX3_init_154 : decode cX3_init 154 = .ok (.aload_n 0, 1) := dk_42 (dk_at dksX3_init_6 16 rfl rfl)
theorem dX3_init_155 : decode cX3_init 155 = .ok (.bipush 80, 2) := dk_16 80 (dk_at dksX3_init_6 17 rfl rfl)
theorem dX3_init_157 : decode cX3_init 157 = .ok (.newarray .int, 2) := dk_188_10 (dk_at dksX3_init_6 19 rfl rfl)
theorem dX3_init_159 : decode cX3_init 159 = .ok (.putfield 68, 3) := dk_181 0 68 (dk_at dksX3_init_6 21 rfl rfl)
theorem dX3_init_162 : decode cX3_init 162 = .ok (.aload_n 0, 1) := dk_42 (dk_at dksX3_init_7 0 rfl rfl)
theorem dX3_init_163 : decode cX3_init 163 = .ok (.bipush 40, 2) := dk_16 40 (dk_at dksX3_init_7 1 rfl rfl)
theorem dX3_init_165 : decode cX3_init 165 = .ok (.newarray .int, 2) := dk_188_10 (dk_at dksX3_init_7 3 rfl rfl)
theorem dX3_init_167 : decode cX3_init 167 = .ok (.putfield 71, 3) := dk_181 0 71 (dk_at dksX3_init_7 5 rfl rfl)
theorem dX3_init_170 : decode cX3_init 170 = .ok (.aload_n 0, 1) := dk_42 (dk_at dksX3_init_7 8 rfl rfl)
theorem dX3_init_171 : decode cX3_init 171 = .ok (.bipush 10, 2) := dk_16 10 (dk_at dksX3_init_7 9 rfl rfl)
theorem dX3_init_173 : decode cX3_init 173 = .ok (.newarray .int, 2) := dk_188_10 (dk_at dksX3_init_7 11 rfl rfl)
theorem dX3_init_175 : decode cX3_init 175 = .ok (.putfield 74, 3) := dk_181 0 74 (dk_at dksX3_init_7 13 rfl rfl)
theorem dX3_init_178 : decode cX3_init 178 = .ok (.aload_n 0, 1) := dk_42 (dk_at dksX3_init_7 16 rfl rfl)
theorem dX3_init_179 : decode cX3_init 179 = .ok (.bipush 10, 2) := dk_16 10 (dk_at dksX3_init_7 17 rfl rfl)
theorem dX3_init_181 : decode cX3_init 181 = .ok (.newarray .int, 2) := dk_188_10 (dk_at dksX3_init_7 19 rfl rfl)
theorem dX3_init_183 : decode cX3_init 183 = .ok (.putfield 77, 3) := dk_181 0 77 (dk_at dksX3_init_7 21 rfl rfl)
theorem dX3_init_186 : decode cX3_init 186 = .ok (.aload_n 0, 1) := dk_42 (dk_at dksX3_init_8 0 rfl rfl)
theorem dX3_init_187 : decode cX3_init 187 = .ok (.bipush 10, 2) := dk_16 10 (dk_at dksX3_init_8 1 rfl rfl)
theorem dX3_init_189 : decode cX3_init 189 = .ok (.newarray .int, 2) := dk_188_10 (dk_at dksX3_init_8 3 rfl rfl)
theorem dX3_init_191 : decode cX3_init 191 = .ok (.putfield 80, 3) := dk_181 0 80 (dk_at dksX3_init_8 5 rfl rfl)
theorem dX3_init_194 : decode cX3_init 194 = .ok (.aload_n 0, 1) := dk_42 (dk_at dksX3_init_8 8 rfl rfl)
theorem dX3_init_195 : decode cX3_init 195 = .ok (.bipush 10, 2) := dk_16 10 (dk_at dksX3_init_8 9 rfl rfl)
theorem dX3_init_197 : decode cX3_init 197 = .ok (.newarray .int, 2) := dk_188_10 (dk_at dksX3_init_8 11 rfl rfl)
theorem dX3_init_199 : decode cX3_init 199 = .ok (.putfield 83, 3) := dk_181 0 83 (dk_at dksX3_init_8 13 rfl rfl)
theorem dX3_init_202 : decode cX3_init 202 = .ok (.aload_n 0, 1) := dk_42 (dk_at dksX3_init_8 16 rfl rfl)
theorem dX3_init_203 : decode cX3_init 203 = .ok (.bipush 80, 2) := dk_16 80 (dk_at dksX3_init_8 17 rfl rfl)
theorem dX3_init_205 : decode cX3_init 205 = .ok (.newarray .int, 2) := dk_188_10 (dk_at dksX3_init_8 19 rfl rfl)
theorem dX3_init_207 : decode cX3_init 207 = .ok (.putfield 86, 3) := dk_181 0 86 (dk_at dksX3_init_8 21 rfl rfl)
theorem dX3_init_210 : decode cX3_init 210 = .ok (.aload_n 0, 1) := dk_42 (dk_at dksX3_init_9 0 rfl rfl)
theorem dX3_init_211 : decode cX3_init 211 = .ok (.bipush 36, 2) := dk_16 36 (dk_at dksX3_init_9 1 rfl rfl)
theorem dX3_init_213 : decode cX3_init 213 = .ok (.newarray .int, 2) := dk_188_10 (dk_at dksX3_init_9 3 rfl rfl)
theorem dX3_init_215 : decode cX3_init 215 = .ok (.putfield 89, 3) := dk_181 0 89 (dk_at dksX3_init_9 5 rfl rfl)
theorem dX3_init_218 : decode cX3_init 218 = .ok (.aload_n 0, 1) := dk_42 (dk_at dksX3_init_9 8 rfl rfl)
theorem dX3_init_219 : decode cX3_init 219 = .ok (.bipush 80, 2) := dk_16 80 (dk_at dksX3_init_9 9 rfl rfl)
theorem dX3_init_221 : decode cX3_init 221 = .ok (.newarray .int, 2) := dk_188_10 (dk_at dksX3_init_9 11 rfl rfl)
theorem dX3_init_223 : decode cX3_init 223 = .ok (.putfield 92, 3) := dk_181 0 92 (dk_at dksX3_init_9 13 rfl rfl)
theorem dX3_init_226 : decode cX3_init 226 = .ok (.aload_n 0, 1) := dk_42 (dk_at dksX3_init_9 16 rfl rfl)
theorem dX3_init_227 : decode cX3_init 227 = .ok (.bipush 60, 2) := dk_16 60 (dk_at dksX3_init_9 17 rfl rfl)
theorem dX3_init_229 : decode cX3_init 229 = .ok (.newarray .int, 2) := dk_188_10 (dk_at dksX3_init_9 19 rfl rfl)
theorem dX3_init_231 : decode cX3_init 231 = .ok (.putfield 95, 3) := dk_181 0 95 (dk_at dksX3_init_9 21 rfl rfl)
theorem dX3_init_234 : decode cX3_init 234 = .ok (.aload_n 0, 1) := dk_42 (dk_at dksX3_init_10 0 rfl rfl)
theorem dX3_init_235 : decode cX3_init 235 = .ok (.iconst 4, 1) := dk_7 (dk_at dksX3_init_10 1 rfl rfl)
theorem dX3_init_236 : decode cX3_init 236 = .ok (.newarray .boolean, 2) := dk_188_4 (dk_at dksX3_init_10 2 rfl rfl)
theorem dX3_init_238 : decode cX3_init 238 = .ok (.putfield 98, 3) := dk_181 0 98 (dk_at dksX3_init_10 4 rfl rfl)
theorem dX3_init_241 : decode cX3_init 241 = .ok (.aload_n 0, 1) := dk_42 (dk_at dksX3_init_10 7 rfl rfl)
theorem dX3_init_242 : decode cX3_init 242 = .ok (.iconst 4, 1) := dk_7 (dk_at dksX3_init_10 8 rfl rfl)
theorem dX3_init_243 : decode cX3_init 243 = .ok (.newarray .int, 2) := dk_188_10 (dk_at dksX3_init_10 9 rfl rfl)
theorem dX3_init_245 : decode cX3_init 245 = .ok (.putfield 102, 3) := dk_181 0 102 (dk_at dksX3_init_10 11 rfl rfl)
theorem dX3_init_248 : decode cX3_init 248 = .ok (.aload_n 0, 1) := dk_42 (dk_at dksX3_init_10 14 rfl rfl)
theorem dX3_init_249 : decode cX3_init 249 = .ok (.bipush 80, 2) := dk_16 80 (dk_at dksX3_init_10 15 rfl rfl)
theorem dX3_init_251 : decode cX3_init 251 = .ok (.newarray .int, 2) := dk_188_10 (dk_at dksX3_init_10 17 rfl rfl)
theorem dX3_init_253 : decode cX3_init 253 = .ok (.putfield 105, 3) := dk_181 0 105 (dk_at dksX3_init_10 19 rfl rfl)
theorem dX3_init_256 : decode cX3_init 256 = .ok (.aload_n 0, 1) := dk_42 (dk_at dksX3_init_10 22 rfl rfl)
theorem dX3_init_257 : decode cX3_init 257 = .ok (.getfield 44, 3) := dk_180 0 44 (dk_at dksX3_init_11 0 rfl rfl)
theorem dX3_init_260 : decode cX3_init 260 = .ok (.iconst 0, 1) := dk_3 (dk_at dksX3_init_11 3 rfl rfl)
theorem dX3_init_261 : decode cX3_init 261 = .ok (.bipush 105, 2) := dk_16 105 (dk_at dksX3_init_11 4 rfl rfl)
theorem dX3_init_263 : decode cX3_init 263 = .ok (.iastore, 1) := dk_79 (dk_at dksX3_init_11 6 rfl rfl)
theorem dX3_init_264 : decode cX3_init 264 = .ok (.return_, 1) := dk_177 (dk_at dksX3_init_11 7 rfl rfl)
abbrev cX3_feed : ByteArray := prog_20_method_7_code
def yX3_feed : MethodName := ⟨RX3, "feed", "(I)I"⟩
def dkwX3_feed_2 : List UInt8 := [180, 0, 112, 172]
abbrev dktX3_feed_2 : List UInt8 := dkwX3_feed_2 ++ []
def dkwX3_feed_1 : List UInt8 := [172, 42, 180, 0, 56, 42, 180, 0, 112, 27, 79, 42, 89, 180, 0, 112, 4, 96, 181, 0, 112, 42]
abbrev dktX3_feed_1 : List UInt8 := dkwX3_feed_1 ++ dktX3_feed_2
def dkwX3_feed_0 : List UInt8 := [27, 4, 16, 127, 184, 0, 108, 154, 0, 6, 16, 254, 172, 42, 180, 0, 112, 16, 80, 160, 0, 6, 16, 252]
abbrev dktX3_feed_0 : List UInt8 := dkwX3_feed_0 ++ dktX3_feed_1
theorem dksX3_feed_0 : cX3_feed.data.toList.drop 0 = dktX3_feed_0 := by decide +kernel
theorem dksX3_feed_1 : cX3_feed.data.toList.drop 24 = dktX3_feed_1 := dk_seg dksX3_feed_0 24 rfl rfl
theorem dksX3_feed_2 : cX3_feed.data.toList.drop 46 = dktX3_feed_2 := dk_seg dksX3_feed_1 22 rfl rfl
theorem dX3_feed_0 : decode cX3_feed 0 = .ok (.iload_n 1, 1) := dk_27 (dk_at dksX3_feed_0 0 rfl rfl)
theorem dX3_feed_1 : decode cX3_feed 1 = .ok (.iconst 1, 1) := dk_4 (dk_at dksX3_feed_0 1 rfl rfl)
theorem dX3_feed_2 : decode cX3_feed 2 = .ok (.bipush 127, 2) := dk_16 127 (dk_at dksX3_feed_0 2 rfl rfl)
theorem dX3_feed_4 : decode cX3_feed 4 = .ok (.invokestatic 108, 3) := dk_184 0 108 (dk_at dksX3_feed_0 4 rfl rfl)
theorem dX3_feed_7 : decode cX3_feed 7 = .ok (.ifCond .ne 6, 3) := dk_154 0 6 (dk_at dksX3_feed_0 7 rfl rfl)
theorem dX3_feed_10 : decode cX3_feed 10 = .ok (.bipush (-2), 2) := dk_16 254 (dk_at dksX3_feed_0 10 rfl rfl)
theorem dX3_feed_12 : decode cX3_feed 12 = .ok (.ireturn, 1) := dk_172 (dk_at dksX3_feed_0 12 rfl rfl)
theorem dX3_feed_13 : decode cX3_feed 13 = .ok (.aload_n 0, 1) := dk_42 (dk_at dksX3_feed_0 13 rfl rfl)
theorem dX3_feed_14 : decode cX3_feed 14 = .ok (.getfield 112, 3) := dk_180 0 112 (dk_at dksX3_feed_0 14 rfl rfl)
theorem dX3_feed_17 : decode cX3_feed 17 = .ok (.bipush 80, 2) := dk_16 80 (dk_at dksX3_feed_0 17 rfl rfl)
theorem dX3_feed_19 : decode cX3_feed 19 = .ok (.if_icmp .ne 6, 3) := dk_160 0 6 (dk_at dksX3_feed_0 19 rfl rfl)
theorem dX3_feed_22 : decode cX3_feed 22 = .ok (.bipush (-4), 2) := dk_16 252 (dk_at dksX3_feed_0 22 rfl rfl)
theorem dX3_feed_24 : decode cX3_feed 24 = .ok (.ireturn, 1) := dk_172 (dk_at dksX3_feed_1 0 rfl rfl)
theorem dX3_feed_25 : decode cX3_feed 25 = .ok (.aload_n 0, 1) := dk_42 (dk_at dksX3_feed_1 1 rfl rfl)
theorem dX3_feed_26 : decode cX3_feed 26 = .ok (.getfield 56, 3) := dk_180 0 56 (dk_at dksX3_feed_1 2 rfl rfl)
theorem dX3_feed_29 : decode cX3_feed 29 = .ok (.aload_n 0, 1) := dk_42 (dk_at dksX3_feed_1 5 rfl rfl)
theorem dX3_feed_30 : decode cX3_feed 30 = .ok (.getfield 112, 3) := dk_180 0 112 (dk_at dksX3_feed_1 6 rfl rfl)
theorem dX3_feed_33 : decode cX3_feed 33 = .ok (.iload_n 1, 1) := dk_27 (dk_at dksX3_feed_1 9 rfl rfl)
theorem dX3_feed_34 : decode cX3_feed 34 = .ok (.iastore, 1) := dk_79 (dk_at dksX3_feed_1 10 rfl rfl)
theorem dX3_feed_35 : decode cX3_feed 35 = .ok (.aload_n 0, 1) := dk_42 (dk_at dksX3_feed_1 11 rfl rfl)
theorem dX3_feed_36 : decode cX3_feed 36 = .ok (.dup, 1) := dk_89 (dk_at dksX3_feed_1 12 rfl rfl)
theorem dX3_feed_37 : decode cX3_feed 37 = .ok (.getfield 112, 3) := dk_180 0 112 (dk_at dksX3_feed_1 13 rfl rfl)
theorem dX3_feed_40 : decode cX3_feed 40 = .ok (.iconst 1, 1) := dk_4 (dk_at dksX3_feed_1 16 rfl rfl)
theorem dX3_feed_41 : decode cX3_feed 41 = .ok (.iadd, 1) := dk_96 (dk_at dksX3_feed_1 17 rfl rfl)
theorem dX3_feed_42 : decode cX3_feed 42 = .ok (.putfield 112, 3) := dk_181 0 112 (dk_at dksX3_feed_1 18 rfl rfl)
theorem dX3_feed_45 : decode cX3_feed 45 = .ok (.aload_n 0, 1) := dk_42 (dk_at dksX3_feed_1 21 rfl rfl)
theorem dX3_feed_46 : decode cX3_feed 46 = .ok (.getfield 112, 3) := dk_180 0 112 (dk_at dksX3_feed_2 0 rfl rfl)
theorem dX3_feed_49 : decode cX3_feed 49 = .ok (.ireturn, 1) := dk_172 (dk_at dksX3_feed_2 3 rfl rfl)
abbrev cX3_in : ByteArray := prog_20_method_2_code
def yX3_in : MethodName := ⟨RX3, "in", "(III)Z"⟩
def dkwX3_in_0 : List UInt8 := [26, 27, 161, 0, 12, 26, 28, 163, 0, 7, 4, 167, 0, 4, 3, 172]
abbrev dktX3_in_0 : List UInt8 := dkwX3_in_0 ++ []
theorem dksX3_in_0 : cX3_in.data.toList.drop 0 = dktX3_in_0 := by decide +kernel
theorem dX3_in_0 : decode cX3_in 0 = .ok (.iload_n 0, 1) := dk_26 (dk_at dksX3_in_0 0 rfl rfl)
theorem dX3_in_1 : decode cX3_in 1 = .ok (.iload_n 1, 1) := dk_27 (dk_at dksX3_in_0 1 rfl rfl)
theorem dX3_in_2 : decode cX3_in 2 = .ok (.if_icmp .lt 12, 3) := dk_161 0 12 (dk_at dksX3_in_0 2 rfl rfl)
theorem dX3_in_5 : decode cX3_in 5 = .ok (.iload_n 0, 1) := dk_26 (dk_at dksX3_in_0 5 rfl rfl)
theorem dX3_in_6 : decode cX3_in 6 = .ok (.iload_n 2, 1) := dk_28 (dk_at dksX3_in_0 6 rfl rfl)
theorem dX3_in_7 : decode cX3_in 7 = .ok (.if_icmp .gt 7, 3) := dk_163 0 7 (dk_at dksX3_in_0 7 rfl rfl)
theorem dX3_in_10 : decode cX3_in 10 = .ok (.iconst 1, 1) := dk_4 (dk_at dksX3_in_0 10 rfl rfl)
theorem dX3_in_11 : decode cX3_in 11 = .ok (.goto 4, 3) := dk_167 0 4 (dk_at dksX3_in_0 11 rfl rfl)
theorem dX3_in_14 : decode cX3_in 14 = .ok (.iconst 0, 1) := dk_3 (dk_at dksX3_in_0 14 rfl rfl)
theorem dX3_in_15 : decode cX3_in 15 = .ok (.ireturn, 1) := dk_172 (dk_at dksX3_in_0 15 rfl rfl)
abbrev cX3_clear : ByteArray := prog_20_method_8_code
def yX3_clear : MethodName := ⟨RX3, "clear", "()I"⟩
def dkwX3_clear_0 : List UInt8 := [42, 180, 0, 112, 60, 42, 3, 181, 0, 112, 27, 172]
abbrev dktX3_clear_0 : List UInt8 := dkwX3_clear_0 ++ []
theorem dksX3_clear_0 : cX3_clear.data.toList.drop 0 = dktX3_clear_0 := by decide +kernel
theorem dX3_clear_0 : decode cX3_clear 0 = .ok (.aload_n 0, 1) := dk_42 (dk_at dksX3_clear_0 0 rfl rfl)
theorem dX3_clear_1 : decode cX3_clear 1 = .ok (.getfield 112, 3) := dk_180 0 112 (dk_at dksX3_clear_0 1 rfl rfl)
theorem dX3_clear_4 : decode cX3_clear 4 = .ok (.istore_n 1, 1) := dk_60 (dk_at dksX3_clear_0 4 rfl rfl)
theorem dX3_clear_5 : decode cX3_clear 5 = .ok (.aload_n 0, 1) := dk_42 (dk_at dksX3_clear_0 5 rfl rfl)
theorem dX3_clear_6 : decode cX3_clear 6 = .ok (.iconst 0, 1) := dk_3 (dk_at dksX3_clear_0 6 rfl rfl)
theorem dX3_clear_7 : decode cX3_clear 7 = .ok (.putfield 112, 3) := dk_181 0 112 (dk_at dksX3_clear_0 7 rfl rfl)
theorem dX3_clear_10 : decode cX3_clear 10 = .ok (.iload_n 1, 1) := dk_27 (dk_at dksX3_clear_0 10 rfl rfl)
theorem dX3_clear_11 : decode cX3_clear 11 = .ok (.ireturn, 1) := dk_172 (dk_at dksX3_clear_0 11 rfl rfl)
abbrev cX3_law : ByteArray := prog_20_method_14_code
def yX3_law : MethodName := ⟨RX3, "law", "()I"⟩
def dkwX3_law_6 : List UInt8 := [42, 180, 0, 132, 172]
abbrev dktX3_law_6 : List UInt8 := dkwX3_law_6 ++ []
def dkwX3_law_5 : List UInt8 := [180, 0, 65, 27, 46, 79, 42, 180, 0, 53, 27, 42, 180, 0, 68, 27, 46, 79, 132, 1, 1, 167, 255, 197]
abbrev dktX3_law_5 : List UInt8 := dkwX3_law_5 ++ dktX3_law_6
def dkwX3_law_4 : List UInt8 := [180, 0, 59, 27, 46, 79, 42, 180, 0, 47, 27, 42, 180, 0, 62, 27, 46, 79, 42, 180, 0, 50, 27, 42]
abbrev dktX3_law_4 : List UInt8 := dkwX3_law_4 ++ dktX3_law_5
def dkwX3_law_3 : List UInt8 := [16, 156, 42, 180, 0, 118, 100, 172, 3, 60, 27, 42, 180, 0, 129, 162, 0, 57, 42, 180, 0, 44, 27, 42]
abbrev dktX3_law_3 : List UInt8 := dkwX3_law_3 ++ dktX3_law_4
def dkwX3_law_2 : List UInt8 := [162, 0, 11, 42, 42, 180, 0, 115, 182, 0, 125, 42, 3, 181, 0, 112, 42, 180, 0, 118, 155, 0, 11]
abbrev dktX3_law_2 : List UInt8 := dkwX3_law_2 ++ dktX3_law_3
def dkwX3_law_1 : List UInt8 := [181, 0, 132, 42, 182, 0, 145, 87, 42, 180, 0, 118, 156, 0, 22, 42, 180, 0, 115, 42, 180, 0, 112]
abbrev dktX3_law_1 : List UInt8 := dkwX3_law_1 ++ dktX3_law_2
def dkwX3_law_0 : List UInt8 := [42, 3, 181, 0, 115, 42, 2, 181, 0, 118, 42, 3, 181, 0, 135, 42, 3, 181, 0, 129, 42, 3]
abbrev dktX3_law_0 : List UInt8 := dkwX3_law_0 ++ dktX3_law_1
theorem dksX3_law_0 : cX3_law.data.toList.drop 0 = dktX3_law_0 := by decide +kernel
theorem dksX3_law_1 : cX3_law.data.toList.drop 22 = dktX3_law_1 := dk_seg dksX3_law_0 22 rfl rfl
theorem dksX3_law_2 : cX3_law.data.toList.drop 45 = dktX3_law_2 := dk_seg dksX3_law_1 23 rfl rfl
theorem dksX3_law_3 : cX3_law.data.toList.drop 68 = dktX3_law_3 := dk_seg dksX3_law_2 23 rfl rfl
theorem dksX3_law_4 : cX3_law.data.toList.drop 92 = dktX3_law_4 := dk_seg dksX3_law_3 24 rfl rfl
theorem dksX3_law_5 : cX3_law.data.toList.drop 116 = dktX3_law_5 := dk_seg dksX3_law_4 24 rfl rfl
theorem dksX3_law_6 : cX3_law.data.toList.drop 140 = dktX3_law_6 := dk_seg dksX3_law_5 24 rfl rfl
theorem dX3_law_0 : decode cX3_law 0 = .ok (.aload_n 0, 1) := dk_42 (dk_at dksX3_law_0 0 rfl rfl)
theorem dX3_law_1 : decode cX3_law 1 = .ok (.iconst 0, 1) := dk_3 (dk_at dksX3_law_0 1 rfl rfl)
theorem dX3_law_2 : decode cX3_law 2 = .ok (.putfield 115, 3) := dk_181 0 115 (dk_at dksX3_law_0 2 rfl rfl)
theorem dX3_law_5 : decode cX3_law 5 = .ok (.aload_n 0, 1) := dk_42 (dk_at dksX3_law_0 5 rfl rfl)
theorem dX3_law_6 : decode cX3_law 6 = .ok (.iconst (-1), 1) := dk_2 (dk_at dksX3_law_0 6 rfl rfl)
theorem dX3_law_7 : decode cX3_law 7 = .ok (.putfield 118, 3) := dk_181 0 118 (dk_at dksX3_law_0 7 rfl rfl)
theorem dX3_law_10 : decode cX3_law 10 = .ok (.aload_n 0, 1) := dk_42 (dk_at dksX3_law_0 10 rfl rfl)
theorem dX3_law_11 : decode cX3_law 11 = .ok (.iconst 0, 1) := dk_3 (dk_at dksX3_law_0 11 rfl rfl)
theorem dX3_law_12 : decode cX3_law 12 = .ok (.putfield 135, 3) := dk_181 0 135 (dk_at dksX3_law_0 12 rfl rfl)
theorem dX3_law_15 : decode cX3_law 15 = .ok (.aload_n 0, 1) := dk_42 (dk_at dksX3_law_0 15 rfl rfl)
theorem dX3_law_16 : decode cX3_law 16 = .ok (.iconst 0, 1) := dk_3 (dk_at dksX3_law_0 16 rfl rfl)
theorem dX3_law_17 : decode cX3_law 17 = .ok (.putfield 129, 3) := dk_181 0 129 (dk_at dksX3_law_0 17 rfl rfl)
theorem dX3_law_20 : decode cX3_law 20 = .ok (.aload_n 0, 1) := dk_42 (dk_at dksX3_law_0 20 rfl rfl)
theorem dX3_law_21 : decode cX3_law 21 = .ok (.iconst 0, 1) := dk_3 (dk_at dksX3_law_0 21 rfl rfl)
theorem dX3_law_22 : decode cX3_law 22 = .ok (.putfield 132, 3) := dk_181 0 132 (dk_at dksX3_law_1 0 rfl rfl)
theorem dX3_law_25 : decode cX3_law 25 = .ok (.aload_n 0, 1) := dk_42 (dk_at dksX3_law_1 3 rfl rfl)
theorem dX3_law_26 : decode cX3_law 26 = .ok (.invokevirtual 145, 3) := dk_182 0 145 (dk_at dksX3_law_1 4 rfl rfl)
theorem dX3_law_29 : decode cX3_law 29 = .ok (.pop, 1) := dk_87 (dk_at dksX3_law_1 7 rfl rfl)
theorem dX3_law_30 : decode cX3_law 30 = .ok (.aload_n 0, 1) := dk_42 (dk_at dksX3_law_1 8 rfl rfl)
theorem dX3_law_31 : decode cX3_law 31 = .ok (.getfield 118, 3) := dk_180 0 118 (dk_at dksX3_law_1 9 rfl rfl)
theorem dX3_law_34 : decode cX3_law 34 = .ok (.ifCond .ge 22, 3) := dk_156 0 22 (dk_at dksX3_law_1 12 rfl rfl)
theorem dX3_law_37 : decode cX3_law 37 = .ok (.aload_n 0, 1) := dk_42 (dk_at dksX3_law_1 15 rfl rfl)
theorem dX3_law_38 : decode cX3_law 38 = .ok (.getfield 115, 3) := dk_180 0 115 (dk_at dksX3_law_1 16 rfl rfl)
theorem dX3_law_41 : decode cX3_law 41 = .ok (.aload_n 0, 1) := dk_42 (dk_at dksX3_law_1 19 rfl rfl)
theorem dX3_law_42 : decode cX3_law 42 = .ok (.getfield 112, 3) := dk_180 0 112 (dk_at dksX3_law_1 20 rfl rfl)
theorem dX3_law_45 : decode cX3_law 45 = .ok (.if_icmp .ge 11, 3) := dk_162 0 11 (dk_at dksX3_law_2 0 rfl rfl)
theorem dX3_law_48 : decode cX3_law 48 = .ok (.aload_n 0, 1) := dk_42 (dk_at dksX3_law_2 3 rfl rfl)
theorem dX3_law_49 : decode cX3_law 49 = .ok (.aload_n 0, 1) := dk_42 (dk_at dksX3_law_2 4 rfl rfl)
theorem dX3_law_50 : decode cX3_law 50 = .ok (.getfield 115, 3) := dk_180 0 115 (dk_at dksX3_law_2 5 rfl rfl)
theorem dX3_law_53 : decode cX3_law 53 = .ok (.invokevirtual 125, 3) := dk_182 0 125 (dk_at dksX3_law_2 8 rfl rfl)
theorem dX3_law_56 : decode cX3_law 56 = .ok (.aload_n 0, 1) := dk_42 (dk_at dksX3_law_2 11 rfl rfl)
theorem dX3_law_57 : decode cX3_law 57 = .ok (.iconst 0, 1) := dk_3 (dk_at dksX3_law_2 12 rfl rfl)
theorem dX3_law_58 : decode cX3_law 58 = .ok (.putfield 112, 3) := dk_181 0 112 (dk_at dksX3_law_2 13 rfl rfl)
theorem dX3_law_61 : decode cX3_law 61 = .ok (.aload_n 0, 1) := dk_42 (dk_at dksX3_law_2 16 rfl rfl)
theorem dX3_law_62 : decode cX3_law 62 = .ok (.getfield 118, 3) := dk_180 0 118 (dk_at dksX3_law_2 17 rfl rfl)
theorem dX3_law_65 : decode cX3_law 65 = .ok (.ifCond .lt 11, 3) := dk_155 0 11 (dk_at dksX3_law_2 20 rfl rfl)
theorem dX3_law_68 : decode cX3_law 68 = .ok (.bipush (-100), 2) := dk_16 156 (dk_at dksX3_law_3 0 rfl rfl)
theorem dX3_law_70 : decode cX3_law 70 = .ok (.aload_n 0, 1) := dk_42 (dk_at dksX3_law_3 2 rfl rfl)
theorem dX3_law_71 : decode cX3_law 71 = .ok (.getfield 118, 3) := dk_180 0 118 (dk_at dksX3_law_3 3 rfl rfl)
theorem dX3_law_74 : decode cX3_law 74 = .ok (.isub, 1) := dk_100 (dk_at dksX3_law_3 6 rfl rfl)
theorem dX3_law_75 : decode cX3_law 75 = .ok (.ireturn, 1) := dk_172 (dk_at dksX3_law_3 7 rfl rfl)
theorem dX3_law_76 : decode cX3_law 76 = .ok (.iconst 0, 1) := dk_3 (dk_at dksX3_law_3 8 rfl rfl)
theorem dX3_law_77 : decode cX3_law 77 = .ok (.istore_n 1, 1) := dk_60 (dk_at dksX3_law_3 9 rfl rfl)
theorem dX3_law_78 : decode cX3_law 78 = .ok (.iload_n 1, 1) := dk_27 (dk_at dksX3_law_3 10 rfl rfl)
theorem dX3_law_79 : decode cX3_law 79 = .ok (.aload_n 0, 1) := dk_42 (dk_at dksX3_law_3 11 rfl rfl)
theorem dX3_law_80 : decode cX3_law 80 = .ok (.getfield 129, 3) := dk_180 0 129 (dk_at dksX3_law_3 12 rfl rfl)
theorem dX3_law_83 : decode cX3_law 83 = .ok (.if_icmp .ge 57, 3) := dk_162 0 57 (dk_at dksX3_law_3 15 rfl rfl)
theorem dX3_law_86 : decode cX3_law 86 = .ok (.aload_n 0, 1) := dk_42 (dk_at dksX3_law_3 18 rfl rfl)
theorem dX3_law_87 : decode cX3_law 87 = .ok (.getfield 44, 3) := dk_180 0 44 (dk_at dksX3_law_3 19 rfl rfl)
theorem dX3_law_90 : decode cX3_law 90 = .ok (.iload_n 1, 1) := dk_27 (dk_at dksX3_law_3 22 rfl rfl)
theorem dX3_law_91 : decode cX3_law 91 = .ok (.aload_n 0, 1) := dk_42 (dk_at dksX3_law_3 23 rfl rfl)
theorem dX3_law_92 : decode cX3_law 92 = .ok (.getfield 59, 3) := dk_180 0 59 (dk_at dksX3_law_4 0 rfl rfl)
theorem dX3_law_95 : decode cX3_law 95 = .ok (.iload_n 1, 1) := dk_27 (dk_at dksX3_law_4 3 rfl rfl)
theorem dX3_law_96 : decode cX3_law 96 = .ok (.iaload, 1) := dk_46 (dk_at dksX3_law_4 4 rfl rfl)
theorem dX3_law_97 : decode cX3_law 97 = .ok (.iastore, 1) := dk_79 (dk_at dksX3_law_4 5 rfl rfl)
theorem dX3_law_98 : decode cX3_law 98 = .ok (.aload_n 0, 1) := dk_42 (dk_at dksX3_law_4 6 rfl rfl)
theorem dX3_law_99 : decode cX3_law 99 = .ok (.getfield 47, 3) := dk_180 0 47 (dk_at dksX3_law_4 7 rfl rfl)
theorem dX3_law_102 : decode cX3_law 102 = .ok (.iload_n 1, 1) := dk_27 (dk_at dksX3_law_4 10 rfl rfl)
theorem dX3_law_103 : decode cX3_law 103 = .ok (.aload_n 0, 1) := dk_42 (dk_at dksX3_law_4 11 rfl rfl)
theorem dX3_law_104 : decode cX3_law 104 = .ok (.getfield 62, 3) := dk_180 0 62 (dk_at dksX3_law_4 12 rfl rfl)
theorem dX3_law_107 : decode cX3_law 107 = .ok (.iload_n 1, 1) := dk_27 (dk_at dksX3_law_4 15 rfl rfl)
theorem dX3_law_108 : decode cX3_law 108 = .ok (.iaload, 1) := dk_46 (dk_at dksX3_law_4 16 rfl rfl)
theorem dX3_law_109 : decode cX3_law 109 = .ok (.iastore, 1) := dk_79 (dk_at dksX3_law_4 17 rfl rfl)
theorem dX3_law_110 : decode cX3_law 110 = .ok (.aload_n 0, 1) := dk_42 (dk_at dksX3_law_4 18 rfl rfl)
theorem dX3_law_111 : decode cX3_law 111 = .ok (.getfield 50, 3) := dk_180 0 50 (dk_at dksX3_law_4 19 rfl rfl)
theorem dX3_law_114 : decode cX3_law 114 = .ok (.iload_n 1, 1) := dk_27 (dk_at dksX3_law_4 22 rfl rfl)
theorem dX3_law_115 : decode cX3_law 115 = .ok (.aload_n 0, 1) := dk_42 (dk_at dksX3_law_4 23 rfl rfl)
theorem dX3_law_116 : decode cX3_law 116 = .ok (.getfield 65, 3) := dk_180 0 65 (dk_at dksX3_law_5 0 rfl rfl)
theorem dX3_law_119 : decode cX3_law 119 = .ok (.iload_n 1, 1) := dk_27 (dk_at dksX3_law_5 3 rfl rfl)
theorem dX3_law_120 : decode cX3_law 120 = .ok (.iaload, 1) := dk_46 (dk_at dksX3_law_5 4 rfl rfl)
theorem dX3_law_121 : decode cX3_law 121 = .ok (.iastore, 1) := dk_79 (dk_at dksX3_law_5 5 rfl rfl)
theorem dX3_law_122 : decode cX3_law 122 = .ok (.aload_n 0, 1) := dk_42 (dk_at dksX3_law_5 6 rfl rfl)
theorem dX3_law_123 : decode cX3_law 123 = .ok (.getfield 53, 3) := dk_180 0 53 (dk_at dksX3_law_5 7 rfl rfl)
theorem dX3_law_126 : decode cX3_law 126 = .ok (.iload_n 1, 1) := dk_27 (dk_at dksX3_law_5 10 rfl rfl)
theorem dX3_law_127 : decode cX3_law 127 = .ok (.aload_n 0, 1) := dk_42 (dk_at dksX3_law_5 11 rfl rfl)
theorem dX3_law_128 : decode cX3_law 128 = .ok (.getfield 68, 3) := dk_180 0 68 (dk_at dksX3_law_5 12 rfl rfl)
theorem dX3_law_131 : decode cX3_law 131 = .ok (.iload_n 1, 1) := dk_27 (dk_at dksX3_law_5 15 rfl rfl)
theorem dX3_law_132 : decode cX3_law 132 = .ok (.iaload, 1) := dk_46 (dk_at dksX3_law_5 16 rfl rfl)
theorem dX3_law_133 : decode cX3_law 133 = .ok (.iastore, 1) := dk_79 (dk_at dksX3_law_5 17 rfl rfl)
theorem dX3_law_134 : decode cX3_law 134 = .ok (.iinc 1 1, 3) := dk_132 1 1 (dk_at dksX3_law_5 18 rfl rfl)
theorem dX3_law_137 : decode cX3_law 137 = .ok (.goto (-59), 3) := dk_167 255 197 (dk_at dksX3_law_5 21 rfl rfl)
theorem dX3_law_140 : decode cX3_law 140 = .ok (.aload_n 0, 1) := dk_42 (dk_at dksX3_law_6 0 rfl rfl)
theorem dX3_law_141 : decode cX3_law 141 = .ok (.getfield 132, 3) := dk_180 0 132 (dk_at dksX3_law_6 1 rfl rfl)
theorem dX3_law_144 : decode cX3_law 144 = .ok (.ireturn, 1) := dk_172 (dk_at dksX3_law_6 4 rfl rfl)
abbrev cX3_readLaw : ByteArray := prog_20_method_13_code
def yX3_readLaw : MethodName := ⟨RX3, "readLaw", "()I"⟩
def dkwX3_readLaw_13 : List UInt8 := [4, 100, 181, 0, 135, 28, 172]
abbrev dktX3_readLaw_13 : List UInt8 := dkwX3_readLaw_13 ++ []
def dkwX3_readLaw_12 : List UInt8 := [182, 0, 142, 42, 180, 0, 68, 28, 42, 182, 0, 145, 79, 42, 16, 41, 182, 0, 142, 42, 89, 180, 0, 135]
abbrev dktX3_readLaw_12 : List UInt8 := dkwX3_readLaw_12 ++ dktX3_readLaw_13
def dkwX3_readLaw_11 : List UInt8 := [96, 181, 0, 135, 42, 180, 0, 65, 28, 42, 182, 0, 145, 79, 21, 4, 154, 0, 19, 42, 16, 44]
abbrev dktX3_readLaw_11 : List UInt8 := dkwX3_readLaw_11 ++ dktX3_readLaw_12
def dkwX3_readLaw_10 : List UInt8 := [167, 0, 4, 3, 182, 0, 138, 167, 0, 4, 3, 79, 42, 16, 40, 182, 0, 142, 42, 89, 180, 0, 135, 4]
abbrev dktX3_readLaw_10 : List UInt8 := dkwX3_readLaw_10 ++ dktX3_readLaw_11
def dkwX3_readLaw_9 : List UInt8 := [180, 0, 62, 28, 29, 153, 0, 27, 42, 27, 16, 107, 159, 0, 9, 27, 16, 120, 160, 0, 7, 4]
abbrev dktX3_readLaw_9 : List UInt8 := dkwX3_readLaw_9 ++ dktX3_readLaw_10
def dkwX3_readLaw_8 : List UInt8 := [96, 181, 0, 129, 42, 180, 0, 59, 28, 27, 79, 42, 89, 180, 0, 115, 4, 96, 181, 0, 115, 42]
abbrev dktX3_readLaw_8 : List UInt8 := dkwX3_readLaw_8 ++ dktX3_readLaw_9
def dkwX3_readLaw_7 : List UInt8 := [180, 0, 135, 16, 6, 160, 0, 13, 42, 42, 180, 0, 115, 182, 0, 125, 3, 172, 42, 89, 180, 0, 129, 4]
abbrev dktX3_readLaw_7 : List UInt8 := dkwX3_readLaw_7 ++ dktX3_readLaw_8
def dkwX3_readLaw_6 : List UInt8 := [167, 0, 4, 3, 54, 4, 29, 154, 0, 14, 21, 4, 154, 0, 9, 27, 16, 116, 160, 0, 12, 42]
abbrev dktX3_readLaw_6 : List UInt8 := dkwX3_readLaw_6 ++ dktX3_readLaw_7
def dkwX3_readLaw_5 : List UInt8 := [159, 0, 21, 27, 16, 100, 159, 0, 15, 27, 16, 114, 159, 0, 9, 27, 16, 109, 160, 0, 7, 4]
abbrev dktX3_readLaw_5 : List UInt8 := dkwX3_readLaw_5 ++ dktX3_readLaw_6
def dkwX3_readLaw_4 : List UInt8 := [159, 0, 15, 27, 16, 120, 159, 0, 9, 27, 16, 115, 160, 0, 7, 4, 167, 0, 4, 3, 62, 27, 16, 115]
abbrev dktX3_readLaw_4 : List UInt8 := dkwX3_readLaw_4 ++ dktX3_readLaw_5
def dkwX3_readLaw_3 : List UInt8 := [79, 42, 89, 180, 0, 115, 4, 96, 181, 0, 115, 28, 172, 27, 16, 107, 159, 0, 21, 27, 16, 99]
abbrev dktX3_readLaw_3 : List UInt8 := dkwX3_readLaw_3 ++ dktX3_readLaw_4
def dkwX3_readLaw_2 : List UInt8 := [180, 0, 129, 4, 96, 181, 0, 129, 42, 89, 180, 0, 132, 4, 96, 181, 0, 132, 42, 180, 0, 59, 28, 27]
abbrev dktX3_readLaw_2 : List UInt8 := dkwX3_readLaw_2 ++ dktX3_readLaw_3
def dkwX3_readLaw_1 : List UInt8 := [159, 0, 21, 27, 16, 102, 159, 0, 15, 27, 16, 98, 159, 0, 9, 27, 16, 104, 160, 0, 42, 42, 89]
abbrev dktX3_readLaw_1 : List UInt8 := dkwX3_readLaw_1 ++ dktX3_readLaw_2
def dkwX3_readLaw_0 : List UInt8 := [42, 180, 0, 118, 155, 0, 5, 3, 172, 42, 182, 0, 121, 60, 42, 180, 0, 129, 61, 27, 16, 105]
abbrev dktX3_readLaw_0 : List UInt8 := dkwX3_readLaw_0 ++ dktX3_readLaw_1
theorem dksX3_readLaw_0 : cX3_readLaw.data.toList.drop 0 = dktX3_readLaw_0 := by decide +kernel
theorem dksX3_readLaw_1 : cX3_readLaw.data.toList.drop 22 = dktX3_readLaw_1 := dk_seg dksX3_readLaw_0 22 rfl rfl
theorem dksX3_readLaw_2 : cX3_readLaw.data.toList.drop 45 = dktX3_readLaw_2 := dk_seg dksX3_readLaw_1 23 rfl rfl
theorem dksX3_readLaw_3 : cX3_readLaw.data.toList.drop 69 = dktX3_readLaw_3 := dk_seg dksX3_readLaw_2 24 rfl rfl
theorem dksX3_readLaw_4 : cX3_readLaw.data.toList.drop 91 = dktX3_readLaw_4 := dk_seg dksX3_readLaw_3 22 rfl rfl
theorem dksX3_readLaw_5 : cX3_readLaw.data.toList.drop 115 = dktX3_readLaw_5 := dk_seg dksX3_readLaw_4 24 rfl rfl
theorem dksX3_readLaw_6 : cX3_readLaw.data.toList.drop 137 = dktX3_readLaw_6 := dk_seg dksX3_readLaw_5 22 rfl rfl
theorem dksX3_readLaw_7 : cX3_readLaw.data.toList.drop 159 = dktX3_readLaw_7 := dk_seg dksX3_readLaw_6 22 rfl rfl
theorem dksX3_readLaw_8 : cX3_readLaw.data.toList.drop 183 = dktX3_readLaw_8 := dk_seg dksX3_readLaw_7 24 rfl rfl
theorem dksX3_readLaw_9 : cX3_readLaw.data.toList.drop 205 = dktX3_readLaw_9 := dk_seg dksX3_readLaw_8 22 rfl rfl
theorem dksX3_readLaw_10 : cX3_readLaw.data.toList.drop 227 = dktX3_readLaw_10 := dk_seg dksX3_readLaw_9 22 rfl rfl
theorem dksX3_readLaw_11 : cX3_readLaw.data.toList.drop 251 = dktX3_readLaw_11 := dk_seg dksX3_readLaw_10 24 rfl rfl
theorem dksX3_readLaw_12 : cX3_readLaw.data.toList.drop 273 = dktX3_readLaw_12 := dk_seg dksX3_readLaw_11 22 rfl rfl
theorem dksX3_readLaw_13 : cX3_readLaw.data.toList.drop 297 = dktX3_readLaw_13 := dk_seg dksX3_readLaw_12 24 rfl rfl
theorem dX3_readLaw_0 : decode cX3_readLaw 0 = .ok (.aload_n 0, 1) := dk_42 (dk_at dksX3_readLaw_0 0 rfl rfl)
theorem dX3_readLaw_1 : decode cX3_readLaw 1 = .ok (.getfield 118, 3) := dk_180 0 118 (dk_at dksX3_readLaw_0 1 rfl rfl)
theorem dX3_readLaw_4 : decode cX3_readLaw 4 = .ok (.ifCond .lt 5, 3) := dk_155 0 5 (dk_at dksX3_readLaw_0 4 rfl rfl)
theorem dX3_readLaw_7 : decode cX3_readLaw 7 = .ok (.iconst 0, 1) := dk_3 (dk_at dksX3_readLaw_0 7 rfl rfl)
theorem dX3_readLaw_8 : decode cX3_readLaw 8 = .ok (.ireturn, 1) := dk_172 (dk_at dksX3_readLaw_0 8 rfl rfl)
theorem dX3_readLaw_9 : decode cX3_readLaw 9 = .ok (.aload_n 0, 1) := dk_42 (dk_at dksX3_readLaw_0 9 rfl rfl)
theorem dX3_readLaw_10 : decode cX3_readLaw 10 = .ok (.invokevirtual 121, 3) := dk_182 0 121 (dk_at dksX3_readLaw_0 10 rfl rfl)
theorem dX3_readLaw_13 : decode cX3_readLaw 13 = .ok (.istore_n 1, 1) := dk_60 (dk_at dksX3_readLaw_0 13 rfl rfl)
theorem dX3_readLaw_14 : decode cX3_readLaw 14 = .ok (.aload_n 0, 1) := dk_42 (dk_at dksX3_readLaw_0 14 rfl rfl)
theorem dX3_readLaw_15 : decode cX3_readLaw 15 = .ok (.getfield 129, 3) := dk_180 0 129 (dk_at dksX3_readLaw_0 15 rfl rfl)
theorem dX3_readLaw_18 : decode cX3_readLaw 18 = .ok (.istore_n 2, 1) := dk_61 (dk_at dksX3_readLaw_0 18 rfl rfl)
theorem dX3_readLaw_19 : decode cX3_readLaw 19 = .ok (.iload_n 1, 1) := dk_27 (dk_at dksX3_readLaw_0 19 rfl rfl)
theorem dX3_readLaw_20 : decode cX3_readLaw 20 = .ok (.bipush 105, 2) := dk_16 105 (dk_at dksX3_readLaw_0 20 rfl rfl)
theorem dX3_readLaw_22 : decode cX3_readLaw 22 = .ok (.if_icmp .eq 21, 3) := dk_159 0 21 (dk_at dksX3_readLaw_1 0 rfl rfl)
theorem dX3_readLaw_25 : decode cX3_readLaw 25 = .ok (.iload_n 1, 1) := dk_27 (dk_at dksX3_readLaw_1 3 rfl rfl)
theorem dX3_readLaw_26 : decode cX3_readLaw 26 = .ok (.bipush 102, 2) := dk_16 102 (dk_at dksX3_readLaw_1 4 rfl rfl)
theorem dX3_readLaw_28 : decode cX3_readLaw 28 = .ok (.if_icmp .eq 15, 3) := dk_159 0 15 (dk_at dksX3_readLaw_1 6 rfl rfl)
theorem dX3_readLaw_31 : decode cX3_readLaw 31 = .ok (.iload_n 1, 1) := dk_27 (dk_at dksX3_readLaw_1 9 rfl rfl)
theorem dX3_readLaw_32 : decode cX3_readLaw 32 = .ok (.bipush 98, 2) := dk_16 98 (dk_at dksX3_readLaw_1 10 rfl rfl)
theorem dX3_readLaw_34 : decode cX3_readLaw 34 = .ok (.if_icmp .eq 9, 3) := dk_159 0 9 (dk_at dksX3_readLaw_1 12 rfl rfl)
theorem dX3_readLaw_37 : decode cX3_readLaw 37 = .ok (.iload_n 1, 1) := dk_27 (dk_at dksX3_readLaw_1 15 rfl rfl)
theorem dX3_readLaw_38 : decode cX3_readLaw 38 = .ok (.bipush 104, 2) := dk_16 104 (dk_at dksX3_readLaw_1 16 rfl rfl)
theorem dX3_readLaw_40 : decode cX3_readLaw 40 = .ok (.if_icmp .ne 42, 3) := dk_160 0 42 (dk_at dksX3_readLaw_1 18 rfl rfl)
theorem dX3_readLaw_43 : decode cX3_readLaw 43 = .ok (.aload_n 0, 1) := dk_42 (dk_at dksX3_readLaw_1 21 rfl rfl)
theorem dX3_readLaw_44 : decode cX3_readLaw 44 = .ok (.dup, 1) := dk_89 (dk_at dksX3_readLaw_1 22 rfl rfl)
theorem dX3_readLaw_45 : decode cX3_readLaw 45 = .ok (.getfield 129, 3) := dk_180 0 129 (dk_at dksX3_readLaw_2 0 rfl rfl)
theorem dX3_readLaw_48 : decode cX3_readLaw 48 = .ok (.iconst 1, 1) := dk_4 (dk_at dksX3_readLaw_2 3 rfl rfl)
theorem dX3_readLaw_49 : decode cX3_readLaw 49 = .ok (.iadd, 1) := dk_96 (dk_at dksX3_readLaw_2 4 rfl rfl)
theorem dX3_readLaw_50 : decode cX3_readLaw 50 = .ok (.putfield 129, 3) := dk_181 0 129 (dk_at dksX3_readLaw_2 5 rfl rfl)
theorem dX3_readLaw_53 : decode cX3_readLaw 53 = .ok (.aload_n 0, 1) := dk_42 (dk_at dksX3_readLaw_2 8 rfl rfl)
theorem dX3_readLaw_54 : decode cX3_readLaw 54 = .ok (.dup, 1) := dk_89 (dk_at dksX3_readLaw_2 9 rfl rfl)
theorem dX3_readLaw_55 : decode cX3_readLaw 55 = .ok (.getfield 132, 3) := dk_180 0 132 (dk_at dksX3_readLaw_2 10 rfl rfl)
theorem dX3_readLaw_58 : decode cX3_readLaw 58 = .ok (.iconst 1, 1) := dk_4 (dk_at dksX3_readLaw_2 13 rfl rfl)
theorem dX3_readLaw_59 : decode cX3_readLaw 59 = .ok (.iadd, 1) := dk_96 (dk_at dksX3_readLaw_2 14 rfl rfl)
theorem dX3_readLaw_60 : decode cX3_readLaw 60 = .ok (.putfield 132, 3) := dk_181 0 132 (dk_at dksX3_readLaw_2 15 rfl rfl)
theorem dX3_readLaw_63 : decode cX3_readLaw 63 = .ok (.aload_n 0, 1) := dk_42 (dk_at dksX3_readLaw_2 18 rfl rfl)
theorem dX3_readLaw_64 : decode cX3_readLaw 64 = .ok (.getfield 59, 3) := dk_180 0 59 (dk_at dksX3_readLaw_2 19 rfl rfl)
theorem dX3_readLaw_67 : decode cX3_readLaw 67 = .ok (.iload_n 2, 1) := dk_28 (dk_at dksX3_readLaw_2 22 rfl rfl)
theorem dX3_readLaw_68 : decode cX3_readLaw 68 = .ok (.iload_n 1, 1) := dk_27 (dk_at dksX3_readLaw_2 23 rfl rfl)
theorem dX3_readLaw_69 : decode cX3_readLaw 69 = .ok (.iastore, 1) := dk_79 (dk_at dksX3_readLaw_3 0 rfl rfl)
theorem dX3_readLaw_70 : decode cX3_readLaw 70 = .ok (.aload_n 0, 1) := dk_42 (dk_at dksX3_readLaw_3 1 rfl rfl)
theorem dX3_readLaw_71 : decode cX3_readLaw 71 = .ok (.dup, 1) := dk_89 (dk_at dksX3_readLaw_3 2 rfl rfl)
theorem dX3_readLaw_72 : decode cX3_readLaw 72 = .ok (.getfield 115, 3) := dk_180 0 115 (dk_at dksX3_readLaw_3 3 rfl rfl)
theorem dX3_readLaw_75 : decode cX3_readLaw 75 = .ok (.iconst 1, 1) := dk_4 (dk_at dksX3_readLaw_3 6 rfl rfl)
theorem dX3_readLaw_76 : decode cX3_readLaw 76 = .ok (.iadd, 1) := dk_96 (dk_at dksX3_readLaw_3 7 rfl rfl)
theorem dX3_readLaw_77 : decode cX3_readLaw 77 = .ok (.putfield 115, 3) := dk_181 0 115 (dk_at dksX3_readLaw_3 8 rfl rfl)
theorem dX3_readLaw_80 : decode cX3_readLaw 80 = .ok (.iload_n 2, 1) := dk_28 (dk_at dksX3_readLaw_3 11 rfl rfl)
theorem dX3_readLaw_81 : decode cX3_readLaw 81 = .ok (.ireturn, 1) := dk_172 (dk_at dksX3_readLaw_3 12 rfl rfl)
theorem dX3_readLaw_82 : decode cX3_readLaw 82 = .ok (.iload_n 1, 1) := dk_27 (dk_at dksX3_readLaw_3 13 rfl rfl)
theorem dX3_readLaw_83 : decode cX3_readLaw 83 = .ok (.bipush 107, 2) := dk_16 107 (dk_at dksX3_readLaw_3 14 rfl rfl)
theorem dX3_readLaw_85 : decode cX3_readLaw 85 = .ok (.if_icmp .eq 21, 3) := dk_159 0 21 (dk_at dksX3_readLaw_3 16 rfl rfl)
theorem dX3_readLaw_88 : decode cX3_readLaw 88 = .ok (.iload_n 1, 1) := dk_27 (dk_at dksX3_readLaw_3 19 rfl rfl)
theorem dX3_readLaw_89 : decode cX3_readLaw 89 = .ok (.bipush 99, 2) := dk_16 99 (dk_at dksX3_readLaw_3 20 rfl rfl)
theorem dX3_readLaw_91 : decode cX3_readLaw 91 = .ok (.if_icmp .eq 15, 3) := dk_159 0 15 (dk_at dksX3_readLaw_4 0 rfl rfl)
theorem dX3_readLaw_94 : decode cX3_readLaw 94 = .ok (.iload_n 1, 1) := dk_27 (dk_at dksX3_readLaw_4 3 rfl rfl)
theorem dX3_readLaw_95 : decode cX3_readLaw 95 = .ok (.bipush 120, 2) := dk_16 120 (dk_at dksX3_readLaw_4 4 rfl rfl)
theorem dX3_readLaw_97 : decode cX3_readLaw 97 = .ok (.if_icmp .eq 9, 3) := dk_159 0 9 (dk_at dksX3_readLaw_4 6 rfl rfl)
theorem dX3_readLaw_100 : decode cX3_readLaw 100 = .ok (.iload_n 1, 1) := dk_27 (dk_at dksX3_readLaw_4 9 rfl rfl)
theorem dX3_readLaw_101 : decode cX3_readLaw 101 = .ok (.bipush 115, 2) := dk_16 115 (dk_at dksX3_readLaw_4 10 rfl rfl)
theorem dX3_readLaw_103 : decode cX3_readLaw 103 = .ok (.if_icmp .ne 7, 3) := dk_160 0 7 (dk_at dksX3_readLaw_4 12 rfl rfl)
theorem dX3_readLaw_106 : decode cX3_readLaw 106 = .ok (.iconst 1, 1) := dk_4 (dk_at dksX3_readLaw_4 15 rfl rfl)
theorem dX3_readLaw_107 : decode cX3_readLaw 107 = .ok (.goto 4, 3) := dk_167 0 4 (dk_at dksX3_readLaw_4 16 rfl rfl)
theorem dX3_readLaw_110 : decode cX3_readLaw 110 = .ok (.iconst 0, 1) := dk_3 (dk_at dksX3_readLaw_4 19 rfl rfl)
theorem dX3_readLaw_111 : decode cX3_readLaw 111 = .ok (.istore_n 3, 1) := dk_62 (dk_at dksX3_readLaw_4 20 rfl rfl)
theorem dX3_readLaw_112 : decode cX3_readLaw 112 = .ok (.iload_n 1, 1) := dk_27 (dk_at dksX3_readLaw_4 21 rfl rfl)
theorem dX3_readLaw_113 : decode cX3_readLaw 113 = .ok (.bipush 115, 2) := dk_16 115 (dk_at dksX3_readLaw_4 22 rfl rfl)
theorem dX3_readLaw_115 : decode cX3_readLaw 115 = .ok (.if_icmp .eq 21, 3) := dk_159 0 21 (dk_at dksX3_readLaw_5 0 rfl rfl)
theorem dX3_readLaw_118 : decode cX3_readLaw 118 = .ok (.iload_n 1, 1) := dk_27 (dk_at dksX3_readLaw_5 3 rfl rfl)
theorem dX3_readLaw_119 : decode cX3_readLaw 119 = .ok (.bipush 100, 2) := dk_16 100 (dk_at dksX3_readLaw_5 4 rfl rfl)
theorem dX3_readLaw_121 : decode cX3_readLaw 121 = .ok (.if_icmp .eq 15, 3) := dk_159 0 15 (dk_at dksX3_readLaw_5 6 rfl rfl)
theorem dX3_readLaw_124 : decode cX3_readLaw 124 = .ok (.iload_n 1, 1) := dk_27 (dk_at dksX3_readLaw_5 9 rfl rfl)
theorem dX3_readLaw_125 : decode cX3_readLaw 125 = .ok (.bipush 114, 2) := dk_16 114 (dk_at dksX3_readLaw_5 10 rfl rfl)
theorem dX3_readLaw_127 : decode cX3_readLaw 127 = .ok (.if_icmp .eq 9, 3) := dk_159 0 9 (dk_at dksX3_readLaw_5 12 rfl rfl)
theorem dX3_readLaw_130 : decode cX3_readLaw 130 = .ok (.iload_n 1, 1) := dk_27 (dk_at dksX3_readLaw_5 15 rfl rfl)
theorem dX3_readLaw_131 : decode cX3_readLaw 131 = .ok (.bipush 109, 2) := dk_16 109 (dk_at dksX3_readLaw_5 16 rfl rfl)
theorem dX3_readLaw_133 : decode cX3_readLaw 133 = .ok (.if_icmp .ne 7, 3) := dk_160 0 7 (dk_at dksX3_readLaw_5 18 rfl rfl)
theorem dX3_readLaw_136 : decode cX3_readLaw 136 = .ok (.iconst 1, 1) := dk_4 (dk_at dksX3_readLaw_5 21 rfl rfl)
theorem dX3_readLaw_137 : decode cX3_readLaw 137 = .ok (.goto 4, 3) := dk_167 0 4 (dk_at dksX3_readLaw_6 0 rfl rfl)
theorem dX3_readLaw_140 : decode cX3_readLaw 140 = .ok (.iconst 0, 1) := dk_3 (dk_at dksX3_readLaw_6 3 rfl rfl)
theorem dX3_readLaw_141 : decode cX3_readLaw 141 = .ok (.istore 4, 2) := dk_54 4 (dk_at dksX3_readLaw_6 4 rfl rfl)
theorem dX3_readLaw_143 : decode cX3_readLaw 143 = .ok (.iload_n 3, 1) := dk_29 (dk_at dksX3_readLaw_6 6 rfl rfl)
theorem dX3_readLaw_144 : decode cX3_readLaw 144 = .ok (.ifCond .ne 14, 3) := dk_154 0 14 (dk_at dksX3_readLaw_6 7 rfl rfl)
theorem dX3_readLaw_147 : decode cX3_readLaw 147 = .ok (.iload 4, 2) := dk_21 4 (dk_at dksX3_readLaw_6 10 rfl rfl)
theorem dX3_readLaw_149 : decode cX3_readLaw 149 = .ok (.ifCond .ne 9, 3) := dk_154 0 9 (dk_at dksX3_readLaw_6 12 rfl rfl)
theorem dX3_readLaw_152 : decode cX3_readLaw 152 = .ok (.iload_n 1, 1) := dk_27 (dk_at dksX3_readLaw_6 15 rfl rfl)
theorem dX3_readLaw_153 : decode cX3_readLaw 153 = .ok (.bipush 116, 2) := dk_16 116 (dk_at dksX3_readLaw_6 16 rfl rfl)
theorem dX3_readLaw_155 : decode cX3_readLaw 155 = .ok (.if_icmp .ne 12, 3) := dk_160 0 12 (dk_at dksX3_readLaw_6 18 rfl rfl)
theorem dX3_readLaw_158 : decode cX3_readLaw 158 = .ok (.aload_n 0, 1) := dk_42 (dk_at dksX3_readLaw_6 21 rfl rfl)
theorem dX3_readLaw_159 : decode cX3_readLaw 159 = .ok (.getfield 135, 3) := dk_180 0 135 (dk_at dksX3_readLaw_7 0 rfl rfl)
theorem dX3_readLaw_162 : decode cX3_readLaw 162 = .ok (.bipush 6, 2) := dk_16 6 (dk_at dksX3_readLaw_7 3 rfl rfl)
theorem dX3_readLaw_164 : decode cX3_readLaw 164 = .ok (.if_icmp .ne 13, 3) := dk_160 0 13 (dk_at dksX3_readLaw_7 5 rfl rfl)
theorem dX3_readLaw_167 : decode cX3_readLaw 167 = .ok (.aload_n 0, 1) := dk_42 (dk_at dksX3_readLaw_7 8 rfl rfl)
theorem dX3_readLaw_168 : decode cX3_readLaw 168 = .ok (.aload_n 0, 1) := dk_42 (dk_at dksX3_readLaw_7 9 rfl rfl)
theorem dX3_readLaw_169 : decode cX3_readLaw 169 = .ok (.getfield 115, 3) := dk_180 0 115 (dk_at dksX3_readLaw_7 10 rfl rfl)
theorem dX3_readLaw_172 : decode cX3_readLaw 172 = .ok (.invokevirtual 125, 3) := dk_182 0 125 (dk_at dksX3_readLaw_7 13 rfl rfl)
theorem dX3_readLaw_175 : decode cX3_readLaw 175 = .ok (.iconst 0, 1) := dk_3 (dk_at dksX3_readLaw_7 16 rfl rfl)
theorem dX3_readLaw_176 : decode cX3_readLaw 176 = .ok (.ireturn, 1) := dk_172 (dk_at dksX3_readLaw_7 17 rfl rfl)
theorem dX3_readLaw_177 : decode cX3_readLaw 177 = .ok (.aload_n 0, 1) := dk_42 (dk_at dksX3_readLaw_7 18 rfl rfl)
theorem dX3_readLaw_178 : decode cX3_readLaw 178 = .ok (.dup, 1) := dk_89 (dk_at dksX3_readLaw_7 19 rfl rfl)
theorem dX3_readLaw_179 : decode cX3_readLaw 179 = .ok (.getfield 129, 3) := dk_180 0 129 (dk_at dksX3_readLaw_7 20 rfl rfl)
theorem dX3_readLaw_182 : decode cX3_readLaw 182 = .ok (.iconst 1, 1) := dk_4 (dk_at dksX3_readLaw_7 23 rfl rfl)
theorem dX3_readLaw_183 : decode cX3_readLaw 183 = .ok (.iadd, 1) := dk_96 (dk_at dksX3_readLaw_8 0 rfl rfl)
theorem dX3_readLaw_184 : decode cX3_readLaw 184 = .ok (.putfield 129, 3) := dk_181 0 129 (dk_at dksX3_readLaw_8 1 rfl rfl)
theorem dX3_readLaw_187 : decode cX3_readLaw 187 = .ok (.aload_n 0, 1) := dk_42 (dk_at dksX3_readLaw_8 4 rfl rfl)
theorem dX3_readLaw_188 : decode cX3_readLaw 188 = .ok (.getfield 59, 3) := dk_180 0 59 (dk_at dksX3_readLaw_8 5 rfl rfl)
theorem dX3_readLaw_191 : decode cX3_readLaw 191 = .ok (.iload_n 2, 1) := dk_28 (dk_at dksX3_readLaw_8 8 rfl rfl)
theorem dX3_readLaw_192 : decode cX3_readLaw 192 = .ok (.iload_n 1, 1) := dk_27 (dk_at dksX3_readLaw_8 9 rfl rfl)
theorem dX3_readLaw_193 : decode cX3_readLaw 193 = .ok (.iastore, 1) := dk_79 (dk_at dksX3_readLaw_8 10 rfl rfl)
theorem dX3_readLaw_194 : decode cX3_readLaw 194 = .ok (.aload_n 0, 1) := dk_42 (dk_at dksX3_readLaw_8 11 rfl rfl)
theorem dX3_readLaw_195 : decode cX3_readLaw 195 = .ok (.dup, 1) := dk_89 (dk_at dksX3_readLaw_8 12 rfl rfl)
theorem dX3_readLaw_196 : decode cX3_readLaw 196 = .ok (.getfield 115, 3) := dk_180 0 115 (dk_at dksX3_readLaw_8 13 rfl rfl)
theorem dX3_readLaw_199 : decode cX3_readLaw 199 = .ok (.iconst 1, 1) := dk_4 (dk_at dksX3_readLaw_8 16 rfl rfl)
theorem dX3_readLaw_200 : decode cX3_readLaw 200 = .ok (.iadd, 1) := dk_96 (dk_at dksX3_readLaw_8 17 rfl rfl)
theorem dX3_readLaw_201 : decode cX3_readLaw 201 = .ok (.putfield 115, 3) := dk_181 0 115 (dk_at dksX3_readLaw_8 18 rfl rfl)
theorem dX3_readLaw_204 : decode cX3_readLaw 204 = .ok (.aload_n 0, 1) := dk_42 (dk_at dksX3_readLaw_8 21 rfl rfl)
theorem dX3_readLaw_205 : decode cX3_readLaw 205 = .ok (.getfield 62, 3) := dk_180 0 62 (dk_at dksX3_readLaw_9 0 rfl rfl)
theorem dX3_readLaw_208 : decode cX3_readLaw 208 = .ok (.iload_n 2, 1) := dk_28 (dk_at dksX3_readLaw_9 3 rfl rfl)
theorem dX3_readLaw_209 : decode cX3_readLaw 209 = .ok (.iload_n 3, 1) := dk_29 (dk_at dksX3_readLaw_9 4 rfl rfl)
theorem dX3_readLaw_210 : decode cX3_readLaw 210 = .ok (.ifCond .eq 27, 3) := dk_153 0 27 (dk_at dksX3_readLaw_9 5 rfl rfl)
theorem dX3_readLaw_213 : decode cX3_readLaw 213 = .ok (.aload_n 0, 1) := dk_42 (dk_at dksX3_readLaw_9 8 rfl rfl)
theorem dX3_readLaw_214 : decode cX3_readLaw 214 = .ok (.iload_n 1, 1) := dk_27 (dk_at dksX3_readLaw_9 9 rfl rfl)
theorem dX3_readLaw_215 : decode cX3_readLaw 215 = .ok (.bipush 107, 2) := dk_16 107 (dk_at dksX3_readLaw_9 10 rfl rfl)
theorem dX3_readLaw_217 : decode cX3_readLaw 217 = .ok (.if_icmp .eq 9, 3) := dk_159 0 9 (dk_at dksX3_readLaw_9 12 rfl rfl)
theorem dX3_readLaw_220 : decode cX3_readLaw 220 = .ok (.iload_n 1, 1) := dk_27 (dk_at dksX3_readLaw_9 15 rfl rfl)
theorem dX3_readLaw_221 : decode cX3_readLaw 221 = .ok (.bipush 120, 2) := dk_16 120 (dk_at dksX3_readLaw_9 16 rfl rfl)
theorem dX3_readLaw_223 : decode cX3_readLaw 223 = .ok (.if_icmp .ne 7, 3) := dk_160 0 7 (dk_at dksX3_readLaw_9 18 rfl rfl)
theorem dX3_readLaw_226 : decode cX3_readLaw 226 = .ok (.iconst 1, 1) := dk_4 (dk_at dksX3_readLaw_9 21 rfl rfl)
theorem dX3_readLaw_227 : decode cX3_readLaw 227 = .ok (.goto 4, 3) := dk_167 0 4 (dk_at dksX3_readLaw_10 0 rfl rfl)
theorem dX3_readLaw_230 : decode cX3_readLaw 230 = .ok (.iconst 0, 1) := dk_3 (dk_at dksX3_readLaw_10 3 rfl rfl)
theorem dX3_readLaw_231 : decode cX3_readLaw 231 = .ok (.invokevirtual 138, 3) := dk_182 0 138 (dk_at dksX3_readLaw_10 4 rfl rfl)
theorem dX3_readLaw_234 : decode cX3_readLaw 234 = .ok (.goto 4, 3) := dk_167 0 4 (dk_at dksX3_readLaw_10 7 rfl rfl)
theorem dX3_readLaw_237 : decode cX3_readLaw 237 = .ok (.iconst 0, 1) := dk_3 (dk_at dksX3_readLaw_10 10 rfl rfl)
theorem dX3_readLaw_238 : decode cX3_readLaw 238 = .ok (.iastore, 1) := dk_79 (dk_at dksX3_readLaw_10 11 rfl rfl)
theorem dX3_readLaw_239 : decode cX3_readLaw 239 = .ok (.aload_n 0, 1) := dk_42 (dk_at dksX3_readLaw_10 12 rfl rfl)
theorem dX3_readLaw_240 : decode cX3_readLaw 240 = .ok (.bipush 40, 2) := dk_16 40 (dk_at dksX3_readLaw_10 13 rfl rfl)
theorem dX3_readLaw_242 : decode cX3_readLaw 242 = .ok (.invokevirtual 142, 3) := dk_182 0 142 (dk_at dksX3_readLaw_10 15 rfl rfl)
theorem dX3_readLaw_245 : decode cX3_readLaw 245 = .ok (.aload_n 0, 1) := dk_42 (dk_at dksX3_readLaw_10 18 rfl rfl)
theorem dX3_readLaw_246 : decode cX3_readLaw 246 = .ok (.dup, 1) := dk_89 (dk_at dksX3_readLaw_10 19 rfl rfl)
theorem dX3_readLaw_247 : decode cX3_readLaw 247 = .ok (.getfield 135, 3) := dk_180 0 135 (dk_at dksX3_readLaw_10 20 rfl rfl)
theorem dX3_readLaw_250 : decode cX3_readLaw 250 = .ok (.iconst 1, 1) := dk_4 (dk_at dksX3_readLaw_10 23 rfl rfl)
theorem dX3_readLaw_251 : decode cX3_readLaw 251 = .ok (.iadd, 1) := dk_96 (dk_at dksX3_readLaw_11 0 rfl rfl)
theorem dX3_readLaw_252 : decode cX3_readLaw 252 = .ok (.putfield 135, 3) := dk_181 0 135 (dk_at dksX3_readLaw_11 1 rfl rfl)
theorem dX3_readLaw_255 : decode cX3_readLaw 255 = .ok (.aload_n 0, 1) := dk_42 (dk_at dksX3_readLaw_11 4 rfl rfl)
theorem dX3_readLaw_256 : decode cX3_readLaw 256 = .ok (.getfield 65, 3) := dk_180 0 65 (dk_at dksX3_readLaw_11 5 rfl rfl)
theorem dX3_readLaw_259 : decode cX3_readLaw 259 = .ok (.iload_n 2, 1) := dk_28 (dk_at dksX3_readLaw_11 8 rfl rfl)
theorem dX3_readLaw_260 : decode cX3_readLaw 260 = .ok (.aload_n 0, 1) := dk_42 (dk_at dksX3_readLaw_11 9 rfl rfl)
theorem dX3_readLaw_261 : decode cX3_readLaw 261 = .ok (.invokevirtual 145, 3) := dk_182 0 145 (dk_at dksX3_readLaw_11 10 rfl rfl)
theorem dX3_readLaw_264 : decode cX3_readLaw 264 = .ok (.iastore, 1) := dk_79 (dk_at dksX3_readLaw_11 13 rfl rfl)
theorem dX3_readLaw_265 : decode cX3_readLaw 265 = .ok (.iload 4, 2) := dk_21 4 (dk_at dksX3_readLaw_11 14 rfl rfl)
theorem dX3_readLaw_267 : decode cX3_readLaw 267 = .ok (.ifCond .ne 19, 3) := dk_154 0 19 (dk_at dksX3_readLaw_11 16 rfl rfl)
theorem dX3_readLaw_270 : decode cX3_readLaw 270 = .ok (.aload_n 0, 1) := dk_42 (dk_at dksX3_readLaw_11 19 rfl rfl)
theorem dX3_readLaw_271 : decode cX3_readLaw 271 = .ok (.bipush 44, 2) := dk_16 44 (dk_at dksX3_readLaw_11 20 rfl rfl)
theorem dX3_readLaw_273 : decode cX3_readLaw 273 = .ok (.invokevirtual 142, 3) := dk_182 0 142 (dk_at dksX3_readLaw_12 0 rfl rfl)
theorem dX3_readLaw_276 : decode cX3_readLaw 276 = .ok (.aload_n 0, 1) := dk_42 (dk_at dksX3_readLaw_12 3 rfl rfl)
theorem dX3_readLaw_277 : decode cX3_readLaw 277 = .ok (.getfield 68, 3) := dk_180 0 68 (dk_at dksX3_readLaw_12 4 rfl rfl)
theorem dX3_readLaw_280 : decode cX3_readLaw 280 = .ok (.iload_n 2, 1) := dk_28 (dk_at dksX3_readLaw_12 7 rfl rfl)
theorem dX3_readLaw_281 : decode cX3_readLaw 281 = .ok (.aload_n 0, 1) := dk_42 (dk_at dksX3_readLaw_12 8 rfl rfl)
theorem dX3_readLaw_282 : decode cX3_readLaw 282 = .ok (.invokevirtual 145, 3) := dk_182 0 145 (dk_at dksX3_readLaw_12 9 rfl rfl)
theorem dX3_readLaw_285 : decode cX3_readLaw 285 = .ok (.iastore, 1) := dk_79 (dk_at dksX3_readLaw_12 12 rfl rfl)
theorem dX3_readLaw_286 : decode cX3_readLaw 286 = .ok (.aload_n 0, 1) := dk_42 (dk_at dksX3_readLaw_12 13 rfl rfl)
theorem dX3_readLaw_287 : decode cX3_readLaw 287 = .ok (.bipush 41, 2) := dk_16 41 (dk_at dksX3_readLaw_12 14 rfl rfl)
theorem dX3_readLaw_289 : decode cX3_readLaw 289 = .ok (.invokevirtual 142, 3) := dk_182 0 142 (dk_at dksX3_readLaw_12 16 rfl rfl)
theorem dX3_readLaw_292 : decode cX3_readLaw 292 = .ok (.aload_n 0, 1) := dk_42 (dk_at dksX3_readLaw_12 19 rfl rfl)
theorem dX3_readLaw_293 : decode cX3_readLaw 293 = .ok (.dup, 1) := dk_89 (dk_at dksX3_readLaw_12 20 rfl rfl)
theorem dX3_readLaw_294 : decode cX3_readLaw 294 = .ok (.getfield 135, 3) := dk_180 0 135 (dk_at dksX3_readLaw_12 21 rfl rfl)
theorem dX3_readLaw_297 : decode cX3_readLaw 297 = .ok (.iconst 1, 1) := dk_4 (dk_at dksX3_readLaw_13 0 rfl rfl)
theorem dX3_readLaw_298 : decode cX3_readLaw 298 = .ok (.isub, 1) := dk_100 (dk_at dksX3_readLaw_13 1 rfl rfl)
theorem dX3_readLaw_299 : decode cX3_readLaw 299 = .ok (.putfield 135, 3) := dk_181 0 135 (dk_at dksX3_readLaw_13 2 rfl rfl)
theorem dX3_readLaw_302 : decode cX3_readLaw 302 = .ok (.iload_n 2, 1) := dk_28 (dk_at dksX3_readLaw_13 5 rfl rfl)
theorem dX3_readLaw_303 : decode cX3_readLaw 303 = .ok (.ireturn, 1) := dk_172 (dk_at dksX3_readLaw_13 6 rfl rfl)
abbrev cX3_here : ByteArray := prog_20_method_9_code
def yX3_here : MethodName := ⟨RX3, "here", "()I"⟩
def dkwX3_here_1 : List UInt8 := [172]
abbrev dktX3_here_1 : List UInt8 := dkwX3_here_1 ++ []
def dkwX3_here_0 : List UInt8 := [42, 180, 0, 115, 42, 180, 0, 112, 162, 0, 15, 42, 180, 0, 56, 42, 180, 0, 115, 46, 167, 0, 4, 2]
abbrev dktX3_here_0 : List UInt8 := dkwX3_here_0 ++ dktX3_here_1
theorem dksX3_here_0 : cX3_here.data.toList.drop 0 = dktX3_here_0 := by decide +kernel
theorem dksX3_here_1 : cX3_here.data.toList.drop 24 = dktX3_here_1 := dk_seg dksX3_here_0 24 rfl rfl
theorem dX3_here_0 : decode cX3_here 0 = .ok (.aload_n 0, 1) := dk_42 (dk_at dksX3_here_0 0 rfl rfl)
theorem dX3_here_1 : decode cX3_here 1 = .ok (.getfield 115, 3) := dk_180 0 115 (dk_at dksX3_here_0 1 rfl rfl)
theorem dX3_here_4 : decode cX3_here 4 = .ok (.aload_n 0, 1) := dk_42 (dk_at dksX3_here_0 4 rfl rfl)
theorem dX3_here_5 : decode cX3_here 5 = .ok (.getfield 112, 3) := dk_180 0 112 (dk_at dksX3_here_0 5 rfl rfl)
theorem dX3_here_8 : decode cX3_here 8 = .ok (.if_icmp .ge 15, 3) := dk_162 0 15 (dk_at dksX3_here_0 8 rfl rfl)
theorem dX3_here_11 : decode cX3_here 11 = .ok (.aload_n 0, 1) := dk_42 (dk_at dksX3_here_0 11 rfl rfl)
theorem dX3_here_12 : decode cX3_here 12 = .ok (.getfield 56, 3) := dk_180 0 56 (dk_at dksX3_here_0 12 rfl rfl)
theorem dX3_here_15 : decode cX3_here 15 = .ok (.aload_n 0, 1) := dk_42 (dk_at dksX3_here_0 15 rfl rfl)
theorem dX3_here_16 : decode cX3_here 16 = .ok (.getfield 115, 3) := dk_180 0 115 (dk_at dksX3_here_0 16 rfl rfl)
theorem dX3_here_19 : decode cX3_here 19 = .ok (.iaload, 1) := dk_46 (dk_at dksX3_here_0 19 rfl rfl)
theorem dX3_here_20 : decode cX3_here 20 = .ok (.goto 4, 3) := dk_167 0 4 (dk_at dksX3_here_0 20 rfl rfl)
theorem dX3_here_23 : decode cX3_here 23 = .ok (.iconst (-1), 1) := dk_2 (dk_at dksX3_here_0 23 rfl rfl)
theorem dX3_here_24 : decode cX3_here 24 = .ok (.ireturn, 1) := dk_172 (dk_at dksX3_here_1 0 rfl rfl)
abbrev cX3_wrong : ByteArray := prog_20_method_10_code
def yX3_wrong : MethodName := ⟨RX3, "wrong", "(I)V"⟩
def dkwX3_wrong_0 : List UInt8 := [42, 180, 0, 118, 156, 0, 8, 42, 27, 181, 0, 118, 177]
abbrev dktX3_wrong_0 : List UInt8 := dkwX3_wrong_0 ++ []
theorem dksX3_wrong_0 : cX3_wrong.data.toList.drop 0 = dktX3_wrong_0 := by decide +kernel
theorem dX3_wrong_0 : decode cX3_wrong 0 = .ok (.aload_n 0, 1) := dk_42 (dk_at dksX3_wrong_0 0 rfl rfl)
theorem dX3_wrong_1 : decode cX3_wrong 1 = .ok (.getfield 118, 3) := dk_180 0 118 (dk_at dksX3_wrong_0 1 rfl rfl)
theorem dX3_wrong_4 : decode cX3_wrong 4 = .ok (.ifCond .ge 8, 3) := dk_156 0 8 (dk_at dksX3_wrong_0 4 rfl rfl)
theorem dX3_wrong_7 : decode cX3_wrong 7 = .ok (.aload_n 0, 1) := dk_42 (dk_at dksX3_wrong_0 7 rfl rfl)
theorem dX3_wrong_8 : decode cX3_wrong 8 = .ok (.iload_n 1, 1) := dk_27 (dk_at dksX3_wrong_0 8 rfl rfl)
theorem dX3_wrong_9 : decode cX3_wrong 9 = .ok (.putfield 118, 3) := dk_181 0 118 (dk_at dksX3_wrong_0 9 rfl rfl)
theorem dX3_wrong_12 : decode cX3_wrong 12 = .ok (.return_, 1) := dk_177 (dk_at dksX3_wrong_0 12 rfl rfl)
abbrev cX3_readNumber : ByteArray := prog_20_method_12_code
def yX3_readNumber : MethodName := ⟨RX3, "readNumber", "(I)I"⟩
def dkwX3_readNumber_3 : List UInt8 := [42, 28, 182, 0, 125, 29, 172]
abbrev dktX3_readNumber_3 : List UInt8 := dkwX3_readNumber_3 ++ []
def dkwX3_readNumber_2 : List UInt8 := [180, 0, 115, 4, 96, 181, 0, 115, 167, 255, 209, 42, 180, 0, 115, 28, 159, 0, 8, 29, 27, 162, 0, 8]
abbrev dktX3_readNumber_2 : List UInt8 := dkwX3_readNumber_2 ++ dktX3_readNumber_3
def dkwX3_readNumber_1 : List UInt8 := [16, 57, 184, 0, 108, 153, 0, 29, 16, 10, 29, 104, 42, 182, 0, 121, 96, 16, 48, 100, 62, 42, 89]
abbrev dktX3_readNumber_1 : List UInt8 := dkwX3_readNumber_1 ++ dktX3_readNumber_2
def dkwX3_readNumber_0 : List UInt8 := [42, 180, 0, 115, 61, 3, 62, 42, 180, 0, 115, 28, 5, 96, 162, 0, 43, 42, 182, 0, 121, 16, 48]
abbrev dktX3_readNumber_0 : List UInt8 := dkwX3_readNumber_0 ++ dktX3_readNumber_1
theorem dksX3_readNumber_0 : cX3_readNumber.data.toList.drop 0 = dktX3_readNumber_0 := by decide +kernel
theorem dksX3_readNumber_1 : cX3_readNumber.data.toList.drop 23 = dktX3_readNumber_1 := dk_seg dksX3_readNumber_0 23 rfl rfl
theorem dksX3_readNumber_2 : cX3_readNumber.data.toList.drop 46 = dktX3_readNumber_2 := dk_seg dksX3_readNumber_1 23 rfl rfl
theorem dksX3_readNumber_3 : cX3_readNumber.data.toList.drop 70 = dktX3_readNumber_3 := dk_seg dksX3_readNumber_2 24 rfl rfl
theorem dX3_readNumber_0 : decode cX3_readNumber 0 = .ok (.aload_n 0, 1) := dk_42 (dk_at dksX3_readNumber_0 0 rfl rfl)
theorem dX3_readNumber_1 : decode cX3_readNumber 1 = .ok (.getfield 115, 3) := dk_180 0 115 (dk_at dksX3_readNumber_0 1 rfl rfl)
theorem dX3_readNumber_4 : decode cX3_readNumber 4 = .ok (.istore_n 2, 1) := dk_61 (dk_at dksX3_readNumber_0 4 rfl rfl)
theorem dX3_readNumber_5 : decode cX3_readNumber 5 = .ok (.iconst 0, 1) := dk_3 (dk_at dksX3_readNumber_0 5 rfl rfl)
theorem dX3_readNumber_6 : decode cX3_readNumber 6 = .ok (.istore_n 3, 1) := dk_62 (dk_at dksX3_readNumber_0 6 rfl rfl)
theorem dX3_readNumber_7 : decode cX3_readNumber 7 = .ok (.aload_n 0, 1) := dk_42 (dk_at dksX3_readNumber_0 7 rfl rfl)
theorem dX3_readNumber_8 : decode cX3_readNumber 8 = .ok (.getfield 115, 3) := dk_180 0 115 (dk_at dksX3_readNumber_0 8 rfl rfl)
theorem dX3_readNumber_11 : decode cX3_readNumber 11 = .ok (.iload_n 2, 1) := dk_28 (dk_at dksX3_readNumber_0 11 rfl rfl)
theorem dX3_readNumber_12 : decode cX3_readNumber 12 = .ok (.iconst 2, 1) := dk_5 (dk_at dksX3_readNumber_0 12 rfl rfl)
theorem dX3_readNumber_13 : decode cX3_readNumber 13 = .ok (.iadd, 1) := dk_96 (dk_at dksX3_readNumber_0 13 rfl rfl)
theorem dX3_readNumber_14 : decode cX3_readNumber 14 = .ok (.if_icmp .ge 43, 3) := dk_162 0 43 (dk_at dksX3_readNumber_0 14 rfl rfl)
theorem dX3_readNumber_17 : decode cX3_readNumber 17 = .ok (.aload_n 0, 1) := dk_42 (dk_at dksX3_readNumber_0 17 rfl rfl)
theorem dX3_readNumber_18 : decode cX3_readNumber 18 = .ok (.invokevirtual 121, 3) := dk_182 0 121 (dk_at dksX3_readNumber_0 18 rfl rfl)
theorem dX3_readNumber_21 : decode cX3_readNumber 21 = .ok (.bipush 48, 2) := dk_16 48 (dk_at dksX3_readNumber_0 21 rfl rfl)
theorem dX3_readNumber_23 : decode cX3_readNumber 23 = .ok (.bipush 57, 2) := dk_16 57 (dk_at dksX3_readNumber_1 0 rfl rfl)
theorem dX3_readNumber_25 : decode cX3_readNumber 25 = .ok (.invokestatic 108, 3) := dk_184 0 108 (dk_at dksX3_readNumber_1 2 rfl rfl)
theorem dX3_readNumber_28 : decode cX3_readNumber 28 = .ok (.ifCond .eq 29, 3) := dk_153 0 29 (dk_at dksX3_readNumber_1 5 rfl rfl)
theorem dX3_readNumber_31 : decode cX3_readNumber 31 = .ok (.bipush 10, 2) := dk_16 10 (dk_at dksX3_readNumber_1 8 rfl rfl)
theorem dX3_readNumber_33 : decode cX3_readNumber 33 = .ok (.iload_n 3, 1) := dk_29 (dk_at dksX3_readNumber_1 10 rfl rfl)
theorem dX3_readNumber_34 : decode cX3_readNumber 34 = .ok (.imul, 1) := dk_104 (dk_at dksX3_readNumber_1 11 rfl rfl)
theorem dX3_readNumber_35 : decode cX3_readNumber 35 = .ok (.aload_n 0, 1) := dk_42 (dk_at dksX3_readNumber_1 12 rfl rfl)
theorem dX3_readNumber_36 : decode cX3_readNumber 36 = .ok (.invokevirtual 121, 3) := dk_182 0 121 (dk_at dksX3_readNumber_1 13 rfl rfl)
theorem dX3_readNumber_39 : decode cX3_readNumber 39 = .ok (.iadd, 1) := dk_96 (dk_at dksX3_readNumber_1 16 rfl rfl)
theorem dX3_readNumber_40 : decode cX3_readNumber 40 = .ok (.bipush 48, 2) := dk_16 48 (dk_at dksX3_readNumber_1 17 rfl rfl)
theorem dX3_readNumber_42 : decode cX3_readNumber 42 = .ok (.isub, 1) := dk_100 (dk_at dksX3_readNumber_1 19 rfl rfl)
theorem dX3_readNumber_43 : decode cX3_readNumber 43 = .ok (.istore_n 3, 1) := dk_62 (dk_at dksX3_readNumber_1 20 rfl rfl)
theorem dX3_readNumber_44 : decode cX3_readNumber 44 = .ok (.aload_n 0, 1) := dk_42 (dk_at dksX3_readNumber_1 21 rfl rfl)
theorem dX3_readNumber_45 : decode cX3_readNumber 45 = .ok (.dup, 1) := dk_89 (dk_at dksX3_readNumber_1 22 rfl rfl)
theorem dX3_readNumber_46 : decode cX3_readNumber 46 = .ok (.getfield 115, 3) := dk_180 0 115 (dk_at dksX3_readNumber_2 0 rfl rfl)
theorem dX3_readNumber_49 : decode cX3_readNumber 49 = .ok (.iconst 1, 1) := dk_4 (dk_at dksX3_readNumber_2 3 rfl rfl)
theorem dX3_readNumber_50 : decode cX3_readNumber 50 = .ok (.iadd, 1) := dk_96 (dk_at dksX3_readNumber_2 4 rfl rfl)
theorem dX3_readNumber_51 : decode cX3_readNumber 51 = .ok (.putfield 115, 3) := dk_181 0 115 (dk_at dksX3_readNumber_2 5 rfl rfl)
theorem dX3_readNumber_54 : decode cX3_readNumber 54 = .ok (.goto (-47), 3) := dk_167 255 209 (dk_at dksX3_readNumber_2 8 rfl rfl)
theorem dX3_readNumber_57 : decode cX3_readNumber 57 = .ok (.aload_n 0, 1) := dk_42 (dk_at dksX3_readNumber_2 11 rfl rfl)
theorem dX3_readNumber_58 : decode cX3_readNumber 58 = .ok (.getfield 115, 3) := dk_180 0 115 (dk_at dksX3_readNumber_2 12 rfl rfl)
theorem dX3_readNumber_61 : decode cX3_readNumber 61 = .ok (.iload_n 2, 1) := dk_28 (dk_at dksX3_readNumber_2 15 rfl rfl)
theorem dX3_readNumber_62 : decode cX3_readNumber 62 = .ok (.if_icmp .eq 8, 3) := dk_159 0 8 (dk_at dksX3_readNumber_2 16 rfl rfl)
theorem dX3_readNumber_65 : decode cX3_readNumber 65 = .ok (.iload_n 3, 1) := dk_29 (dk_at dksX3_readNumber_2 19 rfl rfl)
theorem dX3_readNumber_66 : decode cX3_readNumber 66 = .ok (.iload_n 1, 1) := dk_27 (dk_at dksX3_readNumber_2 20 rfl rfl)
theorem dX3_readNumber_67 : decode cX3_readNumber 67 = .ok (.if_icmp .ge 8, 3) := dk_162 0 8 (dk_at dksX3_readNumber_2 21 rfl rfl)
theorem dX3_readNumber_70 : decode cX3_readNumber 70 = .ok (.aload_n 0, 1) := dk_42 (dk_at dksX3_readNumber_3 0 rfl rfl)
theorem dX3_readNumber_71 : decode cX3_readNumber 71 = .ok (.iload_n 2, 1) := dk_28 (dk_at dksX3_readNumber_3 1 rfl rfl)
theorem dX3_readNumber_72 : decode cX3_readNumber 72 = .ok (.invokevirtual 125, 3) := dk_182 0 125 (dk_at dksX3_readNumber_3 2 rfl rfl)
theorem dX3_readNumber_75 : decode cX3_readNumber 75 = .ok (.iload_n 3, 1) := dk_29 (dk_at dksX3_readNumber_3 5 rfl rfl)
theorem dX3_readNumber_76 : decode cX3_readNumber 76 = .ok (.ireturn, 1) := dk_172 (dk_at dksX3_readNumber_3 6 rfl rfl)
abbrev cX3_expect : ByteArray := prog_20_method_11_code
def yX3_expect : MethodName := ⟨RX3, "expect", "(I)V"⟩
def dkwX3_expect_1 : List UInt8 := [181, 0, 115, 167, 0, 11, 42, 42, 180, 0, 115, 182, 0, 125, 177]
abbrev dktX3_expect_1 : List UInt8 := dkwX3_expect_1 ++ []
def dkwX3_expect_0 : List UInt8 := [42, 180, 0, 118, 155, 0, 4, 177, 42, 182, 0, 121, 27, 160, 0, 16, 42, 89, 180, 0, 115, 4, 96]
abbrev dktX3_expect_0 : List UInt8 := dkwX3_expect_0 ++ dktX3_expect_1
theorem dksX3_expect_0 : cX3_expect.data.toList.drop 0 = dktX3_expect_0 := by decide +kernel
theorem dksX3_expect_1 : cX3_expect.data.toList.drop 23 = dktX3_expect_1 := dk_seg dksX3_expect_0 23 rfl rfl
theorem dX3_expect_0 : decode cX3_expect 0 = .ok (.aload_n 0, 1) := dk_42 (dk_at dksX3_expect_0 0 rfl rfl)
theorem dX3_expect_1 : decode cX3_expect 1 = .ok (.getfield 118, 3) := dk_180 0 118 (dk_at dksX3_expect_0 1 rfl rfl)
theorem dX3_expect_4 : decode cX3_expect 4 = .ok (.ifCond .lt 4, 3) := dk_155 0 4 (dk_at dksX3_expect_0 4 rfl rfl)
theorem dX3_expect_7 : decode cX3_expect 7 = .ok (.return_, 1) := dk_177 (dk_at dksX3_expect_0 7 rfl rfl)
theorem dX3_expect_8 : decode cX3_expect 8 = .ok (.aload_n 0, 1) := dk_42 (dk_at dksX3_expect_0 8 rfl rfl)
theorem dX3_expect_9 : decode cX3_expect 9 = .ok (.invokevirtual 121, 3) := dk_182 0 121 (dk_at dksX3_expect_0 9 rfl rfl)
theorem dX3_expect_12 : decode cX3_expect 12 = .ok (.iload_n 1, 1) := dk_27 (dk_at dksX3_expect_0 12 rfl rfl)
theorem dX3_expect_13 : decode cX3_expect 13 = .ok (.if_icmp .ne 16, 3) := dk_160 0 16 (dk_at dksX3_expect_0 13 rfl rfl)
theorem dX3_expect_16 : decode cX3_expect 16 = .ok (.aload_n 0, 1) := dk_42 (dk_at dksX3_expect_0 16 rfl rfl)
theorem dX3_expect_17 : decode cX3_expect 17 = .ok (.dup, 1) := dk_89 (dk_at dksX3_expect_0 17 rfl rfl)
theorem dX3_expect_18 : decode cX3_expect 18 = .ok (.getfield 115, 3) := dk_180 0 115 (dk_at dksX3_expect_0 18 rfl rfl)
theorem dX3_expect_21 : decode cX3_expect 21 = .ok (.iconst 1, 1) := dk_4 (dk_at dksX3_expect_0 21 rfl rfl)
theorem dX3_expect_22 : decode cX3_expect 22 = .ok (.iadd, 1) := dk_96 (dk_at dksX3_expect_0 22 rfl rfl)
theorem dX3_expect_23 : decode cX3_expect 23 = .ok (.putfield 115, 3) := dk_181 0 115 (dk_at dksX3_expect_1 0 rfl rfl)
theorem dX3_expect_26 : decode cX3_expect 26 = .ok (.goto 11, 3) := dk_167 0 11 (dk_at dksX3_expect_1 3 rfl rfl)
theorem dX3_expect_29 : decode cX3_expect 29 = .ok (.aload_n 0, 1) := dk_42 (dk_at dksX3_expect_1 6 rfl rfl)
theorem dX3_expect_30 : decode cX3_expect 30 = .ok (.aload_n 0, 1) := dk_42 (dk_at dksX3_expect_1 7 rfl rfl)
theorem dX3_expect_31 : decode cX3_expect 31 = .ok (.getfield 115, 3) := dk_180 0 115 (dk_at dksX3_expect_1 8 rfl rfl)
theorem dX3_expect_34 : decode cX3_expect 34 = .ok (.invokevirtual 125, 3) := dk_182 0 125 (dk_at dksX3_expect_1 11 rfl rfl)
theorem dX3_expect_37 : decode cX3_expect 37 = .ok (.return_, 1) := dk_177 (dk_at dksX3_expect_1 14 rfl rfl)
abbrev cX3_thread : ByteArray := prog_20_method_17_code
def yX3_thread : MethodName := ⟨RX3, "thread", "()I"⟩
def dkwX3_thread_8 : List UInt8 := [167, 255, 228, 132, 2, 1, 167, 255, 189, 27, 172]
abbrev dktX3_thread_8 : List UInt8 := dkwX3_thread_8 ++ []
def dkwX3_thread_7 : List UInt8 := [180, 0, 20, 7, 28, 104, 29, 96, 42, 180, 0, 71, 7, 28, 104, 29, 96, 46, 79, 132, 3, 1]
abbrev dktX3_thread_7 : List UInt8 := dkwX3_thread_7 ++ dktX3_thread_8
def dkwX3_thread_6 : List UInt8 := [79, 42, 180, 0, 26, 28, 3, 79, 42, 180, 0, 29, 28, 3, 79, 3, 62, 29, 7, 162, 0, 29, 42]
abbrev dktX3_thread_6 : List UInt8 := dkwX3_thread_6 ++ dktX3_thread_7
def dkwX3_thread_5 : List UInt8 := [180, 0, 17, 3, 3, 79, 3, 61, 28, 27, 162, 0, 68, 42, 180, 0, 23, 28, 42, 180, 0, 74, 28, 46]
abbrev dktX3_thread_5 : List UInt8 := dkwX3_thread_5 ++ dktX3_thread_6
def dkwX3_thread_4 : List UInt8 := [180, 0, 118, 155, 0, 11, 16, 156, 42, 180, 0, 118, 100, 172, 42, 180, 0, 13, 3, 27, 79, 42]
abbrev dktX3_thread_4 : List UInt8 := dkwX3_thread_4 ++ dktX3_thread_5
def dkwX3_thread_3 : List UInt8 := [180, 0, 115, 42, 180, 0, 112, 162, 0, 11, 42, 42, 180, 0, 115, 182, 0, 125, 42, 3, 181, 0, 112, 42]
abbrev dktX3_thread_3 : List UInt8 := dkwX3_thread_3 ++ dktX3_thread_4
def dkwX3_thread_2 : List UInt8 := [181, 0, 115, 42, 27, 182, 0, 152, 132, 1, 1, 167, 255, 216, 42, 180, 0, 118, 156, 0, 22, 42]
abbrev dktX3_thread_2 : List UInt8 := dkwX3_thread_2 ++ dktX3_thread_3
def dkwX3_thread_1 : List UInt8 := [27, 16, 10, 162, 0, 33, 42, 182, 0, 121, 16, 59, 160, 0, 24, 42, 89, 180, 0, 115, 4, 96]
abbrev dktX3_thread_1 : List UInt8 := dkwX3_thread_1 ++ dktX3_thread_2
def dkwX3_thread_0 : List UInt8 := [42, 3, 181, 0, 115, 42, 2, 181, 0, 118, 42, 3, 182, 0, 152, 4, 60, 42, 180, 0, 118, 156, 0, 39]
abbrev dktX3_thread_0 : List UInt8 := dkwX3_thread_0 ++ dktX3_thread_1
theorem dksX3_thread_0 : cX3_thread.data.toList.drop 0 = dktX3_thread_0 := by decide +kernel
theorem dksX3_thread_1 : cX3_thread.data.toList.drop 24 = dktX3_thread_1 := dk_seg dksX3_thread_0 24 rfl rfl
theorem dksX3_thread_2 : cX3_thread.data.toList.drop 46 = dktX3_thread_2 := dk_seg dksX3_thread_1 22 rfl rfl
theorem dksX3_thread_3 : cX3_thread.data.toList.drop 68 = dktX3_thread_3 := dk_seg dksX3_thread_2 22 rfl rfl
theorem dksX3_thread_4 : cX3_thread.data.toList.drop 92 = dktX3_thread_4 := dk_seg dksX3_thread_3 24 rfl rfl
theorem dksX3_thread_5 : cX3_thread.data.toList.drop 114 = dktX3_thread_5 := dk_seg dksX3_thread_4 22 rfl rfl
theorem dksX3_thread_6 : cX3_thread.data.toList.drop 138 = dktX3_thread_6 := dk_seg dksX3_thread_5 24 rfl rfl
theorem dksX3_thread_7 : cX3_thread.data.toList.drop 161 = dktX3_thread_7 := dk_seg dksX3_thread_6 23 rfl rfl
theorem dksX3_thread_8 : cX3_thread.data.toList.drop 183 = dktX3_thread_8 := dk_seg dksX3_thread_7 22 rfl rfl
theorem dX3_thread_0 : decode cX3_thread 0 = .ok (.aload_n 0, 1) := dk_42 (dk_at dksX3_thread_0 0 rfl rfl)
theorem dX3_thread_1 : decode cX3_thread 1 = .ok (.iconst 0, 1) := dk_3 (dk_at dksX3_thread_0 1 rfl rfl)
theorem dX3_thread_2 : decode cX3_thread 2 = .ok (.putfield 115, 3) := dk_181 0 115 (dk_at dksX3_thread_0 2 rfl rfl)
theorem dX3_thread_5 : decode cX3_thread 5 = .ok (.aload_n 0, 1) := dk_42 (dk_at dksX3_thread_0 5 rfl rfl)
theorem dX3_thread_6 : decode cX3_thread 6 = .ok (.iconst (-1), 1) := dk_2 (dk_at dksX3_thread_0 6 rfl rfl)
theorem dX3_thread_7 : decode cX3_thread 7 = .ok (.putfield 118, 3) := dk_181 0 118 (dk_at dksX3_thread_0 7 rfl rfl)
theorem dX3_thread_10 : decode cX3_thread 10 = .ok (.aload_n 0, 1) := dk_42 (dk_at dksX3_thread_0 10 rfl rfl)
theorem dX3_thread_11 : decode cX3_thread 11 = .ok (.iconst 0, 1) := dk_3 (dk_at dksX3_thread_0 11 rfl rfl)
theorem dX3_thread_12 : decode cX3_thread 12 = .ok (.invokevirtual 152, 3) := dk_182 0 152 (dk_at dksX3_thread_0 12 rfl rfl)
theorem dX3_thread_15 : decode cX3_thread 15 = .ok (.iconst 1, 1) := dk_4 (dk_at dksX3_thread_0 15 rfl rfl)
theorem dX3_thread_16 : decode cX3_thread 16 = .ok (.istore_n 1, 1) := dk_60 (dk_at dksX3_thread_0 16 rfl rfl)
theorem dX3_thread_17 : decode cX3_thread 17 = .ok (.aload_n 0, 1) := dk_42 (dk_at dksX3_thread_0 17 rfl rfl)
theorem dX3_thread_18 : decode cX3_thread 18 = .ok (.getfield 118, 3) := dk_180 0 118 (dk_at dksX3_thread_0 18 rfl rfl)
theorem dX3_thread_21 : decode cX3_thread 21 = .ok (.ifCond .ge 39, 3) := dk_156 0 39 (dk_at dksX3_thread_0 21 rfl rfl)
theorem dX3_thread_24 : decode cX3_thread 24 = .ok (.iload_n 1, 1) := dk_27 (dk_at dksX3_thread_1 0 rfl rfl)
theorem dX3_thread_25 : decode cX3_thread 25 = .ok (.bipush 10, 2) := dk_16 10 (dk_at dksX3_thread_1 1 rfl rfl)
theorem dX3_thread_27 : decode cX3_thread 27 = .ok (.if_icmp .ge 33, 3) := dk_162 0 33 (dk_at dksX3_thread_1 3 rfl rfl)
theorem dX3_thread_30 : decode cX3_thread 30 = .ok (.aload_n 0, 1) := dk_42 (dk_at dksX3_thread_1 6 rfl rfl)
theorem dX3_thread_31 : decode cX3_thread 31 = .ok (.invokevirtual 121, 3) := dk_182 0 121 (dk_at dksX3_thread_1 7 rfl rfl)
theorem dX3_thread_34 : decode cX3_thread 34 = .ok (.bipush 59, 2) := dk_16 59 (dk_at dksX3_thread_1 10 rfl rfl)
theorem dX3_thread_36 : decode cX3_thread 36 = .ok (.if_icmp .ne 24, 3) := dk_160 0 24 (dk_at dksX3_thread_1 12 rfl rfl)
theorem dX3_thread_39 : decode cX3_thread 39 = .ok (.aload_n 0, 1) := dk_42 (dk_at dksX3_thread_1 15 rfl rfl)
theorem dX3_thread_40 : decode cX3_thread 40 = .ok (.dup, 1) := dk_89 (dk_at dksX3_thread_1 16 rfl rfl)
theorem dX3_thread_41 : decode cX3_thread 41 = .ok (.getfield 115, 3) := dk_180 0 115 (dk_at dksX3_thread_1 17 rfl rfl)
theorem dX3_thread_44 : decode cX3_thread 44 = .ok (.iconst 1, 1) := dk_4 (dk_at dksX3_thread_1 20 rfl rfl)
theorem dX3_thread_45 : decode cX3_thread 45 = .ok (.iadd, 1) := dk_96 (dk_at dksX3_thread_1 21 rfl rfl)
theorem dX3_thread_46 : decode cX3_thread 46 = .ok (.putfield 115, 3) := dk_181 0 115 (dk_at dksX3_thread_2 0 rfl rfl)
theorem dX3_thread_49 : decode cX3_thread 49 = .ok (.aload_n 0, 1) := dk_42 (dk_at dksX3_thread_2 3 rfl rfl)
theorem dX3_thread_50 : decode cX3_thread 50 = .ok (.iload_n 1, 1) := dk_27 (dk_at dksX3_thread_2 4 rfl rfl)
theorem dX3_thread_51 : decode cX3_thread 51 = .ok (.invokevirtual 152, 3) := dk_182 0 152 (dk_at dksX3_thread_2 5 rfl rfl)
theorem dX3_thread_54 : decode cX3_thread 54 = .ok (.iinc 1 1, 3) := dk_132 1 1 (dk_at dksX3_thread_2 8 rfl rfl)
theorem dX3_thread_57 : decode cX3_thread 57 = .ok (.goto (-40), 3) := dk_167 255 216 (dk_at dksX3_thread_2 11 rfl rfl)
theorem dX3_thread_60 : decode cX3_thread 60 = .ok (.aload_n 0, 1) := dk_42 (dk_at dksX3_thread_2 14 rfl rfl)
theorem dX3_thread_61 : decode cX3_thread 61 = .ok (.getfield 118, 3) := dk_180 0 118 (dk_at dksX3_thread_2 15 rfl rfl)
theorem dX3_thread_64 : decode cX3_thread 64 = .ok (.ifCond .ge 22, 3) := dk_156 0 22 (dk_at dksX3_thread_2 18 rfl rfl)
theorem dX3_thread_67 : decode cX3_thread 67 = .ok (.aload_n 0, 1) := dk_42 (dk_at dksX3_thread_2 21 rfl rfl)
theorem dX3_thread_68 : decode cX3_thread 68 = .ok (.getfield 115, 3) := dk_180 0 115 (dk_at dksX3_thread_3 0 rfl rfl)
theorem dX3_thread_71 : decode cX3_thread 71 = .ok (.aload_n 0, 1) := dk_42 (dk_at dksX3_thread_3 3 rfl rfl)
theorem dX3_thread_72 : decode cX3_thread 72 = .ok (.getfield 112, 3) := dk_180 0 112 (dk_at dksX3_thread_3 4 rfl rfl)
theorem dX3_thread_75 : decode cX3_thread 75 = .ok (.if_icmp .ge 11, 3) := dk_162 0 11 (dk_at dksX3_thread_3 7 rfl rfl)
theorem dX3_thread_78 : decode cX3_thread 78 = .ok (.aload_n 0, 1) := dk_42 (dk_at dksX3_thread_3 10 rfl rfl)
theorem dX3_thread_79 : decode cX3_thread 79 = .ok (.aload_n 0, 1) := dk_42 (dk_at dksX3_thread_3 11 rfl rfl)
theorem dX3_thread_80 : decode cX3_thread 80 = .ok (.getfield 115, 3) := dk_180 0 115 (dk_at dksX3_thread_3 12 rfl rfl)
theorem dX3_thread_83 : decode cX3_thread 83 = .ok (.invokevirtual 125, 3) := dk_182 0 125 (dk_at dksX3_thread_3 15 rfl rfl)
theorem dX3_thread_86 : decode cX3_thread 86 = .ok (.aload_n 0, 1) := dk_42 (dk_at dksX3_thread_3 18 rfl rfl)
theorem dX3_thread_87 : decode cX3_thread 87 = .ok (.iconst 0, 1) := dk_3 (dk_at dksX3_thread_3 19 rfl rfl)
theorem dX3_thread_88 : decode cX3_thread 88 = .ok (.putfield 112, 3) := dk_181 0 112 (dk_at dksX3_thread_3 20 rfl rfl)
theorem dX3_thread_91 : decode cX3_thread 91 = .ok (.aload_n 0, 1) := dk_42 (dk_at dksX3_thread_3 23 rfl rfl)
theorem dX3_thread_92 : decode cX3_thread 92 = .ok (.getfield 118, 3) := dk_180 0 118 (dk_at dksX3_thread_4 0 rfl rfl)
theorem dX3_thread_95 : decode cX3_thread 95 = .ok (.ifCond .lt 11, 3) := dk_155 0 11 (dk_at dksX3_thread_4 3 rfl rfl)
theorem dX3_thread_98 : decode cX3_thread 98 = .ok (.bipush (-100), 2) := dk_16 156 (dk_at dksX3_thread_4 6 rfl rfl)
theorem dX3_thread_100 : decode cX3_thread 100 = .ok (.aload_n 0, 1) := dk_42 (dk_at dksX3_thread_4 8 rfl rfl)
theorem dX3_thread_101 : decode cX3_thread 101 = .ok (.getfield 118, 3) := dk_180 0 118 (dk_at dksX3_thread_4 9 rfl rfl)
theorem dX3_thread_104 : decode cX3_thread 104 = .ok (.isub, 1) := dk_100 (dk_at dksX3_thread_4 12 rfl rfl)
theorem dX3_thread_105 : decode cX3_thread 105 = .ok (.ireturn, 1) := dk_172 (dk_at dksX3_thread_4 13 rfl rfl)
theorem dX3_thread_106 : decode cX3_thread 106 = .ok (.aload_n 0, 1) := dk_42 (dk_at dksX3_thread_4 14 rfl rfl)
theorem dX3_thread_107 : decode cX3_thread 107 = .ok (.getfield 13, 3) := dk_180 0 13 (dk_at dksX3_thread_4 15 rfl rfl)
theorem dX3_thread_110 : decode cX3_thread 110 = .ok (.iconst 0, 1) := dk_3 (dk_at dksX3_thread_4 18 rfl rfl)
theorem dX3_thread_111 : decode cX3_thread 111 = .ok (.iload_n 1, 1) := dk_27 (dk_at dksX3_thread_4 19 rfl rfl)
theorem dX3_thread_112 : decode cX3_thread 112 = .ok (.iastore, 1) := dk_79 (dk_at dksX3_thread_4 20 rfl rfl)
theorem dX3_thread_113 : decode cX3_thread 113 = .ok (.aload_n 0, 1) := dk_42 (dk_at dksX3_thread_4 21 rfl rfl)
theorem dX3_thread_114 : decode cX3_thread 114 = .ok (.getfield 17, 3) := dk_180 0 17 (dk_at dksX3_thread_5 0 rfl rfl)
theorem dX3_thread_117 : decode cX3_thread 117 = .ok (.iconst 0, 1) := dk_3 (dk_at dksX3_thread_5 3 rfl rfl)
theorem dX3_thread_118 : decode cX3_thread 118 = .ok (.iconst 0, 1) := dk_3 (dk_at dksX3_thread_5 4 rfl rfl)
theorem dX3_thread_119 : decode cX3_thread 119 = .ok (.iastore, 1) := dk_79 (dk_at dksX3_thread_5 5 rfl rfl)
theorem dX3_thread_120 : decode cX3_thread 120 = .ok (.iconst 0, 1) := dk_3 (dk_at dksX3_thread_5 6 rfl rfl)
theorem dX3_thread_121 : decode cX3_thread 121 = .ok (.istore_n 2, 1) := dk_61 (dk_at dksX3_thread_5 7 rfl rfl)
theorem dX3_thread_122 : decode cX3_thread 122 = .ok (.iload_n 2, 1) := dk_28 (dk_at dksX3_thread_5 8 rfl rfl)
theorem dX3_thread_123 : decode cX3_thread 123 = .ok (.iload_n 1, 1) := dk_27 (dk_at dksX3_thread_5 9 rfl rfl)
theorem dX3_thread_124 : decode cX3_thread 124 = .ok (.if_icmp .ge 68, 3) := dk_162 0 68 (dk_at dksX3_thread_5 10 rfl rfl)
theorem dX3_thread_127 : decode cX3_thread 127 = .ok (.aload_n 0, 1) := dk_42 (dk_at dksX3_thread_5 13 rfl rfl)
theorem dX3_thread_128 : decode cX3_thread 128 = .ok (.getfield 23, 3) := dk_180 0 23 (dk_at dksX3_thread_5 14 rfl rfl)
theorem dX3_thread_131 : decode cX3_thread 131 = .ok (.iload_n 2, 1) := dk_28 (dk_at dksX3_thread_5 17 rfl rfl)
theorem dX3_thread_132 : decode cX3_thread 132 = .ok (.aload_n 0, 1) := dk_42 (dk_at dksX3_thread_5 18 rfl rfl)
theorem dX3_thread_133 : decode cX3_thread 133 = .ok (.getfield 74, 3) := dk_180 0 74 (dk_at dksX3_thread_5 19 rfl rfl)
theorem dX3_thread_136 : decode cX3_thread 136 = .ok (.iload_n 2, 1) := dk_28 (dk_at dksX3_thread_5 22 rfl rfl)
theorem dX3_thread_137 : decode cX3_thread 137 = .ok (.iaload, 1) := dk_46 (dk_at dksX3_thread_5 23 rfl rfl)
theorem dX3_thread_138 : decode cX3_thread 138 = .ok (.iastore, 1) := dk_79 (dk_at dksX3_thread_6 0 rfl rfl)
theorem dX3_thread_139 : decode cX3_thread 139 = .ok (.aload_n 0, 1) := dk_42 (dk_at dksX3_thread_6 1 rfl rfl)
theorem dX3_thread_140 : decode cX3_thread 140 = .ok (.getfield 26, 3) := dk_180 0 26 (dk_at dksX3_thread_6 2 rfl rfl)
theorem dX3_thread_143 : decode cX3_thread 143 = .ok (.iload_n 2, 1) := dk_28 (dk_at dksX3_thread_6 5 rfl rfl)
theorem dX3_thread_144 : decode cX3_thread 144 = .ok (.iconst 0, 1) := dk_3 (dk_at dksX3_thread_6 6 rfl rfl)
theorem dX3_thread_145 : decode cX3_thread 145 = .ok (.iastore, 1) := dk_79 (dk_at dksX3_thread_6 7 rfl rfl)
theorem dX3_thread_146 : decode cX3_thread 146 = .ok (.aload_n 0, 1) := dk_42 (dk_at dksX3_thread_6 8 rfl rfl)
theorem dX3_thread_147 : decode cX3_thread 147 = .ok (.getfield 29, 3) := dk_180 0 29 (dk_at dksX3_thread_6 9 rfl rfl)
theorem dX3_thread_150 : decode cX3_thread 150 = .ok (.iload_n 2, 1) := dk_28 (dk_at dksX3_thread_6 12 rfl rfl)
theorem dX3_thread_151 : decode cX3_thread 151 = .ok (.iconst 0, 1) := dk_3 (dk_at dksX3_thread_6 13 rfl rfl)
theorem dX3_thread_152 : decode cX3_thread 152 = .ok (.iastore, 1) := dk_79 (dk_at dksX3_thread_6 14 rfl rfl)
theorem dX3_thread_153 : decode cX3_thread 153 = .ok (.iconst 0, 1) := dk_3 (dk_at dksX3_thread_6 15 rfl rfl)
theorem dX3_thread_154 : decode cX3_thread 154 = .ok (.istore_n 3, 1) := dk_62 (dk_at dksX3_thread_6 16 rfl rfl)
theorem dX3_thread_155 : decode cX3_thread 155 = .ok (.iload_n 3, 1) := dk_29 (dk_at dksX3_thread_6 17 rfl rfl)
theorem dX3_thread_156 : decode cX3_thread 156 = .ok (.iconst 4, 1) := dk_7 (dk_at dksX3_thread_6 18 rfl rfl)
theorem dX3_thread_157 : decode cX3_thread 157 = .ok (.if_icmp .ge 29, 3) := dk_162 0 29 (dk_at dksX3_thread_6 19 rfl rfl)
theorem dX3_thread_160 : decode cX3_thread 160 = .ok (.aload_n 0, 1) := dk_42 (dk_at dksX3_thread_6 22 rfl rfl)
theorem dX3_thread_161 : decode cX3_thread 161 = .ok (.getfield 20, 3) := dk_180 0 20 (dk_at dksX3_thread_7 0 rfl rfl)
theorem dX3_thread_164 : decode cX3_thread 164 = .ok (.iconst 4, 1) := dk_7 (dk_at dksX3_thread_7 3 rfl rfl)
theorem dX3_thread_165 : decode cX3_thread 165 = .ok (.iload_n 2, 1) := dk_28 (dk_at dksX3_thread_7 4 rfl rfl)
theorem dX3_thread_166 : decode cX3_thread 166 = .ok (.imul, 1) := dk_104 (dk_at dksX3_thread_7 5 rfl rfl)
theorem dX3_thread_167 : decode cX3_thread 167 = .ok (.iload_n 3, 1) := dk_29 (dk_at dksX3_thread_7 6 rfl rfl)
theorem dX3_thread_168 : decode cX3_thread 168 = .ok (.iadd, 1) := dk_96 (dk_at dksX3_thread_7 7 rfl rfl)
theorem dX3_thread_169 : decode cX3_thread 169 = .ok (.aload_n 0, 1) := dk_42 (dk_at dksX3_thread_7 8 rfl rfl)
theorem dX3_thread_170 : decode cX3_thread 170 = .ok (.getfield 71, 3) := dk_180 0 71 (dk_at dksX3_thread_7 9 rfl rfl)
theorem dX3_thread_173 : decode cX3_thread 173 = .ok (.iconst 4, 1) := dk_7 (dk_at dksX3_thread_7 12 rfl rfl)
theorem dX3_thread_174 : decode cX3_thread 174 = .ok (.iload_n 2, 1) := dk_28 (dk_at dksX3_thread_7 13 rfl rfl)
theorem dX3_thread_175 : decode cX3_thread 175 = .ok (.imul, 1) := dk_104 (dk_at dksX3_thread_7 14 rfl rfl)
theorem dX3_thread_176 : decode cX3_thread 176 = .ok (.iload_n 3, 1) := dk_29 (dk_at dksX3_thread_7 15 rfl rfl)
theorem dX3_thread_177 : decode cX3_thread 177 = .ok (.iadd, 1) := dk_96 (dk_at dksX3_thread_7 16 rfl rfl)
theorem dX3_thread_178 : decode cX3_thread 178 = .ok (.iaload, 1) := dk_46 (dk_at dksX3_thread_7 17 rfl rfl)
theorem dX3_thread_179 : decode cX3_thread 179 = .ok (.iastore, 1) := dk_79 (dk_at dksX3_thread_7 18 rfl rfl)
theorem dX3_thread_180 : decode cX3_thread 180 = .ok (.iinc 3 1, 3) := dk_132 3 1 (dk_at dksX3_thread_7 19 rfl rfl)
theorem dX3_thread_183 : decode cX3_thread 183 = .ok (.goto (-28), 3) := dk_167 255 228 (dk_at dksX3_thread_8 0 rfl rfl)
theorem dX3_thread_186 : decode cX3_thread 186 = .ok (.iinc 2 1, 3) := dk_132 2 1 (dk_at dksX3_thread_8 3 rfl rfl)
theorem dX3_thread_189 : decode cX3_thread 189 = .ok (.goto (-67), 3) := dk_167 255 189 (dk_at dksX3_thread_8 6 rfl rfl)
theorem dX3_thread_192 : decode cX3_thread 192 = .ok (.iload_n 1, 1) := dk_27 (dk_at dksX3_thread_8 9 rfl rfl)
theorem dX3_thread_193 : decode cX3_thread 193 = .ok (.ireturn, 1) := dk_172 (dk_at dksX3_thread_8 10 rfl rfl)
abbrev cX3_readCard : ByteArray := prog_20_method_16_code
def yX3_readCard : MethodName := ⟨RX3, "readCard", "(I)V"⟩
def dkwX3_readCard_5 : List UInt8 := [160, 0, 7, 4, 167, 0, 4, 3, 79, 42, 89, 180, 0, 115, 4, 96, 181, 0, 115, 177]
abbrev dktX3_readCard_5 : List UInt8 := dkwX3_readCard_5 ++ []
def dkwX3_readCard_4 : List UInt8 := [159, 0, 12, 42, 42, 180, 0, 115, 182, 0, 125, 177, 42, 180, 0, 74, 27, 42, 182, 0, 121, 16, 90]
abbrev dktX3_readCard_4 : List UInt8 := dkwX3_readCard_4 ++ dktX3_readCard_5
def dkwX3_readCard_3 : List UInt8 := [42, 180, 0, 118, 155, 0, 4, 177, 42, 182, 0, 121, 16, 83, 159, 0, 21, 42, 182, 0, 121, 16, 90]
abbrev dktX3_readCard_3 : List UInt8 := dkwX3_readCard_3 ++ dktX3_readCard_4
def dkwX3_readCard_2 : List UInt8 := [42, 182, 0, 121, 16, 97, 100, 79, 42, 89, 180, 0, 115, 4, 96, 181, 0, 115, 132, 2, 1, 167, 255, 191]
abbrev dktX3_readCard_2 : List UInt8 := dkwX3_readCard_2 ++ dktX3_readCard_3
def dkwX3_readCard_1 : List UInt8 := [184, 0, 108, 154, 0, 12, 42, 42, 180, 0, 115, 182, 0, 125, 177, 42, 180, 0, 71, 7, 27, 104, 28, 96]
abbrev dktX3_readCard_1 : List UInt8 := dkwX3_readCard_1 ++ dktX3_readCard_2
def dkwX3_readCard_0 : List UInt8 := [3, 61, 28, 7, 162, 0, 66, 42, 180, 0, 118, 156, 0, 59, 42, 182, 0, 121, 16, 97, 16, 106]
abbrev dktX3_readCard_0 : List UInt8 := dkwX3_readCard_0 ++ dktX3_readCard_1
theorem dksX3_readCard_0 : cX3_readCard.data.toList.drop 0 = dktX3_readCard_0 := by decide +kernel
theorem dksX3_readCard_1 : cX3_readCard.data.toList.drop 22 = dktX3_readCard_1 := dk_seg dksX3_readCard_0 22 rfl rfl
theorem dksX3_readCard_2 : cX3_readCard.data.toList.drop 46 = dktX3_readCard_2 := dk_seg dksX3_readCard_1 24 rfl rfl
theorem dksX3_readCard_3 : cX3_readCard.data.toList.drop 70 = dktX3_readCard_3 := dk_seg dksX3_readCard_2 24 rfl rfl
theorem dksX3_readCard_4 : cX3_readCard.data.toList.drop 93 = dktX3_readCard_4 := dk_seg dksX3_readCard_3 23 rfl rfl
theorem dksX3_readCard_5 : cX3_readCard.data.toList.drop 116 = dktX3_readCard_5 := dk_seg dksX3_readCard_4 23 rfl rfl
theorem dX3_readCard_0 : decode cX3_readCard 0 = .ok (.iconst 0, 1) := dk_3 (dk_at dksX3_readCard_0 0 rfl rfl)
theorem dX3_readCard_1 : decode cX3_readCard 1 = .ok (.istore_n 2, 1) := dk_61 (dk_at dksX3_readCard_0 1 rfl rfl)
theorem dX3_readCard_2 : decode cX3_readCard 2 = .ok (.iload_n 2, 1) := dk_28 (dk_at dksX3_readCard_0 2 rfl rfl)
theorem dX3_readCard_3 : decode cX3_readCard 3 = .ok (.iconst 4, 1) := dk_7 (dk_at dksX3_readCard_0 3 rfl rfl)
theorem dX3_readCard_4 : decode cX3_readCard 4 = .ok (.if_icmp .ge 66, 3) := dk_162 0 66 (dk_at dksX3_readCard_0 4 rfl rfl)
theorem dX3_readCard_7 : decode cX3_readCard 7 = .ok (.aload_n 0, 1) := dk_42 (dk_at dksX3_readCard_0 7 rfl rfl)
theorem dX3_readCard_8 : decode cX3_readCard 8 = .ok (.getfield 118, 3) := dk_180 0 118 (dk_at dksX3_readCard_0 8 rfl rfl)
theorem dX3_readCard_11 : decode cX3_readCard 11 = .ok (.ifCond .ge 59, 3) := dk_156 0 59 (dk_at dksX3_readCard_0 11 rfl rfl)
theorem dX3_readCard_14 : decode cX3_readCard 14 = .ok (.aload_n 0, 1) := dk_42 (dk_at dksX3_readCard_0 14 rfl rfl)
theorem dX3_readCard_15 : decode cX3_readCard 15 = .ok (.invokevirtual 121, 3) := dk_182 0 121 (dk_at dksX3_readCard_0 15 rfl rfl)
theorem dX3_readCard_18 : decode cX3_readCard 18 = .ok (.bipush 97, 2) := dk_16 97 (dk_at dksX3_readCard_0 18 rfl rfl)
theorem dX3_readCard_20 : decode cX3_readCard 20 = .ok (.bipush 106, 2) := dk_16 106 (dk_at dksX3_readCard_0 20 rfl rfl)
theorem dX3_readCard_22 : decode cX3_readCard 22 = .ok (.invokestatic 108, 3) := dk_184 0 108 (dk_at dksX3_readCard_1 0 rfl rfl)
theorem dX3_readCard_25 : decode cX3_readCard 25 = .ok (.ifCond .ne 12, 3) := dk_154 0 12 (dk_at dksX3_readCard_1 3 rfl rfl)
theorem dX3_readCard_28 : decode cX3_readCard 28 = .ok (.aload_n 0, 1) := dk_42 (dk_at dksX3_readCard_1 6 rfl rfl)
theorem dX3_readCard_29 : decode cX3_readCard 29 = .ok (.aload_n 0, 1) := dk_42 (dk_at dksX3_readCard_1 7 rfl rfl)
theorem dX3_readCard_30 : decode cX3_readCard 30 = .ok (.getfield 115, 3) := dk_180 0 115 (dk_at dksX3_readCard_1 8 rfl rfl)
theorem dX3_readCard_33 : decode cX3_readCard 33 = .ok (.invokevirtual 125, 3) := dk_182 0 125 (dk_at dksX3_readCard_1 11 rfl rfl)
theorem dX3_readCard_36 : decode cX3_readCard 36 = .ok (.return_, 1) := dk_177 (dk_at dksX3_readCard_1 14 rfl rfl)
theorem dX3_readCard_37 : decode cX3_readCard 37 = .ok (.aload_n 0, 1) := dk_42 (dk_at dksX3_readCard_1 15 rfl rfl)
theorem dX3_readCard_38 : decode cX3_readCard 38 = .ok (.getfield 71, 3) := dk_180 0 71 (dk_at dksX3_readCard_1 16 rfl rfl)
theorem dX3_readCard_41 : decode cX3_readCard 41 = .ok (.iconst 4, 1) := dk_7 (dk_at dksX3_readCard_1 19 rfl rfl)
theorem dX3_readCard_42 : decode cX3_readCard 42 = .ok (.iload_n 1, 1) := dk_27 (dk_at dksX3_readCard_1 20 rfl rfl)
theorem dX3_readCard_43 : decode cX3_readCard 43 = .ok (.imul, 1) := dk_104 (dk_at dksX3_readCard_1 21 rfl rfl)
theorem dX3_readCard_44 : decode cX3_readCard 44 = .ok (.iload_n 2, 1) := dk_28 (dk_at dksX3_readCard_1 22 rfl rfl)
theorem dX3_readCard_45 : decode cX3_readCard 45 = .ok (.iadd, 1) := dk_96 (dk_at dksX3_readCard_1 23 rfl rfl)
theorem dX3_readCard_46 : decode cX3_readCard 46 = .ok (.aload_n 0, 1) := dk_42 (dk_at dksX3_readCard_2 0 rfl rfl)
theorem dX3_readCard_47 : decode cX3_readCard 47 = .ok (.invokevirtual 121, 3) := dk_182 0 121 (dk_at dksX3_readCard_2 1 rfl rfl)
theorem dX3_readCard_50 : decode cX3_readCard 50 = .ok (.bipush 97, 2) := dk_16 97 (dk_at dksX3_readCard_2 4 rfl rfl)
theorem dX3_readCard_52 : decode cX3_readCard 52 = .ok (.isub, 1) := dk_100 (dk_at dksX3_readCard_2 6 rfl rfl)
theorem dX3_readCard_53 : decode cX3_readCard 53 = .ok (.iastore, 1) := dk_79 (dk_at dksX3_readCard_2 7 rfl rfl)
theorem dX3_readCard_54 : decode cX3_readCard 54 = .ok (.aload_n 0, 1) := dk_42 (dk_at dksX3_readCard_2 8 rfl rfl)
theorem dX3_readCard_55 : decode cX3_readCard 55 = .ok (.dup, 1) := dk_89 (dk_at dksX3_readCard_2 9 rfl rfl)
theorem dX3_readCard_56 : decode cX3_readCard 56 = .ok (.getfield 115, 3) := dk_180 0 115 (dk_at dksX3_readCard_2 10 rfl rfl)
theorem dX3_readCard_59 : decode cX3_readCard 59 = .ok (.iconst 1, 1) := dk_4 (dk_at dksX3_readCard_2 13 rfl rfl)
theorem dX3_readCard_60 : decode cX3_readCard 60 = .ok (.iadd, 1) := dk_96 (dk_at dksX3_readCard_2 14 rfl rfl)
theorem dX3_readCard_61 : decode cX3_readCard 61 = .ok (.putfield 115, 3) := dk_181 0 115 (dk_at dksX3_readCard_2 15 rfl rfl)
theorem dX3_readCard_64 : decode cX3_readCard 64 = .ok (.iinc 2 1, 3) := dk_132 2 1 (dk_at dksX3_readCard_2 18 rfl rfl)
theorem dX3_readCard_67 : decode cX3_readCard 67 = .ok (.goto (-65), 3) := dk_167 255 191 (dk_at dksX3_readCard_2 21 rfl rfl)
theorem dX3_readCard_70 : decode cX3_readCard 70 = .ok (.aload_n 0, 1) := dk_42 (dk_at dksX3_readCard_3 0 rfl rfl)
theorem dX3_readCard_71 : decode cX3_readCard 71 = .ok (.getfield 118, 3) := dk_180 0 118 (dk_at dksX3_readCard_3 1 rfl rfl)
theorem dX3_readCard_74 : decode cX3_readCard 74 = .ok (.ifCond .lt 4, 3) := dk_155 0 4 (dk_at dksX3_readCard_3 4 rfl rfl)
theorem dX3_readCard_77 : decode cX3_readCard 77 = .ok (.return_, 1) := dk_177 (dk_at dksX3_readCard_3 7 rfl rfl)
theorem dX3_readCard_78 : decode cX3_readCard 78 = .ok (.aload_n 0, 1) := dk_42 (dk_at dksX3_readCard_3 8 rfl rfl)
theorem dX3_readCard_79 : decode cX3_readCard 79 = .ok (.invokevirtual 121, 3) := dk_182 0 121 (dk_at dksX3_readCard_3 9 rfl rfl)
theorem dX3_readCard_82 : decode cX3_readCard 82 = .ok (.bipush 83, 2) := dk_16 83 (dk_at dksX3_readCard_3 12 rfl rfl)
theorem dX3_readCard_84 : decode cX3_readCard 84 = .ok (.if_icmp .eq 21, 3) := dk_159 0 21 (dk_at dksX3_readCard_3 14 rfl rfl)
theorem dX3_readCard_87 : decode cX3_readCard 87 = .ok (.aload_n 0, 1) := dk_42 (dk_at dksX3_readCard_3 17 rfl rfl)
theorem dX3_readCard_88 : decode cX3_readCard 88 = .ok (.invokevirtual 121, 3) := dk_182 0 121 (dk_at dksX3_readCard_3 18 rfl rfl)
theorem dX3_readCard_91 : decode cX3_readCard 91 = .ok (.bipush 90, 2) := dk_16 90 (dk_at dksX3_readCard_3 21 rfl rfl)
theorem dX3_readCard_93 : decode cX3_readCard 93 = .ok (.if_icmp .eq 12, 3) := dk_159 0 12 (dk_at dksX3_readCard_4 0 rfl rfl)
theorem dX3_readCard_96 : decode cX3_readCard 96 = .ok (.aload_n 0, 1) := dk_42 (dk_at dksX3_readCard_4 3 rfl rfl)
theorem dX3_readCard_97 : decode cX3_readCard 97 = .ok (.aload_n 0, 1) := dk_42 (dk_at dksX3_readCard_4 4 rfl rfl)
theorem dX3_readCard_98 : decode cX3_readCard 98 = .ok (.getfield 115, 3) := dk_180 0 115 (dk_at dksX3_readCard_4 5 rfl rfl)
theorem dX3_readCard_101 : decode cX3_readCard 101 = .ok (.invokevirtual 125, 3) := dk_182 0 125 (dk_at dksX3_readCard_4 8 rfl rfl)
theorem dX3_readCard_104 : decode cX3_readCard 104 = .ok (.return_, 1) := dk_177 (dk_at dksX3_readCard_4 11 rfl rfl)
theorem dX3_readCard_105 : decode cX3_readCard 105 = .ok (.aload_n 0, 1) := dk_42 (dk_at dksX3_readCard_4 12 rfl rfl)
theorem dX3_readCard_106 : decode cX3_readCard 106 = .ok (.getfield 74, 3) := dk_180 0 74 (dk_at dksX3_readCard_4 13 rfl rfl)
theorem dX3_readCard_109 : decode cX3_readCard 109 = .ok (.iload_n 1, 1) := dk_27 (dk_at dksX3_readCard_4 16 rfl rfl)
theorem dX3_readCard_110 : decode cX3_readCard 110 = .ok (.aload_n 0, 1) := dk_42 (dk_at dksX3_readCard_4 17 rfl rfl)
theorem dX3_readCard_111 : decode cX3_readCard 111 = .ok (.invokevirtual 121, 3) := dk_182 0 121 (dk_at dksX3_readCard_4 18 rfl rfl)
theorem dX3_readCard_114 : decode cX3_readCard 114 = .ok (.bipush 90, 2) := dk_16 90 (dk_at dksX3_readCard_4 21 rfl rfl)
theorem dX3_readCard_116 : decode cX3_readCard 116 = .ok (.if_icmp .ne 7, 3) := dk_160 0 7 (dk_at dksX3_readCard_5 0 rfl rfl)
theorem dX3_readCard_119 : decode cX3_readCard 119 = .ok (.iconst 1, 1) := dk_4 (dk_at dksX3_readCard_5 3 rfl rfl)
theorem dX3_readCard_120 : decode cX3_readCard 120 = .ok (.goto 4, 3) := dk_167 0 4 (dk_at dksX3_readCard_5 4 rfl rfl)
theorem dX3_readCard_123 : decode cX3_readCard 123 = .ok (.iconst 0, 1) := dk_3 (dk_at dksX3_readCard_5 7 rfl rfl)
theorem dX3_readCard_124 : decode cX3_readCard 124 = .ok (.iastore, 1) := dk_79 (dk_at dksX3_readCard_5 8 rfl rfl)
theorem dX3_readCard_125 : decode cX3_readCard 125 = .ok (.aload_n 0, 1) := dk_42 (dk_at dksX3_readCard_5 9 rfl rfl)
theorem dX3_readCard_126 : decode cX3_readCard 126 = .ok (.dup, 1) := dk_89 (dk_at dksX3_readCard_5 10 rfl rfl)
theorem dX3_readCard_127 : decode cX3_readCard 127 = .ok (.getfield 115, 3) := dk_180 0 115 (dk_at dksX3_readCard_5 11 rfl rfl)
theorem dX3_readCard_130 : decode cX3_readCard 130 = .ok (.iconst 1, 1) := dk_4 (dk_at dksX3_readCard_5 14 rfl rfl)
theorem dX3_readCard_131 : decode cX3_readCard 131 = .ok (.iadd, 1) := dk_96 (dk_at dksX3_readCard_5 15 rfl rfl)
theorem dX3_readCard_132 : decode cX3_readCard 132 = .ok (.putfield 115, 3) := dk_181 0 115 (dk_at dksX3_readCard_5 16 rfl rfl)
theorem dX3_readCard_135 : decode cX3_readCard 135 = .ok (.return_, 1) := dk_177 (dk_at dksX3_readCard_5 19 rfl rfl)
abbrev cX3_card : ByteArray := prog_20_method_19_code
def yX3_card : MethodName := ⟨RX3, "card", "(II)I"⟩
def dkwX3_card_4 : List UInt8 := [27, 104, 28, 96, 46, 172]
abbrev dktX3_card_4 : List UInt8 := dkwX3_card_4 ++ []
def dkwX3_card_3 : List UInt8 := [42, 27, 182, 0, 165, 172, 42, 3, 27, 42, 180, 0, 17, 3, 46, 182, 0, 148, 172, 42, 180, 0, 20, 7]
abbrev dktX3_card_3 : List UInt8 := dkwX3_card_3 ++ dktX3_card_4
def dkwX3_card_2 : List UInt8 := [42, 180, 0, 23, 27, 46, 172, 42, 180, 0, 26, 27, 46, 172, 42, 180, 0, 29, 27, 46, 16, 100, 96, 172]
abbrev dktX3_card_2 : List UInt8 := dkwX3_card_2 ++ dktX3_card_3
def dkwX3_card_1 : List UInt8 := [170, 0, 0, 0, 0, 0, 78, 0, 0, 0, 4, 0, 0, 0, 8, 0, 0, 0, 35, 0, 0, 0, 42, 0, 0, 0, 49, 0, 0, 0, 59, 0, 0, 0, 65]
abbrev dktX3_card_1 : List UInt8 := dkwX3_card_1 ++ dktX3_card_2
def dkwX3_card_0 : List UInt8 := [42, 27, 182, 0, 161, 153, 0, 13, 28, 3, 16, 8, 184, 0, 108, 154, 0, 5, 2, 172, 28]
abbrev dktX3_card_0 : List UInt8 := dkwX3_card_0 ++ dktX3_card_1
theorem dksX3_card_0 : cX3_card.data.toList.drop 0 = dktX3_card_0 := by decide +kernel
theorem dksX3_card_1 : cX3_card.data.toList.drop 21 = dktX3_card_1 := dk_seg dksX3_card_0 21 rfl rfl
theorem dksX3_card_2 : cX3_card.data.toList.drop 56 = dktX3_card_2 := dk_seg dksX3_card_1 35 rfl rfl
theorem dksX3_card_3 : cX3_card.data.toList.drop 80 = dktX3_card_3 := dk_seg dksX3_card_2 24 rfl rfl
theorem dksX3_card_4 : cX3_card.data.toList.drop 104 = dktX3_card_4 := dk_seg dksX3_card_3 24 rfl rfl
theorem dX3_card_0 : decode cX3_card 0 = .ok (.aload_n 0, 1) := dk_42 (dk_at dksX3_card_0 0 rfl rfl)
theorem dX3_card_1 : decode cX3_card 1 = .ok (.iload_n 1, 1) := dk_27 (dk_at dksX3_card_0 1 rfl rfl)
theorem dX3_card_2 : decode cX3_card 2 = .ok (.invokevirtual 161, 3) := dk_182 0 161 (dk_at dksX3_card_0 2 rfl rfl)
theorem dX3_card_5 : decode cX3_card 5 = .ok (.ifCond .eq 13, 3) := dk_153 0 13 (dk_at dksX3_card_0 5 rfl rfl)
theorem dX3_card_8 : decode cX3_card 8 = .ok (.iload_n 2, 1) := dk_28 (dk_at dksX3_card_0 8 rfl rfl)
theorem dX3_card_9 : decode cX3_card 9 = .ok (.iconst 0, 1) := dk_3 (dk_at dksX3_card_0 9 rfl rfl)
theorem dX3_card_10 : decode cX3_card 10 = .ok (.bipush 8, 2) := dk_16 8 (dk_at dksX3_card_0 10 rfl rfl)
theorem dX3_card_12 : decode cX3_card 12 = .ok (.invokestatic 108, 3) := dk_184 0 108 (dk_at dksX3_card_0 12 rfl rfl)
theorem dX3_card_15 : decode cX3_card 15 = .ok (.ifCond .ne 5, 3) := dk_154 0 5 (dk_at dksX3_card_0 15 rfl rfl)
theorem dX3_card_18 : decode cX3_card 18 = .ok (.iconst (-1), 1) := dk_2 (dk_at dksX3_card_0 18 rfl rfl)
theorem dX3_card_19 : decode cX3_card 19 = .ok (.ireturn, 1) := dk_172 (dk_at dksX3_card_0 19 rfl rfl)
theorem dX3_card_20 : decode cX3_card 20 = .ok (.iload_n 2, 1) := dk_28 (dk_at dksX3_card_0 20 rfl rfl)
theorem dX3_card_21 : decode cX3_card 21 = .ok (.tableswitch 78 4 8 #[35, 42, 49, 59, 65], 35) := by decide +kernel
theorem dX3_card_56 : decode cX3_card 56 = .ok (.aload_n 0, 1) := dk_42 (dk_at dksX3_card_2 0 rfl rfl)
theorem dX3_card_57 : decode cX3_card 57 = .ok (.getfield 23, 3) := dk_180 0 23 (dk_at dksX3_card_2 1 rfl rfl)
theorem dX3_card_60 : decode cX3_card 60 = .ok (.iload_n 1, 1) := dk_27 (dk_at dksX3_card_2 4 rfl rfl)
theorem dX3_card_61 : decode cX3_card 61 = .ok (.iaload, 1) := dk_46 (dk_at dksX3_card_2 5 rfl rfl)
theorem dX3_card_62 : decode cX3_card 62 = .ok (.ireturn, 1) := dk_172 (dk_at dksX3_card_2 6 rfl rfl)
theorem dX3_card_63 : decode cX3_card 63 = .ok (.aload_n 0, 1) := dk_42 (dk_at dksX3_card_2 7 rfl rfl)
theorem dX3_card_64 : decode cX3_card 64 = .ok (.getfield 26, 3) := dk_180 0 26 (dk_at dksX3_card_2 8 rfl rfl)
theorem dX3_card_67 : decode cX3_card 67 = .ok (.iload_n 1, 1) := dk_27 (dk_at dksX3_card_2 11 rfl rfl)
theorem dX3_card_68 : decode cX3_card 68 = .ok (.iaload, 1) := dk_46 (dk_at dksX3_card_2 12 rfl rfl)
theorem dX3_card_69 : decode cX3_card 69 = .ok (.ireturn, 1) := dk_172 (dk_at dksX3_card_2 13 rfl rfl)
theorem dX3_card_70 : decode cX3_card 70 = .ok (.aload_n 0, 1) := dk_42 (dk_at dksX3_card_2 14 rfl rfl)
theorem dX3_card_71 : decode cX3_card 71 = .ok (.getfield 29, 3) := dk_180 0 29 (dk_at dksX3_card_2 15 rfl rfl)
theorem dX3_card_74 : decode cX3_card 74 = .ok (.iload_n 1, 1) := dk_27 (dk_at dksX3_card_2 18 rfl rfl)
theorem dX3_card_75 : decode cX3_card 75 = .ok (.iaload, 1) := dk_46 (dk_at dksX3_card_2 19 rfl rfl)
theorem dX3_card_76 : decode cX3_card 76 = .ok (.bipush 100, 2) := dk_16 100 (dk_at dksX3_card_2 20 rfl rfl)
theorem dX3_card_78 : decode cX3_card 78 = .ok (.iadd, 1) := dk_96 (dk_at dksX3_card_2 22 rfl rfl)
theorem dX3_card_79 : decode cX3_card 79 = .ok (.ireturn, 1) := dk_172 (dk_at dksX3_card_2 23 rfl rfl)
theorem dX3_card_80 : decode cX3_card 80 = .ok (.aload_n 0, 1) := dk_42 (dk_at dksX3_card_3 0 rfl rfl)
theorem dX3_card_81 : decode cX3_card 81 = .ok (.iload_n 1, 1) := dk_27 (dk_at dksX3_card_3 1 rfl rfl)
theorem dX3_card_82 : decode cX3_card 82 = .ok (.invokevirtual 165, 3) := dk_182 0 165 (dk_at dksX3_card_3 2 rfl rfl)
theorem dX3_card_85 : decode cX3_card 85 = .ok (.ireturn, 1) := dk_172 (dk_at dksX3_card_3 5 rfl rfl)
theorem dX3_card_86 : decode cX3_card 86 = .ok (.aload_n 0, 1) := dk_42 (dk_at dksX3_card_3 6 rfl rfl)
theorem dX3_card_87 : decode cX3_card 87 = .ok (.iconst 0, 1) := dk_3 (dk_at dksX3_card_3 7 rfl rfl)
theorem dX3_card_88 : decode cX3_card 88 = .ok (.iload_n 1, 1) := dk_27 (dk_at dksX3_card_3 8 rfl rfl)
theorem dX3_card_89 : decode cX3_card 89 = .ok (.aload_n 0, 1) := dk_42 (dk_at dksX3_card_3 9 rfl rfl)
theorem dX3_card_90 : decode cX3_card 90 = .ok (.getfield 17, 3) := dk_180 0 17 (dk_at dksX3_card_3 10 rfl rfl)
theorem dX3_card_93 : decode cX3_card 93 = .ok (.iconst 0, 1) := dk_3 (dk_at dksX3_card_3 13 rfl rfl)
theorem dX3_card_94 : decode cX3_card 94 = .ok (.iaload, 1) := dk_46 (dk_at dksX3_card_3 14 rfl rfl)
theorem dX3_card_95 : decode cX3_card 95 = .ok (.invokevirtual 148, 3) := dk_182 0 148 (dk_at dksX3_card_3 15 rfl rfl)
theorem dX3_card_98 : decode cX3_card 98 = .ok (.ireturn, 1) := dk_172 (dk_at dksX3_card_3 18 rfl rfl)
theorem dX3_card_99 : decode cX3_card 99 = .ok (.aload_n 0, 1) := dk_42 (dk_at dksX3_card_3 19 rfl rfl)
theorem dX3_card_100 : decode cX3_card 100 = .ok (.getfield 20, 3) := dk_180 0 20 (dk_at dksX3_card_3 20 rfl rfl)
theorem dX3_card_103 : decode cX3_card 103 = .ok (.iconst 4, 1) := dk_7 (dk_at dksX3_card_3 23 rfl rfl)
theorem dX3_card_104 : decode cX3_card 104 = .ok (.iload_n 1, 1) := dk_27 (dk_at dksX3_card_4 0 rfl rfl)
theorem dX3_card_105 : decode cX3_card 105 = .ok (.imul, 1) := dk_104 (dk_at dksX3_card_4 1 rfl rfl)
theorem dX3_card_106 : decode cX3_card 106 = .ok (.iload_n 2, 1) := dk_28 (dk_at dksX3_card_4 2 rfl rfl)
theorem dX3_card_107 : decode cX3_card 107 = .ok (.iadd, 1) := dk_96 (dk_at dksX3_card_4 3 rfl rfl)
theorem dX3_card_108 : decode cX3_card 108 = .ok (.iaload, 1) := dk_46 (dk_at dksX3_card_4 4 rfl rfl)
theorem dX3_card_109 : decode cX3_card 109 = .ok (.ireturn, 1) := dk_172 (dk_at dksX3_card_4 5 rfl rfl)
abbrev cX3_isCard : ByteArray := prog_20_method_4_code
def yX3_isCard : MethodName := ⟨RX3, "isCard", "(I)Z"⟩
def dkwX3_isCard_0 : List UInt8 := [27, 3, 42, 180, 0, 13, 3, 46, 4, 100, 184, 0, 108, 172]
abbrev dktX3_isCard_0 : List UInt8 := dkwX3_isCard_0 ++ []
theorem dksX3_isCard_0 : cX3_isCard.data.toList.drop 0 = dktX3_isCard_0 := by decide +kernel
theorem dX3_isCard_0 : decode cX3_isCard 0 = .ok (.iload_n 1, 1) := dk_27 (dk_at dksX3_isCard_0 0 rfl rfl)
theorem dX3_isCard_1 : decode cX3_isCard 1 = .ok (.iconst 0, 1) := dk_3 (dk_at dksX3_isCard_0 1 rfl rfl)
theorem dX3_isCard_2 : decode cX3_isCard 2 = .ok (.aload_n 0, 1) := dk_42 (dk_at dksX3_isCard_0 2 rfl rfl)
theorem dX3_isCard_3 : decode cX3_isCard 3 = .ok (.getfield 13, 3) := dk_180 0 13 (dk_at dksX3_isCard_0 3 rfl rfl)
theorem dX3_isCard_6 : decode cX3_isCard 6 = .ok (.iconst 0, 1) := dk_3 (dk_at dksX3_isCard_0 6 rfl rfl)
theorem dX3_isCard_7 : decode cX3_isCard 7 = .ok (.iaload, 1) := dk_46 (dk_at dksX3_isCard_0 7 rfl rfl)
theorem dX3_isCard_8 : decode cX3_isCard 8 = .ok (.iconst 1, 1) := dk_4 (dk_at dksX3_isCard_0 8 rfl rfl)
theorem dX3_isCard_9 : decode cX3_isCard 9 = .ok (.isub, 1) := dk_100 (dk_at dksX3_isCard_0 9 rfl rfl)
theorem dX3_isCard_10 : decode cX3_isCard 10 = .ok (.invokestatic 108, 3) := dk_184 0 108 (dk_at dksX3_isCard_0 10 rfl rfl)
theorem dX3_isCard_13 : decode cX3_isCard 13 = .ok (.ireturn, 1) := dk_172 (dk_at dksX3_isCard_0 13 rfl rfl)
abbrev cX3_floatOf : ByteArray := prog_20_method_18_code
def yX3_floatOf : MethodName := ⟨RX3, "floatOf", "(I)I"⟩
def dkwX3_floatOf_2 : List UInt8 := [132, 4, 1, 167, 255, 213, 28, 172]
abbrev dktX3_floatOf_2 : List UInt8 := dkwX3_floatOf_2 ++ []
def dkwX3_floatOf_1 : List UInt8 := [21, 4, 104, 27, 96, 46, 154, 0, 9, 29, 4, 96, 167, 0, 4, 3, 62, 28, 29, 184, 0, 155, 61]
abbrev dktX3_floatOf_1 : List UInt8 := dkwX3_floatOf_1 ++ dktX3_floatOf_2
def dkwX3_floatOf_0 : List UInt8 := [3, 61, 3, 62, 3, 54, 4, 21, 4, 42, 180, 0, 17, 3, 46, 162, 0, 38, 42, 180, 0, 41, 16, 10]
abbrev dktX3_floatOf_0 : List UInt8 := dkwX3_floatOf_0 ++ dktX3_floatOf_1
theorem dksX3_floatOf_0 : cX3_floatOf.data.toList.drop 0 = dktX3_floatOf_0 := by decide +kernel
theorem dksX3_floatOf_1 : cX3_floatOf.data.toList.drop 24 = dktX3_floatOf_1 := dk_seg dksX3_floatOf_0 24 rfl rfl
theorem dksX3_floatOf_2 : cX3_floatOf.data.toList.drop 47 = dktX3_floatOf_2 := dk_seg dksX3_floatOf_1 23 rfl rfl
theorem dX3_floatOf_0 : decode cX3_floatOf 0 = .ok (.iconst 0, 1) := dk_3 (dk_at dksX3_floatOf_0 0 rfl rfl)
theorem dX3_floatOf_1 : decode cX3_floatOf 1 = .ok (.istore_n 2, 1) := dk_61 (dk_at dksX3_floatOf_0 1 rfl rfl)
theorem dX3_floatOf_2 : decode cX3_floatOf 2 = .ok (.iconst 0, 1) := dk_3 (dk_at dksX3_floatOf_0 2 rfl rfl)
theorem dX3_floatOf_3 : decode cX3_floatOf 3 = .ok (.istore_n 3, 1) := dk_62 (dk_at dksX3_floatOf_0 3 rfl rfl)
theorem dX3_floatOf_4 : decode cX3_floatOf 4 = .ok (.iconst 0, 1) := dk_3 (dk_at dksX3_floatOf_0 4 rfl rfl)
theorem dX3_floatOf_5 : decode cX3_floatOf 5 = .ok (.istore 4, 2) := dk_54 4 (dk_at dksX3_floatOf_0 5 rfl rfl)
theorem dX3_floatOf_7 : decode cX3_floatOf 7 = .ok (.iload 4, 2) := dk_21 4 (dk_at dksX3_floatOf_0 7 rfl rfl)
theorem dX3_floatOf_9 : decode cX3_floatOf 9 = .ok (.aload_n 0, 1) := dk_42 (dk_at dksX3_floatOf_0 9 rfl rfl)
theorem dX3_floatOf_10 : decode cX3_floatOf 10 = .ok (.getfield 17, 3) := dk_180 0 17 (dk_at dksX3_floatOf_0 10 rfl rfl)
theorem dX3_floatOf_13 : decode cX3_floatOf 13 = .ok (.iconst 0, 1) := dk_3 (dk_at dksX3_floatOf_0 13 rfl rfl)
theorem dX3_floatOf_14 : decode cX3_floatOf 14 = .ok (.iaload, 1) := dk_46 (dk_at dksX3_floatOf_0 14 rfl rfl)
theorem dX3_floatOf_15 : decode cX3_floatOf 15 = .ok (.if_icmp .ge 38, 3) := dk_162 0 38 (dk_at dksX3_floatOf_0 15 rfl rfl)
theorem dX3_floatOf_18 : decode cX3_floatOf 18 = .ok (.aload_n 0, 1) := dk_42 (dk_at dksX3_floatOf_0 18 rfl rfl)
theorem dX3_floatOf_19 : decode cX3_floatOf 19 = .ok (.getfield 41, 3) := dk_180 0 41 (dk_at dksX3_floatOf_0 19 rfl rfl)
theorem dX3_floatOf_22 : decode cX3_floatOf 22 = .ok (.bipush 10, 2) := dk_16 10 (dk_at dksX3_floatOf_0 22 rfl rfl)
theorem dX3_floatOf_24 : decode cX3_floatOf 24 = .ok (.iload 4, 2) := dk_21 4 (dk_at dksX3_floatOf_1 0 rfl rfl)
theorem dX3_floatOf_26 : decode cX3_floatOf 26 = .ok (.imul, 1) := dk_104 (dk_at dksX3_floatOf_1 2 rfl rfl)
theorem dX3_floatOf_27 : decode cX3_floatOf 27 = .ok (.iload_n 1, 1) := dk_27 (dk_at dksX3_floatOf_1 3 rfl rfl)
theorem dX3_floatOf_28 : decode cX3_floatOf 28 = .ok (.iadd, 1) := dk_96 (dk_at dksX3_floatOf_1 4 rfl rfl)
theorem dX3_floatOf_29 : decode cX3_floatOf 29 = .ok (.iaload, 1) := dk_46 (dk_at dksX3_floatOf_1 5 rfl rfl)
theorem dX3_floatOf_30 : decode cX3_floatOf 30 = .ok (.ifCond .ne 9, 3) := dk_154 0 9 (dk_at dksX3_floatOf_1 6 rfl rfl)
theorem dX3_floatOf_33 : decode cX3_floatOf 33 = .ok (.iload_n 3, 1) := dk_29 (dk_at dksX3_floatOf_1 9 rfl rfl)
theorem dX3_floatOf_34 : decode cX3_floatOf 34 = .ok (.iconst 1, 1) := dk_4 (dk_at dksX3_floatOf_1 10 rfl rfl)
theorem dX3_floatOf_35 : decode cX3_floatOf 35 = .ok (.iadd, 1) := dk_96 (dk_at dksX3_floatOf_1 11 rfl rfl)
theorem dX3_floatOf_36 : decode cX3_floatOf 36 = .ok (.goto 4, 3) := dk_167 0 4 (dk_at dksX3_floatOf_1 12 rfl rfl)
theorem dX3_floatOf_39 : decode cX3_floatOf 39 = .ok (.iconst 0, 1) := dk_3 (dk_at dksX3_floatOf_1 15 rfl rfl)
theorem dX3_floatOf_40 : decode cX3_floatOf 40 = .ok (.istore_n 3, 1) := dk_62 (dk_at dksX3_floatOf_1 16 rfl rfl)
theorem dX3_floatOf_41 : decode cX3_floatOf 41 = .ok (.iload_n 2, 1) := dk_28 (dk_at dksX3_floatOf_1 17 rfl rfl)
theorem dX3_floatOf_42 : decode cX3_floatOf 42 = .ok (.iload_n 3, 1) := dk_29 (dk_at dksX3_floatOf_1 18 rfl rfl)
theorem dX3_floatOf_43 : decode cX3_floatOf 43 = .ok (.invokestatic 155, 3) := dk_184 0 155 (dk_at dksX3_floatOf_1 19 rfl rfl)
theorem dX3_floatOf_46 : decode cX3_floatOf 46 = .ok (.istore_n 2, 1) := dk_61 (dk_at dksX3_floatOf_1 22 rfl rfl)
theorem dX3_floatOf_47 : decode cX3_floatOf 47 = .ok (.iinc 4 1, 3) := dk_132 4 1 (dk_at dksX3_floatOf_2 0 rfl rfl)
theorem dX3_floatOf_50 : decode cX3_floatOf 50 = .ok (.goto (-43), 3) := dk_167 255 213 (dk_at dksX3_floatOf_2 3 rfl rfl)
theorem dX3_floatOf_53 : decode cX3_floatOf 53 = .ok (.iload_n 2, 1) := dk_28 (dk_at dksX3_floatOf_2 6 rfl rfl)
theorem dX3_floatOf_54 : decode cX3_floatOf 54 = .ok (.ireturn, 1) := dk_172 (dk_at dksX3_floatOf_2 7 rfl rfl)
abbrev cX3_lawOf : ByteArray := prog_20_method_15_code
def yX3_lawOf : MethodName := ⟨RX3, "lawOf", "(III)I"⟩
def dkwX3_lawOf_11 : List UInt8 := [180, 0, 53, 27, 46, 28, 29, 182, 0, 148, 172]
abbrev dktX3_lawOf_11 : List UInt8 := dkwX3_lawOf_11 ++ []
def dkwX3_lawOf_10 : List UInt8 := [180, 0, 50, 27, 46, 28, 29, 182, 0, 148, 54, 5, 21, 5, 153, 0, 8, 21, 5, 167, 0, 15, 42, 42]
abbrev dktX3_lawOf_10 : List UInt8 := dkwX3_lawOf_10 ++ dktX3_lawOf_11
def dkwX3_lawOf_9 : List UInt8 := [160, 0, 7, 5, 167, 0, 15, 21, 5, 5, 160, 0, 7, 4, 167, 0, 5, 21, 5, 172, 42, 42]
abbrev dktX3_lawOf_9 : List UInt8 := dkwX3_lawOf_9 ++ dktX3_lawOf_10
def dkwX3_lawOf_8 : List UInt8 := [100, 29, 182, 0, 148, 172, 42, 42, 180, 0, 50, 27, 46, 28, 29, 182, 0, 148, 54, 5, 21, 5, 4]
abbrev dktX3_lawOf_8 : List UInt8 := dkwX3_lawOf_8 ++ dktX3_lawOf_9
def dkwX3_lawOf_7 : List UInt8 := [28, 29, 28, 96, 182, 0, 148, 172, 42, 42, 180, 0, 50, 27, 46, 42, 180, 0, 13, 3, 46, 4, 100, 28]
abbrev dktX3_lawOf_7 : List UInt8 := dkwX3_lawOf_7 ++ dktX3_lawOf_8
def dkwX3_lawOf_6 : List UInt8 := [172, 42, 42, 180, 0, 50, 27, 46, 28, 29, 21, 4, 96, 182, 0, 148, 172, 42, 42, 180, 0, 50, 27, 46]
abbrev dktX3_lawOf_6 : List UInt8 := dkwX3_lawOf_6 ++ dktX3_lawOf_7
def dkwX3_lawOf_5 : List UInt8 := [112, 154, 0, 12, 42, 180, 0, 53, 27, 46, 167, 0, 9, 42, 180, 0, 50, 27, 46, 28, 29, 182, 0, 148]
abbrev dktX3_lawOf_5 : List UInt8 := dkwX3_lawOf_5 ++ dktX3_lawOf_6
def dkwX3_lawOf_4 : List UInt8 := [180, 0, 50, 27, 46, 167, 0, 9, 42, 180, 0, 53, 27, 46, 28, 29, 182, 0, 148, 172, 42, 29, 21, 4]
abbrev dktX3_lawOf_4 : List UInt8 := dkwX3_lawOf_4 ++ dktX3_lawOf_5
def dkwX3_lawOf_3 : List UInt8 := [167, 0, 9, 42, 180, 0, 53, 27, 46, 28, 29, 182, 0, 148, 172, 42, 28, 21, 4, 162, 0, 12, 42]
abbrev dktX3_lawOf_3 : List UInt8 := dkwX3_lawOf_3 ++ dktX3_lawOf_4
def dkwX3_lawOf_2 : List UInt8 := [3, 172, 4, 172, 5, 172, 6, 172, 42, 29, 21, 4, 108, 5, 112, 154, 0, 12, 42, 180, 0, 50, 27, 46]
abbrev dktX3_lawOf_2 : List UInt8 := dkwX3_lawOf_2 ++ dktX3_lawOf_3
def dkwX3_lawOf_1 : List UInt8 := [170, 0, 0, 0, 1, 36, 0, 0, 0, 98, 0, 0, 0, 120, 0, 0, 0, 110, 0, 0, 0, 145, 0, 0, 0, 218, 0, 0, 1, 36, 0, 0, 0, 108, 0, 0, 1, 36, 0, 0, 0, 112, 0, 0, 0, 106, 0, 0, 1, 36, 0, 0, 0, 114, 0, 0, 1, 36, 0, 0, 0, 233, 0, 0, 1, 36, 0, 0, 1, 36, 0, 0, 1, 36, 0, 0, 1, 36, 0, 0, 0, 255, 0, 0, 0, 202, 0, 0, 1, 36, 0, 0, 1, 36, 0, 0, 1, 36, 0, 0, 1, 36, 0, 0, 0, 173]
abbrev dktX3_lawOf_1 : List UInt8 := dkwX3_lawOf_1 ++ dktX3_lawOf_2
def dkwX3_lawOf_0 : List UInt8 := [42, 180, 0, 47, 27, 46, 54, 4, 42, 180, 0, 44, 27, 46]
abbrev dktX3_lawOf_0 : List UInt8 := dkwX3_lawOf_0 ++ dktX3_lawOf_1
theorem dksX3_lawOf_0 : cX3_lawOf.data.toList.drop 0 = dktX3_lawOf_0 := by decide +kernel
theorem dksX3_lawOf_1 : cX3_lawOf.data.toList.drop 14 = dktX3_lawOf_1 := dk_seg dksX3_lawOf_0 14 rfl rfl
theorem dksX3_lawOf_2 : cX3_lawOf.data.toList.drop 120 = dktX3_lawOf_2 := dk_seg dksX3_lawOf_1 106 rfl rfl
theorem dksX3_lawOf_3 : cX3_lawOf.data.toList.drop 144 = dktX3_lawOf_3 := dk_seg dksX3_lawOf_2 24 rfl rfl
theorem dksX3_lawOf_4 : cX3_lawOf.data.toList.drop 167 = dktX3_lawOf_4 := dk_seg dksX3_lawOf_3 23 rfl rfl
theorem dksX3_lawOf_5 : cX3_lawOf.data.toList.drop 191 = dktX3_lawOf_5 := dk_seg dksX3_lawOf_4 24 rfl rfl
theorem dksX3_lawOf_6 : cX3_lawOf.data.toList.drop 215 = dktX3_lawOf_6 := dk_seg dksX3_lawOf_5 24 rfl rfl
theorem dksX3_lawOf_7 : cX3_lawOf.data.toList.drop 239 = dktX3_lawOf_7 := dk_seg dksX3_lawOf_6 24 rfl rfl
theorem dksX3_lawOf_8 : cX3_lawOf.data.toList.drop 263 = dktX3_lawOf_8 := dk_seg dksX3_lawOf_7 24 rfl rfl
theorem dksX3_lawOf_9 : cX3_lawOf.data.toList.drop 286 = dktX3_lawOf_9 := dk_seg dksX3_lawOf_8 23 rfl rfl
theorem dksX3_lawOf_10 : cX3_lawOf.data.toList.drop 308 = dktX3_lawOf_10 := dk_seg dksX3_lawOf_9 22 rfl rfl
theorem dksX3_lawOf_11 : cX3_lawOf.data.toList.drop 332 = dktX3_lawOf_11 := dk_seg dksX3_lawOf_10 24 rfl rfl
theorem dX3_lawOf_0 : decode cX3_lawOf 0 = .ok (.aload_n 0, 1) := dk_42 (dk_at dksX3_lawOf_0 0 rfl rfl)
theorem dX3_lawOf_1 : decode cX3_lawOf 1 = .ok (.getfield 47, 3) := dk_180 0 47 (dk_at dksX3_lawOf_0 1 rfl rfl)
theorem dX3_lawOf_4 : decode cX3_lawOf 4 = .ok (.iload_n 1, 1) := dk_27 (dk_at dksX3_lawOf_0 4 rfl rfl)
theorem dX3_lawOf_5 : decode cX3_lawOf 5 = .ok (.iaload, 1) := dk_46 (dk_at dksX3_lawOf_0 5 rfl rfl)
theorem dX3_lawOf_6 : decode cX3_lawOf 6 = .ok (.istore 4, 2) := dk_54 4 (dk_at dksX3_lawOf_0 6 rfl rfl)
theorem dX3_lawOf_8 : decode cX3_lawOf 8 = .ok (.aload_n 0, 1) := dk_42 (dk_at dksX3_lawOf_0 8 rfl rfl)
theorem dX3_lawOf_9 : decode cX3_lawOf 9 = .ok (.getfield 44, 3) := dk_180 0 44 (dk_at dksX3_lawOf_0 9 rfl rfl)
theorem dX3_lawOf_12 : decode cX3_lawOf 12 = .ok (.iload_n 1, 1) := dk_27 (dk_at dksX3_lawOf_0 12 rfl rfl)
theorem dX3_lawOf_13 : decode cX3_lawOf 13 = .ok (.iaload, 1) := dk_46 (dk_at dksX3_lawOf_0 13 rfl rfl)
theorem dX3_lawOf_14 : decode cX3_lawOf 14 = .ok (.tableswitch 292 98 120 #[110, 145, 218, 292, 108, 292, 112, 106, 292, 114, 292, 233, 292, 292, 292, 292, 255, 202, 292, 292, 292, 292, 173], 106) := by decide +kernel
theorem dX3_lawOf_120 : decode cX3_lawOf 120 = .ok (.iconst 0, 1) := dk_3 (dk_at dksX3_lawOf_2 0 rfl rfl)
theorem dX3_lawOf_121 : decode cX3_lawOf 121 = .ok (.ireturn, 1) := dk_172 (dk_at dksX3_lawOf_2 1 rfl rfl)
theorem dX3_lawOf_122 : decode cX3_lawOf 122 = .ok (.iconst 1, 1) := dk_4 (dk_at dksX3_lawOf_2 2 rfl rfl)
theorem dX3_lawOf_123 : decode cX3_lawOf 123 = .ok (.ireturn, 1) := dk_172 (dk_at dksX3_lawOf_2 3 rfl rfl)
theorem dX3_lawOf_124 : decode cX3_lawOf 124 = .ok (.iconst 2, 1) := dk_5 (dk_at dksX3_lawOf_2 4 rfl rfl)
theorem dX3_lawOf_125 : decode cX3_lawOf 125 = .ok (.ireturn, 1) := dk_172 (dk_at dksX3_lawOf_2 5 rfl rfl)
theorem dX3_lawOf_126 : decode cX3_lawOf 126 = .ok (.iconst 3, 1) := dk_6 (dk_at dksX3_lawOf_2 6 rfl rfl)
theorem dX3_lawOf_127 : decode cX3_lawOf 127 = .ok (.ireturn, 1) := dk_172 (dk_at dksX3_lawOf_2 7 rfl rfl)
theorem dX3_lawOf_128 : decode cX3_lawOf 128 = .ok (.aload_n 0, 1) := dk_42 (dk_at dksX3_lawOf_2 8 rfl rfl)
theorem dX3_lawOf_129 : decode cX3_lawOf 129 = .ok (.iload_n 3, 1) := dk_29 (dk_at dksX3_lawOf_2 9 rfl rfl)
theorem dX3_lawOf_130 : decode cX3_lawOf 130 = .ok (.iload 4, 2) := dk_21 4 (dk_at dksX3_lawOf_2 10 rfl rfl)
theorem dX3_lawOf_132 : decode cX3_lawOf 132 = .ok (.idiv, 1) := dk_108 (dk_at dksX3_lawOf_2 12 rfl rfl)
theorem dX3_lawOf_133 : decode cX3_lawOf 133 = .ok (.iconst 2, 1) := dk_5 (dk_at dksX3_lawOf_2 13 rfl rfl)
theorem dX3_lawOf_134 : decode cX3_lawOf 134 = .ok (.irem, 1) := dk_112 (dk_at dksX3_lawOf_2 14 rfl rfl)
theorem dX3_lawOf_135 : decode cX3_lawOf 135 = .ok (.ifCond .ne 12, 3) := dk_154 0 12 (dk_at dksX3_lawOf_2 15 rfl rfl)
theorem dX3_lawOf_138 : decode cX3_lawOf 138 = .ok (.aload_n 0, 1) := dk_42 (dk_at dksX3_lawOf_2 18 rfl rfl)
theorem dX3_lawOf_139 : decode cX3_lawOf 139 = .ok (.getfield 50, 3) := dk_180 0 50 (dk_at dksX3_lawOf_2 19 rfl rfl)
theorem dX3_lawOf_142 : decode cX3_lawOf 142 = .ok (.iload_n 1, 1) := dk_27 (dk_at dksX3_lawOf_2 22 rfl rfl)
theorem dX3_lawOf_143 : decode cX3_lawOf 143 = .ok (.iaload, 1) := dk_46 (dk_at dksX3_lawOf_2 23 rfl rfl)
theorem dX3_lawOf_144 : decode cX3_lawOf 144 = .ok (.goto 9, 3) := dk_167 0 9 (dk_at dksX3_lawOf_3 0 rfl rfl)
theorem dX3_lawOf_147 : decode cX3_lawOf 147 = .ok (.aload_n 0, 1) := dk_42 (dk_at dksX3_lawOf_3 3 rfl rfl)
theorem dX3_lawOf_148 : decode cX3_lawOf 148 = .ok (.getfield 53, 3) := dk_180 0 53 (dk_at dksX3_lawOf_3 4 rfl rfl)
theorem dX3_lawOf_151 : decode cX3_lawOf 151 = .ok (.iload_n 1, 1) := dk_27 (dk_at dksX3_lawOf_3 7 rfl rfl)
theorem dX3_lawOf_152 : decode cX3_lawOf 152 = .ok (.iaload, 1) := dk_46 (dk_at dksX3_lawOf_3 8 rfl rfl)
theorem dX3_lawOf_153 : decode cX3_lawOf 153 = .ok (.iload_n 2, 1) := dk_28 (dk_at dksX3_lawOf_3 9 rfl rfl)
theorem dX3_lawOf_154 : decode cX3_lawOf 154 = .ok (.iload_n 3, 1) := dk_29 (dk_at dksX3_lawOf_3 10 rfl rfl)
theorem dX3_lawOf_155 : decode cX3_lawOf 155 = .ok (.invokevirtual 148, 3) := dk_182 0 148 (dk_at dksX3_lawOf_3 11 rfl rfl)
theorem dX3_lawOf_158 : decode cX3_lawOf 158 = .ok (.ireturn, 1) := dk_172 (dk_at dksX3_lawOf_3 14 rfl rfl)
theorem dX3_lawOf_159 : decode cX3_lawOf 159 = .ok (.aload_n 0, 1) := dk_42 (dk_at dksX3_lawOf_3 15 rfl rfl)
theorem dX3_lawOf_160 : decode cX3_lawOf 160 = .ok (.iload_n 2, 1) := dk_28 (dk_at dksX3_lawOf_3 16 rfl rfl)
theorem dX3_lawOf_161 : decode cX3_lawOf 161 = .ok (.iload 4, 2) := dk_21 4 (dk_at dksX3_lawOf_3 17 rfl rfl)
theorem dX3_lawOf_163 : decode cX3_lawOf 163 = .ok (.if_icmp .ge 12, 3) := dk_162 0 12 (dk_at dksX3_lawOf_3 19 rfl rfl)
theorem dX3_lawOf_166 : decode cX3_lawOf 166 = .ok (.aload_n 0, 1) := dk_42 (dk_at dksX3_lawOf_3 22 rfl rfl)
theorem dX3_lawOf_167 : decode cX3_lawOf 167 = .ok (.getfield 50, 3) := dk_180 0 50 (dk_at dksX3_lawOf_4 0 rfl rfl)
theorem dX3_lawOf_170 : decode cX3_lawOf 170 = .ok (.iload_n 1, 1) := dk_27 (dk_at dksX3_lawOf_4 3 rfl rfl)
theorem dX3_lawOf_171 : decode cX3_lawOf 171 = .ok (.iaload, 1) := dk_46 (dk_at dksX3_lawOf_4 4 rfl rfl)
theorem dX3_lawOf_172 : decode cX3_lawOf 172 = .ok (.goto 9, 3) := dk_167 0 9 (dk_at dksX3_lawOf_4 5 rfl rfl)
theorem dX3_lawOf_175 : decode cX3_lawOf 175 = .ok (.aload_n 0, 1) := dk_42 (dk_at dksX3_lawOf_4 8 rfl rfl)
theorem dX3_lawOf_176 : decode cX3_lawOf 176 = .ok (.getfield 53, 3) := dk_180 0 53 (dk_at dksX3_lawOf_4 9 rfl rfl)
theorem dX3_lawOf_179 : decode cX3_lawOf 179 = .ok (.iload_n 1, 1) := dk_27 (dk_at dksX3_lawOf_4 12 rfl rfl)
theorem dX3_lawOf_180 : decode cX3_lawOf 180 = .ok (.iaload, 1) := dk_46 (dk_at dksX3_lawOf_4 13 rfl rfl)
theorem dX3_lawOf_181 : decode cX3_lawOf 181 = .ok (.iload_n 2, 1) := dk_28 (dk_at dksX3_lawOf_4 14 rfl rfl)
theorem dX3_lawOf_182 : decode cX3_lawOf 182 = .ok (.iload_n 3, 1) := dk_29 (dk_at dksX3_lawOf_4 15 rfl rfl)
theorem dX3_lawOf_183 : decode cX3_lawOf 183 = .ok (.invokevirtual 148, 3) := dk_182 0 148 (dk_at dksX3_lawOf_4 16 rfl rfl)
theorem dX3_lawOf_186 : decode cX3_lawOf 186 = .ok (.ireturn, 1) := dk_172 (dk_at dksX3_lawOf_4 19 rfl rfl)
theorem dX3_lawOf_187 : decode cX3_lawOf 187 = .ok (.aload_n 0, 1) := dk_42 (dk_at dksX3_lawOf_4 20 rfl rfl)
theorem dX3_lawOf_188 : decode cX3_lawOf 188 = .ok (.iload_n 3, 1) := dk_29 (dk_at dksX3_lawOf_4 21 rfl rfl)
theorem dX3_lawOf_189 : decode cX3_lawOf 189 = .ok (.iload 4, 2) := dk_21 4 (dk_at dksX3_lawOf_4 22 rfl rfl)
theorem dX3_lawOf_191 : decode cX3_lawOf 191 = .ok (.irem, 1) := dk_112 (dk_at dksX3_lawOf_5 0 rfl rfl)
theorem dX3_lawOf_192 : decode cX3_lawOf 192 = .ok (.ifCond .ne 12, 3) := dk_154 0 12 (dk_at dksX3_lawOf_5 1 rfl rfl)
theorem dX3_lawOf_195 : decode cX3_lawOf 195 = .ok (.aload_n 0, 1) := dk_42 (dk_at dksX3_lawOf_5 4 rfl rfl)
theorem dX3_lawOf_196 : decode cX3_lawOf 196 = .ok (.getfield 53, 3) := dk_180 0 53 (dk_at dksX3_lawOf_5 5 rfl rfl)
theorem dX3_lawOf_199 : decode cX3_lawOf 199 = .ok (.iload_n 1, 1) := dk_27 (dk_at dksX3_lawOf_5 8 rfl rfl)
theorem dX3_lawOf_200 : decode cX3_lawOf 200 = .ok (.iaload, 1) := dk_46 (dk_at dksX3_lawOf_5 9 rfl rfl)
theorem dX3_lawOf_201 : decode cX3_lawOf 201 = .ok (.goto 9, 3) := dk_167 0 9 (dk_at dksX3_lawOf_5 10 rfl rfl)
theorem dX3_lawOf_204 : decode cX3_lawOf 204 = .ok (.aload_n 0, 1) := dk_42 (dk_at dksX3_lawOf_5 13 rfl rfl)
theorem dX3_lawOf_205 : decode cX3_lawOf 205 = .ok (.getfield 50, 3) := dk_180 0 50 (dk_at dksX3_lawOf_5 14 rfl rfl)
theorem dX3_lawOf_208 : decode cX3_lawOf 208 = .ok (.iload_n 1, 1) := dk_27 (dk_at dksX3_lawOf_5 17 rfl rfl)
theorem dX3_lawOf_209 : decode cX3_lawOf 209 = .ok (.iaload, 1) := dk_46 (dk_at dksX3_lawOf_5 18 rfl rfl)
theorem dX3_lawOf_210 : decode cX3_lawOf 210 = .ok (.iload_n 2, 1) := dk_28 (dk_at dksX3_lawOf_5 19 rfl rfl)
theorem dX3_lawOf_211 : decode cX3_lawOf 211 = .ok (.iload_n 3, 1) := dk_29 (dk_at dksX3_lawOf_5 20 rfl rfl)
theorem dX3_lawOf_212 : decode cX3_lawOf 212 = .ok (.invokevirtual 148, 3) := dk_182 0 148 (dk_at dksX3_lawOf_5 21 rfl rfl)
theorem dX3_lawOf_215 : decode cX3_lawOf 215 = .ok (.ireturn, 1) := dk_172 (dk_at dksX3_lawOf_6 0 rfl rfl)
theorem dX3_lawOf_216 : decode cX3_lawOf 216 = .ok (.aload_n 0, 1) := dk_42 (dk_at dksX3_lawOf_6 1 rfl rfl)
theorem dX3_lawOf_217 : decode cX3_lawOf 217 = .ok (.aload_n 0, 1) := dk_42 (dk_at dksX3_lawOf_6 2 rfl rfl)
theorem dX3_lawOf_218 : decode cX3_lawOf 218 = .ok (.getfield 50, 3) := dk_180 0 50 (dk_at dksX3_lawOf_6 3 rfl rfl)
theorem dX3_lawOf_221 : decode cX3_lawOf 221 = .ok (.iload_n 1, 1) := dk_27 (dk_at dksX3_lawOf_6 6 rfl rfl)
theorem dX3_lawOf_222 : decode cX3_lawOf 222 = .ok (.iaload, 1) := dk_46 (dk_at dksX3_lawOf_6 7 rfl rfl)
theorem dX3_lawOf_223 : decode cX3_lawOf 223 = .ok (.iload_n 2, 1) := dk_28 (dk_at dksX3_lawOf_6 8 rfl rfl)
theorem dX3_lawOf_224 : decode cX3_lawOf 224 = .ok (.iload_n 3, 1) := dk_29 (dk_at dksX3_lawOf_6 9 rfl rfl)
theorem dX3_lawOf_225 : decode cX3_lawOf 225 = .ok (.iload 4, 2) := dk_21 4 (dk_at dksX3_lawOf_6 10 rfl rfl)
theorem dX3_lawOf_227 : decode cX3_lawOf 227 = .ok (.iadd, 1) := dk_96 (dk_at dksX3_lawOf_6 12 rfl rfl)
theorem dX3_lawOf_228 : decode cX3_lawOf 228 = .ok (.invokevirtual 148, 3) := dk_182 0 148 (dk_at dksX3_lawOf_6 13 rfl rfl)
theorem dX3_lawOf_231 : decode cX3_lawOf 231 = .ok (.ireturn, 1) := dk_172 (dk_at dksX3_lawOf_6 16 rfl rfl)
theorem dX3_lawOf_232 : decode cX3_lawOf 232 = .ok (.aload_n 0, 1) := dk_42 (dk_at dksX3_lawOf_6 17 rfl rfl)
theorem dX3_lawOf_233 : decode cX3_lawOf 233 = .ok (.aload_n 0, 1) := dk_42 (dk_at dksX3_lawOf_6 18 rfl rfl)
theorem dX3_lawOf_234 : decode cX3_lawOf 234 = .ok (.getfield 50, 3) := dk_180 0 50 (dk_at dksX3_lawOf_6 19 rfl rfl)
theorem dX3_lawOf_237 : decode cX3_lawOf 237 = .ok (.iload_n 1, 1) := dk_27 (dk_at dksX3_lawOf_6 22 rfl rfl)
theorem dX3_lawOf_238 : decode cX3_lawOf 238 = .ok (.iaload, 1) := dk_46 (dk_at dksX3_lawOf_6 23 rfl rfl)
theorem dX3_lawOf_239 : decode cX3_lawOf 239 = .ok (.iload_n 2, 1) := dk_28 (dk_at dksX3_lawOf_7 0 rfl rfl)
theorem dX3_lawOf_240 : decode cX3_lawOf 240 = .ok (.iload_n 3, 1) := dk_29 (dk_at dksX3_lawOf_7 1 rfl rfl)
theorem dX3_lawOf_241 : decode cX3_lawOf 241 = .ok (.iload_n 2, 1) := dk_28 (dk_at dksX3_lawOf_7 2 rfl rfl)
theorem dX3_lawOf_242 : decode cX3_lawOf 242 = .ok (.iadd, 1) := dk_96 (dk_at dksX3_lawOf_7 3 rfl rfl)
theorem dX3_lawOf_243 : decode cX3_lawOf 243 = .ok (.invokevirtual 148, 3) := dk_182 0 148 (dk_at dksX3_lawOf_7 4 rfl rfl)
theorem dX3_lawOf_246 : decode cX3_lawOf 246 = .ok (.ireturn, 1) := dk_172 (dk_at dksX3_lawOf_7 7 rfl rfl)
theorem dX3_lawOf_247 : decode cX3_lawOf 247 = .ok (.aload_n 0, 1) := dk_42 (dk_at dksX3_lawOf_7 8 rfl rfl)
theorem dX3_lawOf_248 : decode cX3_lawOf 248 = .ok (.aload_n 0, 1) := dk_42 (dk_at dksX3_lawOf_7 9 rfl rfl)
theorem dX3_lawOf_249 : decode cX3_lawOf 249 = .ok (.getfield 50, 3) := dk_180 0 50 (dk_at dksX3_lawOf_7 10 rfl rfl)
theorem dX3_lawOf_252 : decode cX3_lawOf 252 = .ok (.iload_n 1, 1) := dk_27 (dk_at dksX3_lawOf_7 13 rfl rfl)
theorem dX3_lawOf_253 : decode cX3_lawOf 253 = .ok (.iaload, 1) := dk_46 (dk_at dksX3_lawOf_7 14 rfl rfl)
theorem dX3_lawOf_254 : decode cX3_lawOf 254 = .ok (.aload_n 0, 1) := dk_42 (dk_at dksX3_lawOf_7 15 rfl rfl)
theorem dX3_lawOf_255 : decode cX3_lawOf 255 = .ok (.getfield 13, 3) := dk_180 0 13 (dk_at dksX3_lawOf_7 16 rfl rfl)
theorem dX3_lawOf_258 : decode cX3_lawOf 258 = .ok (.iconst 0, 1) := dk_3 (dk_at dksX3_lawOf_7 19 rfl rfl)
theorem dX3_lawOf_259 : decode cX3_lawOf 259 = .ok (.iaload, 1) := dk_46 (dk_at dksX3_lawOf_7 20 rfl rfl)
theorem dX3_lawOf_260 : decode cX3_lawOf 260 = .ok (.iconst 1, 1) := dk_4 (dk_at dksX3_lawOf_7 21 rfl rfl)
theorem dX3_lawOf_261 : decode cX3_lawOf 261 = .ok (.isub, 1) := dk_100 (dk_at dksX3_lawOf_7 22 rfl rfl)
theorem dX3_lawOf_262 : decode cX3_lawOf 262 = .ok (.iload_n 2, 1) := dk_28 (dk_at dksX3_lawOf_7 23 rfl rfl)
theorem dX3_lawOf_263 : decode cX3_lawOf 263 = .ok (.isub, 1) := dk_100 (dk_at dksX3_lawOf_8 0 rfl rfl)
theorem dX3_lawOf_264 : decode cX3_lawOf 264 = .ok (.iload_n 3, 1) := dk_29 (dk_at dksX3_lawOf_8 1 rfl rfl)
theorem dX3_lawOf_265 : decode cX3_lawOf 265 = .ok (.invokevirtual 148, 3) := dk_182 0 148 (dk_at dksX3_lawOf_8 2 rfl rfl)
theorem dX3_lawOf_268 : decode cX3_lawOf 268 = .ok (.ireturn, 1) := dk_172 (dk_at dksX3_lawOf_8 5 rfl rfl)
theorem dX3_lawOf_269 : decode cX3_lawOf 269 = .ok (.aload_n 0, 1) := dk_42 (dk_at dksX3_lawOf_8 6 rfl rfl)
theorem dX3_lawOf_270 : decode cX3_lawOf 270 = .ok (.aload_n 0, 1) := dk_42 (dk_at dksX3_lawOf_8 7 rfl rfl)
theorem dX3_lawOf_271 : decode cX3_lawOf 271 = .ok (.getfield 50, 3) := dk_180 0 50 (dk_at dksX3_lawOf_8 8 rfl rfl)
theorem dX3_lawOf_274 : decode cX3_lawOf 274 = .ok (.iload_n 1, 1) := dk_27 (dk_at dksX3_lawOf_8 11 rfl rfl)
theorem dX3_lawOf_275 : decode cX3_lawOf 275 = .ok (.iaload, 1) := dk_46 (dk_at dksX3_lawOf_8 12 rfl rfl)
theorem dX3_lawOf_276 : decode cX3_lawOf 276 = .ok (.iload_n 2, 1) := dk_28 (dk_at dksX3_lawOf_8 13 rfl rfl)
theorem dX3_lawOf_277 : decode cX3_lawOf 277 = .ok (.iload_n 3, 1) := dk_29 (dk_at dksX3_lawOf_8 14 rfl rfl)
theorem dX3_lawOf_278 : decode cX3_lawOf 278 = .ok (.invokevirtual 148, 3) := dk_182 0 148 (dk_at dksX3_lawOf_8 15 rfl rfl)
theorem dX3_lawOf_281 : decode cX3_lawOf 281 = .ok (.istore 5, 2) := dk_54 5 (dk_at dksX3_lawOf_8 18 rfl rfl)
theorem dX3_lawOf_283 : decode cX3_lawOf 283 = .ok (.iload 5, 2) := dk_21 5 (dk_at dksX3_lawOf_8 20 rfl rfl)
theorem dX3_lawOf_285 : decode cX3_lawOf 285 = .ok (.iconst 1, 1) := dk_4 (dk_at dksX3_lawOf_8 22 rfl rfl)
theorem dX3_lawOf_286 : decode cX3_lawOf 286 = .ok (.if_icmp .ne 7, 3) := dk_160 0 7 (dk_at dksX3_lawOf_9 0 rfl rfl)
theorem dX3_lawOf_289 : decode cX3_lawOf 289 = .ok (.iconst 2, 1) := dk_5 (dk_at dksX3_lawOf_9 3 rfl rfl)
theorem dX3_lawOf_290 : decode cX3_lawOf 290 = .ok (.goto 15, 3) := dk_167 0 15 (dk_at dksX3_lawOf_9 4 rfl rfl)
theorem dX3_lawOf_293 : decode cX3_lawOf 293 = .ok (.iload 5, 2) := dk_21 5 (dk_at dksX3_lawOf_9 7 rfl rfl)
theorem dX3_lawOf_295 : decode cX3_lawOf 295 = .ok (.iconst 2, 1) := dk_5 (dk_at dksX3_lawOf_9 9 rfl rfl)
theorem dX3_lawOf_296 : decode cX3_lawOf 296 = .ok (.if_icmp .ne 7, 3) := dk_160 0 7 (dk_at dksX3_lawOf_9 10 rfl rfl)
theorem dX3_lawOf_299 : decode cX3_lawOf 299 = .ok (.iconst 1, 1) := dk_4 (dk_at dksX3_lawOf_9 13 rfl rfl)
theorem dX3_lawOf_300 : decode cX3_lawOf 300 = .ok (.goto 5, 3) := dk_167 0 5 (dk_at dksX3_lawOf_9 14 rfl rfl)
theorem dX3_lawOf_303 : decode cX3_lawOf 303 = .ok (.iload 5, 2) := dk_21 5 (dk_at dksX3_lawOf_9 17 rfl rfl)
theorem dX3_lawOf_305 : decode cX3_lawOf 305 = .ok (.ireturn, 1) := dk_172 (dk_at dksX3_lawOf_9 19 rfl rfl)
theorem dX3_lawOf_306 : decode cX3_lawOf 306 = .ok (.aload_n 0, 1) := dk_42 (dk_at dksX3_lawOf_9 20 rfl rfl)
theorem dX3_lawOf_307 : decode cX3_lawOf 307 = .ok (.aload_n 0, 1) := dk_42 (dk_at dksX3_lawOf_9 21 rfl rfl)
theorem dX3_lawOf_308 : decode cX3_lawOf 308 = .ok (.getfield 50, 3) := dk_180 0 50 (dk_at dksX3_lawOf_10 0 rfl rfl)
theorem dX3_lawOf_311 : decode cX3_lawOf 311 = .ok (.iload_n 1, 1) := dk_27 (dk_at dksX3_lawOf_10 3 rfl rfl)
theorem dX3_lawOf_312 : decode cX3_lawOf 312 = .ok (.iaload, 1) := dk_46 (dk_at dksX3_lawOf_10 4 rfl rfl)
theorem dX3_lawOf_313 : decode cX3_lawOf 313 = .ok (.iload_n 2, 1) := dk_28 (dk_at dksX3_lawOf_10 5 rfl rfl)
theorem dX3_lawOf_314 : decode cX3_lawOf 314 = .ok (.iload_n 3, 1) := dk_29 (dk_at dksX3_lawOf_10 6 rfl rfl)
theorem dX3_lawOf_315 : decode cX3_lawOf 315 = .ok (.invokevirtual 148, 3) := dk_182 0 148 (dk_at dksX3_lawOf_10 7 rfl rfl)
theorem dX3_lawOf_318 : decode cX3_lawOf 318 = .ok (.istore 5, 2) := dk_54 5 (dk_at dksX3_lawOf_10 10 rfl rfl)
theorem dX3_lawOf_320 : decode cX3_lawOf 320 = .ok (.iload 5, 2) := dk_21 5 (dk_at dksX3_lawOf_10 12 rfl rfl)
theorem dX3_lawOf_322 : decode cX3_lawOf 322 = .ok (.ifCond .eq 8, 3) := dk_153 0 8 (dk_at dksX3_lawOf_10 14 rfl rfl)
theorem dX3_lawOf_325 : decode cX3_lawOf 325 = .ok (.iload 5, 2) := dk_21 5 (dk_at dksX3_lawOf_10 17 rfl rfl)
theorem dX3_lawOf_327 : decode cX3_lawOf 327 = .ok (.goto 15, 3) := dk_167 0 15 (dk_at dksX3_lawOf_10 19 rfl rfl)
theorem dX3_lawOf_330 : decode cX3_lawOf 330 = .ok (.aload_n 0, 1) := dk_42 (dk_at dksX3_lawOf_10 22 rfl rfl)
theorem dX3_lawOf_331 : decode cX3_lawOf 331 = .ok (.aload_n 0, 1) := dk_42 (dk_at dksX3_lawOf_10 23 rfl rfl)
theorem dX3_lawOf_332 : decode cX3_lawOf 332 = .ok (.getfield 53, 3) := dk_180 0 53 (dk_at dksX3_lawOf_11 0 rfl rfl)
theorem dX3_lawOf_335 : decode cX3_lawOf 335 = .ok (.iload_n 1, 1) := dk_27 (dk_at dksX3_lawOf_11 3 rfl rfl)
theorem dX3_lawOf_336 : decode cX3_lawOf 336 = .ok (.iaload, 1) := dk_46 (dk_at dksX3_lawOf_11 4 rfl rfl)
theorem dX3_lawOf_337 : decode cX3_lawOf 337 = .ok (.iload_n 2, 1) := dk_28 (dk_at dksX3_lawOf_11 5 rfl rfl)
theorem dX3_lawOf_338 : decode cX3_lawOf 338 = .ok (.iload_n 3, 1) := dk_29 (dk_at dksX3_lawOf_11 6 rfl rfl)
theorem dX3_lawOf_339 : decode cX3_lawOf 339 = .ok (.invokevirtual 148, 3) := dk_182 0 148 (dk_at dksX3_lawOf_11 7 rfl rfl)
theorem dX3_lawOf_342 : decode cX3_lawOf 342 = .ok (.ireturn, 1) := dk_172 (dk_at dksX3_lawOf_11 10 rfl rfl)
abbrev cX3_slant : ByteArray := prog_20_method_20_code
def yX3_slant : MethodName := ⟨RX3, "slant", "(I)I"⟩
def dkwX3_slant_1 : List UInt8 := [42, 180, 0, 23, 27, 46, 172]
abbrev dktX3_slant_1 : List UInt8 := dkwX3_slant_1 ++ []
def dkwX3_slant_0 : List UInt8 := [42, 27, 182, 0, 161, 154, 0, 5, 2, 172, 42, 180, 0, 23, 27, 4, 42, 180, 0, 23, 27, 46, 100, 79]
abbrev dktX3_slant_0 : List UInt8 := dkwX3_slant_0 ++ dktX3_slant_1
theorem dksX3_slant_0 : cX3_slant.data.toList.drop 0 = dktX3_slant_0 := by decide +kernel
theorem dksX3_slant_1 : cX3_slant.data.toList.drop 24 = dktX3_slant_1 := dk_seg dksX3_slant_0 24 rfl rfl
theorem dX3_slant_0 : decode cX3_slant 0 = .ok (.aload_n 0, 1) := dk_42 (dk_at dksX3_slant_0 0 rfl rfl)
theorem dX3_slant_1 : decode cX3_slant 1 = .ok (.iload_n 1, 1) := dk_27 (dk_at dksX3_slant_0 1 rfl rfl)
theorem dX3_slant_2 : decode cX3_slant 2 = .ok (.invokevirtual 161, 3) := dk_182 0 161 (dk_at dksX3_slant_0 2 rfl rfl)
theorem dX3_slant_5 : decode cX3_slant 5 = .ok (.ifCond .ne 5, 3) := dk_154 0 5 (dk_at dksX3_slant_0 5 rfl rfl)
theorem dX3_slant_8 : decode cX3_slant 8 = .ok (.iconst (-1), 1) := dk_2 (dk_at dksX3_slant_0 8 rfl rfl)
theorem dX3_slant_9 : decode cX3_slant 9 = .ok (.ireturn, 1) := dk_172 (dk_at dksX3_slant_0 9 rfl rfl)
theorem dX3_slant_10 : decode cX3_slant 10 = .ok (.aload_n 0, 1) := dk_42 (dk_at dksX3_slant_0 10 rfl rfl)
theorem dX3_slant_11 : decode cX3_slant 11 = .ok (.getfield 23, 3) := dk_180 0 23 (dk_at dksX3_slant_0 11 rfl rfl)
theorem dX3_slant_14 : decode cX3_slant 14 = .ok (.iload_n 1, 1) := dk_27 (dk_at dksX3_slant_0 14 rfl rfl)
theorem dX3_slant_15 : decode cX3_slant 15 = .ok (.iconst 1, 1) := dk_4 (dk_at dksX3_slant_0 15 rfl rfl)
theorem dX3_slant_16 : decode cX3_slant 16 = .ok (.aload_n 0, 1) := dk_42 (dk_at dksX3_slant_0 16 rfl rfl)
theorem dX3_slant_17 : decode cX3_slant 17 = .ok (.getfield 23, 3) := dk_180 0 23 (dk_at dksX3_slant_0 17 rfl rfl)
theorem dX3_slant_20 : decode cX3_slant 20 = .ok (.iload_n 1, 1) := dk_27 (dk_at dksX3_slant_0 20 rfl rfl)
theorem dX3_slant_21 : decode cX3_slant 21 = .ok (.iaload, 1) := dk_46 (dk_at dksX3_slant_0 21 rfl rfl)
theorem dX3_slant_22 : decode cX3_slant 22 = .ok (.isub, 1) := dk_100 (dk_at dksX3_slant_0 22 rfl rfl)
theorem dX3_slant_23 : decode cX3_slant 23 = .ok (.iastore, 1) := dk_79 (dk_at dksX3_slant_0 23 rfl rfl)
theorem dX3_slant_24 : decode cX3_slant 24 = .ok (.aload_n 0, 1) := dk_42 (dk_at dksX3_slant_1 0 rfl rfl)
theorem dX3_slant_25 : decode cX3_slant 25 = .ok (.getfield 23, 3) := dk_180 0 23 (dk_at dksX3_slant_1 1 rfl rfl)
theorem dX3_slant_28 : decode cX3_slant 28 = .ok (.iload_n 1, 1) := dk_27 (dk_at dksX3_slant_1 4 rfl rfl)
theorem dX3_slant_29 : decode cX3_slant 29 = .ok (.iaload, 1) := dk_46 (dk_at dksX3_slant_1 5 rfl rfl)
theorem dX3_slant_30 : decode cX3_slant 30 = .ok (.ireturn, 1) := dk_172 (dk_at dksX3_slant_1 6 rfl rfl)
abbrev cX3_place : ByteArray := prog_20_method_21_code
def yX3_place : MethodName := ⟨RX3, "place", "(II)I"⟩
def dkwX3_place_1 : List UInt8 := [180, 0, 26, 27, 46, 62, 42, 180, 0, 26, 27, 28, 79, 29, 172]
abbrev dktX3_place_1 : List UInt8 := dkwX3_place_1 ++ []
def dkwX3_place_0 : List UInt8 := [42, 27, 182, 0, 161, 154, 0, 5, 2, 172, 28, 3, 6, 184, 0, 108, 154, 0, 6, 16, 254, 172, 42]
abbrev dktX3_place_0 : List UInt8 := dkwX3_place_0 ++ dktX3_place_1
theorem dksX3_place_0 : cX3_place.data.toList.drop 0 = dktX3_place_0 := by decide +kernel
theorem dksX3_place_1 : cX3_place.data.toList.drop 23 = dktX3_place_1 := dk_seg dksX3_place_0 23 rfl rfl
theorem dX3_place_0 : decode cX3_place 0 = .ok (.aload_n 0, 1) := dk_42 (dk_at dksX3_place_0 0 rfl rfl)
theorem dX3_place_1 : decode cX3_place 1 = .ok (.iload_n 1, 1) := dk_27 (dk_at dksX3_place_0 1 rfl rfl)
theorem dX3_place_2 : decode cX3_place 2 = .ok (.invokevirtual 161, 3) := dk_182 0 161 (dk_at dksX3_place_0 2 rfl rfl)
theorem dX3_place_5 : decode cX3_place 5 = .ok (.ifCond .ne 5, 3) := dk_154 0 5 (dk_at dksX3_place_0 5 rfl rfl)
theorem dX3_place_8 : decode cX3_place 8 = .ok (.iconst (-1), 1) := dk_2 (dk_at dksX3_place_0 8 rfl rfl)
theorem dX3_place_9 : decode cX3_place 9 = .ok (.ireturn, 1) := dk_172 (dk_at dksX3_place_0 9 rfl rfl)
theorem dX3_place_10 : decode cX3_place 10 = .ok (.iload_n 2, 1) := dk_28 (dk_at dksX3_place_0 10 rfl rfl)
theorem dX3_place_11 : decode cX3_place 11 = .ok (.iconst 0, 1) := dk_3 (dk_at dksX3_place_0 11 rfl rfl)
theorem dX3_place_12 : decode cX3_place 12 = .ok (.iconst 3, 1) := dk_6 (dk_at dksX3_place_0 12 rfl rfl)
theorem dX3_place_13 : decode cX3_place 13 = .ok (.invokestatic 108, 3) := dk_184 0 108 (dk_at dksX3_place_0 13 rfl rfl)
theorem dX3_place_16 : decode cX3_place 16 = .ok (.ifCond .ne 6, 3) := dk_154 0 6 (dk_at dksX3_place_0 16 rfl rfl)
theorem dX3_place_19 : decode cX3_place 19 = .ok (.bipush (-2), 2) := dk_16 254 (dk_at dksX3_place_0 19 rfl rfl)
theorem dX3_place_21 : decode cX3_place 21 = .ok (.ireturn, 1) := dk_172 (dk_at dksX3_place_0 21 rfl rfl)
theorem dX3_place_22 : decode cX3_place 22 = .ok (.aload_n 0, 1) := dk_42 (dk_at dksX3_place_0 22 rfl rfl)
theorem dX3_place_23 : decode cX3_place 23 = .ok (.getfield 26, 3) := dk_180 0 26 (dk_at dksX3_place_1 0 rfl rfl)
theorem dX3_place_26 : decode cX3_place 26 = .ok (.iload_n 1, 1) := dk_27 (dk_at dksX3_place_1 3 rfl rfl)
theorem dX3_place_27 : decode cX3_place 27 = .ok (.iaload, 1) := dk_46 (dk_at dksX3_place_1 4 rfl rfl)
theorem dX3_place_28 : decode cX3_place 28 = .ok (.istore_n 3, 1) := dk_62 (dk_at dksX3_place_1 5 rfl rfl)
theorem dX3_place_29 : decode cX3_place 29 = .ok (.aload_n 0, 1) := dk_42 (dk_at dksX3_place_1 6 rfl rfl)
theorem dX3_place_30 : decode cX3_place 30 = .ok (.getfield 26, 3) := dk_180 0 26 (dk_at dksX3_place_1 7 rfl rfl)
theorem dX3_place_33 : decode cX3_place 33 = .ok (.iload_n 1, 1) := dk_27 (dk_at dksX3_place_1 10 rfl rfl)
theorem dX3_place_34 : decode cX3_place 34 = .ok (.iload_n 2, 1) := dk_28 (dk_at dksX3_place_1 11 rfl rfl)
theorem dX3_place_35 : decode cX3_place 35 = .ok (.iastore, 1) := dk_79 (dk_at dksX3_place_1 12 rfl rfl)
theorem dX3_place_36 : decode cX3_place 36 = .ok (.iload_n 3, 1) := dk_29 (dk_at dksX3_place_1 13 rfl rfl)
theorem dX3_place_37 : decode cX3_place 37 = .ok (.ireturn, 1) := dk_172 (dk_at dksX3_place_1 14 rfl rfl)
abbrev cX3_recolour : ByteArray := prog_20_method_22_code
def yX3_recolour : MethodName := ⟨RX3, "recolour", "(III)I"⟩
def dkwX3_recolour_2 : List UInt8 := [104, 28, 96, 29, 79, 21, 4, 172]
abbrev dktX3_recolour_2 : List UInt8 := dkwX3_recolour_2 ++ []
def dkwX3_recolour_1 : List UInt8 := [154, 0, 6, 16, 254, 172, 42, 180, 0, 20, 7, 27, 104, 28, 96, 46, 54, 4, 42, 180, 0, 20, 7, 27]
abbrev dktX3_recolour_1 : List UInt8 := dkwX3_recolour_1 ++ dktX3_recolour_2
def dkwX3_recolour_0 : List UInt8 := [42, 27, 182, 0, 161, 153, 0, 12, 28, 3, 6, 184, 0, 108, 154, 0, 5, 2, 172, 29, 184, 0, 168]
abbrev dktX3_recolour_0 : List UInt8 := dkwX3_recolour_0 ++ dktX3_recolour_1
theorem dksX3_recolour_0 : cX3_recolour.data.toList.drop 0 = dktX3_recolour_0 := by decide +kernel
theorem dksX3_recolour_1 : cX3_recolour.data.toList.drop 23 = dktX3_recolour_1 := dk_seg dksX3_recolour_0 23 rfl rfl
theorem dksX3_recolour_2 : cX3_recolour.data.toList.drop 47 = dktX3_recolour_2 := dk_seg dksX3_recolour_1 24 rfl rfl
theorem dX3_recolour_0 : decode cX3_recolour 0 = .ok (.aload_n 0, 1) := dk_42 (dk_at dksX3_recolour_0 0 rfl rfl)
theorem dX3_recolour_1 : decode cX3_recolour 1 = .ok (.iload_n 1, 1) := dk_27 (dk_at dksX3_recolour_0 1 rfl rfl)
theorem dX3_recolour_2 : decode cX3_recolour 2 = .ok (.invokevirtual 161, 3) := dk_182 0 161 (dk_at dksX3_recolour_0 2 rfl rfl)
theorem dX3_recolour_5 : decode cX3_recolour 5 = .ok (.ifCond .eq 12, 3) := dk_153 0 12 (dk_at dksX3_recolour_0 5 rfl rfl)
theorem dX3_recolour_8 : decode cX3_recolour 8 = .ok (.iload_n 2, 1) := dk_28 (dk_at dksX3_recolour_0 8 rfl rfl)
theorem dX3_recolour_9 : decode cX3_recolour 9 = .ok (.iconst 0, 1) := dk_3 (dk_at dksX3_recolour_0 9 rfl rfl)
theorem dX3_recolour_10 : decode cX3_recolour 10 = .ok (.iconst 3, 1) := dk_6 (dk_at dksX3_recolour_0 10 rfl rfl)
theorem dX3_recolour_11 : decode cX3_recolour 11 = .ok (.invokestatic 108, 3) := dk_184 0 108 (dk_at dksX3_recolour_0 11 rfl rfl)
theorem dX3_recolour_14 : decode cX3_recolour 14 = .ok (.ifCond .ne 5, 3) := dk_154 0 5 (dk_at dksX3_recolour_0 14 rfl rfl)
theorem dX3_recolour_17 : decode cX3_recolour 17 = .ok (.iconst (-1), 1) := dk_2 (dk_at dksX3_recolour_0 17 rfl rfl)
theorem dX3_recolour_18 : decode cX3_recolour 18 = .ok (.ireturn, 1) := dk_172 (dk_at dksX3_recolour_0 18 rfl rfl)
theorem dX3_recolour_19 : decode cX3_recolour 19 = .ok (.iload_n 3, 1) := dk_29 (dk_at dksX3_recolour_0 19 rfl rfl)
theorem dX3_recolour_20 : decode cX3_recolour 20 = .ok (.invokestatic 168, 3) := dk_184 0 168 (dk_at dksX3_recolour_0 20 rfl rfl)
theorem dX3_recolour_23 : decode cX3_recolour 23 = .ok (.ifCond .ne 6, 3) := dk_154 0 6 (dk_at dksX3_recolour_1 0 rfl rfl)
theorem dX3_recolour_26 : decode cX3_recolour 26 = .ok (.bipush (-2), 2) := dk_16 254 (dk_at dksX3_recolour_1 3 rfl rfl)
theorem dX3_recolour_28 : decode cX3_recolour 28 = .ok (.ireturn, 1) := dk_172 (dk_at dksX3_recolour_1 5 rfl rfl)
theorem dX3_recolour_29 : decode cX3_recolour 29 = .ok (.aload_n 0, 1) := dk_42 (dk_at dksX3_recolour_1 6 rfl rfl)
theorem dX3_recolour_30 : decode cX3_recolour 30 = .ok (.getfield 20, 3) := dk_180 0 20 (dk_at dksX3_recolour_1 7 rfl rfl)
theorem dX3_recolour_33 : decode cX3_recolour 33 = .ok (.iconst 4, 1) := dk_7 (dk_at dksX3_recolour_1 10 rfl rfl)
theorem dX3_recolour_34 : decode cX3_recolour 34 = .ok (.iload_n 1, 1) := dk_27 (dk_at dksX3_recolour_1 11 rfl rfl)
theorem dX3_recolour_35 : decode cX3_recolour 35 = .ok (.imul, 1) := dk_104 (dk_at dksX3_recolour_1 12 rfl rfl)
theorem dX3_recolour_36 : decode cX3_recolour 36 = .ok (.iload_n 2, 1) := dk_28 (dk_at dksX3_recolour_1 13 rfl rfl)
theorem dX3_recolour_37 : decode cX3_recolour 37 = .ok (.iadd, 1) := dk_96 (dk_at dksX3_recolour_1 14 rfl rfl)
theorem dX3_recolour_38 : decode cX3_recolour 38 = .ok (.iaload, 1) := dk_46 (dk_at dksX3_recolour_1 15 rfl rfl)
theorem dX3_recolour_39 : decode cX3_recolour 39 = .ok (.istore 4, 2) := dk_54 4 (dk_at dksX3_recolour_1 16 rfl rfl)
theorem dX3_recolour_41 : decode cX3_recolour 41 = .ok (.aload_n 0, 1) := dk_42 (dk_at dksX3_recolour_1 18 rfl rfl)
theorem dX3_recolour_42 : decode cX3_recolour 42 = .ok (.getfield 20, 3) := dk_180 0 20 (dk_at dksX3_recolour_1 19 rfl rfl)
theorem dX3_recolour_45 : decode cX3_recolour 45 = .ok (.iconst 4, 1) := dk_7 (dk_at dksX3_recolour_1 22 rfl rfl)
theorem dX3_recolour_46 : decode cX3_recolour 46 = .ok (.iload_n 1, 1) := dk_27 (dk_at dksX3_recolour_1 23 rfl rfl)
theorem dX3_recolour_47 : decode cX3_recolour 47 = .ok (.imul, 1) := dk_104 (dk_at dksX3_recolour_2 0 rfl rfl)
theorem dX3_recolour_48 : decode cX3_recolour 48 = .ok (.iload_n 2, 1) := dk_28 (dk_at dksX3_recolour_2 1 rfl rfl)
theorem dX3_recolour_49 : decode cX3_recolour 49 = .ok (.iadd, 1) := dk_96 (dk_at dksX3_recolour_2 2 rfl rfl)
theorem dX3_recolour_50 : decode cX3_recolour 50 = .ok (.iload_n 3, 1) := dk_29 (dk_at dksX3_recolour_2 3 rfl rfl)
theorem dX3_recolour_51 : decode cX3_recolour 51 = .ok (.iastore, 1) := dk_79 (dk_at dksX3_recolour_2 4 rfl rfl)
theorem dX3_recolour_52 : decode cX3_recolour 52 = .ok (.iload 4, 2) := dk_21 4 (dk_at dksX3_recolour_2 5 rfl rfl)
theorem dX3_recolour_54 : decode cX3_recolour 54 = .ok (.ireturn, 1) := dk_172 (dk_at dksX3_recolour_2 7 rfl rfl)
abbrev cX3_isColour : ByteArray := prog_20_method_6_code
def yX3_isColour : MethodName := ⟨RX3, "isColour", "(I)Z"⟩
def dkwX3_isColour_0 : List UInt8 := [26, 3, 16, 9, 184, 0, 108, 172]
abbrev dktX3_isColour_0 : List UInt8 := dkwX3_isColour_0 ++ []
theorem dksX3_isColour_0 : cX3_isColour.data.toList.drop 0 = dktX3_isColour_0 := by decide +kernel
theorem dX3_isColour_0 : decode cX3_isColour 0 = .ok (.iload_n 0, 1) := dk_26 (dk_at dksX3_isColour_0 0 rfl rfl)
theorem dX3_isColour_1 : decode cX3_isColour 1 = .ok (.iconst 0, 1) := dk_3 (dk_at dksX3_isColour_0 1 rfl rfl)
theorem dX3_isColour_2 : decode cX3_isColour 2 = .ok (.bipush 9, 2) := dk_16 9 (dk_at dksX3_isColour_0 2 rfl rfl)
theorem dX3_isColour_4 : decode cX3_isColour 4 = .ok (.invokestatic 108, 3) := dk_184 0 108 (dk_at dksX3_isColour_0 4 rfl rfl)
theorem dX3_isColour_7 : decode cX3_isColour 7 = .ok (.ireturn, 1) := dk_172 (dk_at dksX3_isColour_0 7 rfl rfl)
abbrev cX3_turn : ByteArray := prog_20_method_29_code
def yX3_turn : MethodName := ⟨RX3, "turn", "(II)I"⟩
def dkwX3_turn_1 : List UInt8 := [182, 0, 187, 167, 0, 5, 16, 254, 172]
abbrev dktX3_turn_1 : List UInt8 := dkwX3_turn_1 ++ []
def dkwX3_turn_0 : List UInt8 := [42, 27, 182, 0, 161, 154, 0, 5, 2, 172, 28, 3, 6, 184, 0, 108, 153, 0, 14, 42, 4, 27, 120, 28]
abbrev dktX3_turn_0 : List UInt8 := dkwX3_turn_0 ++ dktX3_turn_1
theorem dksX3_turn_0 : cX3_turn.data.toList.drop 0 = dktX3_turn_0 := by decide +kernel
theorem dksX3_turn_1 : cX3_turn.data.toList.drop 24 = dktX3_turn_1 := dk_seg dksX3_turn_0 24 rfl rfl
theorem dX3_turn_0 : decode cX3_turn 0 = .ok (.aload_n 0, 1) := dk_42 (dk_at dksX3_turn_0 0 rfl rfl)
theorem dX3_turn_1 : decode cX3_turn 1 = .ok (.iload_n 1, 1) := dk_27 (dk_at dksX3_turn_0 1 rfl rfl)
theorem dX3_turn_2 : decode cX3_turn 2 = .ok (.invokevirtual 161, 3) := dk_182 0 161 (dk_at dksX3_turn_0 2 rfl rfl)
theorem dX3_turn_5 : decode cX3_turn 5 = .ok (.ifCond .ne 5, 3) := dk_154 0 5 (dk_at dksX3_turn_0 5 rfl rfl)
theorem dX3_turn_8 : decode cX3_turn 8 = .ok (.iconst (-1), 1) := dk_2 (dk_at dksX3_turn_0 8 rfl rfl)
theorem dX3_turn_9 : decode cX3_turn 9 = .ok (.ireturn, 1) := dk_172 (dk_at dksX3_turn_0 9 rfl rfl)
theorem dX3_turn_10 : decode cX3_turn 10 = .ok (.iload_n 2, 1) := dk_28 (dk_at dksX3_turn_0 10 rfl rfl)
theorem dX3_turn_11 : decode cX3_turn 11 = .ok (.iconst 0, 1) := dk_3 (dk_at dksX3_turn_0 11 rfl rfl)
theorem dX3_turn_12 : decode cX3_turn 12 = .ok (.iconst 3, 1) := dk_6 (dk_at dksX3_turn_0 12 rfl rfl)
theorem dX3_turn_13 : decode cX3_turn 13 = .ok (.invokestatic 108, 3) := dk_184 0 108 (dk_at dksX3_turn_0 13 rfl rfl)
theorem dX3_turn_16 : decode cX3_turn 16 = .ok (.ifCond .eq 14, 3) := dk_153 0 14 (dk_at dksX3_turn_0 16 rfl rfl)
theorem dX3_turn_19 : decode cX3_turn 19 = .ok (.aload_n 0, 1) := dk_42 (dk_at dksX3_turn_0 19 rfl rfl)
theorem dX3_turn_20 : decode cX3_turn 20 = .ok (.iconst 1, 1) := dk_4 (dk_at dksX3_turn_0 20 rfl rfl)
theorem dX3_turn_21 : decode cX3_turn 21 = .ok (.iload_n 1, 1) := dk_27 (dk_at dksX3_turn_0 21 rfl rfl)
theorem dX3_turn_22 : decode cX3_turn 22 = .ok (.ishl, 1) := dk_120 (dk_at dksX3_turn_0 22 rfl rfl)
theorem dX3_turn_23 : decode cX3_turn 23 = .ok (.iload_n 2, 1) := dk_28 (dk_at dksX3_turn_0 23 rfl rfl)
theorem dX3_turn_24 : decode cX3_turn 24 = .ok (.invokevirtual 187, 3) := dk_182 0 187 (dk_at dksX3_turn_1 0 rfl rfl)
theorem dX3_turn_27 : decode cX3_turn 27 = .ok (.goto 5, 3) := dk_167 0 5 (dk_at dksX3_turn_1 3 rfl rfl)
theorem dX3_turn_30 : decode cX3_turn 30 = .ok (.bipush (-2), 2) := dk_16 254 (dk_at dksX3_turn_1 6 rfl rfl)
theorem dX3_turn_32 : decode cX3_turn 32 = .ok (.ireturn, 1) := dk_172 (dk_at dksX3_turn_1 8 rfl rfl)
abbrev cX3_picked : ByteArray := prog_20_method_28_code
def yX3_picked : MethodName := ⟨RX3, "picked", "(II)I"⟩
def dkwX3_picked_1 : List UInt8 := [160, 0, 7, 28, 167, 0, 4, 3, 79, 132, 3, 1, 167, 255, 223, 42, 182, 0, 184, 172]
abbrev dktX3_picked_1 : List UInt8 := dkwX3_picked_1 ++ []
def dkwX3_picked_0 : List UInt8 := [3, 62, 29, 42, 180, 0, 13, 3, 46, 162, 0, 29, 42, 180, 0, 77, 29, 27, 29, 122, 4, 126, 4]
abbrev dktX3_picked_0 : List UInt8 := dkwX3_picked_0 ++ dktX3_picked_1
theorem dksX3_picked_0 : cX3_picked.data.toList.drop 0 = dktX3_picked_0 := by decide +kernel
theorem dksX3_picked_1 : cX3_picked.data.toList.drop 23 = dktX3_picked_1 := dk_seg dksX3_picked_0 23 rfl rfl
theorem dX3_picked_0 : decode cX3_picked 0 = .ok (.iconst 0, 1) := dk_3 (dk_at dksX3_picked_0 0 rfl rfl)
theorem dX3_picked_1 : decode cX3_picked 1 = .ok (.istore_n 3, 1) := dk_62 (dk_at dksX3_picked_0 1 rfl rfl)
theorem dX3_picked_2 : decode cX3_picked 2 = .ok (.iload_n 3, 1) := dk_29 (dk_at dksX3_picked_0 2 rfl rfl)
theorem dX3_picked_3 : decode cX3_picked 3 = .ok (.aload_n 0, 1) := dk_42 (dk_at dksX3_picked_0 3 rfl rfl)
theorem dX3_picked_4 : decode cX3_picked 4 = .ok (.getfield 13, 3) := dk_180 0 13 (dk_at dksX3_picked_0 4 rfl rfl)
theorem dX3_picked_7 : decode cX3_picked 7 = .ok (.iconst 0, 1) := dk_3 (dk_at dksX3_picked_0 7 rfl rfl)
theorem dX3_picked_8 : decode cX3_picked 8 = .ok (.iaload, 1) := dk_46 (dk_at dksX3_picked_0 8 rfl rfl)
theorem dX3_picked_9 : decode cX3_picked 9 = .ok (.if_icmp .ge 29, 3) := dk_162 0 29 (dk_at dksX3_picked_0 9 rfl rfl)
theorem dX3_picked_12 : decode cX3_picked 12 = .ok (.aload_n 0, 1) := dk_42 (dk_at dksX3_picked_0 12 rfl rfl)
theorem dX3_picked_13 : decode cX3_picked 13 = .ok (.getfield 77, 3) := dk_180 0 77 (dk_at dksX3_picked_0 13 rfl rfl)
theorem dX3_picked_16 : decode cX3_picked 16 = .ok (.iload_n 3, 1) := dk_29 (dk_at dksX3_picked_0 16 rfl rfl)
theorem dX3_picked_17 : decode cX3_picked 17 = .ok (.iload_n 1, 1) := dk_27 (dk_at dksX3_picked_0 17 rfl rfl)
theorem dX3_picked_18 : decode cX3_picked 18 = .ok (.iload_n 3, 1) := dk_29 (dk_at dksX3_picked_0 18 rfl rfl)
theorem dX3_picked_19 : decode cX3_picked 19 = .ok (.ishr, 1) := dk_122 (dk_at dksX3_picked_0 19 rfl rfl)
theorem dX3_picked_20 : decode cX3_picked 20 = .ok (.iconst 1, 1) := dk_4 (dk_at dksX3_picked_0 20 rfl rfl)
theorem dX3_picked_21 : decode cX3_picked 21 = .ok (.iand, 1) := dk_126 (dk_at dksX3_picked_0 21 rfl rfl)
theorem dX3_picked_22 : decode cX3_picked 22 = .ok (.iconst 1, 1) := dk_4 (dk_at dksX3_picked_0 22 rfl rfl)
theorem dX3_picked_23 : decode cX3_picked 23 = .ok (.if_icmp .ne 7, 3) := dk_160 0 7 (dk_at dksX3_picked_1 0 rfl rfl)
theorem dX3_picked_26 : decode cX3_picked 26 = .ok (.iload_n 2, 1) := dk_28 (dk_at dksX3_picked_1 3 rfl rfl)
theorem dX3_picked_27 : decode cX3_picked 27 = .ok (.goto 4, 3) := dk_167 0 4 (dk_at dksX3_picked_1 4 rfl rfl)
theorem dX3_picked_30 : decode cX3_picked 30 = .ok (.iconst 0, 1) := dk_3 (dk_at dksX3_picked_1 7 rfl rfl)
theorem dX3_picked_31 : decode cX3_picked 31 = .ok (.iastore, 1) := dk_79 (dk_at dksX3_picked_1 8 rfl rfl)
theorem dX3_picked_32 : decode cX3_picked 32 = .ok (.iinc 3 1, 3) := dk_132 3 1 (dk_at dksX3_picked_1 9 rfl rfl)
theorem dX3_picked_35 : decode cX3_picked 35 = .ok (.goto (-33), 3) := dk_167 255 223 (dk_at dksX3_picked_1 12 rfl rfl)
theorem dX3_picked_38 : decode cX3_picked 38 = .ok (.aload_n 0, 1) := dk_42 (dk_at dksX3_picked_1 15 rfl rfl)
theorem dX3_picked_39 : decode cX3_picked 39 = .ok (.invokevirtual 184, 3) := dk_182 0 184 (dk_at dksX3_picked_1 16 rfl rfl)
theorem dX3_picked_42 : decode cX3_picked 42 = .ok (.ireturn, 1) := dk_172 (dk_at dksX3_picked_1 19 rfl rfl)
abbrev cX3_pick : ByteArray := prog_20_method_27_code
def yX3_pick : MethodName := ⟨RX3, "pick", "()I"⟩
def dkwX3_pick_1 : List UInt8 := [42, 182, 0, 181, 42, 180, 0, 17, 3, 46, 172]
abbrev dktX3_pick_1 : List UInt8 := dkwX3_pick_1 ++ []
def dkwX3_pick_0 : List UInt8 := [42, 180, 0, 17, 3, 46, 16, 50, 160, 0, 6, 16, 252, 172, 42, 182, 0, 177, 153, 0, 6, 16, 250, 172]
abbrev dktX3_pick_0 : List UInt8 := dkwX3_pick_0 ++ dktX3_pick_1
theorem dksX3_pick_0 : cX3_pick.data.toList.drop 0 = dktX3_pick_0 := by decide +kernel
theorem dksX3_pick_1 : cX3_pick.data.toList.drop 24 = dktX3_pick_1 := dk_seg dksX3_pick_0 24 rfl rfl
theorem dX3_pick_0 : decode cX3_pick 0 = .ok (.aload_n 0, 1) := dk_42 (dk_at dksX3_pick_0 0 rfl rfl)
theorem dX3_pick_1 : decode cX3_pick 1 = .ok (.getfield 17, 3) := dk_180 0 17 (dk_at dksX3_pick_0 1 rfl rfl)
theorem dX3_pick_4 : decode cX3_pick 4 = .ok (.iconst 0, 1) := dk_3 (dk_at dksX3_pick_0 4 rfl rfl)
theorem dX3_pick_5 : decode cX3_pick 5 = .ok (.iaload, 1) := dk_46 (dk_at dksX3_pick_0 5 rfl rfl)
theorem dX3_pick_6 : decode cX3_pick 6 = .ok (.bipush 50, 2) := dk_16 50 (dk_at dksX3_pick_0 6 rfl rfl)
theorem dX3_pick_8 : decode cX3_pick 8 = .ok (.if_icmp .ne 6, 3) := dk_160 0 6 (dk_at dksX3_pick_0 8 rfl rfl)
theorem dX3_pick_11 : decode cX3_pick 11 = .ok (.bipush (-4), 2) := dk_16 252 (dk_at dksX3_pick_0 11 rfl rfl)
theorem dX3_pick_13 : decode cX3_pick 13 = .ok (.ireturn, 1) := dk_172 (dk_at dksX3_pick_0 13 rfl rfl)
theorem dX3_pick_14 : decode cX3_pick 14 = .ok (.aload_n 0, 1) := dk_42 (dk_at dksX3_pick_0 14 rfl rfl)
theorem dX3_pick_15 : decode cX3_pick 15 = .ok (.invokevirtual 177, 3) := dk_182 0 177 (dk_at dksX3_pick_0 15 rfl rfl)
theorem dX3_pick_18 : decode cX3_pick 18 = .ok (.ifCond .eq 6, 3) := dk_153 0 6 (dk_at dksX3_pick_0 18 rfl rfl)
theorem dX3_pick_21 : decode cX3_pick 21 = .ok (.bipush (-6), 2) := dk_16 250 (dk_at dksX3_pick_0 21 rfl rfl)
theorem dX3_pick_23 : decode cX3_pick 23 = .ok (.ireturn, 1) := dk_172 (dk_at dksX3_pick_0 23 rfl rfl)
theorem dX3_pick_24 : decode cX3_pick 24 = .ok (.aload_n 0, 1) := dk_42 (dk_at dksX3_pick_1 0 rfl rfl)
theorem dX3_pick_25 : decode cX3_pick 25 = .ok (.invokevirtual 181, 3) := dk_182 0 181 (dk_at dksX3_pick_1 1 rfl rfl)
theorem dX3_pick_28 : decode cX3_pick 28 = .ok (.aload_n 0, 1) := dk_42 (dk_at dksX3_pick_1 4 rfl rfl)
theorem dX3_pick_29 : decode cX3_pick 29 = .ok (.getfield 17, 3) := dk_180 0 17 (dk_at dksX3_pick_1 5 rfl rfl)
theorem dX3_pick_32 : decode cX3_pick 32 = .ok (.iconst 0, 1) := dk_3 (dk_at dksX3_pick_1 8 rfl rfl)
theorem dX3_pick_33 : decode cX3_pick 33 = .ok (.iaload, 1) := dk_46 (dk_at dksX3_pick_1 9 rfl rfl)
theorem dX3_pick_34 : decode cX3_pick 34 = .ok (.ireturn, 1) := dk_172 (dk_at dksX3_pick_1 10 rfl rfl)
abbrev cX3_jams : ByteArray := prog_20_method_25_code
def yX3_jams : MethodName := ⟨RX3, "jams", "()Z"⟩
def dkwX3_jams_1 : List UInt8 := [184, 0, 171, 96, 16, 157, 16, 99, 184, 0, 108, 154, 0, 5, 4, 172, 132, 1, 1, 167, 255, 215, 3, 172]
abbrev dktX3_jams_1 : List UInt8 := dkwX3_jams_1 ++ []
def dkwX3_jams_0 : List UInt8 := [3, 60, 27, 42, 180, 0, 13, 3, 46, 162, 0, 37, 42, 180, 0, 29, 27, 46, 42, 180, 0, 77, 27, 46]
abbrev dktX3_jams_0 : List UInt8 := dkwX3_jams_0 ++ dktX3_jams_1
theorem dksX3_jams_0 : cX3_jams.data.toList.drop 0 = dktX3_jams_0 := by decide +kernel
theorem dksX3_jams_1 : cX3_jams.data.toList.drop 24 = dktX3_jams_1 := dk_seg dksX3_jams_0 24 rfl rfl
theorem dX3_jams_0 : decode cX3_jams 0 = .ok (.iconst 0, 1) := dk_3 (dk_at dksX3_jams_0 0 rfl rfl)
theorem dX3_jams_1 : decode cX3_jams 1 = .ok (.istore_n 1, 1) := dk_60 (dk_at dksX3_jams_0 1 rfl rfl)
theorem dX3_jams_2 : decode cX3_jams 2 = .ok (.iload_n 1, 1) := dk_27 (dk_at dksX3_jams_0 2 rfl rfl)
theorem dX3_jams_3 : decode cX3_jams 3 = .ok (.aload_n 0, 1) := dk_42 (dk_at dksX3_jams_0 3 rfl rfl)
theorem dX3_jams_4 : decode cX3_jams 4 = .ok (.getfield 13, 3) := dk_180 0 13 (dk_at dksX3_jams_0 4 rfl rfl)
theorem dX3_jams_7 : decode cX3_jams 7 = .ok (.iconst 0, 1) := dk_3 (dk_at dksX3_jams_0 7 rfl rfl)
theorem dX3_jams_8 : decode cX3_jams 8 = .ok (.iaload, 1) := dk_46 (dk_at dksX3_jams_0 8 rfl rfl)
theorem dX3_jams_9 : decode cX3_jams 9 = .ok (.if_icmp .ge 37, 3) := dk_162 0 37 (dk_at dksX3_jams_0 9 rfl rfl)
theorem dX3_jams_12 : decode cX3_jams 12 = .ok (.aload_n 0, 1) := dk_42 (dk_at dksX3_jams_0 12 rfl rfl)
theorem dX3_jams_13 : decode cX3_jams 13 = .ok (.getfield 29, 3) := dk_180 0 29 (dk_at dksX3_jams_0 13 rfl rfl)
theorem dX3_jams_16 : decode cX3_jams 16 = .ok (.iload_n 1, 1) := dk_27 (dk_at dksX3_jams_0 16 rfl rfl)
theorem dX3_jams_17 : decode cX3_jams 17 = .ok (.iaload, 1) := dk_46 (dk_at dksX3_jams_0 17 rfl rfl)
theorem dX3_jams_18 : decode cX3_jams 18 = .ok (.aload_n 0, 1) := dk_42 (dk_at dksX3_jams_0 18 rfl rfl)
theorem dX3_jams_19 : decode cX3_jams 19 = .ok (.getfield 77, 3) := dk_180 0 77 (dk_at dksX3_jams_0 19 rfl rfl)
theorem dX3_jams_22 : decode cX3_jams 22 = .ok (.iload_n 1, 1) := dk_27 (dk_at dksX3_jams_0 22 rfl rfl)
theorem dX3_jams_23 : decode cX3_jams 23 = .ok (.iaload, 1) := dk_46 (dk_at dksX3_jams_0 23 rfl rfl)
theorem dX3_jams_24 : decode cX3_jams 24 = .ok (.invokestatic 171, 3) := dk_184 0 171 (dk_at dksX3_jams_1 0 rfl rfl)
theorem dX3_jams_27 : decode cX3_jams 27 = .ok (.iadd, 1) := dk_96 (dk_at dksX3_jams_1 3 rfl rfl)
theorem dX3_jams_28 : decode cX3_jams 28 = .ok (.bipush (-99), 2) := dk_16 157 (dk_at dksX3_jams_1 4 rfl rfl)
theorem dX3_jams_30 : decode cX3_jams 30 = .ok (.bipush 99, 2) := dk_16 99 (dk_at dksX3_jams_1 6 rfl rfl)
theorem dX3_jams_32 : decode cX3_jams 32 = .ok (.invokestatic 108, 3) := dk_184 0 108 (dk_at dksX3_jams_1 8 rfl rfl)
theorem dX3_jams_35 : decode cX3_jams 35 = .ok (.ifCond .ne 5, 3) := dk_154 0 5 (dk_at dksX3_jams_1 11 rfl rfl)
theorem dX3_jams_38 : decode cX3_jams 38 = .ok (.iconst 1, 1) := dk_4 (dk_at dksX3_jams_1 14 rfl rfl)
theorem dX3_jams_39 : decode cX3_jams 39 = .ok (.ireturn, 1) := dk_172 (dk_at dksX3_jams_1 15 rfl rfl)
theorem dX3_jams_40 : decode cX3_jams 40 = .ok (.iinc 1 1, 3) := dk_132 1 1 (dk_at dksX3_jams_1 16 rfl rfl)
theorem dX3_jams_43 : decode cX3_jams 43 = .ok (.goto (-41), 3) := dk_167 255 215 (dk_at dksX3_jams_1 19 rfl rfl)
theorem dX3_jams_46 : decode cX3_jams 46 = .ok (.iconst 0, 1) := dk_3 (dk_at dksX3_jams_1 22 rfl rfl)
theorem dX3_jams_47 : decode cX3_jams 47 = .ok (.ireturn, 1) := dk_172 (dk_at dksX3_jams_1 23 rfl rfl)
abbrev cX3_grown : ByteArray := prog_20_method_24_code
def yX3_grown : MethodName := ⟨RX3, "grown", "(I)I"⟩
def dkwX3_grown_1 : List UInt8 := [167, 0, 4, 3, 172]
abbrev dktX3_grown_1 : List UInt8 := dkwX3_grown_1 ++ []
def dkwX3_grown_0 : List UInt8 := [26, 4, 160, 0, 7, 4, 167, 0, 22, 26, 5, 160, 0, 7, 2, 167, 0, 13, 26, 6, 160, 0, 7, 5]
abbrev dktX3_grown_0 : List UInt8 := dkwX3_grown_0 ++ dktX3_grown_1
theorem dksX3_grown_0 : cX3_grown.data.toList.drop 0 = dktX3_grown_0 := by decide +kernel
theorem dksX3_grown_1 : cX3_grown.data.toList.drop 24 = dktX3_grown_1 := dk_seg dksX3_grown_0 24 rfl rfl
theorem dX3_grown_0 : decode cX3_grown 0 = .ok (.iload_n 0, 1) := dk_26 (dk_at dksX3_grown_0 0 rfl rfl)
theorem dX3_grown_1 : decode cX3_grown 1 = .ok (.iconst 1, 1) := dk_4 (dk_at dksX3_grown_0 1 rfl rfl)
theorem dX3_grown_2 : decode cX3_grown 2 = .ok (.if_icmp .ne 7, 3) := dk_160 0 7 (dk_at dksX3_grown_0 2 rfl rfl)
theorem dX3_grown_5 : decode cX3_grown 5 = .ok (.iconst 1, 1) := dk_4 (dk_at dksX3_grown_0 5 rfl rfl)
theorem dX3_grown_6 : decode cX3_grown 6 = .ok (.goto 22, 3) := dk_167 0 22 (dk_at dksX3_grown_0 6 rfl rfl)
theorem dX3_grown_9 : decode cX3_grown 9 = .ok (.iload_n 0, 1) := dk_26 (dk_at dksX3_grown_0 9 rfl rfl)
theorem dX3_grown_10 : decode cX3_grown 10 = .ok (.iconst 2, 1) := dk_5 (dk_at dksX3_grown_0 10 rfl rfl)
theorem dX3_grown_11 : decode cX3_grown 11 = .ok (.if_icmp .ne 7, 3) := dk_160 0 7 (dk_at dksX3_grown_0 11 rfl rfl)
theorem dX3_grown_14 : decode cX3_grown 14 = .ok (.iconst (-1), 1) := dk_2 (dk_at dksX3_grown_0 14 rfl rfl)
theorem dX3_grown_15 : decode cX3_grown 15 = .ok (.goto 13, 3) := dk_167 0 13 (dk_at dksX3_grown_0 15 rfl rfl)
theorem dX3_grown_18 : decode cX3_grown 18 = .ok (.iload_n 0, 1) := dk_26 (dk_at dksX3_grown_0 18 rfl rfl)
theorem dX3_grown_19 : decode cX3_grown 19 = .ok (.iconst 3, 1) := dk_6 (dk_at dksX3_grown_0 19 rfl rfl)
theorem dX3_grown_20 : decode cX3_grown 20 = .ok (.if_icmp .ne 7, 3) := dk_160 0 7 (dk_at dksX3_grown_0 20 rfl rfl)
theorem dX3_grown_23 : decode cX3_grown 23 = .ok (.iconst 2, 1) := dk_5 (dk_at dksX3_grown_0 23 rfl rfl)
theorem dX3_grown_24 : decode cX3_grown 24 = .ok (.goto 4, 3) := dk_167 0 4 (dk_at dksX3_grown_1 0 rfl rfl)
theorem dX3_grown_27 : decode cX3_grown 27 = .ok (.iconst 0, 1) := dk_3 (dk_at dksX3_grown_1 3 rfl rfl)
theorem dX3_grown_28 : decode cX3_grown 28 = .ok (.ireturn, 1) := dk_172 (dk_at dksX3_grown_1 4 rfl rfl)
abbrev cX3_weavePick : ByteArray := prog_20_method_26_code
def yX3_weavePick : MethodName := ⟨RX3, "weavePick", "()V"⟩
def dkwX3_weavePick_8 : List UInt8 := [132, 2, 1, 167, 255, 76, 42, 180, 0, 17, 3, 92, 46, 4, 96, 79, 177]
abbrev dktX3_weavePick_8 : List UInt8 := dkwX3_weavePick_8 ++ []
def dkwX3_weavePick_7 : List UInt8 := [180, 0, 23, 28, 46, 154, 0, 7, 4, 167, 0, 4, 3, 160, 0, 7, 4, 167, 0, 4, 5, 79]
abbrev dktX3_weavePick_7 : List UInt8 := dkwX3_weavePick_7 ++ dktX3_weavePick_8
def dkwX3_weavePick_6 : List UInt8 := [167, 0, 44, 29, 6, 160, 0, 7, 6, 167, 0, 35, 29, 4, 160, 0, 7, 4, 167, 0, 4, 3, 42]
abbrev dktX3_weavePick_6 : List UInt8 := dkwX3_weavePick_6 ++ dktX3_weavePick_7
def dkwX3_weavePick_5 : List UInt8 := [46, 5, 96, 7, 112, 96, 46, 79, 42, 180, 0, 38, 16, 10, 27, 104, 28, 96, 29, 154, 0, 7, 3]
abbrev dktX3_weavePick_5 : List UInt8 := dkwX3_weavePick_5 ++ dktX3_weavePick_6
def dkwX3_weavePick_4 : List UInt8 := [46, 79, 42, 180, 0, 35, 16, 10, 27, 104, 28, 96, 42, 180, 0, 20, 7, 28, 104, 42, 180, 0, 26, 28]
abbrev dktX3_weavePick_4 : List UInt8 := dkwX3_weavePick_4 ++ dktX3_weavePick_5
def dkwX3_weavePick_3 : List UInt8 := [42, 180, 0, 32, 16, 10, 27, 104, 28, 96, 42, 180, 0, 20, 7, 28, 104, 42, 180, 0, 26, 28, 46, 96]
abbrev dktX3_weavePick_3 : List UInt8 := dkwX3_weavePick_3 ++ dktX3_weavePick_4
def dkwX3_weavePick_2 : List UInt8 := [180, 0, 29, 28, 92, 46, 29, 184, 0, 171, 96, 79, 42, 180, 0, 41, 16, 10, 27, 104, 28, 96, 29, 79]
abbrev dktX3_weavePick_2 : List UInt8 := dkwX3_weavePick_2 ++ dktX3_weavePick_3
def dkwX3_weavePick_1 : List UInt8 := [46, 62, 42, 180, 0, 26, 28, 42, 180, 0, 26, 28, 46, 29, 184, 0, 174, 96, 7, 112, 79, 42]
abbrev dktX3_weavePick_1 : List UInt8 := dkwX3_weavePick_1 ++ dktX3_weavePick_2
def dkwX3_weavePick_0 : List UInt8 := [42, 180, 0, 17, 3, 46, 60, 3, 61, 28, 42, 180, 0, 13, 3, 46, 162, 0, 176, 42, 180, 0, 77, 28]
abbrev dktX3_weavePick_0 : List UInt8 := dkwX3_weavePick_0 ++ dktX3_weavePick_1
theorem dksX3_weavePick_0 : cX3_weavePick.data.toList.drop 0 = dktX3_weavePick_0 := by decide +kernel
theorem dksX3_weavePick_1 : cX3_weavePick.data.toList.drop 24 = dktX3_weavePick_1 := dk_seg dksX3_weavePick_0 24 rfl rfl
theorem dksX3_weavePick_2 : cX3_weavePick.data.toList.drop 46 = dktX3_weavePick_2 := dk_seg dksX3_weavePick_1 22 rfl rfl
theorem dksX3_weavePick_3 : cX3_weavePick.data.toList.drop 70 = dktX3_weavePick_3 := dk_seg dksX3_weavePick_2 24 rfl rfl
theorem dksX3_weavePick_4 : cX3_weavePick.data.toList.drop 94 = dktX3_weavePick_4 := dk_seg dksX3_weavePick_3 24 rfl rfl
theorem dksX3_weavePick_5 : cX3_weavePick.data.toList.drop 118 = dktX3_weavePick_5 := dk_seg dksX3_weavePick_4 24 rfl rfl
theorem dksX3_weavePick_6 : cX3_weavePick.data.toList.drop 141 = dktX3_weavePick_6 := dk_seg dksX3_weavePick_5 23 rfl rfl
theorem dksX3_weavePick_7 : cX3_weavePick.data.toList.drop 164 = dktX3_weavePick_7 := dk_seg dksX3_weavePick_6 23 rfl rfl
theorem dksX3_weavePick_8 : cX3_weavePick.data.toList.drop 186 = dktX3_weavePick_8 := dk_seg dksX3_weavePick_7 22 rfl rfl
theorem dX3_weavePick_0 : decode cX3_weavePick 0 = .ok (.aload_n 0, 1) := dk_42 (dk_at dksX3_weavePick_0 0 rfl rfl)
theorem dX3_weavePick_1 : decode cX3_weavePick 1 = .ok (.getfield 17, 3) := dk_180 0 17 (dk_at dksX3_weavePick_0 1 rfl rfl)
theorem dX3_weavePick_4 : decode cX3_weavePick 4 = .ok (.iconst 0, 1) := dk_3 (dk_at dksX3_weavePick_0 4 rfl rfl)
theorem dX3_weavePick_5 : decode cX3_weavePick 5 = .ok (.iaload, 1) := dk_46 (dk_at dksX3_weavePick_0 5 rfl rfl)
theorem dX3_weavePick_6 : decode cX3_weavePick 6 = .ok (.istore_n 1, 1) := dk_60 (dk_at dksX3_weavePick_0 6 rfl rfl)
theorem dX3_weavePick_7 : decode cX3_weavePick 7 = .ok (.iconst 0, 1) := dk_3 (dk_at dksX3_weavePick_0 7 rfl rfl)
theorem dX3_weavePick_8 : decode cX3_weavePick 8 = .ok (.istore_n 2, 1) := dk_61 (dk_at dksX3_weavePick_0 8 rfl rfl)
theorem dX3_weavePick_9 : decode cX3_weavePick 9 = .ok (.iload_n 2, 1) := dk_28 (dk_at dksX3_weavePick_0 9 rfl rfl)
theorem dX3_weavePick_10 : decode cX3_weavePick 10 = .ok (.aload_n 0, 1) := dk_42 (dk_at dksX3_weavePick_0 10 rfl rfl)
theorem dX3_weavePick_11 : decode cX3_weavePick 11 = .ok (.getfield 13, 3) := dk_180 0 13 (dk_at dksX3_weavePick_0 11 rfl rfl)
theorem dX3_weavePick_14 : decode cX3_weavePick 14 = .ok (.iconst 0, 1) := dk_3 (dk_at dksX3_weavePick_0 14 rfl rfl)
theorem dX3_weavePick_15 : decode cX3_weavePick 15 = .ok (.iaload, 1) := dk_46 (dk_at dksX3_weavePick_0 15 rfl rfl)
theorem dX3_weavePick_16 : decode cX3_weavePick 16 = .ok (.if_icmp .ge 176, 3) := dk_162 0 176 (dk_at dksX3_weavePick_0 16 rfl rfl)
theorem dX3_weavePick_19 : decode cX3_weavePick 19 = .ok (.aload_n 0, 1) := dk_42 (dk_at dksX3_weavePick_0 19 rfl rfl)
theorem dX3_weavePick_20 : decode cX3_weavePick 20 = .ok (.getfield 77, 3) := dk_180 0 77 (dk_at dksX3_weavePick_0 20 rfl rfl)
theorem dX3_weavePick_23 : decode cX3_weavePick 23 = .ok (.iload_n 2, 1) := dk_28 (dk_at dksX3_weavePick_0 23 rfl rfl)
theorem dX3_weavePick_24 : decode cX3_weavePick 24 = .ok (.iaload, 1) := dk_46 (dk_at dksX3_weavePick_1 0 rfl rfl)
theorem dX3_weavePick_25 : decode cX3_weavePick 25 = .ok (.istore_n 3, 1) := dk_62 (dk_at dksX3_weavePick_1 1 rfl rfl)
theorem dX3_weavePick_26 : decode cX3_weavePick 26 = .ok (.aload_n 0, 1) := dk_42 (dk_at dksX3_weavePick_1 2 rfl rfl)
theorem dX3_weavePick_27 : decode cX3_weavePick 27 = .ok (.getfield 26, 3) := dk_180 0 26 (dk_at dksX3_weavePick_1 3 rfl rfl)
theorem dX3_weavePick_30 : decode cX3_weavePick 30 = .ok (.iload_n 2, 1) := dk_28 (dk_at dksX3_weavePick_1 6 rfl rfl)
theorem dX3_weavePick_31 : decode cX3_weavePick 31 = .ok (.aload_n 0, 1) := dk_42 (dk_at dksX3_weavePick_1 7 rfl rfl)
theorem dX3_weavePick_32 : decode cX3_weavePick 32 = .ok (.getfield 26, 3) := dk_180 0 26 (dk_at dksX3_weavePick_1 8 rfl rfl)
theorem dX3_weavePick_35 : decode cX3_weavePick 35 = .ok (.iload_n 2, 1) := dk_28 (dk_at dksX3_weavePick_1 11 rfl rfl)
theorem dX3_weavePick_36 : decode cX3_weavePick 36 = .ok (.iaload, 1) := dk_46 (dk_at dksX3_weavePick_1 12 rfl rfl)
theorem dX3_weavePick_37 : decode cX3_weavePick 37 = .ok (.iload_n 3, 1) := dk_29 (dk_at dksX3_weavePick_1 13 rfl rfl)
theorem dX3_weavePick_38 : decode cX3_weavePick 38 = .ok (.invokestatic 174, 3) := dk_184 0 174 (dk_at dksX3_weavePick_1 14 rfl rfl)
theorem dX3_weavePick_41 : decode cX3_weavePick 41 = .ok (.iadd, 1) := dk_96 (dk_at dksX3_weavePick_1 17 rfl rfl)
theorem dX3_weavePick_42 : decode cX3_weavePick 42 = .ok (.iconst 4, 1) := dk_7 (dk_at dksX3_weavePick_1 18 rfl rfl)
theorem dX3_weavePick_43 : decode cX3_weavePick 43 = .ok (.irem, 1) := dk_112 (dk_at dksX3_weavePick_1 19 rfl rfl)
theorem dX3_weavePick_44 : decode cX3_weavePick 44 = .ok (.iastore, 1) := dk_79 (dk_at dksX3_weavePick_1 20 rfl rfl)
theorem dX3_weavePick_45 : decode cX3_weavePick 45 = .ok (.aload_n 0, 1) := dk_42 (dk_at dksX3_weavePick_1 21 rfl rfl)
theorem dX3_weavePick_46 : decode cX3_weavePick 46 = .ok (.getfield 29, 3) := dk_180 0 29 (dk_at dksX3_weavePick_2 0 rfl rfl)
theorem dX3_weavePick_49 : decode cX3_weavePick 49 = .ok (.iload_n 2, 1) := dk_28 (dk_at dksX3_weavePick_2 3 rfl rfl)
theorem dX3_weavePick_50 : decode cX3_weavePick 50 = .ok (.dup2, 1) := dk_92 (dk_at dksX3_weavePick_2 4 rfl rfl)
theorem dX3_weavePick_51 : decode cX3_weavePick 51 = .ok (.iaload, 1) := dk_46 (dk_at dksX3_weavePick_2 5 rfl rfl)
theorem dX3_weavePick_52 : decode cX3_weavePick 52 = .ok (.iload_n 3, 1) := dk_29 (dk_at dksX3_weavePick_2 6 rfl rfl)
theorem dX3_weavePick_53 : decode cX3_weavePick 53 = .ok (.invokestatic 171, 3) := dk_184 0 171 (dk_at dksX3_weavePick_2 7 rfl rfl)
theorem dX3_weavePick_56 : decode cX3_weavePick 56 = .ok (.iadd, 1) := dk_96 (dk_at dksX3_weavePick_2 10 rfl rfl)
theorem dX3_weavePick_57 : decode cX3_weavePick 57 = .ok (.iastore, 1) := dk_79 (dk_at dksX3_weavePick_2 11 rfl rfl)
theorem dX3_weavePick_58 : decode cX3_weavePick 58 = .ok (.aload_n 0, 1) := dk_42 (dk_at dksX3_weavePick_2 12 rfl rfl)
theorem dX3_weavePick_59 : decode cX3_weavePick 59 = .ok (.getfield 41, 3) := dk_180 0 41 (dk_at dksX3_weavePick_2 13 rfl rfl)
theorem dX3_weavePick_62 : decode cX3_weavePick 62 = .ok (.bipush 10, 2) := dk_16 10 (dk_at dksX3_weavePick_2 16 rfl rfl)
theorem dX3_weavePick_64 : decode cX3_weavePick 64 = .ok (.iload_n 1, 1) := dk_27 (dk_at dksX3_weavePick_2 18 rfl rfl)
theorem dX3_weavePick_65 : decode cX3_weavePick 65 = .ok (.imul, 1) := dk_104 (dk_at dksX3_weavePick_2 19 rfl rfl)
theorem dX3_weavePick_66 : decode cX3_weavePick 66 = .ok (.iload_n 2, 1) := dk_28 (dk_at dksX3_weavePick_2 20 rfl rfl)
theorem dX3_weavePick_67 : decode cX3_weavePick 67 = .ok (.iadd, 1) := dk_96 (dk_at dksX3_weavePick_2 21 rfl rfl)
theorem dX3_weavePick_68 : decode cX3_weavePick 68 = .ok (.iload_n 3, 1) := dk_29 (dk_at dksX3_weavePick_2 22 rfl rfl)
theorem dX3_weavePick_69 : decode cX3_weavePick 69 = .ok (.iastore, 1) := dk_79 (dk_at dksX3_weavePick_2 23 rfl rfl)
theorem dX3_weavePick_70 : decode cX3_weavePick 70 = .ok (.aload_n 0, 1) := dk_42 (dk_at dksX3_weavePick_3 0 rfl rfl)
theorem dX3_weavePick_71 : decode cX3_weavePick 71 = .ok (.getfield 32, 3) := dk_180 0 32 (dk_at dksX3_weavePick_3 1 rfl rfl)
theorem dX3_weavePick_74 : decode cX3_weavePick 74 = .ok (.bipush 10, 2) := dk_16 10 (dk_at dksX3_weavePick_3 4 rfl rfl)
theorem dX3_weavePick_76 : decode cX3_weavePick 76 = .ok (.iload_n 1, 1) := dk_27 (dk_at dksX3_weavePick_3 6 rfl rfl)
theorem dX3_weavePick_77 : decode cX3_weavePick 77 = .ok (.imul, 1) := dk_104 (dk_at dksX3_weavePick_3 7 rfl rfl)
theorem dX3_weavePick_78 : decode cX3_weavePick 78 = .ok (.iload_n 2, 1) := dk_28 (dk_at dksX3_weavePick_3 8 rfl rfl)
theorem dX3_weavePick_79 : decode cX3_weavePick 79 = .ok (.iadd, 1) := dk_96 (dk_at dksX3_weavePick_3 9 rfl rfl)
theorem dX3_weavePick_80 : decode cX3_weavePick 80 = .ok (.aload_n 0, 1) := dk_42 (dk_at dksX3_weavePick_3 10 rfl rfl)
theorem dX3_weavePick_81 : decode cX3_weavePick 81 = .ok (.getfield 20, 3) := dk_180 0 20 (dk_at dksX3_weavePick_3 11 rfl rfl)
theorem dX3_weavePick_84 : decode cX3_weavePick 84 = .ok (.iconst 4, 1) := dk_7 (dk_at dksX3_weavePick_3 14 rfl rfl)
theorem dX3_weavePick_85 : decode cX3_weavePick 85 = .ok (.iload_n 2, 1) := dk_28 (dk_at dksX3_weavePick_3 15 rfl rfl)
theorem dX3_weavePick_86 : decode cX3_weavePick 86 = .ok (.imul, 1) := dk_104 (dk_at dksX3_weavePick_3 16 rfl rfl)
theorem dX3_weavePick_87 : decode cX3_weavePick 87 = .ok (.aload_n 0, 1) := dk_42 (dk_at dksX3_weavePick_3 17 rfl rfl)
theorem dX3_weavePick_88 : decode cX3_weavePick 88 = .ok (.getfield 26, 3) := dk_180 0 26 (dk_at dksX3_weavePick_3 18 rfl rfl)
theorem dX3_weavePick_91 : decode cX3_weavePick 91 = .ok (.iload_n 2, 1) := dk_28 (dk_at dksX3_weavePick_3 21 rfl rfl)
theorem dX3_weavePick_92 : decode cX3_weavePick 92 = .ok (.iaload, 1) := dk_46 (dk_at dksX3_weavePick_3 22 rfl rfl)
theorem dX3_weavePick_93 : decode cX3_weavePick 93 = .ok (.iadd, 1) := dk_96 (dk_at dksX3_weavePick_3 23 rfl rfl)
theorem dX3_weavePick_94 : decode cX3_weavePick 94 = .ok (.iaload, 1) := dk_46 (dk_at dksX3_weavePick_4 0 rfl rfl)
theorem dX3_weavePick_95 : decode cX3_weavePick 95 = .ok (.iastore, 1) := dk_79 (dk_at dksX3_weavePick_4 1 rfl rfl)
theorem dX3_weavePick_96 : decode cX3_weavePick 96 = .ok (.aload_n 0, 1) := dk_42 (dk_at dksX3_weavePick_4 2 rfl rfl)
theorem dX3_weavePick_97 : decode cX3_weavePick 97 = .ok (.getfield 35, 3) := dk_180 0 35 (dk_at dksX3_weavePick_4 3 rfl rfl)
theorem dX3_weavePick_100 : decode cX3_weavePick 100 = .ok (.bipush 10, 2) := dk_16 10 (dk_at dksX3_weavePick_4 6 rfl rfl)
theorem dX3_weavePick_102 : decode cX3_weavePick 102 = .ok (.iload_n 1, 1) := dk_27 (dk_at dksX3_weavePick_4 8 rfl rfl)
theorem dX3_weavePick_103 : decode cX3_weavePick 103 = .ok (.imul, 1) := dk_104 (dk_at dksX3_weavePick_4 9 rfl rfl)
theorem dX3_weavePick_104 : decode cX3_weavePick 104 = .ok (.iload_n 2, 1) := dk_28 (dk_at dksX3_weavePick_4 10 rfl rfl)
theorem dX3_weavePick_105 : decode cX3_weavePick 105 = .ok (.iadd, 1) := dk_96 (dk_at dksX3_weavePick_4 11 rfl rfl)
theorem dX3_weavePick_106 : decode cX3_weavePick 106 = .ok (.aload_n 0, 1) := dk_42 (dk_at dksX3_weavePick_4 12 rfl rfl)
theorem dX3_weavePick_107 : decode cX3_weavePick 107 = .ok (.getfield 20, 3) := dk_180 0 20 (dk_at dksX3_weavePick_4 13 rfl rfl)
theorem dX3_weavePick_110 : decode cX3_weavePick 110 = .ok (.iconst 4, 1) := dk_7 (dk_at dksX3_weavePick_4 16 rfl rfl)
theorem dX3_weavePick_111 : decode cX3_weavePick 111 = .ok (.iload_n 2, 1) := dk_28 (dk_at dksX3_weavePick_4 17 rfl rfl)
theorem dX3_weavePick_112 : decode cX3_weavePick 112 = .ok (.imul, 1) := dk_104 (dk_at dksX3_weavePick_4 18 rfl rfl)
theorem dX3_weavePick_113 : decode cX3_weavePick 113 = .ok (.aload_n 0, 1) := dk_42 (dk_at dksX3_weavePick_4 19 rfl rfl)
theorem dX3_weavePick_114 : decode cX3_weavePick 114 = .ok (.getfield 26, 3) := dk_180 0 26 (dk_at dksX3_weavePick_4 20 rfl rfl)
theorem dX3_weavePick_117 : decode cX3_weavePick 117 = .ok (.iload_n 2, 1) := dk_28 (dk_at dksX3_weavePick_4 23 rfl rfl)
theorem dX3_weavePick_118 : decode cX3_weavePick 118 = .ok (.iaload, 1) := dk_46 (dk_at dksX3_weavePick_5 0 rfl rfl)
theorem dX3_weavePick_119 : decode cX3_weavePick 119 = .ok (.iconst 2, 1) := dk_5 (dk_at dksX3_weavePick_5 1 rfl rfl)
theorem dX3_weavePick_120 : decode cX3_weavePick 120 = .ok (.iadd, 1) := dk_96 (dk_at dksX3_weavePick_5 2 rfl rfl)
theorem dX3_weavePick_121 : decode cX3_weavePick 121 = .ok (.iconst 4, 1) := dk_7 (dk_at dksX3_weavePick_5 3 rfl rfl)
theorem dX3_weavePick_122 : decode cX3_weavePick 122 = .ok (.irem, 1) := dk_112 (dk_at dksX3_weavePick_5 4 rfl rfl)
theorem dX3_weavePick_123 : decode cX3_weavePick 123 = .ok (.iadd, 1) := dk_96 (dk_at dksX3_weavePick_5 5 rfl rfl)
theorem dX3_weavePick_124 : decode cX3_weavePick 124 = .ok (.iaload, 1) := dk_46 (dk_at dksX3_weavePick_5 6 rfl rfl)
theorem dX3_weavePick_125 : decode cX3_weavePick 125 = .ok (.iastore, 1) := dk_79 (dk_at dksX3_weavePick_5 7 rfl rfl)
theorem dX3_weavePick_126 : decode cX3_weavePick 126 = .ok (.aload_n 0, 1) := dk_42 (dk_at dksX3_weavePick_5 8 rfl rfl)
theorem dX3_weavePick_127 : decode cX3_weavePick 127 = .ok (.getfield 38, 3) := dk_180 0 38 (dk_at dksX3_weavePick_5 9 rfl rfl)
theorem dX3_weavePick_130 : decode cX3_weavePick 130 = .ok (.bipush 10, 2) := dk_16 10 (dk_at dksX3_weavePick_5 12 rfl rfl)
theorem dX3_weavePick_132 : decode cX3_weavePick 132 = .ok (.iload_n 1, 1) := dk_27 (dk_at dksX3_weavePick_5 14 rfl rfl)
theorem dX3_weavePick_133 : decode cX3_weavePick 133 = .ok (.imul, 1) := dk_104 (dk_at dksX3_weavePick_5 15 rfl rfl)
theorem dX3_weavePick_134 : decode cX3_weavePick 134 = .ok (.iload_n 2, 1) := dk_28 (dk_at dksX3_weavePick_5 16 rfl rfl)
theorem dX3_weavePick_135 : decode cX3_weavePick 135 = .ok (.iadd, 1) := dk_96 (dk_at dksX3_weavePick_5 17 rfl rfl)
theorem dX3_weavePick_136 : decode cX3_weavePick 136 = .ok (.iload_n 3, 1) := dk_29 (dk_at dksX3_weavePick_5 18 rfl rfl)
theorem dX3_weavePick_137 : decode cX3_weavePick 137 = .ok (.ifCond .ne 7, 3) := dk_154 0 7 (dk_at dksX3_weavePick_5 19 rfl rfl)
theorem dX3_weavePick_140 : decode cX3_weavePick 140 = .ok (.iconst 0, 1) := dk_3 (dk_at dksX3_weavePick_5 22 rfl rfl)
theorem dX3_weavePick_141 : decode cX3_weavePick 141 = .ok (.goto 44, 3) := dk_167 0 44 (dk_at dksX3_weavePick_6 0 rfl rfl)
theorem dX3_weavePick_144 : decode cX3_weavePick 144 = .ok (.iload_n 3, 1) := dk_29 (dk_at dksX3_weavePick_6 3 rfl rfl)
theorem dX3_weavePick_145 : decode cX3_weavePick 145 = .ok (.iconst 3, 1) := dk_6 (dk_at dksX3_weavePick_6 4 rfl rfl)
theorem dX3_weavePick_146 : decode cX3_weavePick 146 = .ok (.if_icmp .ne 7, 3) := dk_160 0 7 (dk_at dksX3_weavePick_6 5 rfl rfl)
theorem dX3_weavePick_149 : decode cX3_weavePick 149 = .ok (.iconst 3, 1) := dk_6 (dk_at dksX3_weavePick_6 8 rfl rfl)
theorem dX3_weavePick_150 : decode cX3_weavePick 150 = .ok (.goto 35, 3) := dk_167 0 35 (dk_at dksX3_weavePick_6 9 rfl rfl)
theorem dX3_weavePick_153 : decode cX3_weavePick 153 = .ok (.iload_n 3, 1) := dk_29 (dk_at dksX3_weavePick_6 12 rfl rfl)
theorem dX3_weavePick_154 : decode cX3_weavePick 154 = .ok (.iconst 1, 1) := dk_4 (dk_at dksX3_weavePick_6 13 rfl rfl)
theorem dX3_weavePick_155 : decode cX3_weavePick 155 = .ok (.if_icmp .ne 7, 3) := dk_160 0 7 (dk_at dksX3_weavePick_6 14 rfl rfl)
theorem dX3_weavePick_158 : decode cX3_weavePick 158 = .ok (.iconst 1, 1) := dk_4 (dk_at dksX3_weavePick_6 17 rfl rfl)
theorem dX3_weavePick_159 : decode cX3_weavePick 159 = .ok (.goto 4, 3) := dk_167 0 4 (dk_at dksX3_weavePick_6 18 rfl rfl)
theorem dX3_weavePick_162 : decode cX3_weavePick 162 = .ok (.iconst 0, 1) := dk_3 (dk_at dksX3_weavePick_6 21 rfl rfl)
theorem dX3_weavePick_163 : decode cX3_weavePick 163 = .ok (.aload_n 0, 1) := dk_42 (dk_at dksX3_weavePick_6 22 rfl rfl)
theorem dX3_weavePick_164 : decode cX3_weavePick 164 = .ok (.getfield 23, 3) := dk_180 0 23 (dk_at dksX3_weavePick_7 0 rfl rfl)
theorem dX3_weavePick_167 : decode cX3_weavePick 167 = .ok (.iload_n 2, 1) := dk_28 (dk_at dksX3_weavePick_7 3 rfl rfl)
theorem dX3_weavePick_168 : decode cX3_weavePick 168 = .ok (.iaload, 1) := dk_46 (dk_at dksX3_weavePick_7 4 rfl rfl)
theorem dX3_weavePick_169 : decode cX3_weavePick 169 = .ok (.ifCond .ne 7, 3) := dk_154 0 7 (dk_at dksX3_weavePick_7 5 rfl rfl)
theorem dX3_weavePick_172 : decode cX3_weavePick 172 = .ok (.iconst 1, 1) := dk_4 (dk_at dksX3_weavePick_7 8 rfl rfl)
theorem dX3_weavePick_173 : decode cX3_weavePick 173 = .ok (.goto 4, 3) := dk_167 0 4 (dk_at dksX3_weavePick_7 9 rfl rfl)
theorem dX3_weavePick_176 : decode cX3_weavePick 176 = .ok (.iconst 0, 1) := dk_3 (dk_at dksX3_weavePick_7 12 rfl rfl)
theorem dX3_weavePick_177 : decode cX3_weavePick 177 = .ok (.if_icmp .ne 7, 3) := dk_160 0 7 (dk_at dksX3_weavePick_7 13 rfl rfl)
theorem dX3_weavePick_180 : decode cX3_weavePick 180 = .ok (.iconst 1, 1) := dk_4 (dk_at dksX3_weavePick_7 16 rfl rfl)
theorem dX3_weavePick_181 : decode cX3_weavePick 181 = .ok (.goto 4, 3) := dk_167 0 4 (dk_at dksX3_weavePick_7 17 rfl rfl)
theorem dX3_weavePick_184 : decode cX3_weavePick 184 = .ok (.iconst 2, 1) := dk_5 (dk_at dksX3_weavePick_7 20 rfl rfl)
theorem dX3_weavePick_185 : decode cX3_weavePick 185 = .ok (.iastore, 1) := dk_79 (dk_at dksX3_weavePick_7 21 rfl rfl)
theorem dX3_weavePick_186 : decode cX3_weavePick 186 = .ok (.iinc 2 1, 3) := dk_132 2 1 (dk_at dksX3_weavePick_8 0 rfl rfl)
theorem dX3_weavePick_189 : decode cX3_weavePick 189 = .ok (.goto (-180), 3) := dk_167 255 76 (dk_at dksX3_weavePick_8 3 rfl rfl)
theorem dX3_weavePick_192 : decode cX3_weavePick 192 = .ok (.aload_n 0, 1) := dk_42 (dk_at dksX3_weavePick_8 6 rfl rfl)
theorem dX3_weavePick_193 : decode cX3_weavePick 193 = .ok (.getfield 17, 3) := dk_180 0 17 (dk_at dksX3_weavePick_8 7 rfl rfl)
theorem dX3_weavePick_196 : decode cX3_weavePick 196 = .ok (.iconst 0, 1) := dk_3 (dk_at dksX3_weavePick_8 10 rfl rfl)
theorem dX3_weavePick_197 : decode cX3_weavePick 197 = .ok (.dup2, 1) := dk_92 (dk_at dksX3_weavePick_8 11 rfl rfl)
theorem dX3_weavePick_198 : decode cX3_weavePick 198 = .ok (.iaload, 1) := dk_46 (dk_at dksX3_weavePick_8 12 rfl rfl)
theorem dX3_weavePick_199 : decode cX3_weavePick 199 = .ok (.iconst 1, 1) := dk_4 (dk_at dksX3_weavePick_8 13 rfl rfl)
theorem dX3_weavePick_200 : decode cX3_weavePick 200 = .ok (.iadd, 1) := dk_96 (dk_at dksX3_weavePick_8 14 rfl rfl)
theorem dX3_weavePick_201 : decode cX3_weavePick 201 = .ok (.iastore, 1) := dk_79 (dk_at dksX3_weavePick_8 15 rfl rfl)
theorem dX3_weavePick_202 : decode cX3_weavePick 202 = .ok (.return_, 1) := dk_177 (dk_at dksX3_weavePick_8 16 rfl rfl)
abbrev cX3_moved : ByteArray := prog_20_method_23_code
def yX3_moved : MethodName := ⟨RX3, "moved", "(I)I"⟩
def dkwX3_moved_1 : List UInt8 := [167, 0, 4, 3, 172]
abbrev dktX3_moved_1 : List UInt8 := dkwX3_moved_1 ++ []
def dkwX3_moved_0 : List UInt8 := [26, 4, 160, 0, 7, 4, 167, 0, 22, 26, 5, 160, 0, 7, 6, 167, 0, 13, 26, 6, 160, 0, 7, 5]
abbrev dktX3_moved_0 : List UInt8 := dkwX3_moved_0 ++ dktX3_moved_1
theorem dksX3_moved_0 : cX3_moved.data.toList.drop 0 = dktX3_moved_0 := by decide +kernel
theorem dksX3_moved_1 : cX3_moved.data.toList.drop 24 = dktX3_moved_1 := dk_seg dksX3_moved_0 24 rfl rfl
theorem dX3_moved_0 : decode cX3_moved 0 = .ok (.iload_n 0, 1) := dk_26 (dk_at dksX3_moved_0 0 rfl rfl)
theorem dX3_moved_1 : decode cX3_moved 1 = .ok (.iconst 1, 1) := dk_4 (dk_at dksX3_moved_0 1 rfl rfl)
theorem dX3_moved_2 : decode cX3_moved 2 = .ok (.if_icmp .ne 7, 3) := dk_160 0 7 (dk_at dksX3_moved_0 2 rfl rfl)
theorem dX3_moved_5 : decode cX3_moved 5 = .ok (.iconst 1, 1) := dk_4 (dk_at dksX3_moved_0 5 rfl rfl)
theorem dX3_moved_6 : decode cX3_moved 6 = .ok (.goto 22, 3) := dk_167 0 22 (dk_at dksX3_moved_0 6 rfl rfl)
theorem dX3_moved_9 : decode cX3_moved 9 = .ok (.iload_n 0, 1) := dk_26 (dk_at dksX3_moved_0 9 rfl rfl)
theorem dX3_moved_10 : decode cX3_moved 10 = .ok (.iconst 2, 1) := dk_5 (dk_at dksX3_moved_0 10 rfl rfl)
theorem dX3_moved_11 : decode cX3_moved 11 = .ok (.if_icmp .ne 7, 3) := dk_160 0 7 (dk_at dksX3_moved_0 11 rfl rfl)
theorem dX3_moved_14 : decode cX3_moved 14 = .ok (.iconst 3, 1) := dk_6 (dk_at dksX3_moved_0 14 rfl rfl)
theorem dX3_moved_15 : decode cX3_moved 15 = .ok (.goto 13, 3) := dk_167 0 13 (dk_at dksX3_moved_0 15 rfl rfl)
theorem dX3_moved_18 : decode cX3_moved 18 = .ok (.iload_n 0, 1) := dk_26 (dk_at dksX3_moved_0 18 rfl rfl)
theorem dX3_moved_19 : decode cX3_moved 19 = .ok (.iconst 3, 1) := dk_6 (dk_at dksX3_moved_0 19 rfl rfl)
theorem dX3_moved_20 : decode cX3_moved 20 = .ok (.if_icmp .ne 7, 3) := dk_160 0 7 (dk_at dksX3_moved_0 20 rfl rfl)
theorem dX3_moved_23 : decode cX3_moved 23 = .ok (.iconst 2, 1) := dk_5 (dk_at dksX3_moved_0 23 rfl rfl)
theorem dX3_moved_24 : decode cX3_moved 24 = .ok (.goto 4, 3) := dk_167 0 4 (dk_at dksX3_moved_1 0 rfl rfl)
theorem dX3_moved_27 : decode cX3_moved 27 = .ok (.iconst 0, 1) := dk_3 (dk_at dksX3_moved_1 3 rfl rfl)
theorem dX3_moved_28 : decode cX3_moved 28 = .ok (.ireturn, 1) := dk_172 (dk_at dksX3_moved_1 4 rfl rfl)
abbrev cX3_pack : ByteArray := prog_20_method_30_code
def yX3_pack : MethodName := ⟨RX3, "pack", "(II)I"⟩
def dkwX3_pack_2 : List UInt8 := [182, 0, 187, 172]
abbrev dktX3_pack_2 : List UInt8 := dkwX3_pack_2 ++ []
def dkwX3_pack_1 : List UInt8 := [154, 0, 6, 16, 254, 172, 42, 180, 0, 13, 3, 46, 154, 0, 8, 16, 253, 167, 0, 9, 42, 27, 28]
abbrev dktX3_pack_1 : List UInt8 := dkwX3_pack_1 ++ dktX3_pack_2
def dkwX3_pack_0 : List UInt8 := [27, 3, 4, 42, 180, 0, 13, 3, 46, 120, 4, 100, 184, 0, 108, 153, 0, 12, 28, 3, 6, 184, 0, 108]
abbrev dktX3_pack_0 : List UInt8 := dkwX3_pack_0 ++ dktX3_pack_1
theorem dksX3_pack_0 : cX3_pack.data.toList.drop 0 = dktX3_pack_0 := by decide +kernel
theorem dksX3_pack_1 : cX3_pack.data.toList.drop 24 = dktX3_pack_1 := dk_seg dksX3_pack_0 24 rfl rfl
theorem dksX3_pack_2 : cX3_pack.data.toList.drop 47 = dktX3_pack_2 := dk_seg dksX3_pack_1 23 rfl rfl
theorem dX3_pack_0 : decode cX3_pack 0 = .ok (.iload_n 1, 1) := dk_27 (dk_at dksX3_pack_0 0 rfl rfl)
theorem dX3_pack_1 : decode cX3_pack 1 = .ok (.iconst 0, 1) := dk_3 (dk_at dksX3_pack_0 1 rfl rfl)
theorem dX3_pack_2 : decode cX3_pack 2 = .ok (.iconst 1, 1) := dk_4 (dk_at dksX3_pack_0 2 rfl rfl)
theorem dX3_pack_3 : decode cX3_pack 3 = .ok (.aload_n 0, 1) := dk_42 (dk_at dksX3_pack_0 3 rfl rfl)
theorem dX3_pack_4 : decode cX3_pack 4 = .ok (.getfield 13, 3) := dk_180 0 13 (dk_at dksX3_pack_0 4 rfl rfl)
theorem dX3_pack_7 : decode cX3_pack 7 = .ok (.iconst 0, 1) := dk_3 (dk_at dksX3_pack_0 7 rfl rfl)
theorem dX3_pack_8 : decode cX3_pack 8 = .ok (.iaload, 1) := dk_46 (dk_at dksX3_pack_0 8 rfl rfl)
theorem dX3_pack_9 : decode cX3_pack 9 = .ok (.ishl, 1) := dk_120 (dk_at dksX3_pack_0 9 rfl rfl)
theorem dX3_pack_10 : decode cX3_pack 10 = .ok (.iconst 1, 1) := dk_4 (dk_at dksX3_pack_0 10 rfl rfl)
theorem dX3_pack_11 : decode cX3_pack 11 = .ok (.isub, 1) := dk_100 (dk_at dksX3_pack_0 11 rfl rfl)
theorem dX3_pack_12 : decode cX3_pack 12 = .ok (.invokestatic 108, 3) := dk_184 0 108 (dk_at dksX3_pack_0 12 rfl rfl)
theorem dX3_pack_15 : decode cX3_pack 15 = .ok (.ifCond .eq 12, 3) := dk_153 0 12 (dk_at dksX3_pack_0 15 rfl rfl)
theorem dX3_pack_18 : decode cX3_pack 18 = .ok (.iload_n 2, 1) := dk_28 (dk_at dksX3_pack_0 18 rfl rfl)
theorem dX3_pack_19 : decode cX3_pack 19 = .ok (.iconst 0, 1) := dk_3 (dk_at dksX3_pack_0 19 rfl rfl)
theorem dX3_pack_20 : decode cX3_pack 20 = .ok (.iconst 3, 1) := dk_6 (dk_at dksX3_pack_0 20 rfl rfl)
theorem dX3_pack_21 : decode cX3_pack 21 = .ok (.invokestatic 108, 3) := dk_184 0 108 (dk_at dksX3_pack_0 21 rfl rfl)
theorem dX3_pack_24 : decode cX3_pack 24 = .ok (.ifCond .ne 6, 3) := dk_154 0 6 (dk_at dksX3_pack_1 0 rfl rfl)
theorem dX3_pack_27 : decode cX3_pack 27 = .ok (.bipush (-2), 2) := dk_16 254 (dk_at dksX3_pack_1 3 rfl rfl)
theorem dX3_pack_29 : decode cX3_pack 29 = .ok (.ireturn, 1) := dk_172 (dk_at dksX3_pack_1 5 rfl rfl)
theorem dX3_pack_30 : decode cX3_pack 30 = .ok (.aload_n 0, 1) := dk_42 (dk_at dksX3_pack_1 6 rfl rfl)
theorem dX3_pack_31 : decode cX3_pack 31 = .ok (.getfield 13, 3) := dk_180 0 13 (dk_at dksX3_pack_1 7 rfl rfl)
theorem dX3_pack_34 : decode cX3_pack 34 = .ok (.iconst 0, 1) := dk_3 (dk_at dksX3_pack_1 10 rfl rfl)
theorem dX3_pack_35 : decode cX3_pack 35 = .ok (.iaload, 1) := dk_46 (dk_at dksX3_pack_1 11 rfl rfl)
theorem dX3_pack_36 : decode cX3_pack 36 = .ok (.ifCond .ne 8, 3) := dk_154 0 8 (dk_at dksX3_pack_1 12 rfl rfl)
theorem dX3_pack_39 : decode cX3_pack 39 = .ok (.bipush (-3), 2) := dk_16 253 (dk_at dksX3_pack_1 15 rfl rfl)
theorem dX3_pack_41 : decode cX3_pack 41 = .ok (.goto 9, 3) := dk_167 0 9 (dk_at dksX3_pack_1 17 rfl rfl)
theorem dX3_pack_44 : decode cX3_pack 44 = .ok (.aload_n 0, 1) := dk_42 (dk_at dksX3_pack_1 20 rfl rfl)
theorem dX3_pack_45 : decode cX3_pack 45 = .ok (.iload_n 1, 1) := dk_27 (dk_at dksX3_pack_1 21 rfl rfl)
theorem dX3_pack_46 : decode cX3_pack 46 = .ok (.iload_n 2, 1) := dk_28 (dk_at dksX3_pack_1 22 rfl rfl)
theorem dX3_pack_47 : decode cX3_pack 47 = .ok (.invokevirtual 187, 3) := dk_182 0 187 (dk_at dksX3_pack_2 0 rfl rfl)
theorem dX3_pack_50 : decode cX3_pack 50 = .ok (.ireturn, 1) := dk_172 (dk_at dksX3_pack_2 3 rfl rfl)
abbrev cX3_weave : ByteArray := prog_20_method_32_code
def yX3_weave : MethodName := ⟨RX3, "weave", "(I)I"⟩
def dkwX3_weave_2 : List UInt8 := [156, 0, 5, 28, 172, 132, 2, 1, 167, 255, 229, 27, 172]
abbrev dktX3_weave_2 : List UInt8 := dkwX3_weave_2 ++ []
def dkwX3_weave_1 : List UInt8 := [172, 3, 61, 28, 27, 162, 0, 28, 42, 42, 180, 0, 17, 3, 46, 182, 0, 190, 42, 182, 0, 184]
abbrev dktX3_weave_1 : List UInt8 := dkwX3_weave_1 ++ dktX3_weave_2
def dkwX3_weave_0 : List UInt8 := [27, 4, 16, 50, 184, 0, 108, 154, 0, 6, 16, 254, 172, 42, 180, 0, 13, 3, 46, 154, 0, 6, 16, 253]
abbrev dktX3_weave_0 : List UInt8 := dkwX3_weave_0 ++ dktX3_weave_1
theorem dksX3_weave_0 : cX3_weave.data.toList.drop 0 = dktX3_weave_0 := by decide +kernel
theorem dksX3_weave_1 : cX3_weave.data.toList.drop 24 = dktX3_weave_1 := dk_seg dksX3_weave_0 24 rfl rfl
theorem dksX3_weave_2 : cX3_weave.data.toList.drop 46 = dktX3_weave_2 := dk_seg dksX3_weave_1 22 rfl rfl
theorem dX3_weave_0 : decode cX3_weave 0 = .ok (.iload_n 1, 1) := dk_27 (dk_at dksX3_weave_0 0 rfl rfl)
theorem dX3_weave_1 : decode cX3_weave 1 = .ok (.iconst 1, 1) := dk_4 (dk_at dksX3_weave_0 1 rfl rfl)
theorem dX3_weave_2 : decode cX3_weave 2 = .ok (.bipush 50, 2) := dk_16 50 (dk_at dksX3_weave_0 2 rfl rfl)
theorem dX3_weave_4 : decode cX3_weave 4 = .ok (.invokestatic 108, 3) := dk_184 0 108 (dk_at dksX3_weave_0 4 rfl rfl)
theorem dX3_weave_7 : decode cX3_weave 7 = .ok (.ifCond .ne 6, 3) := dk_154 0 6 (dk_at dksX3_weave_0 7 rfl rfl)
theorem dX3_weave_10 : decode cX3_weave 10 = .ok (.bipush (-2), 2) := dk_16 254 (dk_at dksX3_weave_0 10 rfl rfl)
theorem dX3_weave_12 : decode cX3_weave 12 = .ok (.ireturn, 1) := dk_172 (dk_at dksX3_weave_0 12 rfl rfl)
theorem dX3_weave_13 : decode cX3_weave 13 = .ok (.aload_n 0, 1) := dk_42 (dk_at dksX3_weave_0 13 rfl rfl)
theorem dX3_weave_14 : decode cX3_weave 14 = .ok (.getfield 13, 3) := dk_180 0 13 (dk_at dksX3_weave_0 14 rfl rfl)
theorem dX3_weave_17 : decode cX3_weave 17 = .ok (.iconst 0, 1) := dk_3 (dk_at dksX3_weave_0 17 rfl rfl)
theorem dX3_weave_18 : decode cX3_weave 18 = .ok (.iaload, 1) := dk_46 (dk_at dksX3_weave_0 18 rfl rfl)
theorem dX3_weave_19 : decode cX3_weave 19 = .ok (.ifCond .ne 6, 3) := dk_154 0 6 (dk_at dksX3_weave_0 19 rfl rfl)
theorem dX3_weave_22 : decode cX3_weave 22 = .ok (.bipush (-3), 2) := dk_16 253 (dk_at dksX3_weave_0 22 rfl rfl)
theorem dX3_weave_24 : decode cX3_weave 24 = .ok (.ireturn, 1) := dk_172 (dk_at dksX3_weave_1 0 rfl rfl)
theorem dX3_weave_25 : decode cX3_weave 25 = .ok (.iconst 0, 1) := dk_3 (dk_at dksX3_weave_1 1 rfl rfl)
theorem dX3_weave_26 : decode cX3_weave 26 = .ok (.istore_n 2, 1) := dk_61 (dk_at dksX3_weave_1 2 rfl rfl)
theorem dX3_weave_27 : decode cX3_weave 27 = .ok (.iload_n 2, 1) := dk_28 (dk_at dksX3_weave_1 3 rfl rfl)
theorem dX3_weave_28 : decode cX3_weave 28 = .ok (.iload_n 1, 1) := dk_27 (dk_at dksX3_weave_1 4 rfl rfl)
theorem dX3_weave_29 : decode cX3_weave 29 = .ok (.if_icmp .ge 28, 3) := dk_162 0 28 (dk_at dksX3_weave_1 5 rfl rfl)
theorem dX3_weave_32 : decode cX3_weave 32 = .ok (.aload_n 0, 1) := dk_42 (dk_at dksX3_weave_1 8 rfl rfl)
theorem dX3_weave_33 : decode cX3_weave 33 = .ok (.aload_n 0, 1) := dk_42 (dk_at dksX3_weave_1 9 rfl rfl)
theorem dX3_weave_34 : decode cX3_weave 34 = .ok (.getfield 17, 3) := dk_180 0 17 (dk_at dksX3_weave_1 10 rfl rfl)
theorem dX3_weave_37 : decode cX3_weave 37 = .ok (.iconst 0, 1) := dk_3 (dk_at dksX3_weave_1 13 rfl rfl)
theorem dX3_weave_38 : decode cX3_weave 38 = .ok (.iaload, 1) := dk_46 (dk_at dksX3_weave_1 14 rfl rfl)
theorem dX3_weave_39 : decode cX3_weave 39 = .ok (.invokevirtual 190, 3) := dk_182 0 190 (dk_at dksX3_weave_1 15 rfl rfl)
theorem dX3_weave_42 : decode cX3_weave 42 = .ok (.aload_n 0, 1) := dk_42 (dk_at dksX3_weave_1 18 rfl rfl)
theorem dX3_weave_43 : decode cX3_weave 43 = .ok (.invokevirtual 184, 3) := dk_182 0 184 (dk_at dksX3_weave_1 19 rfl rfl)
theorem dX3_weave_46 : decode cX3_weave 46 = .ok (.ifCond .ge 5, 3) := dk_156 0 5 (dk_at dksX3_weave_2 0 rfl rfl)
theorem dX3_weave_49 : decode cX3_weave 49 = .ok (.iload_n 2, 1) := dk_28 (dk_at dksX3_weave_2 3 rfl rfl)
theorem dX3_weave_50 : decode cX3_weave 50 = .ok (.ireturn, 1) := dk_172 (dk_at dksX3_weave_2 4 rfl rfl)
theorem dX3_weave_51 : decode cX3_weave 51 = .ok (.iinc 2 1, 3) := dk_132 2 1 (dk_at dksX3_weave_2 5 rfl rfl)
theorem dX3_weave_54 : decode cX3_weave 54 = .ok (.goto (-27), 3) := dk_167 255 229 (dk_at dksX3_weave_2 8 rfl rfl)
theorem dX3_weave_57 : decode cX3_weave 57 = .ok (.iload_n 1, 1) := dk_27 (dk_at dksX3_weave_2 11 rfl rfl)
theorem dX3_weave_58 : decode cX3_weave 58 = .ok (.ireturn, 1) := dk_172 (dk_at dksX3_weave_2 12 rfl rfl)
abbrev cX3_layLaw : ByteArray := prog_20_method_31_code
def yX3_layLaw : MethodName := ⟨RX3, "layLaw", "(I)V"⟩
def dkwX3_layLaw_1 : List UInt8 := [79, 132, 2, 1, 167, 255, 230, 177]
abbrev dktX3_layLaw_1 : List UInt8 := dkwX3_layLaw_1 ++ []
def dkwX3_layLaw_0 : List UInt8 := [3, 61, 28, 42, 180, 0, 13, 3, 46, 162, 0, 22, 42, 180, 0, 77, 28, 42, 3, 28, 27, 182, 0, 148]
abbrev dktX3_layLaw_0 : List UInt8 := dkwX3_layLaw_0 ++ dktX3_layLaw_1
theorem dksX3_layLaw_0 : cX3_layLaw.data.toList.drop 0 = dktX3_layLaw_0 := by decide +kernel
theorem dksX3_layLaw_1 : cX3_layLaw.data.toList.drop 24 = dktX3_layLaw_1 := dk_seg dksX3_layLaw_0 24 rfl rfl
theorem dX3_layLaw_0 : decode cX3_layLaw 0 = .ok (.iconst 0, 1) := dk_3 (dk_at dksX3_layLaw_0 0 rfl rfl)
theorem dX3_layLaw_1 : decode cX3_layLaw 1 = .ok (.istore_n 2, 1) := dk_61 (dk_at dksX3_layLaw_0 1 rfl rfl)
theorem dX3_layLaw_2 : decode cX3_layLaw 2 = .ok (.iload_n 2, 1) := dk_28 (dk_at dksX3_layLaw_0 2 rfl rfl)
theorem dX3_layLaw_3 : decode cX3_layLaw 3 = .ok (.aload_n 0, 1) := dk_42 (dk_at dksX3_layLaw_0 3 rfl rfl)
theorem dX3_layLaw_4 : decode cX3_layLaw 4 = .ok (.getfield 13, 3) := dk_180 0 13 (dk_at dksX3_layLaw_0 4 rfl rfl)
theorem dX3_layLaw_7 : decode cX3_layLaw 7 = .ok (.iconst 0, 1) := dk_3 (dk_at dksX3_layLaw_0 7 rfl rfl)
theorem dX3_layLaw_8 : decode cX3_layLaw 8 = .ok (.iaload, 1) := dk_46 (dk_at dksX3_layLaw_0 8 rfl rfl)
theorem dX3_layLaw_9 : decode cX3_layLaw 9 = .ok (.if_icmp .ge 22, 3) := dk_162 0 22 (dk_at dksX3_layLaw_0 9 rfl rfl)
theorem dX3_layLaw_12 : decode cX3_layLaw 12 = .ok (.aload_n 0, 1) := dk_42 (dk_at dksX3_layLaw_0 12 rfl rfl)
theorem dX3_layLaw_13 : decode cX3_layLaw 13 = .ok (.getfield 77, 3) := dk_180 0 77 (dk_at dksX3_layLaw_0 13 rfl rfl)
theorem dX3_layLaw_16 : decode cX3_layLaw 16 = .ok (.iload_n 2, 1) := dk_28 (dk_at dksX3_layLaw_0 16 rfl rfl)
theorem dX3_layLaw_17 : decode cX3_layLaw 17 = .ok (.aload_n 0, 1) := dk_42 (dk_at dksX3_layLaw_0 17 rfl rfl)
theorem dX3_layLaw_18 : decode cX3_layLaw 18 = .ok (.iconst 0, 1) := dk_3 (dk_at dksX3_layLaw_0 18 rfl rfl)
theorem dX3_layLaw_19 : decode cX3_layLaw 19 = .ok (.iload_n 2, 1) := dk_28 (dk_at dksX3_layLaw_0 19 rfl rfl)
theorem dX3_layLaw_20 : decode cX3_layLaw 20 = .ok (.iload_n 1, 1) := dk_27 (dk_at dksX3_layLaw_0 20 rfl rfl)
theorem dX3_layLaw_21 : decode cX3_layLaw 21 = .ok (.invokevirtual 148, 3) := dk_182 0 148 (dk_at dksX3_layLaw_0 21 rfl rfl)
theorem dX3_layLaw_24 : decode cX3_layLaw 24 = .ok (.iastore, 1) := dk_79 (dk_at dksX3_layLaw_1 0 rfl rfl)
theorem dX3_layLaw_25 : decode cX3_layLaw 25 = .ok (.iinc 2 1, 3) := dk_132 2 1 (dk_at dksX3_layLaw_1 1 rfl rfl)
theorem dX3_layLaw_28 : decode cX3_layLaw 28 = .ok (.goto (-26), 3) := dk_167 255 230 (dk_at dksX3_layLaw_1 4 rfl rfl)
theorem dX3_layLaw_31 : decode cX3_layLaw 31 = .ok (.return_, 1) := dk_177 (dk_at dksX3_layLaw_1 7 rfl rfl)
abbrev cX3_unweave : ByteArray := prog_20_method_33_code
def yX3_unweave : MethodName := ⟨RX3, "unweave", "(I)I"⟩
def dkwX3_unweave_5 : List UInt8 := [167, 255, 157, 28, 172]
abbrev dktX3_unweave_5 : List UInt8 := dkwX3_unweave_5 ++ []
def dkwX3_unweave_4 : List UInt8 := [180, 0, 29, 29, 92, 46, 21, 4, 184, 0, 171, 100, 79, 132, 3, 1, 167, 255, 189, 132, 2, 1]
abbrev dktX3_unweave_4 : List UInt8 := dkwX3_unweave_4 ++ dktX3_unweave_5
def dkwX3_unweave_3 : List UInt8 := [180, 0, 26, 29, 42, 180, 0, 26, 29, 46, 7, 96, 21, 4, 184, 0, 174, 100, 7, 112, 79, 42]
abbrev dktX3_unweave_3 : List UInt8 := dkwX3_unweave_3 ++ dktX3_unweave_4
def dkwX3_unweave_2 : List UInt8 := [162, 0, 63, 42, 180, 0, 41, 16, 10, 42, 180, 0, 17, 3, 46, 104, 29, 96, 46, 54, 4, 42]
abbrev dktX3_unweave_2 : List UInt8 := dkwX3_unweave_2 ++ dktX3_unweave_3
def dkwX3_unweave_1 : List UInt8 := [3, 46, 158, 0, 91, 42, 180, 0, 17, 3, 92, 46, 4, 100, 79, 3, 62, 29, 42, 180, 0, 13, 3, 46]
abbrev dktX3_unweave_1 : List UInt8 := dkwX3_unweave_1 ++ dktX3_unweave_2
def dkwX3_unweave_0 : List UInt8 := [27, 4, 16, 50, 184, 0, 108, 154, 0, 6, 16, 254, 172, 3, 61, 28, 27, 162, 0, 100, 42, 180, 0, 17]
abbrev dktX3_unweave_0 : List UInt8 := dkwX3_unweave_0 ++ dktX3_unweave_1
theorem dksX3_unweave_0 : cX3_unweave.data.toList.drop 0 = dktX3_unweave_0 := by decide +kernel
theorem dksX3_unweave_1 : cX3_unweave.data.toList.drop 24 = dktX3_unweave_1 := dk_seg dksX3_unweave_0 24 rfl rfl
theorem dksX3_unweave_2 : cX3_unweave.data.toList.drop 48 = dktX3_unweave_2 := dk_seg dksX3_unweave_1 24 rfl rfl
theorem dksX3_unweave_3 : cX3_unweave.data.toList.drop 70 = dktX3_unweave_3 := dk_seg dksX3_unweave_2 22 rfl rfl
theorem dksX3_unweave_4 : cX3_unweave.data.toList.drop 92 = dktX3_unweave_4 := dk_seg dksX3_unweave_3 22 rfl rfl
theorem dksX3_unweave_5 : cX3_unweave.data.toList.drop 114 = dktX3_unweave_5 := dk_seg dksX3_unweave_4 22 rfl rfl
theorem dX3_unweave_0 : decode cX3_unweave 0 = .ok (.iload_n 1, 1) := dk_27 (dk_at dksX3_unweave_0 0 rfl rfl)
theorem dX3_unweave_1 : decode cX3_unweave 1 = .ok (.iconst 1, 1) := dk_4 (dk_at dksX3_unweave_0 1 rfl rfl)
theorem dX3_unweave_2 : decode cX3_unweave 2 = .ok (.bipush 50, 2) := dk_16 50 (dk_at dksX3_unweave_0 2 rfl rfl)
theorem dX3_unweave_4 : decode cX3_unweave 4 = .ok (.invokestatic 108, 3) := dk_184 0 108 (dk_at dksX3_unweave_0 4 rfl rfl)
theorem dX3_unweave_7 : decode cX3_unweave 7 = .ok (.ifCond .ne 6, 3) := dk_154 0 6 (dk_at dksX3_unweave_0 7 rfl rfl)
theorem dX3_unweave_10 : decode cX3_unweave 10 = .ok (.bipush (-2), 2) := dk_16 254 (dk_at dksX3_unweave_0 10 rfl rfl)
theorem dX3_unweave_12 : decode cX3_unweave 12 = .ok (.ireturn, 1) := dk_172 (dk_at dksX3_unweave_0 12 rfl rfl)
theorem dX3_unweave_13 : decode cX3_unweave 13 = .ok (.iconst 0, 1) := dk_3 (dk_at dksX3_unweave_0 13 rfl rfl)
theorem dX3_unweave_14 : decode cX3_unweave 14 = .ok (.istore_n 2, 1) := dk_61 (dk_at dksX3_unweave_0 14 rfl rfl)
theorem dX3_unweave_15 : decode cX3_unweave 15 = .ok (.iload_n 2, 1) := dk_28 (dk_at dksX3_unweave_0 15 rfl rfl)
theorem dX3_unweave_16 : decode cX3_unweave 16 = .ok (.iload_n 1, 1) := dk_27 (dk_at dksX3_unweave_0 16 rfl rfl)
theorem dX3_unweave_17 : decode cX3_unweave 17 = .ok (.if_icmp .ge 100, 3) := dk_162 0 100 (dk_at dksX3_unweave_0 17 rfl rfl)
theorem dX3_unweave_20 : decode cX3_unweave 20 = .ok (.aload_n 0, 1) := dk_42 (dk_at dksX3_unweave_0 20 rfl rfl)
theorem dX3_unweave_21 : decode cX3_unweave 21 = .ok (.getfield 17, 3) := dk_180 0 17 (dk_at dksX3_unweave_0 21 rfl rfl)
theorem dX3_unweave_24 : decode cX3_unweave 24 = .ok (.iconst 0, 1) := dk_3 (dk_at dksX3_unweave_1 0 rfl rfl)
theorem dX3_unweave_25 : decode cX3_unweave 25 = .ok (.iaload, 1) := dk_46 (dk_at dksX3_unweave_1 1 rfl rfl)
theorem dX3_unweave_26 : decode cX3_unweave 26 = .ok (.ifCond .le 91, 3) := dk_158 0 91 (dk_at dksX3_unweave_1 2 rfl rfl)
theorem dX3_unweave_29 : decode cX3_unweave 29 = .ok (.aload_n 0, 1) := dk_42 (dk_at dksX3_unweave_1 5 rfl rfl)
theorem dX3_unweave_30 : decode cX3_unweave 30 = .ok (.getfield 17, 3) := dk_180 0 17 (dk_at dksX3_unweave_1 6 rfl rfl)
theorem dX3_unweave_33 : decode cX3_unweave 33 = .ok (.iconst 0, 1) := dk_3 (dk_at dksX3_unweave_1 9 rfl rfl)
theorem dX3_unweave_34 : decode cX3_unweave 34 = .ok (.dup2, 1) := dk_92 (dk_at dksX3_unweave_1 10 rfl rfl)
theorem dX3_unweave_35 : decode cX3_unweave 35 = .ok (.iaload, 1) := dk_46 (dk_at dksX3_unweave_1 11 rfl rfl)
theorem dX3_unweave_36 : decode cX3_unweave 36 = .ok (.iconst 1, 1) := dk_4 (dk_at dksX3_unweave_1 12 rfl rfl)
theorem dX3_unweave_37 : decode cX3_unweave 37 = .ok (.isub, 1) := dk_100 (dk_at dksX3_unweave_1 13 rfl rfl)
theorem dX3_unweave_38 : decode cX3_unweave 38 = .ok (.iastore, 1) := dk_79 (dk_at dksX3_unweave_1 14 rfl rfl)
theorem dX3_unweave_39 : decode cX3_unweave 39 = .ok (.iconst 0, 1) := dk_3 (dk_at dksX3_unweave_1 15 rfl rfl)
theorem dX3_unweave_40 : decode cX3_unweave 40 = .ok (.istore_n 3, 1) := dk_62 (dk_at dksX3_unweave_1 16 rfl rfl)
theorem dX3_unweave_41 : decode cX3_unweave 41 = .ok (.iload_n 3, 1) := dk_29 (dk_at dksX3_unweave_1 17 rfl rfl)
theorem dX3_unweave_42 : decode cX3_unweave 42 = .ok (.aload_n 0, 1) := dk_42 (dk_at dksX3_unweave_1 18 rfl rfl)
theorem dX3_unweave_43 : decode cX3_unweave 43 = .ok (.getfield 13, 3) := dk_180 0 13 (dk_at dksX3_unweave_1 19 rfl rfl)
theorem dX3_unweave_46 : decode cX3_unweave 46 = .ok (.iconst 0, 1) := dk_3 (dk_at dksX3_unweave_1 22 rfl rfl)
theorem dX3_unweave_47 : decode cX3_unweave 47 = .ok (.iaload, 1) := dk_46 (dk_at dksX3_unweave_1 23 rfl rfl)
theorem dX3_unweave_48 : decode cX3_unweave 48 = .ok (.if_icmp .ge 63, 3) := dk_162 0 63 (dk_at dksX3_unweave_2 0 rfl rfl)
theorem dX3_unweave_51 : decode cX3_unweave 51 = .ok (.aload_n 0, 1) := dk_42 (dk_at dksX3_unweave_2 3 rfl rfl)
theorem dX3_unweave_52 : decode cX3_unweave 52 = .ok (.getfield 41, 3) := dk_180 0 41 (dk_at dksX3_unweave_2 4 rfl rfl)
theorem dX3_unweave_55 : decode cX3_unweave 55 = .ok (.bipush 10, 2) := dk_16 10 (dk_at dksX3_unweave_2 7 rfl rfl)
theorem dX3_unweave_57 : decode cX3_unweave 57 = .ok (.aload_n 0, 1) := dk_42 (dk_at dksX3_unweave_2 9 rfl rfl)
theorem dX3_unweave_58 : decode cX3_unweave 58 = .ok (.getfield 17, 3) := dk_180 0 17 (dk_at dksX3_unweave_2 10 rfl rfl)
theorem dX3_unweave_61 : decode cX3_unweave 61 = .ok (.iconst 0, 1) := dk_3 (dk_at dksX3_unweave_2 13 rfl rfl)
theorem dX3_unweave_62 : decode cX3_unweave 62 = .ok (.iaload, 1) := dk_46 (dk_at dksX3_unweave_2 14 rfl rfl)
theorem dX3_unweave_63 : decode cX3_unweave 63 = .ok (.imul, 1) := dk_104 (dk_at dksX3_unweave_2 15 rfl rfl)
theorem dX3_unweave_64 : decode cX3_unweave 64 = .ok (.iload_n 3, 1) := dk_29 (dk_at dksX3_unweave_2 16 rfl rfl)
theorem dX3_unweave_65 : decode cX3_unweave 65 = .ok (.iadd, 1) := dk_96 (dk_at dksX3_unweave_2 17 rfl rfl)
theorem dX3_unweave_66 : decode cX3_unweave 66 = .ok (.iaload, 1) := dk_46 (dk_at dksX3_unweave_2 18 rfl rfl)
theorem dX3_unweave_67 : decode cX3_unweave 67 = .ok (.istore 4, 2) := dk_54 4 (dk_at dksX3_unweave_2 19 rfl rfl)
theorem dX3_unweave_69 : decode cX3_unweave 69 = .ok (.aload_n 0, 1) := dk_42 (dk_at dksX3_unweave_2 21 rfl rfl)
theorem dX3_unweave_70 : decode cX3_unweave 70 = .ok (.getfield 26, 3) := dk_180 0 26 (dk_at dksX3_unweave_3 0 rfl rfl)
theorem dX3_unweave_73 : decode cX3_unweave 73 = .ok (.iload_n 3, 1) := dk_29 (dk_at dksX3_unweave_3 3 rfl rfl)
theorem dX3_unweave_74 : decode cX3_unweave 74 = .ok (.aload_n 0, 1) := dk_42 (dk_at dksX3_unweave_3 4 rfl rfl)
theorem dX3_unweave_75 : decode cX3_unweave 75 = .ok (.getfield 26, 3) := dk_180 0 26 (dk_at dksX3_unweave_3 5 rfl rfl)
theorem dX3_unweave_78 : decode cX3_unweave 78 = .ok (.iload_n 3, 1) := dk_29 (dk_at dksX3_unweave_3 8 rfl rfl)
theorem dX3_unweave_79 : decode cX3_unweave 79 = .ok (.iaload, 1) := dk_46 (dk_at dksX3_unweave_3 9 rfl rfl)
theorem dX3_unweave_80 : decode cX3_unweave 80 = .ok (.iconst 4, 1) := dk_7 (dk_at dksX3_unweave_3 10 rfl rfl)
theorem dX3_unweave_81 : decode cX3_unweave 81 = .ok (.iadd, 1) := dk_96 (dk_at dksX3_unweave_3 11 rfl rfl)
theorem dX3_unweave_82 : decode cX3_unweave 82 = .ok (.iload 4, 2) := dk_21 4 (dk_at dksX3_unweave_3 12 rfl rfl)
theorem dX3_unweave_84 : decode cX3_unweave 84 = .ok (.invokestatic 174, 3) := dk_184 0 174 (dk_at dksX3_unweave_3 14 rfl rfl)
theorem dX3_unweave_87 : decode cX3_unweave 87 = .ok (.isub, 1) := dk_100 (dk_at dksX3_unweave_3 17 rfl rfl)
theorem dX3_unweave_88 : decode cX3_unweave 88 = .ok (.iconst 4, 1) := dk_7 (dk_at dksX3_unweave_3 18 rfl rfl)
theorem dX3_unweave_89 : decode cX3_unweave 89 = .ok (.irem, 1) := dk_112 (dk_at dksX3_unweave_3 19 rfl rfl)
theorem dX3_unweave_90 : decode cX3_unweave 90 = .ok (.iastore, 1) := dk_79 (dk_at dksX3_unweave_3 20 rfl rfl)
theorem dX3_unweave_91 : decode cX3_unweave 91 = .ok (.aload_n 0, 1) := dk_42 (dk_at dksX3_unweave_3 21 rfl rfl)
theorem dX3_unweave_92 : decode cX3_unweave 92 = .ok (.getfield 29, 3) := dk_180 0 29 (dk_at dksX3_unweave_4 0 rfl rfl)
theorem dX3_unweave_95 : decode cX3_unweave 95 = .ok (.iload_n 3, 1) := dk_29 (dk_at dksX3_unweave_4 3 rfl rfl)
theorem dX3_unweave_96 : decode cX3_unweave 96 = .ok (.dup2, 1) := dk_92 (dk_at dksX3_unweave_4 4 rfl rfl)
theorem dX3_unweave_97 : decode cX3_unweave 97 = .ok (.iaload, 1) := dk_46 (dk_at dksX3_unweave_4 5 rfl rfl)
theorem dX3_unweave_98 : decode cX3_unweave 98 = .ok (.iload 4, 2) := dk_21 4 (dk_at dksX3_unweave_4 6 rfl rfl)
theorem dX3_unweave_100 : decode cX3_unweave 100 = .ok (.invokestatic 171, 3) := dk_184 0 171 (dk_at dksX3_unweave_4 8 rfl rfl)
theorem dX3_unweave_103 : decode cX3_unweave 103 = .ok (.isub, 1) := dk_100 (dk_at dksX3_unweave_4 11 rfl rfl)
theorem dX3_unweave_104 : decode cX3_unweave 104 = .ok (.iastore, 1) := dk_79 (dk_at dksX3_unweave_4 12 rfl rfl)
theorem dX3_unweave_105 : decode cX3_unweave 105 = .ok (.iinc 3 1, 3) := dk_132 3 1 (dk_at dksX3_unweave_4 13 rfl rfl)
theorem dX3_unweave_108 : decode cX3_unweave 108 = .ok (.goto (-67), 3) := dk_167 255 189 (dk_at dksX3_unweave_4 16 rfl rfl)
theorem dX3_unweave_111 : decode cX3_unweave 111 = .ok (.iinc 2 1, 3) := dk_132 2 1 (dk_at dksX3_unweave_4 19 rfl rfl)
theorem dX3_unweave_114 : decode cX3_unweave 114 = .ok (.goto (-99), 3) := dk_167 255 157 (dk_at dksX3_unweave_5 0 rfl rfl)
theorem dX3_unweave_117 : decode cX3_unweave 117 = .ok (.iload_n 2, 1) := dk_28 (dk_at dksX3_unweave_5 3 rfl rfl)
theorem dX3_unweave_118 : decode cX3_unweave 118 = .ok (.ireturn, 1) := dk_172 (dk_at dksX3_unweave_5 4 rfl rfl)
abbrev cX3_front : ByteArray := prog_20_method_35_code
def yX3_front : MethodName := ⟨RX3, "front", "(II)I"⟩
def dkwX3_front_0 : List UInt8 := [42, 42, 180, 0, 32, 27, 28, 182, 0, 196, 172]
abbrev dktX3_front_0 : List UInt8 := dkwX3_front_0 ++ []
theorem dksX3_front_0 : cX3_front.data.toList.drop 0 = dktX3_front_0 := by decide +kernel
theorem dX3_front_0 : decode cX3_front 0 = .ok (.aload_n 0, 1) := dk_42 (dk_at dksX3_front_0 0 rfl rfl)
theorem dX3_front_1 : decode cX3_front 1 = .ok (.aload_n 0, 1) := dk_42 (dk_at dksX3_front_0 1 rfl rfl)
theorem dX3_front_2 : decode cX3_front 2 = .ok (.getfield 32, 3) := dk_180 0 32 (dk_at dksX3_front_0 2 rfl rfl)
theorem dX3_front_5 : decode cX3_front 5 = .ok (.iload_n 1, 1) := dk_27 (dk_at dksX3_front_0 5 rfl rfl)
theorem dX3_front_6 : decode cX3_front 6 = .ok (.iload_n 2, 1) := dk_28 (dk_at dksX3_front_0 6 rfl rfl)
theorem dX3_front_7 : decode cX3_front 7 = .ok (.invokevirtual 196, 3) := dk_182 0 196 (dk_at dksX3_front_0 7 rfl rfl)
theorem dX3_front_10 : decode cX3_front 10 = .ok (.ireturn, 1) := dk_172 (dk_at dksX3_front_0 10 rfl rfl)
abbrev cX3_asked : ByteArray := prog_20_method_34_code
def yX3_asked : MethodName := ⟨RX3, "asked", "([III)I"⟩
def dkwX3_asked_1 : List UInt8 := [167, 0, 4, 2, 172]
abbrev dktX3_asked_1 : List UInt8 := dkwX3_asked_1 ++ []
def dkwX3_asked_0 : List UInt8 := [42, 28, 182, 0, 193, 153, 0, 22, 42, 29, 182, 0, 161, 153, 0, 14, 43, 16, 10, 28, 104, 29, 96, 46]
abbrev dktX3_asked_0 : List UInt8 := dkwX3_asked_0 ++ dktX3_asked_1
theorem dksX3_asked_0 : cX3_asked.data.toList.drop 0 = dktX3_asked_0 := by decide +kernel
theorem dksX3_asked_1 : cX3_asked.data.toList.drop 24 = dktX3_asked_1 := dk_seg dksX3_asked_0 24 rfl rfl
theorem dX3_asked_0 : decode cX3_asked 0 = .ok (.aload_n 0, 1) := dk_42 (dk_at dksX3_asked_0 0 rfl rfl)
theorem dX3_asked_1 : decode cX3_asked 1 = .ok (.iload_n 2, 1) := dk_28 (dk_at dksX3_asked_0 1 rfl rfl)
theorem dX3_asked_2 : decode cX3_asked 2 = .ok (.invokevirtual 193, 3) := dk_182 0 193 (dk_at dksX3_asked_0 2 rfl rfl)
theorem dX3_asked_5 : decode cX3_asked 5 = .ok (.ifCond .eq 22, 3) := dk_153 0 22 (dk_at dksX3_asked_0 5 rfl rfl)
theorem dX3_asked_8 : decode cX3_asked 8 = .ok (.aload_n 0, 1) := dk_42 (dk_at dksX3_asked_0 8 rfl rfl)
theorem dX3_asked_9 : decode cX3_asked 9 = .ok (.iload_n 3, 1) := dk_29 (dk_at dksX3_asked_0 9 rfl rfl)
theorem dX3_asked_10 : decode cX3_asked 10 = .ok (.invokevirtual 161, 3) := dk_182 0 161 (dk_at dksX3_asked_0 10 rfl rfl)
theorem dX3_asked_13 : decode cX3_asked 13 = .ok (.ifCond .eq 14, 3) := dk_153 0 14 (dk_at dksX3_asked_0 13 rfl rfl)
theorem dX3_asked_16 : decode cX3_asked 16 = .ok (.aload_n 1, 1) := dk_43 (dk_at dksX3_asked_0 16 rfl rfl)
theorem dX3_asked_17 : decode cX3_asked 17 = .ok (.bipush 10, 2) := dk_16 10 (dk_at dksX3_asked_0 17 rfl rfl)
theorem dX3_asked_19 : decode cX3_asked 19 = .ok (.iload_n 2, 1) := dk_28 (dk_at dksX3_asked_0 19 rfl rfl)
theorem dX3_asked_20 : decode cX3_asked 20 = .ok (.imul, 1) := dk_104 (dk_at dksX3_asked_0 20 rfl rfl)
theorem dX3_asked_21 : decode cX3_asked 21 = .ok (.iload_n 3, 1) := dk_29 (dk_at dksX3_asked_0 21 rfl rfl)
theorem dX3_asked_22 : decode cX3_asked 22 = .ok (.iadd, 1) := dk_96 (dk_at dksX3_asked_0 22 rfl rfl)
theorem dX3_asked_23 : decode cX3_asked 23 = .ok (.iaload, 1) := dk_46 (dk_at dksX3_asked_0 23 rfl rfl)
theorem dX3_asked_24 : decode cX3_asked 24 = .ok (.goto 4, 3) := dk_167 0 4 (dk_at dksX3_asked_1 0 rfl rfl)
theorem dX3_asked_27 : decode cX3_asked 27 = .ok (.iconst (-1), 1) := dk_2 (dk_at dksX3_asked_1 3 rfl rfl)
theorem dX3_asked_28 : decode cX3_asked 28 = .ok (.ireturn, 1) := dk_172 (dk_at dksX3_asked_1 4 rfl rfl)
abbrev cX3_isRow : ByteArray := prog_20_method_5_code
def yX3_isRow : MethodName := ⟨RX3, "isRow", "(I)Z"⟩
def dkwX3_isRow_0 : List UInt8 := [27, 3, 42, 180, 0, 17, 3, 46, 4, 100, 184, 0, 108, 172]
abbrev dktX3_isRow_0 : List UInt8 := dkwX3_isRow_0 ++ []
theorem dksX3_isRow_0 : cX3_isRow.data.toList.drop 0 = dktX3_isRow_0 := by decide +kernel
theorem dX3_isRow_0 : decode cX3_isRow 0 = .ok (.iload_n 1, 1) := dk_27 (dk_at dksX3_isRow_0 0 rfl rfl)
theorem dX3_isRow_1 : decode cX3_isRow 1 = .ok (.iconst 0, 1) := dk_3 (dk_at dksX3_isRow_0 1 rfl rfl)
theorem dX3_isRow_2 : decode cX3_isRow 2 = .ok (.aload_n 0, 1) := dk_42 (dk_at dksX3_isRow_0 2 rfl rfl)
theorem dX3_isRow_3 : decode cX3_isRow 3 = .ok (.getfield 17, 3) := dk_180 0 17 (dk_at dksX3_isRow_0 3 rfl rfl)
theorem dX3_isRow_6 : decode cX3_isRow 6 = .ok (.iconst 0, 1) := dk_3 (dk_at dksX3_isRow_0 6 rfl rfl)
theorem dX3_isRow_7 : decode cX3_isRow 7 = .ok (.iaload, 1) := dk_46 (dk_at dksX3_isRow_0 7 rfl rfl)
theorem dX3_isRow_8 : decode cX3_isRow 8 = .ok (.iconst 1, 1) := dk_4 (dk_at dksX3_isRow_0 8 rfl rfl)
theorem dX3_isRow_9 : decode cX3_isRow 9 = .ok (.isub, 1) := dk_100 (dk_at dksX3_isRow_0 9 rfl rfl)
theorem dX3_isRow_10 : decode cX3_isRow 10 = .ok (.invokestatic 108, 3) := dk_184 0 108 (dk_at dksX3_isRow_0 10 rfl rfl)
theorem dX3_isRow_13 : decode cX3_isRow 13 = .ok (.ireturn, 1) := dk_172 (dk_at dksX3_isRow_0 13 rfl rfl)
abbrev cX3_back : ByteArray := prog_20_method_36_code
def yX3_back : MethodName := ⟨RX3, "back", "(II)I"⟩
def dkwX3_back_0 : List UInt8 := [42, 42, 180, 0, 35, 27, 28, 182, 0, 196, 172]
abbrev dktX3_back_0 : List UInt8 := dkwX3_back_0 ++ []
theorem dksX3_back_0 : cX3_back.data.toList.drop 0 = dktX3_back_0 := by decide +kernel
theorem dX3_back_0 : decode cX3_back 0 = .ok (.aload_n 0, 1) := dk_42 (dk_at dksX3_back_0 0 rfl rfl)
theorem dX3_back_1 : decode cX3_back 1 = .ok (.aload_n 0, 1) := dk_42 (dk_at dksX3_back_0 1 rfl rfl)
theorem dX3_back_2 : decode cX3_back 2 = .ok (.getfield 35, 3) := dk_180 0 35 (dk_at dksX3_back_0 2 rfl rfl)
theorem dX3_back_5 : decode cX3_back 5 = .ok (.iload_n 1, 1) := dk_27 (dk_at dksX3_back_0 5 rfl rfl)
theorem dX3_back_6 : decode cX3_back 6 = .ok (.iload_n 2, 1) := dk_28 (dk_at dksX3_back_0 6 rfl rfl)
theorem dX3_back_7 : decode cX3_back 7 = .ok (.invokevirtual 196, 3) := dk_182 0 196 (dk_at dksX3_back_0 7 rfl rfl)
theorem dX3_back_10 : decode cX3_back 10 = .ok (.ireturn, 1) := dk_172 (dk_at dksX3_back_0 10 rfl rfl)
abbrev cX3_lean : ByteArray := prog_20_method_37_code
def yX3_lean : MethodName := ⟨RX3, "lean", "(II)I"⟩
def dkwX3_lean_0 : List UInt8 := [42, 42, 180, 0, 38, 27, 28, 182, 0, 196, 172]
abbrev dktX3_lean_0 : List UInt8 := dkwX3_lean_0 ++ []
theorem dksX3_lean_0 : cX3_lean.data.toList.drop 0 = dktX3_lean_0 := by decide +kernel
theorem dX3_lean_0 : decode cX3_lean 0 = .ok (.aload_n 0, 1) := dk_42 (dk_at dksX3_lean_0 0 rfl rfl)
theorem dX3_lean_1 : decode cX3_lean 1 = .ok (.aload_n 0, 1) := dk_42 (dk_at dksX3_lean_0 1 rfl rfl)
theorem dX3_lean_2 : decode cX3_lean 2 = .ok (.getfield 38, 3) := dk_180 0 38 (dk_at dksX3_lean_0 2 rfl rfl)
theorem dX3_lean_5 : decode cX3_lean 5 = .ok (.iload_n 1, 1) := dk_27 (dk_at dksX3_lean_0 5 rfl rfl)
theorem dX3_lean_6 : decode cX3_lean 6 = .ok (.iload_n 2, 1) := dk_28 (dk_at dksX3_lean_0 6 rfl rfl)
theorem dX3_lean_7 : decode cX3_lean 7 = .ok (.invokevirtual 196, 3) := dk_182 0 196 (dk_at dksX3_lean_0 7 rfl rfl)
theorem dX3_lean_10 : decode cX3_lean 10 = .ok (.ireturn, 1) := dk_172 (dk_at dksX3_lean_0 10 rfl rfl)
abbrev cX3_turning : ByteArray := prog_20_method_38_code
def yX3_turning : MethodName := ⟨RX3, "turning", "(II)I"⟩
def dkwX3_turning_0 : List UInt8 := [42, 42, 180, 0, 41, 27, 28, 182, 0, 196, 172]
abbrev dktX3_turning_0 : List UInt8 := dkwX3_turning_0 ++ []
theorem dksX3_turning_0 : cX3_turning.data.toList.drop 0 = dktX3_turning_0 := by decide +kernel
theorem dX3_turning_0 : decode cX3_turning 0 = .ok (.aload_n 0, 1) := dk_42 (dk_at dksX3_turning_0 0 rfl rfl)
theorem dX3_turning_1 : decode cX3_turning 1 = .ok (.aload_n 0, 1) := dk_42 (dk_at dksX3_turning_0 1 rfl rfl)
theorem dX3_turning_2 : decode cX3_turning 2 = .ok (.getfield 41, 3) := dk_180 0 41 (dk_at dksX3_turning_0 2 rfl rfl)
theorem dX3_turning_5 : decode cX3_turning 5 = .ok (.iload_n 1, 1) := dk_27 (dk_at dksX3_turning_0 5 rfl rfl)
theorem dX3_turning_6 : decode cX3_turning 6 = .ok (.iload_n 2, 1) := dk_28 (dk_at dksX3_turning_0 6 rfl rfl)
theorem dX3_turning_7 : decode cX3_turning 7 = .ok (.invokevirtual 196, 3) := dk_182 0 196 (dk_at dksX3_turning_0 7 rfl rfl)
theorem dX3_turning_10 : decode cX3_turning 10 = .ok (.ireturn, 1) := dk_172 (dk_at dksX3_turning_0 10 rfl rfl)
abbrev cX3_returns : ByteArray := prog_20_method_43_code
def yX3_returns : MethodName := ⟨RX3, "returns", "()I"⟩
def dkwX3_returns_2 : List UInt8 := [132, 1, 1, 167, 255, 226, 16, 251, 172]
abbrev dktX3_returns_2 : List UInt8 := dkwX3_returns_2 ++ []
def dkwX3_returns_1 : List UInt8 := [163, 0, 29, 42, 27, 182, 0, 203, 154, 0, 6, 16, 251, 172, 42, 182, 0, 206, 153, 0, 5, 27, 172]
abbrev dktX3_returns_1 : List UInt8 := dkwX3_returns_1 ++ dktX3_returns_2
def dkwX3_returns_0 : List UInt8 := [42, 180, 0, 13, 3, 46, 154, 0, 6, 16, 253, 172, 42, 182, 0, 200, 4, 60, 27, 17, 0, 200]
abbrev dktX3_returns_0 : List UInt8 := dkwX3_returns_0 ++ dktX3_returns_1
theorem dksX3_returns_0 : cX3_returns.data.toList.drop 0 = dktX3_returns_0 := by decide +kernel
theorem dksX3_returns_1 : cX3_returns.data.toList.drop 22 = dktX3_returns_1 := dk_seg dksX3_returns_0 22 rfl rfl
theorem dksX3_returns_2 : cX3_returns.data.toList.drop 45 = dktX3_returns_2 := dk_seg dksX3_returns_1 23 rfl rfl
theorem dX3_returns_0 : decode cX3_returns 0 = .ok (.aload_n 0, 1) := dk_42 (dk_at dksX3_returns_0 0 rfl rfl)
theorem dX3_returns_1 : decode cX3_returns 1 = .ok (.getfield 13, 3) := dk_180 0 13 (dk_at dksX3_returns_0 1 rfl rfl)
theorem dX3_returns_4 : decode cX3_returns 4 = .ok (.iconst 0, 1) := dk_3 (dk_at dksX3_returns_0 4 rfl rfl)
theorem dX3_returns_5 : decode cX3_returns 5 = .ok (.iaload, 1) := dk_46 (dk_at dksX3_returns_0 5 rfl rfl)
theorem dX3_returns_6 : decode cX3_returns 6 = .ok (.ifCond .ne 6, 3) := dk_154 0 6 (dk_at dksX3_returns_0 6 rfl rfl)
theorem dX3_returns_9 : decode cX3_returns 9 = .ok (.bipush (-3), 2) := dk_16 253 (dk_at dksX3_returns_0 9 rfl rfl)
theorem dX3_returns_11 : decode cX3_returns 11 = .ok (.ireturn, 1) := dk_172 (dk_at dksX3_returns_0 11 rfl rfl)
theorem dX3_returns_12 : decode cX3_returns 12 = .ok (.aload_n 0, 1) := dk_42 (dk_at dksX3_returns_0 12 rfl rfl)
theorem dX3_returns_13 : decode cX3_returns 13 = .ok (.invokevirtual 200, 3) := dk_182 0 200 (dk_at dksX3_returns_0 13 rfl rfl)
theorem dX3_returns_16 : decode cX3_returns 16 = .ok (.iconst 1, 1) := dk_4 (dk_at dksX3_returns_0 16 rfl rfl)
theorem dX3_returns_17 : decode cX3_returns 17 = .ok (.istore_n 1, 1) := dk_60 (dk_at dksX3_returns_0 17 rfl rfl)
theorem dX3_returns_18 : decode cX3_returns 18 = .ok (.iload_n 1, 1) := dk_27 (dk_at dksX3_returns_0 18 rfl rfl)
theorem dX3_returns_19 : decode cX3_returns 19 = .ok (.sipush 200, 3) := dk_17 0 200 (dk_at dksX3_returns_0 19 rfl rfl)
theorem dX3_returns_22 : decode cX3_returns 22 = .ok (.if_icmp .gt 29, 3) := dk_163 0 29 (dk_at dksX3_returns_1 0 rfl rfl)
theorem dX3_returns_25 : decode cX3_returns 25 = .ok (.aload_n 0, 1) := dk_42 (dk_at dksX3_returns_1 3 rfl rfl)
theorem dX3_returns_26 : decode cX3_returns 26 = .ok (.iload_n 1, 1) := dk_27 (dk_at dksX3_returns_1 4 rfl rfl)
theorem dX3_returns_27 : decode cX3_returns 27 = .ok (.invokevirtual 203, 3) := dk_182 0 203 (dk_at dksX3_returns_1 5 rfl rfl)
theorem dX3_returns_30 : decode cX3_returns 30 = .ok (.ifCond .ne 6, 3) := dk_154 0 6 (dk_at dksX3_returns_1 8 rfl rfl)
theorem dX3_returns_33 : decode cX3_returns 33 = .ok (.bipush (-5), 2) := dk_16 251 (dk_at dksX3_returns_1 11 rfl rfl)
theorem dX3_returns_35 : decode cX3_returns 35 = .ok (.ireturn, 1) := dk_172 (dk_at dksX3_returns_1 13 rfl rfl)
theorem dX3_returns_36 : decode cX3_returns 36 = .ok (.aload_n 0, 1) := dk_42 (dk_at dksX3_returns_1 14 rfl rfl)
theorem dX3_returns_37 : decode cX3_returns 37 = .ok (.invokevirtual 206, 3) := dk_182 0 206 (dk_at dksX3_returns_1 15 rfl rfl)
theorem dX3_returns_40 : decode cX3_returns 40 = .ok (.ifCond .eq 5, 3) := dk_153 0 5 (dk_at dksX3_returns_1 18 rfl rfl)
theorem dX3_returns_43 : decode cX3_returns 43 = .ok (.iload_n 1, 1) := dk_27 (dk_at dksX3_returns_1 21 rfl rfl)
theorem dX3_returns_44 : decode cX3_returns 44 = .ok (.ireturn, 1) := dk_172 (dk_at dksX3_returns_1 22 rfl rfl)
theorem dX3_returns_45 : decode cX3_returns 45 = .ok (.iinc 1 1, 3) := dk_132 1 1 (dk_at dksX3_returns_2 0 rfl rfl)
theorem dX3_returns_48 : decode cX3_returns 48 = .ok (.goto (-30), 3) := dk_167 255 226 (dk_at dksX3_returns_2 3 rfl rfl)
theorem dX3_returns_51 : decode cX3_returns 51 = .ok (.bipush (-5), 2) := dk_16 251 (dk_at dksX3_returns_2 6 rfl rfl)
theorem dX3_returns_53 : decode cX3_returns 53 = .ok (.ireturn, 1) := dk_172 (dk_at dksX3_returns_2 8 rfl rfl)
abbrev cX3_begins : ByteArray := prog_20_method_39_code
def yX3_begins : MethodName := ⟨RX3, "begins", "()V"⟩
def dkwX3_begins_1 : List UInt8 := [42, 180, 0, 83, 27, 42, 180, 0, 29, 27, 46, 79, 132, 1, 1, 167, 255, 219, 177]
abbrev dktX3_begins_1 : List UInt8 := dkwX3_begins_1 ++ []
def dkwX3_begins_0 : List UInt8 := [3, 60, 27, 42, 180, 0, 13, 3, 46, 162, 0, 33, 42, 180, 0, 80, 27, 42, 180, 0, 26, 27, 46, 79]
abbrev dktX3_begins_0 : List UInt8 := dkwX3_begins_0 ++ dktX3_begins_1
theorem dksX3_begins_0 : cX3_begins.data.toList.drop 0 = dktX3_begins_0 := by decide +kernel
theorem dksX3_begins_1 : cX3_begins.data.toList.drop 24 = dktX3_begins_1 := dk_seg dksX3_begins_0 24 rfl rfl
theorem dX3_begins_0 : decode cX3_begins 0 = .ok (.iconst 0, 1) := dk_3 (dk_at dksX3_begins_0 0 rfl rfl)
theorem dX3_begins_1 : decode cX3_begins 1 = .ok (.istore_n 1, 1) := dk_60 (dk_at dksX3_begins_0 1 rfl rfl)
theorem dX3_begins_2 : decode cX3_begins 2 = .ok (.iload_n 1, 1) := dk_27 (dk_at dksX3_begins_0 2 rfl rfl)
theorem dX3_begins_3 : decode cX3_begins 3 = .ok (.aload_n 0, 1) := dk_42 (dk_at dksX3_begins_0 3 rfl rfl)
theorem dX3_begins_4 : decode cX3_begins 4 = .ok (.getfield 13, 3) := dk_180 0 13 (dk_at dksX3_begins_0 4 rfl rfl)
theorem dX3_begins_7 : decode cX3_begins 7 = .ok (.iconst 0, 1) := dk_3 (dk_at dksX3_begins_0 7 rfl rfl)
theorem dX3_begins_8 : decode cX3_begins 8 = .ok (.iaload, 1) := dk_46 (dk_at dksX3_begins_0 8 rfl rfl)
theorem dX3_begins_9 : decode cX3_begins 9 = .ok (.if_icmp .ge 33, 3) := dk_162 0 33 (dk_at dksX3_begins_0 9 rfl rfl)
theorem dX3_begins_12 : decode cX3_begins 12 = .ok (.aload_n 0, 1) := dk_42 (dk_at dksX3_begins_0 12 rfl rfl)
theorem dX3_begins_13 : decode cX3_begins 13 = .ok (.getfield 80, 3) := dk_180 0 80 (dk_at dksX3_begins_0 13 rfl rfl)
theorem dX3_begins_16 : decode cX3_begins 16 = .ok (.iload_n 1, 1) := dk_27 (dk_at dksX3_begins_0 16 rfl rfl)
theorem dX3_begins_17 : decode cX3_begins 17 = .ok (.aload_n 0, 1) := dk_42 (dk_at dksX3_begins_0 17 rfl rfl)
theorem dX3_begins_18 : decode cX3_begins 18 = .ok (.getfield 26, 3) := dk_180 0 26 (dk_at dksX3_begins_0 18 rfl rfl)
theorem dX3_begins_21 : decode cX3_begins 21 = .ok (.iload_n 1, 1) := dk_27 (dk_at dksX3_begins_0 21 rfl rfl)
theorem dX3_begins_22 : decode cX3_begins 22 = .ok (.iaload, 1) := dk_46 (dk_at dksX3_begins_0 22 rfl rfl)
theorem dX3_begins_23 : decode cX3_begins 23 = .ok (.iastore, 1) := dk_79 (dk_at dksX3_begins_0 23 rfl rfl)
theorem dX3_begins_24 : decode cX3_begins 24 = .ok (.aload_n 0, 1) := dk_42 (dk_at dksX3_begins_1 0 rfl rfl)
theorem dX3_begins_25 : decode cX3_begins 25 = .ok (.getfield 83, 3) := dk_180 0 83 (dk_at dksX3_begins_1 1 rfl rfl)
theorem dX3_begins_28 : decode cX3_begins 28 = .ok (.iload_n 1, 1) := dk_27 (dk_at dksX3_begins_1 4 rfl rfl)
theorem dX3_begins_29 : decode cX3_begins 29 = .ok (.aload_n 0, 1) := dk_42 (dk_at dksX3_begins_1 5 rfl rfl)
theorem dX3_begins_30 : decode cX3_begins 30 = .ok (.getfield 29, 3) := dk_180 0 29 (dk_at dksX3_begins_1 6 rfl rfl)
theorem dX3_begins_33 : decode cX3_begins 33 = .ok (.iload_n 1, 1) := dk_27 (dk_at dksX3_begins_1 9 rfl rfl)
theorem dX3_begins_34 : decode cX3_begins 34 = .ok (.iaload, 1) := dk_46 (dk_at dksX3_begins_1 10 rfl rfl)
theorem dX3_begins_35 : decode cX3_begins 35 = .ok (.iastore, 1) := dk_79 (dk_at dksX3_begins_1 11 rfl rfl)
theorem dX3_begins_36 : decode cX3_begins 36 = .ok (.iinc 1 1, 3) := dk_132 1 1 (dk_at dksX3_begins_1 12 rfl rfl)
theorem dX3_begins_39 : decode cX3_begins 39 = .ok (.goto (-37), 3) := dk_167 255 219 (dk_at dksX3_begins_1 15 rfl rfl)
theorem dX3_begins_42 : decode cX3_begins 42 = .ok (.return_, 1) := dk_177 (dk_at dksX3_begins_1 18 rfl rfl)
abbrev cX3_mind : ByteArray := prog_20_method_40_code
def yX3_mind : MethodName := ⟨RX3, "mind", "(I)Z"⟩
def dkwX3_mind_5 : List UInt8 := [167, 255, 201, 4, 172]
abbrev dktX3_mind_5 : List UInt8 := dkwX3_mind_5 ++ []
def dkwX3_mind_4 : List UInt8 := [7, 112, 79, 42, 180, 0, 83, 28, 92, 46, 42, 180, 0, 77, 28, 46, 184, 0, 171, 96, 79, 132, 2, 1]
abbrev dktX3_mind_4 : List UInt8 := dkwX3_mind_4 ++ dktX3_mind_5
def dkwX3_mind_3 : List UInt8 := [162, 0, 51, 42, 180, 0, 80, 28, 42, 180, 0, 80, 28, 46, 42, 180, 0, 77, 28, 46, 184, 0, 174, 96]
abbrev dktX3_mind_3 : List UInt8 := dkwX3_mind_3 ++ dktX3_mind_4
def dkwX3_mind_2 : List UInt8 := [184, 0, 108, 154, 0, 5, 3, 172, 132, 2, 1, 167, 255, 215, 3, 61, 28, 42, 180, 0, 13, 3, 46]
abbrev dktX3_mind_2 : List UInt8 := dkwX3_mind_2 ++ dktX3_mind_3
def dkwX3_mind_1 : List UInt8 := [162, 0, 37, 42, 180, 0, 83, 28, 46, 42, 180, 0, 77, 28, 46, 184, 0, 171, 96, 16, 157, 16, 99]
abbrev dktX3_mind_1 : List UInt8 := dkwX3_mind_1 ++ dktX3_mind_2
def dkwX3_mind_0 : List UInt8 := [42, 42, 180, 0, 17, 3, 46, 27, 96, 4, 100, 182, 0, 190, 3, 61, 28, 42, 180, 0, 13, 3, 46]
abbrev dktX3_mind_0 : List UInt8 := dkwX3_mind_0 ++ dktX3_mind_1
theorem dksX3_mind_0 : cX3_mind.data.toList.drop 0 = dktX3_mind_0 := by decide +kernel
theorem dksX3_mind_1 : cX3_mind.data.toList.drop 23 = dktX3_mind_1 := dk_seg dksX3_mind_0 23 rfl rfl
theorem dksX3_mind_2 : cX3_mind.data.toList.drop 46 = dktX3_mind_2 := dk_seg dksX3_mind_1 23 rfl rfl
theorem dksX3_mind_3 : cX3_mind.data.toList.drop 69 = dktX3_mind_3 := dk_seg dksX3_mind_2 23 rfl rfl
theorem dksX3_mind_4 : cX3_mind.data.toList.drop 93 = dktX3_mind_4 := dk_seg dksX3_mind_3 24 rfl rfl
theorem dksX3_mind_5 : cX3_mind.data.toList.drop 117 = dktX3_mind_5 := dk_seg dksX3_mind_4 24 rfl rfl
theorem dX3_mind_0 : decode cX3_mind 0 = .ok (.aload_n 0, 1) := dk_42 (dk_at dksX3_mind_0 0 rfl rfl)
theorem dX3_mind_1 : decode cX3_mind 1 = .ok (.aload_n 0, 1) := dk_42 (dk_at dksX3_mind_0 1 rfl rfl)
theorem dX3_mind_2 : decode cX3_mind 2 = .ok (.getfield 17, 3) := dk_180 0 17 (dk_at dksX3_mind_0 2 rfl rfl)
theorem dX3_mind_5 : decode cX3_mind 5 = .ok (.iconst 0, 1) := dk_3 (dk_at dksX3_mind_0 5 rfl rfl)
theorem dX3_mind_6 : decode cX3_mind 6 = .ok (.iaload, 1) := dk_46 (dk_at dksX3_mind_0 6 rfl rfl)
theorem dX3_mind_7 : decode cX3_mind 7 = .ok (.iload_n 1, 1) := dk_27 (dk_at dksX3_mind_0 7 rfl rfl)
theorem dX3_mind_8 : decode cX3_mind 8 = .ok (.iadd, 1) := dk_96 (dk_at dksX3_mind_0 8 rfl rfl)
theorem dX3_mind_9 : decode cX3_mind 9 = .ok (.iconst 1, 1) := dk_4 (dk_at dksX3_mind_0 9 rfl rfl)
theorem dX3_mind_10 : decode cX3_mind 10 = .ok (.isub, 1) := dk_100 (dk_at dksX3_mind_0 10 rfl rfl)
theorem dX3_mind_11 : decode cX3_mind 11 = .ok (.invokevirtual 190, 3) := dk_182 0 190 (dk_at dksX3_mind_0 11 rfl rfl)
theorem dX3_mind_14 : decode cX3_mind 14 = .ok (.iconst 0, 1) := dk_3 (dk_at dksX3_mind_0 14 rfl rfl)
theorem dX3_mind_15 : decode cX3_mind 15 = .ok (.istore_n 2, 1) := dk_61 (dk_at dksX3_mind_0 15 rfl rfl)
theorem dX3_mind_16 : decode cX3_mind 16 = .ok (.iload_n 2, 1) := dk_28 (dk_at dksX3_mind_0 16 rfl rfl)
theorem dX3_mind_17 : decode cX3_mind 17 = .ok (.aload_n 0, 1) := dk_42 (dk_at dksX3_mind_0 17 rfl rfl)
theorem dX3_mind_18 : decode cX3_mind 18 = .ok (.getfield 13, 3) := dk_180 0 13 (dk_at dksX3_mind_0 18 rfl rfl)
theorem dX3_mind_21 : decode cX3_mind 21 = .ok (.iconst 0, 1) := dk_3 (dk_at dksX3_mind_0 21 rfl rfl)
theorem dX3_mind_22 : decode cX3_mind 22 = .ok (.iaload, 1) := dk_46 (dk_at dksX3_mind_0 22 rfl rfl)
theorem dX3_mind_23 : decode cX3_mind 23 = .ok (.if_icmp .ge 37, 3) := dk_162 0 37 (dk_at dksX3_mind_1 0 rfl rfl)
theorem dX3_mind_26 : decode cX3_mind 26 = .ok (.aload_n 0, 1) := dk_42 (dk_at dksX3_mind_1 3 rfl rfl)
theorem dX3_mind_27 : decode cX3_mind 27 = .ok (.getfield 83, 3) := dk_180 0 83 (dk_at dksX3_mind_1 4 rfl rfl)
theorem dX3_mind_30 : decode cX3_mind 30 = .ok (.iload_n 2, 1) := dk_28 (dk_at dksX3_mind_1 7 rfl rfl)
theorem dX3_mind_31 : decode cX3_mind 31 = .ok (.iaload, 1) := dk_46 (dk_at dksX3_mind_1 8 rfl rfl)
theorem dX3_mind_32 : decode cX3_mind 32 = .ok (.aload_n 0, 1) := dk_42 (dk_at dksX3_mind_1 9 rfl rfl)
theorem dX3_mind_33 : decode cX3_mind 33 = .ok (.getfield 77, 3) := dk_180 0 77 (dk_at dksX3_mind_1 10 rfl rfl)
theorem dX3_mind_36 : decode cX3_mind 36 = .ok (.iload_n 2, 1) := dk_28 (dk_at dksX3_mind_1 13 rfl rfl)
theorem dX3_mind_37 : decode cX3_mind 37 = .ok (.iaload, 1) := dk_46 (dk_at dksX3_mind_1 14 rfl rfl)
theorem dX3_mind_38 : decode cX3_mind 38 = .ok (.invokestatic 171, 3) := dk_184 0 171 (dk_at dksX3_mind_1 15 rfl rfl)
theorem dX3_mind_41 : decode cX3_mind 41 = .ok (.iadd, 1) := dk_96 (dk_at dksX3_mind_1 18 rfl rfl)
theorem dX3_mind_42 : decode cX3_mind 42 = .ok (.bipush (-99), 2) := dk_16 157 (dk_at dksX3_mind_1 19 rfl rfl)
theorem dX3_mind_44 : decode cX3_mind 44 = .ok (.bipush 99, 2) := dk_16 99 (dk_at dksX3_mind_1 21 rfl rfl)
theorem dX3_mind_46 : decode cX3_mind 46 = .ok (.invokestatic 108, 3) := dk_184 0 108 (dk_at dksX3_mind_2 0 rfl rfl)
theorem dX3_mind_49 : decode cX3_mind 49 = .ok (.ifCond .ne 5, 3) := dk_154 0 5 (dk_at dksX3_mind_2 3 rfl rfl)
theorem dX3_mind_52 : decode cX3_mind 52 = .ok (.iconst 0, 1) := dk_3 (dk_at dksX3_mind_2 6 rfl rfl)
theorem dX3_mind_53 : decode cX3_mind 53 = .ok (.ireturn, 1) := dk_172 (dk_at dksX3_mind_2 7 rfl rfl)
theorem dX3_mind_54 : decode cX3_mind 54 = .ok (.iinc 2 1, 3) := dk_132 2 1 (dk_at dksX3_mind_2 8 rfl rfl)
theorem dX3_mind_57 : decode cX3_mind 57 = .ok (.goto (-41), 3) := dk_167 255 215 (dk_at dksX3_mind_2 11 rfl rfl)
theorem dX3_mind_60 : decode cX3_mind 60 = .ok (.iconst 0, 1) := dk_3 (dk_at dksX3_mind_2 14 rfl rfl)
theorem dX3_mind_61 : decode cX3_mind 61 = .ok (.istore_n 2, 1) := dk_61 (dk_at dksX3_mind_2 15 rfl rfl)
theorem dX3_mind_62 : decode cX3_mind 62 = .ok (.iload_n 2, 1) := dk_28 (dk_at dksX3_mind_2 16 rfl rfl)
theorem dX3_mind_63 : decode cX3_mind 63 = .ok (.aload_n 0, 1) := dk_42 (dk_at dksX3_mind_2 17 rfl rfl)
theorem dX3_mind_64 : decode cX3_mind 64 = .ok (.getfield 13, 3) := dk_180 0 13 (dk_at dksX3_mind_2 18 rfl rfl)
theorem dX3_mind_67 : decode cX3_mind 67 = .ok (.iconst 0, 1) := dk_3 (dk_at dksX3_mind_2 21 rfl rfl)
theorem dX3_mind_68 : decode cX3_mind 68 = .ok (.iaload, 1) := dk_46 (dk_at dksX3_mind_2 22 rfl rfl)
theorem dX3_mind_69 : decode cX3_mind 69 = .ok (.if_icmp .ge 51, 3) := dk_162 0 51 (dk_at dksX3_mind_3 0 rfl rfl)
theorem dX3_mind_72 : decode cX3_mind 72 = .ok (.aload_n 0, 1) := dk_42 (dk_at dksX3_mind_3 3 rfl rfl)
theorem dX3_mind_73 : decode cX3_mind 73 = .ok (.getfield 80, 3) := dk_180 0 80 (dk_at dksX3_mind_3 4 rfl rfl)
theorem dX3_mind_76 : decode cX3_mind 76 = .ok (.iload_n 2, 1) := dk_28 (dk_at dksX3_mind_3 7 rfl rfl)
theorem dX3_mind_77 : decode cX3_mind 77 = .ok (.aload_n 0, 1) := dk_42 (dk_at dksX3_mind_3 8 rfl rfl)
theorem dX3_mind_78 : decode cX3_mind 78 = .ok (.getfield 80, 3) := dk_180 0 80 (dk_at dksX3_mind_3 9 rfl rfl)
theorem dX3_mind_81 : decode cX3_mind 81 = .ok (.iload_n 2, 1) := dk_28 (dk_at dksX3_mind_3 12 rfl rfl)
theorem dX3_mind_82 : decode cX3_mind 82 = .ok (.iaload, 1) := dk_46 (dk_at dksX3_mind_3 13 rfl rfl)
theorem dX3_mind_83 : decode cX3_mind 83 = .ok (.aload_n 0, 1) := dk_42 (dk_at dksX3_mind_3 14 rfl rfl)
theorem dX3_mind_84 : decode cX3_mind 84 = .ok (.getfield 77, 3) := dk_180 0 77 (dk_at dksX3_mind_3 15 rfl rfl)
theorem dX3_mind_87 : decode cX3_mind 87 = .ok (.iload_n 2, 1) := dk_28 (dk_at dksX3_mind_3 18 rfl rfl)
theorem dX3_mind_88 : decode cX3_mind 88 = .ok (.iaload, 1) := dk_46 (dk_at dksX3_mind_3 19 rfl rfl)
theorem dX3_mind_89 : decode cX3_mind 89 = .ok (.invokestatic 174, 3) := dk_184 0 174 (dk_at dksX3_mind_3 20 rfl rfl)
theorem dX3_mind_92 : decode cX3_mind 92 = .ok (.iadd, 1) := dk_96 (dk_at dksX3_mind_3 23 rfl rfl)
theorem dX3_mind_93 : decode cX3_mind 93 = .ok (.iconst 4, 1) := dk_7 (dk_at dksX3_mind_4 0 rfl rfl)
theorem dX3_mind_94 : decode cX3_mind 94 = .ok (.irem, 1) := dk_112 (dk_at dksX3_mind_4 1 rfl rfl)
theorem dX3_mind_95 : decode cX3_mind 95 = .ok (.iastore, 1) := dk_79 (dk_at dksX3_mind_4 2 rfl rfl)
theorem dX3_mind_96 : decode cX3_mind 96 = .ok (.aload_n 0, 1) := dk_42 (dk_at dksX3_mind_4 3 rfl rfl)
theorem dX3_mind_97 : decode cX3_mind 97 = .ok (.getfield 83, 3) := dk_180 0 83 (dk_at dksX3_mind_4 4 rfl rfl)
theorem dX3_mind_100 : decode cX3_mind 100 = .ok (.iload_n 2, 1) := dk_28 (dk_at dksX3_mind_4 7 rfl rfl)
theorem dX3_mind_101 : decode cX3_mind 101 = .ok (.dup2, 1) := dk_92 (dk_at dksX3_mind_4 8 rfl rfl)
theorem dX3_mind_102 : decode cX3_mind 102 = .ok (.iaload, 1) := dk_46 (dk_at dksX3_mind_4 9 rfl rfl)
theorem dX3_mind_103 : decode cX3_mind 103 = .ok (.aload_n 0, 1) := dk_42 (dk_at dksX3_mind_4 10 rfl rfl)
theorem dX3_mind_104 : decode cX3_mind 104 = .ok (.getfield 77, 3) := dk_180 0 77 (dk_at dksX3_mind_4 11 rfl rfl)
theorem dX3_mind_107 : decode cX3_mind 107 = .ok (.iload_n 2, 1) := dk_28 (dk_at dksX3_mind_4 14 rfl rfl)
theorem dX3_mind_108 : decode cX3_mind 108 = .ok (.iaload, 1) := dk_46 (dk_at dksX3_mind_4 15 rfl rfl)
theorem dX3_mind_109 : decode cX3_mind 109 = .ok (.invokestatic 171, 3) := dk_184 0 171 (dk_at dksX3_mind_4 16 rfl rfl)
theorem dX3_mind_112 : decode cX3_mind 112 = .ok (.iadd, 1) := dk_96 (dk_at dksX3_mind_4 19 rfl rfl)
theorem dX3_mind_113 : decode cX3_mind 113 = .ok (.iastore, 1) := dk_79 (dk_at dksX3_mind_4 20 rfl rfl)
theorem dX3_mind_114 : decode cX3_mind 114 = .ok (.iinc 2 1, 3) := dk_132 2 1 (dk_at dksX3_mind_4 21 rfl rfl)
theorem dX3_mind_117 : decode cX3_mind 117 = .ok (.goto (-55), 3) := dk_167 255 201 (dk_at dksX3_mind_5 0 rfl rfl)
theorem dX3_mind_120 : decode cX3_mind 120 = .ok (.iconst 1, 1) := dk_4 (dk_at dksX3_mind_5 3 rfl rfl)
theorem dX3_mind_121 : decode cX3_mind 121 = .ok (.ireturn, 1) := dk_172 (dk_at dksX3_mind_5 4 rfl rfl)
abbrev cX3_areAsNow : ByteArray := prog_20_method_41_code
def yX3_areAsNow : MethodName := ⟨RX3, "areAsNow", "()Z"⟩
def dkwX3_areAsNow_1 : List UInt8 := [159, 0, 5, 3, 172, 132, 1, 1, 167, 255, 226, 4, 172]
abbrev dktX3_areAsNow_1 : List UInt8 := dkwX3_areAsNow_1 ++ []
def dkwX3_areAsNow_0 : List UInt8 := [3, 60, 27, 42, 180, 0, 13, 3, 46, 162, 0, 26, 42, 180, 0, 80, 27, 46, 42, 180, 0, 26, 27, 46]
abbrev dktX3_areAsNow_0 : List UInt8 := dkwX3_areAsNow_0 ++ dktX3_areAsNow_1
theorem dksX3_areAsNow_0 : cX3_areAsNow.data.toList.drop 0 = dktX3_areAsNow_0 := by decide +kernel
theorem dksX3_areAsNow_1 : cX3_areAsNow.data.toList.drop 24 = dktX3_areAsNow_1 := dk_seg dksX3_areAsNow_0 24 rfl rfl
theorem dX3_areAsNow_0 : decode cX3_areAsNow 0 = .ok (.iconst 0, 1) := dk_3 (dk_at dksX3_areAsNow_0 0 rfl rfl)
theorem dX3_areAsNow_1 : decode cX3_areAsNow 1 = .ok (.istore_n 1, 1) := dk_60 (dk_at dksX3_areAsNow_0 1 rfl rfl)
theorem dX3_areAsNow_2 : decode cX3_areAsNow 2 = .ok (.iload_n 1, 1) := dk_27 (dk_at dksX3_areAsNow_0 2 rfl rfl)
theorem dX3_areAsNow_3 : decode cX3_areAsNow 3 = .ok (.aload_n 0, 1) := dk_42 (dk_at dksX3_areAsNow_0 3 rfl rfl)
theorem dX3_areAsNow_4 : decode cX3_areAsNow 4 = .ok (.getfield 13, 3) := dk_180 0 13 (dk_at dksX3_areAsNow_0 4 rfl rfl)
theorem dX3_areAsNow_7 : decode cX3_areAsNow 7 = .ok (.iconst 0, 1) := dk_3 (dk_at dksX3_areAsNow_0 7 rfl rfl)
theorem dX3_areAsNow_8 : decode cX3_areAsNow 8 = .ok (.iaload, 1) := dk_46 (dk_at dksX3_areAsNow_0 8 rfl rfl)
theorem dX3_areAsNow_9 : decode cX3_areAsNow 9 = .ok (.if_icmp .ge 26, 3) := dk_162 0 26 (dk_at dksX3_areAsNow_0 9 rfl rfl)
theorem dX3_areAsNow_12 : decode cX3_areAsNow 12 = .ok (.aload_n 0, 1) := dk_42 (dk_at dksX3_areAsNow_0 12 rfl rfl)
theorem dX3_areAsNow_13 : decode cX3_areAsNow 13 = .ok (.getfield 80, 3) := dk_180 0 80 (dk_at dksX3_areAsNow_0 13 rfl rfl)
theorem dX3_areAsNow_16 : decode cX3_areAsNow 16 = .ok (.iload_n 1, 1) := dk_27 (dk_at dksX3_areAsNow_0 16 rfl rfl)
theorem dX3_areAsNow_17 : decode cX3_areAsNow 17 = .ok (.iaload, 1) := dk_46 (dk_at dksX3_areAsNow_0 17 rfl rfl)
theorem dX3_areAsNow_18 : decode cX3_areAsNow 18 = .ok (.aload_n 0, 1) := dk_42 (dk_at dksX3_areAsNow_0 18 rfl rfl)
theorem dX3_areAsNow_19 : decode cX3_areAsNow 19 = .ok (.getfield 26, 3) := dk_180 0 26 (dk_at dksX3_areAsNow_0 19 rfl rfl)
theorem dX3_areAsNow_22 : decode cX3_areAsNow 22 = .ok (.iload_n 1, 1) := dk_27 (dk_at dksX3_areAsNow_0 22 rfl rfl)
theorem dX3_areAsNow_23 : decode cX3_areAsNow 23 = .ok (.iaload, 1) := dk_46 (dk_at dksX3_areAsNow_0 23 rfl rfl)
theorem dX3_areAsNow_24 : decode cX3_areAsNow 24 = .ok (.if_icmp .eq 5, 3) := dk_159 0 5 (dk_at dksX3_areAsNow_1 0 rfl rfl)
theorem dX3_areAsNow_27 : decode cX3_areAsNow 27 = .ok (.iconst 0, 1) := dk_3 (dk_at dksX3_areAsNow_1 3 rfl rfl)
theorem dX3_areAsNow_28 : decode cX3_areAsNow 28 = .ok (.ireturn, 1) := dk_172 (dk_at dksX3_areAsNow_1 4 rfl rfl)
theorem dX3_areAsNow_29 : decode cX3_areAsNow 29 = .ok (.iinc 1 1, 3) := dk_132 1 1 (dk_at dksX3_areAsNow_1 5 rfl rfl)
theorem dX3_areAsNow_32 : decode cX3_areAsNow 32 = .ok (.goto (-30), 3) := dk_167 255 226 (dk_at dksX3_areAsNow_1 8 rfl rfl)
theorem dX3_areAsNow_35 : decode cX3_areAsNow 35 = .ok (.iconst 1, 1) := dk_4 (dk_at dksX3_areAsNow_1 11 rfl rfl)
theorem dX3_areAsNow_36 : decode cX3_areAsNow 36 = .ok (.ireturn, 1) := dk_172 (dk_at dksX3_areAsNow_1 12 rfl rfl)
abbrev cX3_flat : ByteArray := prog_20_method_44_code
def yX3_flat : MethodName := ⟨RX3, "flat", "()I"⟩
def dkwX3_flat_2 : List UInt8 := [153, 0, 5, 27, 172, 132, 1, 1, 167, 255, 222, 16, 251, 172]
abbrev dktX3_flat_2 : List UInt8 := dkwX3_flat_2 ++ []
def dkwX3_flat_1 : List UInt8 := [163, 0, 33, 27, 158, 0, 14, 42, 27, 182, 0, 203, 154, 0, 6, 16, 251, 172, 42, 182, 0, 209]
abbrev dktX3_flat_1 : List UInt8 := dkwX3_flat_1 ++ dktX3_flat_2
def dkwX3_flat_0 : List UInt8 := [42, 180, 0, 13, 3, 46, 154, 0, 6, 16, 253, 172, 42, 182, 0, 200, 3, 60, 27, 17, 0, 200]
abbrev dktX3_flat_0 : List UInt8 := dkwX3_flat_0 ++ dktX3_flat_1
theorem dksX3_flat_0 : cX3_flat.data.toList.drop 0 = dktX3_flat_0 := by decide +kernel
theorem dksX3_flat_1 : cX3_flat.data.toList.drop 22 = dktX3_flat_1 := dk_seg dksX3_flat_0 22 rfl rfl
theorem dksX3_flat_2 : cX3_flat.data.toList.drop 44 = dktX3_flat_2 := dk_seg dksX3_flat_1 22 rfl rfl
theorem dX3_flat_0 : decode cX3_flat 0 = .ok (.aload_n 0, 1) := dk_42 (dk_at dksX3_flat_0 0 rfl rfl)
theorem dX3_flat_1 : decode cX3_flat 1 = .ok (.getfield 13, 3) := dk_180 0 13 (dk_at dksX3_flat_0 1 rfl rfl)
theorem dX3_flat_4 : decode cX3_flat 4 = .ok (.iconst 0, 1) := dk_3 (dk_at dksX3_flat_0 4 rfl rfl)
theorem dX3_flat_5 : decode cX3_flat 5 = .ok (.iaload, 1) := dk_46 (dk_at dksX3_flat_0 5 rfl rfl)
theorem dX3_flat_6 : decode cX3_flat 6 = .ok (.ifCond .ne 6, 3) := dk_154 0 6 (dk_at dksX3_flat_0 6 rfl rfl)
theorem dX3_flat_9 : decode cX3_flat 9 = .ok (.bipush (-3), 2) := dk_16 253 (dk_at dksX3_flat_0 9 rfl rfl)
theorem dX3_flat_11 : decode cX3_flat 11 = .ok (.ireturn, 1) := dk_172 (dk_at dksX3_flat_0 11 rfl rfl)
theorem dX3_flat_12 : decode cX3_flat 12 = .ok (.aload_n 0, 1) := dk_42 (dk_at dksX3_flat_0 12 rfl rfl)
theorem dX3_flat_13 : decode cX3_flat 13 = .ok (.invokevirtual 200, 3) := dk_182 0 200 (dk_at dksX3_flat_0 13 rfl rfl)
theorem dX3_flat_16 : decode cX3_flat 16 = .ok (.iconst 0, 1) := dk_3 (dk_at dksX3_flat_0 16 rfl rfl)
theorem dX3_flat_17 : decode cX3_flat 17 = .ok (.istore_n 1, 1) := dk_60 (dk_at dksX3_flat_0 17 rfl rfl)
theorem dX3_flat_18 : decode cX3_flat 18 = .ok (.iload_n 1, 1) := dk_27 (dk_at dksX3_flat_0 18 rfl rfl)
theorem dX3_flat_19 : decode cX3_flat 19 = .ok (.sipush 200, 3) := dk_17 0 200 (dk_at dksX3_flat_0 19 rfl rfl)
theorem dX3_flat_22 : decode cX3_flat 22 = .ok (.if_icmp .gt 33, 3) := dk_163 0 33 (dk_at dksX3_flat_1 0 rfl rfl)
theorem dX3_flat_25 : decode cX3_flat 25 = .ok (.iload_n 1, 1) := dk_27 (dk_at dksX3_flat_1 3 rfl rfl)
theorem dX3_flat_26 : decode cX3_flat 26 = .ok (.ifCond .le 14, 3) := dk_158 0 14 (dk_at dksX3_flat_1 4 rfl rfl)
theorem dX3_flat_29 : decode cX3_flat 29 = .ok (.aload_n 0, 1) := dk_42 (dk_at dksX3_flat_1 7 rfl rfl)
theorem dX3_flat_30 : decode cX3_flat 30 = .ok (.iload_n 1, 1) := dk_27 (dk_at dksX3_flat_1 8 rfl rfl)
theorem dX3_flat_31 : decode cX3_flat 31 = .ok (.invokevirtual 203, 3) := dk_182 0 203 (dk_at dksX3_flat_1 9 rfl rfl)
theorem dX3_flat_34 : decode cX3_flat 34 = .ok (.ifCond .ne 6, 3) := dk_154 0 6 (dk_at dksX3_flat_1 12 rfl rfl)
theorem dX3_flat_37 : decode cX3_flat 37 = .ok (.bipush (-5), 2) := dk_16 251 (dk_at dksX3_flat_1 15 rfl rfl)
theorem dX3_flat_39 : decode cX3_flat 39 = .ok (.ireturn, 1) := dk_172 (dk_at dksX3_flat_1 17 rfl rfl)
theorem dX3_flat_40 : decode cX3_flat 40 = .ok (.aload_n 0, 1) := dk_42 (dk_at dksX3_flat_1 18 rfl rfl)
theorem dX3_flat_41 : decode cX3_flat 41 = .ok (.invokevirtual 209, 3) := dk_182 0 209 (dk_at dksX3_flat_1 19 rfl rfl)
theorem dX3_flat_44 : decode cX3_flat 44 = .ok (.ifCond .eq 5, 3) := dk_153 0 5 (dk_at dksX3_flat_2 0 rfl rfl)
theorem dX3_flat_47 : decode cX3_flat 47 = .ok (.iload_n 1, 1) := dk_27 (dk_at dksX3_flat_2 3 rfl rfl)
theorem dX3_flat_48 : decode cX3_flat 48 = .ok (.ireturn, 1) := dk_172 (dk_at dksX3_flat_2 4 rfl rfl)
theorem dX3_flat_49 : decode cX3_flat 49 = .ok (.iinc 1 1, 3) := dk_132 1 1 (dk_at dksX3_flat_2 5 rfl rfl)
theorem dX3_flat_52 : decode cX3_flat 52 = .ok (.goto (-34), 3) := dk_167 255 222 (dk_at dksX3_flat_2 8 rfl rfl)
theorem dX3_flat_55 : decode cX3_flat 55 = .ok (.bipush (-5), 2) := dk_16 251 (dk_at dksX3_flat_2 11 rfl rfl)
theorem dX3_flat_57 : decode cX3_flat 57 = .ok (.ireturn, 1) := dk_172 (dk_at dksX3_flat_2 13 rfl rfl)
abbrev cX3_areFlat : ByteArray := prog_20_method_42_code
def yX3_areFlat : MethodName := ⟨RX3, "areFlat", "()Z"⟩
def dkwX3_areFlat_1 : List UInt8 := [132, 1, 1, 167, 255, 232, 4, 172]
abbrev dktX3_areFlat_1 : List UInt8 := dkwX3_areFlat_1 ++ []
def dkwX3_areFlat_0 : List UInt8 := [3, 60, 27, 42, 180, 0, 13, 3, 46, 162, 0, 20, 42, 180, 0, 83, 27, 46, 153, 0, 5, 3, 172]
abbrev dktX3_areFlat_0 : List UInt8 := dkwX3_areFlat_0 ++ dktX3_areFlat_1
theorem dksX3_areFlat_0 : cX3_areFlat.data.toList.drop 0 = dktX3_areFlat_0 := by decide +kernel
theorem dksX3_areFlat_1 : cX3_areFlat.data.toList.drop 23 = dktX3_areFlat_1 := dk_seg dksX3_areFlat_0 23 rfl rfl
theorem dX3_areFlat_0 : decode cX3_areFlat 0 = .ok (.iconst 0, 1) := dk_3 (dk_at dksX3_areFlat_0 0 rfl rfl)
theorem dX3_areFlat_1 : decode cX3_areFlat 1 = .ok (.istore_n 1, 1) := dk_60 (dk_at dksX3_areFlat_0 1 rfl rfl)
theorem dX3_areFlat_2 : decode cX3_areFlat 2 = .ok (.iload_n 1, 1) := dk_27 (dk_at dksX3_areFlat_0 2 rfl rfl)
theorem dX3_areFlat_3 : decode cX3_areFlat 3 = .ok (.aload_n 0, 1) := dk_42 (dk_at dksX3_areFlat_0 3 rfl rfl)
theorem dX3_areFlat_4 : decode cX3_areFlat 4 = .ok (.getfield 13, 3) := dk_180 0 13 (dk_at dksX3_areFlat_0 4 rfl rfl)
theorem dX3_areFlat_7 : decode cX3_areFlat 7 = .ok (.iconst 0, 1) := dk_3 (dk_at dksX3_areFlat_0 7 rfl rfl)
theorem dX3_areFlat_8 : decode cX3_areFlat 8 = .ok (.iaload, 1) := dk_46 (dk_at dksX3_areFlat_0 8 rfl rfl)
theorem dX3_areFlat_9 : decode cX3_areFlat 9 = .ok (.if_icmp .ge 20, 3) := dk_162 0 20 (dk_at dksX3_areFlat_0 9 rfl rfl)
theorem dX3_areFlat_12 : decode cX3_areFlat 12 = .ok (.aload_n 0, 1) := dk_42 (dk_at dksX3_areFlat_0 12 rfl rfl)
theorem dX3_areFlat_13 : decode cX3_areFlat 13 = .ok (.getfield 83, 3) := dk_180 0 83 (dk_at dksX3_areFlat_0 13 rfl rfl)
theorem dX3_areFlat_16 : decode cX3_areFlat 16 = .ok (.iload_n 1, 1) := dk_27 (dk_at dksX3_areFlat_0 16 rfl rfl)
theorem dX3_areFlat_17 : decode cX3_areFlat 17 = .ok (.iaload, 1) := dk_46 (dk_at dksX3_areFlat_0 17 rfl rfl)
theorem dX3_areFlat_18 : decode cX3_areFlat 18 = .ok (.ifCond .eq 5, 3) := dk_153 0 5 (dk_at dksX3_areFlat_0 18 rfl rfl)
theorem dX3_areFlat_21 : decode cX3_areFlat 21 = .ok (.iconst 0, 1) := dk_3 (dk_at dksX3_areFlat_0 21 rfl rfl)
theorem dX3_areFlat_22 : decode cX3_areFlat 22 = .ok (.ireturn, 1) := dk_172 (dk_at dksX3_areFlat_0 22 rfl rfl)
theorem dX3_areFlat_23 : decode cX3_areFlat 23 = .ok (.iinc 1 1, 3) := dk_132 1 1 (dk_at dksX3_areFlat_1 0 rfl rfl)
theorem dX3_areFlat_26 : decode cX3_areFlat 26 = .ok (.goto (-24), 3) := dk_167 255 232 (dk_at dksX3_areFlat_1 3 rfl rfl)
theorem dX3_areFlat_29 : decode cX3_areFlat 29 = .ok (.iconst 1, 1) := dk_4 (dk_at dksX3_areFlat_1 6 rfl rfl)
theorem dX3_areFlat_30 : decode cX3_areFlat 30 = .ok (.ireturn, 1) := dk_172 (dk_at dksX3_areFlat_1 7 rfl rfl)
abbrev cX3_jam : ByteArray := prog_20_method_45_code
def yX3_jam : MethodName := ⟨RX3, "jam", "()I"⟩
def dkwX3_jam_1 : List UInt8 := [163, 0, 19, 42, 27, 182, 0, 203, 154, 0, 5, 27, 172, 132, 1, 1, 167, 255, 236, 16, 251, 172]
abbrev dktX3_jam_1 : List UInt8 := dkwX3_jam_1 ++ []
def dkwX3_jam_0 : List UInt8 := [42, 180, 0, 13, 3, 46, 154, 0, 6, 16, 253, 172, 42, 182, 0, 200, 4, 60, 27, 17, 0, 200]
abbrev dktX3_jam_0 : List UInt8 := dkwX3_jam_0 ++ dktX3_jam_1
theorem dksX3_jam_0 : cX3_jam.data.toList.drop 0 = dktX3_jam_0 := by decide +kernel
theorem dksX3_jam_1 : cX3_jam.data.toList.drop 22 = dktX3_jam_1 := dk_seg dksX3_jam_0 22 rfl rfl
theorem dX3_jam_0 : decode cX3_jam 0 = .ok (.aload_n 0, 1) := dk_42 (dk_at dksX3_jam_0 0 rfl rfl)
theorem dX3_jam_1 : decode cX3_jam 1 = .ok (.getfield 13, 3) := dk_180 0 13 (dk_at dksX3_jam_0 1 rfl rfl)
theorem dX3_jam_4 : decode cX3_jam 4 = .ok (.iconst 0, 1) := dk_3 (dk_at dksX3_jam_0 4 rfl rfl)
theorem dX3_jam_5 : decode cX3_jam 5 = .ok (.iaload, 1) := dk_46 (dk_at dksX3_jam_0 5 rfl rfl)
theorem dX3_jam_6 : decode cX3_jam 6 = .ok (.ifCond .ne 6, 3) := dk_154 0 6 (dk_at dksX3_jam_0 6 rfl rfl)
theorem dX3_jam_9 : decode cX3_jam 9 = .ok (.bipush (-3), 2) := dk_16 253 (dk_at dksX3_jam_0 9 rfl rfl)
theorem dX3_jam_11 : decode cX3_jam 11 = .ok (.ireturn, 1) := dk_172 (dk_at dksX3_jam_0 11 rfl rfl)
theorem dX3_jam_12 : decode cX3_jam 12 = .ok (.aload_n 0, 1) := dk_42 (dk_at dksX3_jam_0 12 rfl rfl)
theorem dX3_jam_13 : decode cX3_jam 13 = .ok (.invokevirtual 200, 3) := dk_182 0 200 (dk_at dksX3_jam_0 13 rfl rfl)
theorem dX3_jam_16 : decode cX3_jam 16 = .ok (.iconst 1, 1) := dk_4 (dk_at dksX3_jam_0 16 rfl rfl)
theorem dX3_jam_17 : decode cX3_jam 17 = .ok (.istore_n 1, 1) := dk_60 (dk_at dksX3_jam_0 17 rfl rfl)
theorem dX3_jam_18 : decode cX3_jam 18 = .ok (.iload_n 1, 1) := dk_27 (dk_at dksX3_jam_0 18 rfl rfl)
theorem dX3_jam_19 : decode cX3_jam 19 = .ok (.sipush 200, 3) := dk_17 0 200 (dk_at dksX3_jam_0 19 rfl rfl)
theorem dX3_jam_22 : decode cX3_jam 22 = .ok (.if_icmp .gt 19, 3) := dk_163 0 19 (dk_at dksX3_jam_1 0 rfl rfl)
theorem dX3_jam_25 : decode cX3_jam 25 = .ok (.aload_n 0, 1) := dk_42 (dk_at dksX3_jam_1 3 rfl rfl)
theorem dX3_jam_26 : decode cX3_jam 26 = .ok (.iload_n 1, 1) := dk_27 (dk_at dksX3_jam_1 4 rfl rfl)
theorem dX3_jam_27 : decode cX3_jam 27 = .ok (.invokevirtual 203, 3) := dk_182 0 203 (dk_at dksX3_jam_1 5 rfl rfl)
theorem dX3_jam_30 : decode cX3_jam 30 = .ok (.ifCond .ne 5, 3) := dk_154 0 5 (dk_at dksX3_jam_1 8 rfl rfl)
theorem dX3_jam_33 : decode cX3_jam 33 = .ok (.iload_n 1, 1) := dk_27 (dk_at dksX3_jam_1 11 rfl rfl)
theorem dX3_jam_34 : decode cX3_jam 34 = .ok (.ireturn, 1) := dk_172 (dk_at dksX3_jam_1 12 rfl rfl)
theorem dX3_jam_35 : decode cX3_jam 35 = .ok (.iinc 1 1, 3) := dk_132 1 1 (dk_at dksX3_jam_1 13 rfl rfl)
theorem dX3_jam_38 : decode cX3_jam 38 = .ok (.goto (-20), 3) := dk_167 255 236 (dk_at dksX3_jam_1 16 rfl rfl)
theorem dX3_jam_41 : decode cX3_jam 41 = .ok (.bipush (-5), 2) := dk_16 251 (dk_at dksX3_jam_1 19 rfl rfl)
theorem dX3_jam_43 : decode cX3_jam 43 = .ok (.ireturn, 1) := dk_172 (dk_at dksX3_jam_1 21 rfl rfl)
abbrev cX3_undoing : ByteArray := prog_20_method_47_code
def yX3_undoing : MethodName := ⟨RX3, "undoing", "(II)I"⟩
def dkwX3_undoing_5 : List UInt8 := [21, 6, 120, 128, 54, 5, 132, 6, 1, 167, 255, 200, 21, 5, 172]
abbrev dktX3_undoing_5 : List UInt8 := dkwX3_undoing_5 ++ []
def dkwX3_undoing_4 : List UInt8 := [164, 0, 29, 167, 0, 17, 42, 180, 0, 29, 21, 6, 46, 116, 27, 29, 100, 164, 0, 12, 21, 5, 4]
abbrev dktX3_undoing_4 : List UInt8 := dkwX3_undoing_4 ++ dktX3_undoing_5
def dkwX3_undoing_3 : List UInt8 := [42, 180, 0, 13, 3, 46, 162, 0, 51, 27, 29, 162, 0, 17, 42, 180, 0, 29, 21, 6, 46, 27]
abbrev dktX3_undoing_3 : List UInt8 := dkwX3_undoing_3 ++ dktX3_undoing_4
def dkwX3_undoing_2 : List UInt8 := [28, 4, 160, 0, 14, 27, 29, 162, 0, 7, 5, 167, 0, 4, 4, 172, 3, 54, 5, 3, 54, 6, 21, 6]
abbrev dktX3_undoing_2 : List UInt8 := dkwX3_undoing_2 ++ dktX3_undoing_3
def dkwX3_undoing_1 : List UInt8 := [54, 4, 27, 2, 160, 0, 6, 21, 4, 172, 27, 3, 21, 4, 4, 100, 184, 0, 108, 154, 0, 5, 2, 172]
abbrev dktX3_undoing_1 : List UInt8 := dkwX3_undoing_1 ++ dktX3_undoing_2
def dkwX3_undoing_0 : List UInt8 := [28, 3, 4, 184, 0, 108, 154, 0, 5, 2, 172, 42, 4, 182, 0, 212, 62, 29, 42, 2, 182, 0, 212, 96]
abbrev dktX3_undoing_0 : List UInt8 := dkwX3_undoing_0 ++ dktX3_undoing_1
theorem dksX3_undoing_0 : cX3_undoing.data.toList.drop 0 = dktX3_undoing_0 := by decide +kernel
theorem dksX3_undoing_1 : cX3_undoing.data.toList.drop 24 = dktX3_undoing_1 := dk_seg dksX3_undoing_0 24 rfl rfl
theorem dksX3_undoing_2 : cX3_undoing.data.toList.drop 48 = dktX3_undoing_2 := dk_seg dksX3_undoing_1 24 rfl rfl
theorem dksX3_undoing_3 : cX3_undoing.data.toList.drop 72 = dktX3_undoing_3 := dk_seg dksX3_undoing_2 24 rfl rfl
theorem dksX3_undoing_4 : cX3_undoing.data.toList.drop 94 = dktX3_undoing_4 := dk_seg dksX3_undoing_3 22 rfl rfl
theorem dksX3_undoing_5 : cX3_undoing.data.toList.drop 117 = dktX3_undoing_5 := dk_seg dksX3_undoing_4 23 rfl rfl
theorem dX3_undoing_0 : decode cX3_undoing 0 = .ok (.iload_n 2, 1) := dk_28 (dk_at dksX3_undoing_0 0 rfl rfl)
theorem dX3_undoing_1 : decode cX3_undoing 1 = .ok (.iconst 0, 1) := dk_3 (dk_at dksX3_undoing_0 1 rfl rfl)
theorem dX3_undoing_2 : decode cX3_undoing 2 = .ok (.iconst 1, 1) := dk_4 (dk_at dksX3_undoing_0 2 rfl rfl)
theorem dX3_undoing_3 : decode cX3_undoing 3 = .ok (.invokestatic 108, 3) := dk_184 0 108 (dk_at dksX3_undoing_0 3 rfl rfl)
theorem dX3_undoing_6 : decode cX3_undoing 6 = .ok (.ifCond .ne 5, 3) := dk_154 0 5 (dk_at dksX3_undoing_0 6 rfl rfl)
theorem dX3_undoing_9 : decode cX3_undoing 9 = .ok (.iconst (-1), 1) := dk_2 (dk_at dksX3_undoing_0 9 rfl rfl)
theorem dX3_undoing_10 : decode cX3_undoing 10 = .ok (.ireturn, 1) := dk_172 (dk_at dksX3_undoing_0 10 rfl rfl)
theorem dX3_undoing_11 : decode cX3_undoing 11 = .ok (.aload_n 0, 1) := dk_42 (dk_at dksX3_undoing_0 11 rfl rfl)
theorem dX3_undoing_12 : decode cX3_undoing 12 = .ok (.iconst 1, 1) := dk_4 (dk_at dksX3_undoing_0 12 rfl rfl)
theorem dX3_undoing_13 : decode cX3_undoing 13 = .ok (.invokevirtual 212, 3) := dk_182 0 212 (dk_at dksX3_undoing_0 13 rfl rfl)
theorem dX3_undoing_16 : decode cX3_undoing 16 = .ok (.istore_n 3, 1) := dk_62 (dk_at dksX3_undoing_0 16 rfl rfl)
theorem dX3_undoing_17 : decode cX3_undoing 17 = .ok (.iload_n 3, 1) := dk_29 (dk_at dksX3_undoing_0 17 rfl rfl)
theorem dX3_undoing_18 : decode cX3_undoing 18 = .ok (.aload_n 0, 1) := dk_42 (dk_at dksX3_undoing_0 18 rfl rfl)
theorem dX3_undoing_19 : decode cX3_undoing 19 = .ok (.iconst (-1), 1) := dk_2 (dk_at dksX3_undoing_0 19 rfl rfl)
theorem dX3_undoing_20 : decode cX3_undoing 20 = .ok (.invokevirtual 212, 3) := dk_182 0 212 (dk_at dksX3_undoing_0 20 rfl rfl)
theorem dX3_undoing_23 : decode cX3_undoing 23 = .ok (.iadd, 1) := dk_96 (dk_at dksX3_undoing_0 23 rfl rfl)
theorem dX3_undoing_24 : decode cX3_undoing 24 = .ok (.istore 4, 2) := dk_54 4 (dk_at dksX3_undoing_1 0 rfl rfl)
theorem dX3_undoing_26 : decode cX3_undoing 26 = .ok (.iload_n 1, 1) := dk_27 (dk_at dksX3_undoing_1 2 rfl rfl)
theorem dX3_undoing_27 : decode cX3_undoing 27 = .ok (.iconst (-1), 1) := dk_2 (dk_at dksX3_undoing_1 3 rfl rfl)
theorem dX3_undoing_28 : decode cX3_undoing 28 = .ok (.if_icmp .ne 6, 3) := dk_160 0 6 (dk_at dksX3_undoing_1 4 rfl rfl)
theorem dX3_undoing_31 : decode cX3_undoing 31 = .ok (.iload 4, 2) := dk_21 4 (dk_at dksX3_undoing_1 7 rfl rfl)
theorem dX3_undoing_33 : decode cX3_undoing 33 = .ok (.ireturn, 1) := dk_172 (dk_at dksX3_undoing_1 9 rfl rfl)
theorem dX3_undoing_34 : decode cX3_undoing 34 = .ok (.iload_n 1, 1) := dk_27 (dk_at dksX3_undoing_1 10 rfl rfl)
theorem dX3_undoing_35 : decode cX3_undoing 35 = .ok (.iconst 0, 1) := dk_3 (dk_at dksX3_undoing_1 11 rfl rfl)
theorem dX3_undoing_36 : decode cX3_undoing 36 = .ok (.iload 4, 2) := dk_21 4 (dk_at dksX3_undoing_1 12 rfl rfl)
theorem dX3_undoing_38 : decode cX3_undoing 38 = .ok (.iconst 1, 1) := dk_4 (dk_at dksX3_undoing_1 14 rfl rfl)
theorem dX3_undoing_39 : decode cX3_undoing 39 = .ok (.isub, 1) := dk_100 (dk_at dksX3_undoing_1 15 rfl rfl)
theorem dX3_undoing_40 : decode cX3_undoing 40 = .ok (.invokestatic 108, 3) := dk_184 0 108 (dk_at dksX3_undoing_1 16 rfl rfl)
theorem dX3_undoing_43 : decode cX3_undoing 43 = .ok (.ifCond .ne 5, 3) := dk_154 0 5 (dk_at dksX3_undoing_1 19 rfl rfl)
theorem dX3_undoing_46 : decode cX3_undoing 46 = .ok (.iconst (-1), 1) := dk_2 (dk_at dksX3_undoing_1 22 rfl rfl)
theorem dX3_undoing_47 : decode cX3_undoing 47 = .ok (.ireturn, 1) := dk_172 (dk_at dksX3_undoing_1 23 rfl rfl)
theorem dX3_undoing_48 : decode cX3_undoing 48 = .ok (.iload_n 2, 1) := dk_28 (dk_at dksX3_undoing_2 0 rfl rfl)
theorem dX3_undoing_49 : decode cX3_undoing 49 = .ok (.iconst 1, 1) := dk_4 (dk_at dksX3_undoing_2 1 rfl rfl)
theorem dX3_undoing_50 : decode cX3_undoing 50 = .ok (.if_icmp .ne 14, 3) := dk_160 0 14 (dk_at dksX3_undoing_2 2 rfl rfl)
theorem dX3_undoing_53 : decode cX3_undoing 53 = .ok (.iload_n 1, 1) := dk_27 (dk_at dksX3_undoing_2 5 rfl rfl)
theorem dX3_undoing_54 : decode cX3_undoing 54 = .ok (.iload_n 3, 1) := dk_29 (dk_at dksX3_undoing_2 6 rfl rfl)
theorem dX3_undoing_55 : decode cX3_undoing 55 = .ok (.if_icmp .ge 7, 3) := dk_162 0 7 (dk_at dksX3_undoing_2 7 rfl rfl)
theorem dX3_undoing_58 : decode cX3_undoing 58 = .ok (.iconst 2, 1) := dk_5 (dk_at dksX3_undoing_2 10 rfl rfl)
theorem dX3_undoing_59 : decode cX3_undoing 59 = .ok (.goto 4, 3) := dk_167 0 4 (dk_at dksX3_undoing_2 11 rfl rfl)
theorem dX3_undoing_62 : decode cX3_undoing 62 = .ok (.iconst 1, 1) := dk_4 (dk_at dksX3_undoing_2 14 rfl rfl)
theorem dX3_undoing_63 : decode cX3_undoing 63 = .ok (.ireturn, 1) := dk_172 (dk_at dksX3_undoing_2 15 rfl rfl)
theorem dX3_undoing_64 : decode cX3_undoing 64 = .ok (.iconst 0, 1) := dk_3 (dk_at dksX3_undoing_2 16 rfl rfl)
theorem dX3_undoing_65 : decode cX3_undoing 65 = .ok (.istore 5, 2) := dk_54 5 (dk_at dksX3_undoing_2 17 rfl rfl)
theorem dX3_undoing_67 : decode cX3_undoing 67 = .ok (.iconst 0, 1) := dk_3 (dk_at dksX3_undoing_2 19 rfl rfl)
theorem dX3_undoing_68 : decode cX3_undoing 68 = .ok (.istore 6, 2) := dk_54 6 (dk_at dksX3_undoing_2 20 rfl rfl)
theorem dX3_undoing_70 : decode cX3_undoing 70 = .ok (.iload 6, 2) := dk_21 6 (dk_at dksX3_undoing_2 22 rfl rfl)
theorem dX3_undoing_72 : decode cX3_undoing 72 = .ok (.aload_n 0, 1) := dk_42 (dk_at dksX3_undoing_3 0 rfl rfl)
theorem dX3_undoing_73 : decode cX3_undoing 73 = .ok (.getfield 13, 3) := dk_180 0 13 (dk_at dksX3_undoing_3 1 rfl rfl)
theorem dX3_undoing_76 : decode cX3_undoing 76 = .ok (.iconst 0, 1) := dk_3 (dk_at dksX3_undoing_3 4 rfl rfl)
theorem dX3_undoing_77 : decode cX3_undoing 77 = .ok (.iaload, 1) := dk_46 (dk_at dksX3_undoing_3 5 rfl rfl)
theorem dX3_undoing_78 : decode cX3_undoing 78 = .ok (.if_icmp .ge 51, 3) := dk_162 0 51 (dk_at dksX3_undoing_3 6 rfl rfl)
theorem dX3_undoing_81 : decode cX3_undoing 81 = .ok (.iload_n 1, 1) := dk_27 (dk_at dksX3_undoing_3 9 rfl rfl)
theorem dX3_undoing_82 : decode cX3_undoing 82 = .ok (.iload_n 3, 1) := dk_29 (dk_at dksX3_undoing_3 10 rfl rfl)
theorem dX3_undoing_83 : decode cX3_undoing 83 = .ok (.if_icmp .ge 17, 3) := dk_162 0 17 (dk_at dksX3_undoing_3 11 rfl rfl)
theorem dX3_undoing_86 : decode cX3_undoing 86 = .ok (.aload_n 0, 1) := dk_42 (dk_at dksX3_undoing_3 14 rfl rfl)
theorem dX3_undoing_87 : decode cX3_undoing 87 = .ok (.getfield 29, 3) := dk_180 0 29 (dk_at dksX3_undoing_3 15 rfl rfl)
theorem dX3_undoing_90 : decode cX3_undoing 90 = .ok (.iload 6, 2) := dk_21 6 (dk_at dksX3_undoing_3 18 rfl rfl)
theorem dX3_undoing_92 : decode cX3_undoing 92 = .ok (.iaload, 1) := dk_46 (dk_at dksX3_undoing_3 20 rfl rfl)
theorem dX3_undoing_93 : decode cX3_undoing 93 = .ok (.iload_n 1, 1) := dk_27 (dk_at dksX3_undoing_3 21 rfl rfl)
theorem dX3_undoing_94 : decode cX3_undoing 94 = .ok (.if_icmp .le 29, 3) := dk_164 0 29 (dk_at dksX3_undoing_4 0 rfl rfl)
theorem dX3_undoing_97 : decode cX3_undoing 97 = .ok (.goto 17, 3) := dk_167 0 17 (dk_at dksX3_undoing_4 3 rfl rfl)
theorem dX3_undoing_100 : decode cX3_undoing 100 = .ok (.aload_n 0, 1) := dk_42 (dk_at dksX3_undoing_4 6 rfl rfl)
theorem dX3_undoing_101 : decode cX3_undoing 101 = .ok (.getfield 29, 3) := dk_180 0 29 (dk_at dksX3_undoing_4 7 rfl rfl)
theorem dX3_undoing_104 : decode cX3_undoing 104 = .ok (.iload 6, 2) := dk_21 6 (dk_at dksX3_undoing_4 10 rfl rfl)
theorem dX3_undoing_106 : decode cX3_undoing 106 = .ok (.iaload, 1) := dk_46 (dk_at dksX3_undoing_4 12 rfl rfl)
theorem dX3_undoing_107 : decode cX3_undoing 107 = .ok (.ineg, 1) := dk_116 (dk_at dksX3_undoing_4 13 rfl rfl)
theorem dX3_undoing_108 : decode cX3_undoing 108 = .ok (.iload_n 1, 1) := dk_27 (dk_at dksX3_undoing_4 14 rfl rfl)
theorem dX3_undoing_109 : decode cX3_undoing 109 = .ok (.iload_n 3, 1) := dk_29 (dk_at dksX3_undoing_4 15 rfl rfl)
theorem dX3_undoing_110 : decode cX3_undoing 110 = .ok (.isub, 1) := dk_100 (dk_at dksX3_undoing_4 16 rfl rfl)
theorem dX3_undoing_111 : decode cX3_undoing 111 = .ok (.if_icmp .le 12, 3) := dk_164 0 12 (dk_at dksX3_undoing_4 17 rfl rfl)
theorem dX3_undoing_114 : decode cX3_undoing 114 = .ok (.iload 5, 2) := dk_21 5 (dk_at dksX3_undoing_4 20 rfl rfl)
theorem dX3_undoing_116 : decode cX3_undoing 116 = .ok (.iconst 1, 1) := dk_4 (dk_at dksX3_undoing_4 22 rfl rfl)
theorem dX3_undoing_117 : decode cX3_undoing 117 = .ok (.iload 6, 2) := dk_21 6 (dk_at dksX3_undoing_5 0 rfl rfl)
theorem dX3_undoing_119 : decode cX3_undoing 119 = .ok (.ishl, 1) := dk_120 (dk_at dksX3_undoing_5 2 rfl rfl)
theorem dX3_undoing_120 : decode cX3_undoing 120 = .ok (.ior, 1) := dk_128 (dk_at dksX3_undoing_5 3 rfl rfl)
theorem dX3_undoing_121 : decode cX3_undoing 121 = .ok (.istore 5, 2) := dk_54 5 (dk_at dksX3_undoing_5 4 rfl rfl)
theorem dX3_undoing_123 : decode cX3_undoing 123 = .ok (.iinc 6 1, 3) := dk_132 6 1 (dk_at dksX3_undoing_5 6 rfl rfl)
theorem dX3_undoing_126 : decode cX3_undoing 126 = .ok (.goto (-56), 3) := dk_167 255 200 (dk_at dksX3_undoing_5 9 rfl rfl)
theorem dX3_undoing_129 : decode cX3_undoing 129 = .ok (.iload 5, 2) := dk_21 5 (dk_at dksX3_undoing_5 12 rfl rfl)
theorem dX3_undoing_131 : decode cX3_undoing 131 = .ok (.ireturn, 1) := dk_172 (dk_at dksX3_undoing_5 14 rfl rfl)
abbrev cX3_greatest : ByteArray := prog_20_method_46_code
def yX3_greatest : MethodName := ⟨RX3, "greatest", "(I)I"⟩
def dkwX3_greatest_1 : List UInt8 := [184, 0, 155, 61, 132, 3, 1, 167, 255, 230, 28, 172]
abbrev dktX3_greatest_1 : List UInt8 := dkwX3_greatest_1 ++ []
def dkwX3_greatest_0 : List UInt8 := [3, 61, 3, 62, 29, 42, 180, 0, 13, 3, 46, 162, 0, 22, 28, 27, 42, 180, 0, 29, 29, 46, 104]
abbrev dktX3_greatest_0 : List UInt8 := dkwX3_greatest_0 ++ dktX3_greatest_1
theorem dksX3_greatest_0 : cX3_greatest.data.toList.drop 0 = dktX3_greatest_0 := by decide +kernel
theorem dksX3_greatest_1 : cX3_greatest.data.toList.drop 23 = dktX3_greatest_1 := dk_seg dksX3_greatest_0 23 rfl rfl
theorem dX3_greatest_0 : decode cX3_greatest 0 = .ok (.iconst 0, 1) := dk_3 (dk_at dksX3_greatest_0 0 rfl rfl)
theorem dX3_greatest_1 : decode cX3_greatest 1 = .ok (.istore_n 2, 1) := dk_61 (dk_at dksX3_greatest_0 1 rfl rfl)
theorem dX3_greatest_2 : decode cX3_greatest 2 = .ok (.iconst 0, 1) := dk_3 (dk_at dksX3_greatest_0 2 rfl rfl)
theorem dX3_greatest_3 : decode cX3_greatest 3 = .ok (.istore_n 3, 1) := dk_62 (dk_at dksX3_greatest_0 3 rfl rfl)
theorem dX3_greatest_4 : decode cX3_greatest 4 = .ok (.iload_n 3, 1) := dk_29 (dk_at dksX3_greatest_0 4 rfl rfl)
theorem dX3_greatest_5 : decode cX3_greatest 5 = .ok (.aload_n 0, 1) := dk_42 (dk_at dksX3_greatest_0 5 rfl rfl)
theorem dX3_greatest_6 : decode cX3_greatest 6 = .ok (.getfield 13, 3) := dk_180 0 13 (dk_at dksX3_greatest_0 6 rfl rfl)
theorem dX3_greatest_9 : decode cX3_greatest 9 = .ok (.iconst 0, 1) := dk_3 (dk_at dksX3_greatest_0 9 rfl rfl)
theorem dX3_greatest_10 : decode cX3_greatest 10 = .ok (.iaload, 1) := dk_46 (dk_at dksX3_greatest_0 10 rfl rfl)
theorem dX3_greatest_11 : decode cX3_greatest 11 = .ok (.if_icmp .ge 22, 3) := dk_162 0 22 (dk_at dksX3_greatest_0 11 rfl rfl)
theorem dX3_greatest_14 : decode cX3_greatest 14 = .ok (.iload_n 2, 1) := dk_28 (dk_at dksX3_greatest_0 14 rfl rfl)
theorem dX3_greatest_15 : decode cX3_greatest 15 = .ok (.iload_n 1, 1) := dk_27 (dk_at dksX3_greatest_0 15 rfl rfl)
theorem dX3_greatest_16 : decode cX3_greatest 16 = .ok (.aload_n 0, 1) := dk_42 (dk_at dksX3_greatest_0 16 rfl rfl)
theorem dX3_greatest_17 : decode cX3_greatest 17 = .ok (.getfield 29, 3) := dk_180 0 29 (dk_at dksX3_greatest_0 17 rfl rfl)
theorem dX3_greatest_20 : decode cX3_greatest 20 = .ok (.iload_n 3, 1) := dk_29 (dk_at dksX3_greatest_0 20 rfl rfl)
theorem dX3_greatest_21 : decode cX3_greatest 21 = .ok (.iaload, 1) := dk_46 (dk_at dksX3_greatest_0 21 rfl rfl)
theorem dX3_greatest_22 : decode cX3_greatest 22 = .ok (.imul, 1) := dk_104 (dk_at dksX3_greatest_0 22 rfl rfl)
theorem dX3_greatest_23 : decode cX3_greatest 23 = .ok (.invokestatic 155, 3) := dk_184 0 155 (dk_at dksX3_greatest_1 0 rfl rfl)
theorem dX3_greatest_26 : decode cX3_greatest 26 = .ok (.istore_n 2, 1) := dk_61 (dk_at dksX3_greatest_1 3 rfl rfl)
theorem dX3_greatest_27 : decode cX3_greatest 27 = .ok (.iinc 3 1, 3) := dk_132 3 1 (dk_at dksX3_greatest_1 4 rfl rfl)
theorem dX3_greatest_30 : decode cX3_greatest 30 = .ok (.goto (-26), 3) := dk_167 255 230 (dk_at dksX3_greatest_1 7 rfl rfl)
theorem dX3_greatest_33 : decode cX3_greatest 33 = .ok (.iload_n 2, 1) := dk_28 (dk_at dksX3_greatest_1 10 rfl rfl)
theorem dX3_greatest_34 : decode cX3_greatest 34 = .ok (.ireturn, 1) := dk_172 (dk_at dksX3_greatest_1 11 rfl rfl)
abbrev cX3_paint : ByteArray := prog_20_method_48_code
def yX3_paint : MethodName := ⟨RX3, "paint", "(III)I"⟩
def dkwX3_paint_2 : List UInt8 := [54, 4, 42, 180, 0, 86, 16, 10, 27, 104, 28, 96, 29, 79, 21, 4, 172]
abbrev dktX3_paint_2 : List UInt8 := dkwX3_paint_2 ++ []
def dkwX3_paint_1 : List UInt8 := [2, 172, 29, 184, 0, 168, 154, 0, 6, 16, 254, 172, 42, 180, 0, 86, 16, 10, 27, 104, 28, 96, 46]
abbrev dktX3_paint_1 : List UInt8 := dkwX3_paint_1 ++ dktX3_paint_2
def dkwX3_paint_0 : List UInt8 := [27, 3, 42, 180, 0, 215, 4, 100, 184, 0, 108, 153, 0, 13, 28, 3, 16, 9, 184, 0, 108, 154, 0, 5]
abbrev dktX3_paint_0 : List UInt8 := dkwX3_paint_0 ++ dktX3_paint_1
theorem dksX3_paint_0 : cX3_paint.data.toList.drop 0 = dktX3_paint_0 := by decide +kernel
theorem dksX3_paint_1 : cX3_paint.data.toList.drop 24 = dktX3_paint_1 := dk_seg dksX3_paint_0 24 rfl rfl
theorem dksX3_paint_2 : cX3_paint.data.toList.drop 47 = dktX3_paint_2 := dk_seg dksX3_paint_1 23 rfl rfl
theorem dX3_paint_0 : decode cX3_paint 0 = .ok (.iload_n 1, 1) := dk_27 (dk_at dksX3_paint_0 0 rfl rfl)
theorem dX3_paint_1 : decode cX3_paint 1 = .ok (.iconst 0, 1) := dk_3 (dk_at dksX3_paint_0 1 rfl rfl)
theorem dX3_paint_2 : decode cX3_paint 2 = .ok (.aload_n 0, 1) := dk_42 (dk_at dksX3_paint_0 2 rfl rfl)
theorem dX3_paint_3 : decode cX3_paint 3 = .ok (.getfield 215, 3) := dk_180 0 215 (dk_at dksX3_paint_0 3 rfl rfl)
theorem dX3_paint_6 : decode cX3_paint 6 = .ok (.iconst 1, 1) := dk_4 (dk_at dksX3_paint_0 6 rfl rfl)
theorem dX3_paint_7 : decode cX3_paint 7 = .ok (.isub, 1) := dk_100 (dk_at dksX3_paint_0 7 rfl rfl)
theorem dX3_paint_8 : decode cX3_paint 8 = .ok (.invokestatic 108, 3) := dk_184 0 108 (dk_at dksX3_paint_0 8 rfl rfl)
theorem dX3_paint_11 : decode cX3_paint 11 = .ok (.ifCond .eq 13, 3) := dk_153 0 13 (dk_at dksX3_paint_0 11 rfl rfl)
theorem dX3_paint_14 : decode cX3_paint 14 = .ok (.iload_n 2, 1) := dk_28 (dk_at dksX3_paint_0 14 rfl rfl)
theorem dX3_paint_15 : decode cX3_paint 15 = .ok (.iconst 0, 1) := dk_3 (dk_at dksX3_paint_0 15 rfl rfl)
theorem dX3_paint_16 : decode cX3_paint 16 = .ok (.bipush 9, 2) := dk_16 9 (dk_at dksX3_paint_0 16 rfl rfl)
theorem dX3_paint_18 : decode cX3_paint 18 = .ok (.invokestatic 108, 3) := dk_184 0 108 (dk_at dksX3_paint_0 18 rfl rfl)
theorem dX3_paint_21 : decode cX3_paint 21 = .ok (.ifCond .ne 5, 3) := dk_154 0 5 (dk_at dksX3_paint_0 21 rfl rfl)
theorem dX3_paint_24 : decode cX3_paint 24 = .ok (.iconst (-1), 1) := dk_2 (dk_at dksX3_paint_1 0 rfl rfl)
theorem dX3_paint_25 : decode cX3_paint 25 = .ok (.ireturn, 1) := dk_172 (dk_at dksX3_paint_1 1 rfl rfl)
theorem dX3_paint_26 : decode cX3_paint 26 = .ok (.iload_n 3, 1) := dk_29 (dk_at dksX3_paint_1 2 rfl rfl)
theorem dX3_paint_27 : decode cX3_paint 27 = .ok (.invokestatic 168, 3) := dk_184 0 168 (dk_at dksX3_paint_1 3 rfl rfl)
theorem dX3_paint_30 : decode cX3_paint 30 = .ok (.ifCond .ne 6, 3) := dk_154 0 6 (dk_at dksX3_paint_1 6 rfl rfl)
theorem dX3_paint_33 : decode cX3_paint 33 = .ok (.bipush (-2), 2) := dk_16 254 (dk_at dksX3_paint_1 9 rfl rfl)
theorem dX3_paint_35 : decode cX3_paint 35 = .ok (.ireturn, 1) := dk_172 (dk_at dksX3_paint_1 11 rfl rfl)
theorem dX3_paint_36 : decode cX3_paint 36 = .ok (.aload_n 0, 1) := dk_42 (dk_at dksX3_paint_1 12 rfl rfl)
theorem dX3_paint_37 : decode cX3_paint 37 = .ok (.getfield 86, 3) := dk_180 0 86 (dk_at dksX3_paint_1 13 rfl rfl)
theorem dX3_paint_40 : decode cX3_paint 40 = .ok (.bipush 10, 2) := dk_16 10 (dk_at dksX3_paint_1 16 rfl rfl)
theorem dX3_paint_42 : decode cX3_paint 42 = .ok (.iload_n 1, 1) := dk_27 (dk_at dksX3_paint_1 18 rfl rfl)
theorem dX3_paint_43 : decode cX3_paint 43 = .ok (.imul, 1) := dk_104 (dk_at dksX3_paint_1 19 rfl rfl)
theorem dX3_paint_44 : decode cX3_paint 44 = .ok (.iload_n 2, 1) := dk_28 (dk_at dksX3_paint_1 20 rfl rfl)
theorem dX3_paint_45 : decode cX3_paint 45 = .ok (.iadd, 1) := dk_96 (dk_at dksX3_paint_1 21 rfl rfl)
theorem dX3_paint_46 : decode cX3_paint 46 = .ok (.iaload, 1) := dk_46 (dk_at dksX3_paint_1 22 rfl rfl)
theorem dX3_paint_47 : decode cX3_paint 47 = .ok (.istore 4, 2) := dk_54 4 (dk_at dksX3_paint_2 0 rfl rfl)
theorem dX3_paint_49 : decode cX3_paint 49 = .ok (.aload_n 0, 1) := dk_42 (dk_at dksX3_paint_2 2 rfl rfl)
theorem dX3_paint_50 : decode cX3_paint 50 = .ok (.getfield 86, 3) := dk_180 0 86 (dk_at dksX3_paint_2 3 rfl rfl)
theorem dX3_paint_53 : decode cX3_paint 53 = .ok (.bipush 10, 2) := dk_16 10 (dk_at dksX3_paint_2 6 rfl rfl)
theorem dX3_paint_55 : decode cX3_paint 55 = .ok (.iload_n 1, 1) := dk_27 (dk_at dksX3_paint_2 8 rfl rfl)
theorem dX3_paint_56 : decode cX3_paint 56 = .ok (.imul, 1) := dk_104 (dk_at dksX3_paint_2 9 rfl rfl)
theorem dX3_paint_57 : decode cX3_paint 57 = .ok (.iload_n 2, 1) := dk_28 (dk_at dksX3_paint_2 10 rfl rfl)
theorem dX3_paint_58 : decode cX3_paint 58 = .ok (.iadd, 1) := dk_96 (dk_at dksX3_paint_2 11 rfl rfl)
theorem dX3_paint_59 : decode cX3_paint 59 = .ok (.iload_n 3, 1) := dk_29 (dk_at dksX3_paint_2 12 rfl rfl)
theorem dX3_paint_60 : decode cX3_paint 60 = .ok (.iastore, 1) := dk_79 (dk_at dksX3_paint_2 13 rfl rfl)
theorem dX3_paint_61 : decode cX3_paint 61 = .ok (.iload 4, 2) := dk_21 4 (dk_at dksX3_paint_2 14 rfl rfl)
theorem dX3_paint_63 : decode cX3_paint 63 = .ok (.ireturn, 1) := dk_172 (dk_at dksX3_paint_2 16 rfl rfl)
abbrev cX3_lines : ByteArray := prog_20_method_49_code
def yX3_lines : MethodName := ⟨RX3, "lines", "(I)I"⟩
def dkwX3_lines_2 : List UInt8 := [28, 172]
abbrev dktX3_lines_2 : List UInt8 := dkwX3_lines_2 ++ []
def dkwX3_lines_1 : List UInt8 := [16, 10, 27, 104, 62, 29, 16, 80, 162, 0, 16, 42, 180, 0, 86, 29, 3, 79, 132, 3, 1, 167, 255, 240]
abbrev dktX3_lines_1 : List UInt8 := dkwX3_lines_1 ++ dktX3_lines_2
def dkwX3_lines_0 : List UInt8 := [27, 3, 16, 8, 184, 0, 108, 154, 0, 6, 16, 254, 172, 42, 180, 0, 215, 61, 42, 27, 181, 0, 215]
abbrev dktX3_lines_0 : List UInt8 := dkwX3_lines_0 ++ dktX3_lines_1
theorem dksX3_lines_0 : cX3_lines.data.toList.drop 0 = dktX3_lines_0 := by decide +kernel
theorem dksX3_lines_1 : cX3_lines.data.toList.drop 23 = dktX3_lines_1 := dk_seg dksX3_lines_0 23 rfl rfl
theorem dksX3_lines_2 : cX3_lines.data.toList.drop 47 = dktX3_lines_2 := dk_seg dksX3_lines_1 24 rfl rfl
theorem dX3_lines_0 : decode cX3_lines 0 = .ok (.iload_n 1, 1) := dk_27 (dk_at dksX3_lines_0 0 rfl rfl)
theorem dX3_lines_1 : decode cX3_lines 1 = .ok (.iconst 0, 1) := dk_3 (dk_at dksX3_lines_0 1 rfl rfl)
theorem dX3_lines_2 : decode cX3_lines 2 = .ok (.bipush 8, 2) := dk_16 8 (dk_at dksX3_lines_0 2 rfl rfl)
theorem dX3_lines_4 : decode cX3_lines 4 = .ok (.invokestatic 108, 3) := dk_184 0 108 (dk_at dksX3_lines_0 4 rfl rfl)
theorem dX3_lines_7 : decode cX3_lines 7 = .ok (.ifCond .ne 6, 3) := dk_154 0 6 (dk_at dksX3_lines_0 7 rfl rfl)
theorem dX3_lines_10 : decode cX3_lines 10 = .ok (.bipush (-2), 2) := dk_16 254 (dk_at dksX3_lines_0 10 rfl rfl)
theorem dX3_lines_12 : decode cX3_lines 12 = .ok (.ireturn, 1) := dk_172 (dk_at dksX3_lines_0 12 rfl rfl)
theorem dX3_lines_13 : decode cX3_lines 13 = .ok (.aload_n 0, 1) := dk_42 (dk_at dksX3_lines_0 13 rfl rfl)
theorem dX3_lines_14 : decode cX3_lines 14 = .ok (.getfield 215, 3) := dk_180 0 215 (dk_at dksX3_lines_0 14 rfl rfl)
theorem dX3_lines_17 : decode cX3_lines 17 = .ok (.istore_n 2, 1) := dk_61 (dk_at dksX3_lines_0 17 rfl rfl)
theorem dX3_lines_18 : decode cX3_lines 18 = .ok (.aload_n 0, 1) := dk_42 (dk_at dksX3_lines_0 18 rfl rfl)
theorem dX3_lines_19 : decode cX3_lines 19 = .ok (.iload_n 1, 1) := dk_27 (dk_at dksX3_lines_0 19 rfl rfl)
theorem dX3_lines_20 : decode cX3_lines 20 = .ok (.putfield 215, 3) := dk_181 0 215 (dk_at dksX3_lines_0 20 rfl rfl)
theorem dX3_lines_23 : decode cX3_lines 23 = .ok (.bipush 10, 2) := dk_16 10 (dk_at dksX3_lines_1 0 rfl rfl)
theorem dX3_lines_25 : decode cX3_lines 25 = .ok (.iload_n 1, 1) := dk_27 (dk_at dksX3_lines_1 2 rfl rfl)
theorem dX3_lines_26 : decode cX3_lines 26 = .ok (.imul, 1) := dk_104 (dk_at dksX3_lines_1 3 rfl rfl)
theorem dX3_lines_27 : decode cX3_lines 27 = .ok (.istore_n 3, 1) := dk_62 (dk_at dksX3_lines_1 4 rfl rfl)
theorem dX3_lines_28 : decode cX3_lines 28 = .ok (.iload_n 3, 1) := dk_29 (dk_at dksX3_lines_1 5 rfl rfl)
theorem dX3_lines_29 : decode cX3_lines 29 = .ok (.bipush 80, 2) := dk_16 80 (dk_at dksX3_lines_1 6 rfl rfl)
theorem dX3_lines_31 : decode cX3_lines 31 = .ok (.if_icmp .ge 16, 3) := dk_162 0 16 (dk_at dksX3_lines_1 8 rfl rfl)
theorem dX3_lines_34 : decode cX3_lines 34 = .ok (.aload_n 0, 1) := dk_42 (dk_at dksX3_lines_1 11 rfl rfl)
theorem dX3_lines_35 : decode cX3_lines 35 = .ok (.getfield 86, 3) := dk_180 0 86 (dk_at dksX3_lines_1 12 rfl rfl)
theorem dX3_lines_38 : decode cX3_lines 38 = .ok (.iload_n 3, 1) := dk_29 (dk_at dksX3_lines_1 15 rfl rfl)
theorem dX3_lines_39 : decode cX3_lines 39 = .ok (.iconst 0, 1) := dk_3 (dk_at dksX3_lines_1 16 rfl rfl)
theorem dX3_lines_40 : decode cX3_lines 40 = .ok (.iastore, 1) := dk_79 (dk_at dksX3_lines_1 17 rfl rfl)
theorem dX3_lines_41 : decode cX3_lines 41 = .ok (.iinc 3 1, 3) := dk_132 3 1 (dk_at dksX3_lines_1 18 rfl rfl)
theorem dX3_lines_44 : decode cX3_lines 44 = .ok (.goto (-16), 3) := dk_167 255 240 (dk_at dksX3_lines_1 21 rfl rfl)
theorem dX3_lines_47 : decode cX3_lines 47 = .ok (.iload_n 2, 1) := dk_28 (dk_at dksX3_lines_2 0 rfl rfl)
theorem dX3_lines_48 : decode cX3_lines 48 = .ok (.ireturn, 1) := dk_172 (dk_at dksX3_lines_2 1 rfl rfl)
abbrev cX3_draft : ByteArray := prog_20_method_53_code
def yX3_draft : MethodName := ⟨RX3, "draft", "(II)I"⟩
def dkwX3_draft_1 : List UInt8 := [42, 27, 28, 182, 0, 228, 172]
abbrev dktX3_draft_1 : List UInt8 := dkwX3_draft_1 ++ []
def dkwX3_draft_0 : List UInt8 := [27, 3, 42, 180, 0, 215, 4, 100, 184, 0, 108, 153, 0, 11, 42, 28, 182, 0, 161, 154, 0, 5, 2, 172]
abbrev dktX3_draft_0 : List UInt8 := dkwX3_draft_0 ++ dktX3_draft_1
theorem dksX3_draft_0 : cX3_draft.data.toList.drop 0 = dktX3_draft_0 := by decide +kernel
theorem dksX3_draft_1 : cX3_draft.data.toList.drop 24 = dktX3_draft_1 := dk_seg dksX3_draft_0 24 rfl rfl
theorem dX3_draft_0 : decode cX3_draft 0 = .ok (.iload_n 1, 1) := dk_27 (dk_at dksX3_draft_0 0 rfl rfl)
theorem dX3_draft_1 : decode cX3_draft 1 = .ok (.iconst 0, 1) := dk_3 (dk_at dksX3_draft_0 1 rfl rfl)
theorem dX3_draft_2 : decode cX3_draft 2 = .ok (.aload_n 0, 1) := dk_42 (dk_at dksX3_draft_0 2 rfl rfl)
theorem dX3_draft_3 : decode cX3_draft 3 = .ok (.getfield 215, 3) := dk_180 0 215 (dk_at dksX3_draft_0 3 rfl rfl)
theorem dX3_draft_6 : decode cX3_draft 6 = .ok (.iconst 1, 1) := dk_4 (dk_at dksX3_draft_0 6 rfl rfl)
theorem dX3_draft_7 : decode cX3_draft 7 = .ok (.isub, 1) := dk_100 (dk_at dksX3_draft_0 7 rfl rfl)
theorem dX3_draft_8 : decode cX3_draft 8 = .ok (.invokestatic 108, 3) := dk_184 0 108 (dk_at dksX3_draft_0 8 rfl rfl)
theorem dX3_draft_11 : decode cX3_draft 11 = .ok (.ifCond .eq 11, 3) := dk_153 0 11 (dk_at dksX3_draft_0 11 rfl rfl)
theorem dX3_draft_14 : decode cX3_draft 14 = .ok (.aload_n 0, 1) := dk_42 (dk_at dksX3_draft_0 14 rfl rfl)
theorem dX3_draft_15 : decode cX3_draft 15 = .ok (.iload_n 2, 1) := dk_28 (dk_at dksX3_draft_0 15 rfl rfl)
theorem dX3_draft_16 : decode cX3_draft 16 = .ok (.invokevirtual 161, 3) := dk_182 0 161 (dk_at dksX3_draft_0 16 rfl rfl)
theorem dX3_draft_19 : decode cX3_draft 19 = .ok (.ifCond .ne 5, 3) := dk_154 0 5 (dk_at dksX3_draft_0 19 rfl rfl)
theorem dX3_draft_22 : decode cX3_draft 22 = .ok (.iconst (-1), 1) := dk_2 (dk_at dksX3_draft_0 22 rfl rfl)
theorem dX3_draft_23 : decode cX3_draft 23 = .ok (.ireturn, 1) := dk_172 (dk_at dksX3_draft_0 23 rfl rfl)
theorem dX3_draft_24 : decode cX3_draft 24 = .ok (.aload_n 0, 1) := dk_42 (dk_at dksX3_draft_1 0 rfl rfl)
theorem dX3_draft_25 : decode cX3_draft 25 = .ok (.iload_n 1, 1) := dk_27 (dk_at dksX3_draft_1 1 rfl rfl)
theorem dX3_draft_26 : decode cX3_draft 26 = .ok (.iload_n 2, 1) := dk_28 (dk_at dksX3_draft_1 2 rfl rfl)
theorem dX3_draft_27 : decode cX3_draft 27 = .ok (.invokevirtual 228, 3) := dk_182 0 228 (dk_at dksX3_draft_1 3 rfl rfl)
theorem dX3_draft_30 : decode cX3_draft 30 = .ok (.ireturn, 1) := dk_172 (dk_at dksX3_draft_1 6 rfl rfl)
abbrev cX3_draftOf : ByteArray := prog_20_method_51_code
def yX3_draftOf : MethodName := ⟨RX3, "draftOf", "(II)I"⟩
def dkwX3_draftOf_4 : List UInt8 := [132, 5, 1, 167, 255, 190, 21, 4, 172]
abbrev dktX3_draftOf_4 : List UInt8 := dkwX3_draftOf_4 ++ []
def dkwX3_draftOf_3 : List UInt8 := [153, 0, 7, 21, 7, 54, 4, 132, 7, 255, 167, 255, 228, 29, 21, 4, 184, 0, 174, 96, 7, 112, 62]
abbrev dktX3_draftOf_3 : List UInt8 := dkwX3_draftOf_3 ++ dktX3_draftOf_4
def dkwX3_draftOf_2 : List UInt8 := [54, 4, 5, 54, 7, 21, 7, 4, 161, 0, 28, 42, 28, 21, 5, 29, 21, 7, 21, 6, 182, 0, 224]
abbrev dktX3_draftOf_2 : List UInt8 := dkwX3_draftOf_2 ++ dktX3_draftOf_3
def dkwX3_draftOf_1 : List UInt8 := [16, 251, 172, 3, 54, 5, 21, 5, 27, 163, 0, 66, 42, 28, 21, 5, 29, 182, 0, 221, 54, 6, 3]
abbrev dktX3_draftOf_1 : List UInt8 := dkwX3_draftOf_1 ++ dktX3_draftOf_2
def dkwX3_draftOf_0 : List UInt8 := [42, 180, 0, 26, 28, 46, 62, 3, 54, 4, 42, 28, 3, 29, 182, 0, 221, 17, 3, 232, 160, 0, 6]
abbrev dktX3_draftOf_0 : List UInt8 := dkwX3_draftOf_0 ++ dktX3_draftOf_1
theorem dksX3_draftOf_0 : cX3_draftOf.data.toList.drop 0 = dktX3_draftOf_0 := by decide +kernel
theorem dksX3_draftOf_1 : cX3_draftOf.data.toList.drop 23 = dktX3_draftOf_1 := dk_seg dksX3_draftOf_0 23 rfl rfl
theorem dksX3_draftOf_2 : cX3_draftOf.data.toList.drop 46 = dktX3_draftOf_2 := dk_seg dksX3_draftOf_1 23 rfl rfl
theorem dksX3_draftOf_3 : cX3_draftOf.data.toList.drop 69 = dktX3_draftOf_3 := dk_seg dksX3_draftOf_2 23 rfl rfl
theorem dksX3_draftOf_4 : cX3_draftOf.data.toList.drop 92 = dktX3_draftOf_4 := dk_seg dksX3_draftOf_3 23 rfl rfl
theorem dX3_draftOf_0 : decode cX3_draftOf 0 = .ok (.aload_n 0, 1) := dk_42 (dk_at dksX3_draftOf_0 0 rfl rfl)
theorem dX3_draftOf_1 : decode cX3_draftOf 1 = .ok (.getfield 26, 3) := dk_180 0 26 (dk_at dksX3_draftOf_0 1 rfl rfl)
theorem dX3_draftOf_4 : decode cX3_draftOf 4 = .ok (.iload_n 2, 1) := dk_28 (dk_at dksX3_draftOf_0 4 rfl rfl)
theorem dX3_draftOf_5 : decode cX3_draftOf 5 = .ok (.iaload, 1) := dk_46 (dk_at dksX3_draftOf_0 5 rfl rfl)
theorem dX3_draftOf_6 : decode cX3_draftOf 6 = .ok (.istore_n 3, 1) := dk_62 (dk_at dksX3_draftOf_0 6 rfl rfl)
theorem dX3_draftOf_7 : decode cX3_draftOf 7 = .ok (.iconst 0, 1) := dk_3 (dk_at dksX3_draftOf_0 7 rfl rfl)
theorem dX3_draftOf_8 : decode cX3_draftOf 8 = .ok (.istore 4, 2) := dk_54 4 (dk_at dksX3_draftOf_0 8 rfl rfl)
theorem dX3_draftOf_10 : decode cX3_draftOf 10 = .ok (.aload_n 0, 1) := dk_42 (dk_at dksX3_draftOf_0 10 rfl rfl)
theorem dX3_draftOf_11 : decode cX3_draftOf 11 = .ok (.iload_n 2, 1) := dk_28 (dk_at dksX3_draftOf_0 11 rfl rfl)
theorem dX3_draftOf_12 : decode cX3_draftOf 12 = .ok (.iconst 0, 1) := dk_3 (dk_at dksX3_draftOf_0 12 rfl rfl)
theorem dX3_draftOf_13 : decode cX3_draftOf 13 = .ok (.iload_n 3, 1) := dk_29 (dk_at dksX3_draftOf_0 13 rfl rfl)
theorem dX3_draftOf_14 : decode cX3_draftOf 14 = .ok (.invokevirtual 221, 3) := dk_182 0 221 (dk_at dksX3_draftOf_0 14 rfl rfl)
theorem dX3_draftOf_17 : decode cX3_draftOf 17 = .ok (.sipush 1000, 3) := dk_17 3 232 (dk_at dksX3_draftOf_0 17 rfl rfl)
theorem dX3_draftOf_20 : decode cX3_draftOf 20 = .ok (.if_icmp .ne 6, 3) := dk_160 0 6 (dk_at dksX3_draftOf_0 20 rfl rfl)
theorem dX3_draftOf_23 : decode cX3_draftOf 23 = .ok (.bipush (-5), 2) := dk_16 251 (dk_at dksX3_draftOf_1 0 rfl rfl)
theorem dX3_draftOf_25 : decode cX3_draftOf 25 = .ok (.ireturn, 1) := dk_172 (dk_at dksX3_draftOf_1 2 rfl rfl)
theorem dX3_draftOf_26 : decode cX3_draftOf 26 = .ok (.iconst 0, 1) := dk_3 (dk_at dksX3_draftOf_1 3 rfl rfl)
theorem dX3_draftOf_27 : decode cX3_draftOf 27 = .ok (.istore 5, 2) := dk_54 5 (dk_at dksX3_draftOf_1 4 rfl rfl)
theorem dX3_draftOf_29 : decode cX3_draftOf 29 = .ok (.iload 5, 2) := dk_21 5 (dk_at dksX3_draftOf_1 6 rfl rfl)
theorem dX3_draftOf_31 : decode cX3_draftOf 31 = .ok (.iload_n 1, 1) := dk_27 (dk_at dksX3_draftOf_1 8 rfl rfl)
theorem dX3_draftOf_32 : decode cX3_draftOf 32 = .ok (.if_icmp .gt 66, 3) := dk_163 0 66 (dk_at dksX3_draftOf_1 9 rfl rfl)
theorem dX3_draftOf_35 : decode cX3_draftOf 35 = .ok (.aload_n 0, 1) := dk_42 (dk_at dksX3_draftOf_1 12 rfl rfl)
theorem dX3_draftOf_36 : decode cX3_draftOf 36 = .ok (.iload_n 2, 1) := dk_28 (dk_at dksX3_draftOf_1 13 rfl rfl)
theorem dX3_draftOf_37 : decode cX3_draftOf 37 = .ok (.iload 5, 2) := dk_21 5 (dk_at dksX3_draftOf_1 14 rfl rfl)
theorem dX3_draftOf_39 : decode cX3_draftOf 39 = .ok (.iload_n 3, 1) := dk_29 (dk_at dksX3_draftOf_1 16 rfl rfl)
theorem dX3_draftOf_40 : decode cX3_draftOf 40 = .ok (.invokevirtual 221, 3) := dk_182 0 221 (dk_at dksX3_draftOf_1 17 rfl rfl)
theorem dX3_draftOf_43 : decode cX3_draftOf 43 = .ok (.istore 6, 2) := dk_54 6 (dk_at dksX3_draftOf_1 20 rfl rfl)
theorem dX3_draftOf_45 : decode cX3_draftOf 45 = .ok (.iconst 0, 1) := dk_3 (dk_at dksX3_draftOf_1 22 rfl rfl)
theorem dX3_draftOf_46 : decode cX3_draftOf 46 = .ok (.istore 4, 2) := dk_54 4 (dk_at dksX3_draftOf_2 0 rfl rfl)
theorem dX3_draftOf_48 : decode cX3_draftOf 48 = .ok (.iconst 2, 1) := dk_5 (dk_at dksX3_draftOf_2 2 rfl rfl)
theorem dX3_draftOf_49 : decode cX3_draftOf 49 = .ok (.istore 7, 2) := dk_54 7 (dk_at dksX3_draftOf_2 3 rfl rfl)
theorem dX3_draftOf_51 : decode cX3_draftOf 51 = .ok (.iload 7, 2) := dk_21 7 (dk_at dksX3_draftOf_2 5 rfl rfl)
theorem dX3_draftOf_53 : decode cX3_draftOf 53 = .ok (.iconst 1, 1) := dk_4 (dk_at dksX3_draftOf_2 7 rfl rfl)
theorem dX3_draftOf_54 : decode cX3_draftOf 54 = .ok (.if_icmp .lt 28, 3) := dk_161 0 28 (dk_at dksX3_draftOf_2 8 rfl rfl)
theorem dX3_draftOf_57 : decode cX3_draftOf 57 = .ok (.aload_n 0, 1) := dk_42 (dk_at dksX3_draftOf_2 11 rfl rfl)
theorem dX3_draftOf_58 : decode cX3_draftOf 58 = .ok (.iload_n 2, 1) := dk_28 (dk_at dksX3_draftOf_2 12 rfl rfl)
theorem dX3_draftOf_59 : decode cX3_draftOf 59 = .ok (.iload 5, 2) := dk_21 5 (dk_at dksX3_draftOf_2 13 rfl rfl)
theorem dX3_draftOf_61 : decode cX3_draftOf 61 = .ok (.iload_n 3, 1) := dk_29 (dk_at dksX3_draftOf_2 15 rfl rfl)
theorem dX3_draftOf_62 : decode cX3_draftOf 62 = .ok (.iload 7, 2) := dk_21 7 (dk_at dksX3_draftOf_2 16 rfl rfl)
theorem dX3_draftOf_64 : decode cX3_draftOf 64 = .ok (.iload 6, 2) := dk_21 6 (dk_at dksX3_draftOf_2 18 rfl rfl)
theorem dX3_draftOf_66 : decode cX3_draftOf 66 = .ok (.invokevirtual 224, 3) := dk_182 0 224 (dk_at dksX3_draftOf_2 20 rfl rfl)
theorem dX3_draftOf_69 : decode cX3_draftOf 69 = .ok (.ifCond .eq 7, 3) := dk_153 0 7 (dk_at dksX3_draftOf_3 0 rfl rfl)
theorem dX3_draftOf_72 : decode cX3_draftOf 72 = .ok (.iload 7, 2) := dk_21 7 (dk_at dksX3_draftOf_3 3 rfl rfl)
theorem dX3_draftOf_74 : decode cX3_draftOf 74 = .ok (.istore 4, 2) := dk_54 4 (dk_at dksX3_draftOf_3 5 rfl rfl)
theorem dX3_draftOf_76 : decode cX3_draftOf 76 = .ok (.iinc 7 (-1), 3) := dk_132 7 255 (dk_at dksX3_draftOf_3 7 rfl rfl)
theorem dX3_draftOf_79 : decode cX3_draftOf 79 = .ok (.goto (-28), 3) := dk_167 255 228 (dk_at dksX3_draftOf_3 10 rfl rfl)
theorem dX3_draftOf_82 : decode cX3_draftOf 82 = .ok (.iload_n 3, 1) := dk_29 (dk_at dksX3_draftOf_3 13 rfl rfl)
theorem dX3_draftOf_83 : decode cX3_draftOf 83 = .ok (.iload 4, 2) := dk_21 4 (dk_at dksX3_draftOf_3 14 rfl rfl)
theorem dX3_draftOf_85 : decode cX3_draftOf 85 = .ok (.invokestatic 174, 3) := dk_184 0 174 (dk_at dksX3_draftOf_3 16 rfl rfl)
theorem dX3_draftOf_88 : decode cX3_draftOf 88 = .ok (.iadd, 1) := dk_96 (dk_at dksX3_draftOf_3 19 rfl rfl)
theorem dX3_draftOf_89 : decode cX3_draftOf 89 = .ok (.iconst 4, 1) := dk_7 (dk_at dksX3_draftOf_3 20 rfl rfl)
theorem dX3_draftOf_90 : decode cX3_draftOf 90 = .ok (.irem, 1) := dk_112 (dk_at dksX3_draftOf_3 21 rfl rfl)
theorem dX3_draftOf_91 : decode cX3_draftOf 91 = .ok (.istore_n 3, 1) := dk_62 (dk_at dksX3_draftOf_3 22 rfl rfl)
theorem dX3_draftOf_92 : decode cX3_draftOf 92 = .ok (.iinc 5 1, 3) := dk_132 5 1 (dk_at dksX3_draftOf_4 0 rfl rfl)
theorem dX3_draftOf_95 : decode cX3_draftOf 95 = .ok (.goto (-66), 3) := dk_167 255 190 (dk_at dksX3_draftOf_4 3 rfl rfl)
theorem dX3_draftOf_98 : decode cX3_draftOf 98 = .ok (.iload 4, 2) := dk_21 4 (dk_at dksX3_draftOf_4 6 rfl rfl)
theorem dX3_draftOf_100 : decode cX3_draftOf 100 = .ok (.ireturn, 1) := dk_172 (dk_at dksX3_draftOf_4 8 rfl rfl)
abbrev cX3_fewestFrom : ByteArray := prog_20_method_50_code
def yX3_fewestFrom : MethodName := ⟨RX3, "fewestFrom", "(III)I"⟩
def dkwX3_fewestFrom_7 : List UInt8 := [132, 5, 1, 167, 255, 137, 132, 4, 255, 167, 255, 122, 42, 180, 0, 89, 7, 28, 104, 29, 96, 46, 172]
abbrev dktX3_fewestFrom_7 : List UInt8 := dkwX3_fewestFrom_7 ++ []
def dkwX3_fewestFrom_6 : List UInt8 := [167, 255, 177, 42, 180, 0, 89, 7, 21, 4, 104, 21, 5, 96, 17, 3, 232, 21, 6, 184, 0, 218, 79]
abbrev dktX3_fewestFrom_6 : List UInt8 := dkwX3_fewestFrom_6 ++ dktX3_fewestFrom_7
def dkwX3_fewestFrom_5 : List UInt8 := [180, 0, 89, 7, 21, 4, 4, 96, 104, 21, 8, 96, 46, 96, 184, 0, 218, 54, 6, 132, 7, 1]
abbrev dktX3_fewestFrom_5 : List UInt8 := dkwX3_fewestFrom_5 ++ dktX3_fewestFrom_6
def dkwX3_fewestFrom_4 : List UInt8 := [16, 10, 21, 4, 104, 27, 96, 46, 160, 0, 35, 21, 6, 21, 7, 154, 0, 7, 3, 167, 0, 4, 4, 42]
abbrev dktX3_fewestFrom_4 : List UInt8 := dkwX3_fewestFrom_4 ++ dktX3_fewestFrom_5
def dkwX3_fewestFrom_3 : List UInt8 := [184, 0, 174, 96, 7, 112, 54, 8, 42, 180, 0, 20, 7, 27, 104, 21, 8, 96, 46, 42, 180, 0, 86]
abbrev dktX3_fewestFrom_3 : List UInt8 := dkwX3_fewestFrom_3 ++ dktX3_fewestFrom_4
def dkwX3_fewestFrom_2 : List UInt8 := [21, 5, 7, 162, 0, 119, 17, 3, 232, 54, 6, 3, 54, 7, 21, 7, 6, 162, 0, 79, 21, 5, 21, 7]
abbrev dktX3_fewestFrom_2 : List UInt8 := dkwX3_fewestFrom_2 ++ dktX3_fewestFrom_3
def dkwX3_fewestFrom_1 : List UInt8 := [132, 4, 1, 167, 255, 232, 42, 180, 0, 215, 4, 100, 54, 4, 21, 4, 28, 161, 0, 134, 3, 54, 5]
abbrev dktX3_fewestFrom_1 : List UInt8 := dkwX3_fewestFrom_1 ++ dktX3_fewestFrom_2
def dkwX3_fewestFrom_0 : List UInt8 := [3, 54, 4, 21, 4, 7, 162, 0, 24, 42, 180, 0, 89, 7, 42, 180, 0, 215, 104, 21, 4, 96, 3, 79]
abbrev dktX3_fewestFrom_0 : List UInt8 := dkwX3_fewestFrom_0 ++ dktX3_fewestFrom_1
theorem dksX3_fewestFrom_0 : cX3_fewestFrom.data.toList.drop 0 = dktX3_fewestFrom_0 := by decide +kernel
theorem dksX3_fewestFrom_1 : cX3_fewestFrom.data.toList.drop 24 = dktX3_fewestFrom_1 := dk_seg dksX3_fewestFrom_0 24 rfl rfl
theorem dksX3_fewestFrom_2 : cX3_fewestFrom.data.toList.drop 47 = dktX3_fewestFrom_2 := dk_seg dksX3_fewestFrom_1 23 rfl rfl
theorem dksX3_fewestFrom_3 : cX3_fewestFrom.data.toList.drop 71 = dktX3_fewestFrom_3 := dk_seg dksX3_fewestFrom_2 24 rfl rfl
theorem dksX3_fewestFrom_4 : cX3_fewestFrom.data.toList.drop 94 = dktX3_fewestFrom_4 := dk_seg dksX3_fewestFrom_3 23 rfl rfl
theorem dksX3_fewestFrom_5 : cX3_fewestFrom.data.toList.drop 118 = dktX3_fewestFrom_5 := dk_seg dksX3_fewestFrom_4 24 rfl rfl
theorem dksX3_fewestFrom_6 : cX3_fewestFrom.data.toList.drop 140 = dktX3_fewestFrom_6 := dk_seg dksX3_fewestFrom_5 22 rfl rfl
theorem dksX3_fewestFrom_7 : cX3_fewestFrom.data.toList.drop 163 = dktX3_fewestFrom_7 := dk_seg dksX3_fewestFrom_6 23 rfl rfl
theorem dX3_fewestFrom_0 : decode cX3_fewestFrom 0 = .ok (.iconst 0, 1) := dk_3 (dk_at dksX3_fewestFrom_0 0 rfl rfl)
theorem dX3_fewestFrom_1 : decode cX3_fewestFrom 1 = .ok (.istore 4, 2) := dk_54 4 (dk_at dksX3_fewestFrom_0 1 rfl rfl)
theorem dX3_fewestFrom_3 : decode cX3_fewestFrom 3 = .ok (.iload 4, 2) := dk_21 4 (dk_at dksX3_fewestFrom_0 3 rfl rfl)
theorem dX3_fewestFrom_5 : decode cX3_fewestFrom 5 = .ok (.iconst 4, 1) := dk_7 (dk_at dksX3_fewestFrom_0 5 rfl rfl)
theorem dX3_fewestFrom_6 : decode cX3_fewestFrom 6 = .ok (.if_icmp .ge 24, 3) := dk_162 0 24 (dk_at dksX3_fewestFrom_0 6 rfl rfl)
theorem dX3_fewestFrom_9 : decode cX3_fewestFrom 9 = .ok (.aload_n 0, 1) := dk_42 (dk_at dksX3_fewestFrom_0 9 rfl rfl)
theorem dX3_fewestFrom_10 : decode cX3_fewestFrom 10 = .ok (.getfield 89, 3) := dk_180 0 89 (dk_at dksX3_fewestFrom_0 10 rfl rfl)
theorem dX3_fewestFrom_13 : decode cX3_fewestFrom 13 = .ok (.iconst 4, 1) := dk_7 (dk_at dksX3_fewestFrom_0 13 rfl rfl)
theorem dX3_fewestFrom_14 : decode cX3_fewestFrom 14 = .ok (.aload_n 0, 1) := dk_42 (dk_at dksX3_fewestFrom_0 14 rfl rfl)
theorem dX3_fewestFrom_15 : decode cX3_fewestFrom 15 = .ok (.getfield 215, 3) := dk_180 0 215 (dk_at dksX3_fewestFrom_0 15 rfl rfl)
theorem dX3_fewestFrom_18 : decode cX3_fewestFrom 18 = .ok (.imul, 1) := dk_104 (dk_at dksX3_fewestFrom_0 18 rfl rfl)
theorem dX3_fewestFrom_19 : decode cX3_fewestFrom 19 = .ok (.iload 4, 2) := dk_21 4 (dk_at dksX3_fewestFrom_0 19 rfl rfl)
theorem dX3_fewestFrom_21 : decode cX3_fewestFrom 21 = .ok (.iadd, 1) := dk_96 (dk_at dksX3_fewestFrom_0 21 rfl rfl)
theorem dX3_fewestFrom_22 : decode cX3_fewestFrom 22 = .ok (.iconst 0, 1) := dk_3 (dk_at dksX3_fewestFrom_0 22 rfl rfl)
theorem dX3_fewestFrom_23 : decode cX3_fewestFrom 23 = .ok (.iastore, 1) := dk_79 (dk_at dksX3_fewestFrom_0 23 rfl rfl)
theorem dX3_fewestFrom_24 : decode cX3_fewestFrom 24 = .ok (.iinc 4 1, 3) := dk_132 4 1 (dk_at dksX3_fewestFrom_1 0 rfl rfl)
theorem dX3_fewestFrom_27 : decode cX3_fewestFrom 27 = .ok (.goto (-24), 3) := dk_167 255 232 (dk_at dksX3_fewestFrom_1 3 rfl rfl)
theorem dX3_fewestFrom_30 : decode cX3_fewestFrom 30 = .ok (.aload_n 0, 1) := dk_42 (dk_at dksX3_fewestFrom_1 6 rfl rfl)
theorem dX3_fewestFrom_31 : decode cX3_fewestFrom 31 = .ok (.getfield 215, 3) := dk_180 0 215 (dk_at dksX3_fewestFrom_1 7 rfl rfl)
theorem dX3_fewestFrom_34 : decode cX3_fewestFrom 34 = .ok (.iconst 1, 1) := dk_4 (dk_at dksX3_fewestFrom_1 10 rfl rfl)
theorem dX3_fewestFrom_35 : decode cX3_fewestFrom 35 = .ok (.isub, 1) := dk_100 (dk_at dksX3_fewestFrom_1 11 rfl rfl)
theorem dX3_fewestFrom_36 : decode cX3_fewestFrom 36 = .ok (.istore 4, 2) := dk_54 4 (dk_at dksX3_fewestFrom_1 12 rfl rfl)
theorem dX3_fewestFrom_38 : decode cX3_fewestFrom 38 = .ok (.iload 4, 2) := dk_21 4 (dk_at dksX3_fewestFrom_1 14 rfl rfl)
theorem dX3_fewestFrom_40 : decode cX3_fewestFrom 40 = .ok (.iload_n 2, 1) := dk_28 (dk_at dksX3_fewestFrom_1 16 rfl rfl)
theorem dX3_fewestFrom_41 : decode cX3_fewestFrom 41 = .ok (.if_icmp .lt 134, 3) := dk_161 0 134 (dk_at dksX3_fewestFrom_1 17 rfl rfl)
theorem dX3_fewestFrom_44 : decode cX3_fewestFrom 44 = .ok (.iconst 0, 1) := dk_3 (dk_at dksX3_fewestFrom_1 20 rfl rfl)
theorem dX3_fewestFrom_45 : decode cX3_fewestFrom 45 = .ok (.istore 5, 2) := dk_54 5 (dk_at dksX3_fewestFrom_1 21 rfl rfl)
theorem dX3_fewestFrom_47 : decode cX3_fewestFrom 47 = .ok (.iload 5, 2) := dk_21 5 (dk_at dksX3_fewestFrom_2 0 rfl rfl)
theorem dX3_fewestFrom_49 : decode cX3_fewestFrom 49 = .ok (.iconst 4, 1) := dk_7 (dk_at dksX3_fewestFrom_2 2 rfl rfl)
theorem dX3_fewestFrom_50 : decode cX3_fewestFrom 50 = .ok (.if_icmp .ge 119, 3) := dk_162 0 119 (dk_at dksX3_fewestFrom_2 3 rfl rfl)
theorem dX3_fewestFrom_53 : decode cX3_fewestFrom 53 = .ok (.sipush 1000, 3) := dk_17 3 232 (dk_at dksX3_fewestFrom_2 6 rfl rfl)
theorem dX3_fewestFrom_56 : decode cX3_fewestFrom 56 = .ok (.istore 6, 2) := dk_54 6 (dk_at dksX3_fewestFrom_2 9 rfl rfl)
theorem dX3_fewestFrom_58 : decode cX3_fewestFrom 58 = .ok (.iconst 0, 1) := dk_3 (dk_at dksX3_fewestFrom_2 11 rfl rfl)
theorem dX3_fewestFrom_59 : decode cX3_fewestFrom 59 = .ok (.istore 7, 2) := dk_54 7 (dk_at dksX3_fewestFrom_2 12 rfl rfl)
theorem dX3_fewestFrom_61 : decode cX3_fewestFrom 61 = .ok (.iload 7, 2) := dk_21 7 (dk_at dksX3_fewestFrom_2 14 rfl rfl)
theorem dX3_fewestFrom_63 : decode cX3_fewestFrom 63 = .ok (.iconst 3, 1) := dk_6 (dk_at dksX3_fewestFrom_2 16 rfl rfl)
theorem dX3_fewestFrom_64 : decode cX3_fewestFrom 64 = .ok (.if_icmp .ge 79, 3) := dk_162 0 79 (dk_at dksX3_fewestFrom_2 17 rfl rfl)
theorem dX3_fewestFrom_67 : decode cX3_fewestFrom 67 = .ok (.iload 5, 2) := dk_21 5 (dk_at dksX3_fewestFrom_2 20 rfl rfl)
theorem dX3_fewestFrom_69 : decode cX3_fewestFrom 69 = .ok (.iload 7, 2) := dk_21 7 (dk_at dksX3_fewestFrom_2 22 rfl rfl)
theorem dX3_fewestFrom_71 : decode cX3_fewestFrom 71 = .ok (.invokestatic 174, 3) := dk_184 0 174 (dk_at dksX3_fewestFrom_3 0 rfl rfl)
theorem dX3_fewestFrom_74 : decode cX3_fewestFrom 74 = .ok (.iadd, 1) := dk_96 (dk_at dksX3_fewestFrom_3 3 rfl rfl)
theorem dX3_fewestFrom_75 : decode cX3_fewestFrom 75 = .ok (.iconst 4, 1) := dk_7 (dk_at dksX3_fewestFrom_3 4 rfl rfl)
theorem dX3_fewestFrom_76 : decode cX3_fewestFrom 76 = .ok (.irem, 1) := dk_112 (dk_at dksX3_fewestFrom_3 5 rfl rfl)
theorem dX3_fewestFrom_77 : decode cX3_fewestFrom 77 = .ok (.istore 8, 2) := dk_54 8 (dk_at dksX3_fewestFrom_3 6 rfl rfl)
theorem dX3_fewestFrom_79 : decode cX3_fewestFrom 79 = .ok (.aload_n 0, 1) := dk_42 (dk_at dksX3_fewestFrom_3 8 rfl rfl)
theorem dX3_fewestFrom_80 : decode cX3_fewestFrom 80 = .ok (.getfield 20, 3) := dk_180 0 20 (dk_at dksX3_fewestFrom_3 9 rfl rfl)
theorem dX3_fewestFrom_83 : decode cX3_fewestFrom 83 = .ok (.iconst 4, 1) := dk_7 (dk_at dksX3_fewestFrom_3 12 rfl rfl)
theorem dX3_fewestFrom_84 : decode cX3_fewestFrom 84 = .ok (.iload_n 1, 1) := dk_27 (dk_at dksX3_fewestFrom_3 13 rfl rfl)
theorem dX3_fewestFrom_85 : decode cX3_fewestFrom 85 = .ok (.imul, 1) := dk_104 (dk_at dksX3_fewestFrom_3 14 rfl rfl)
theorem dX3_fewestFrom_86 : decode cX3_fewestFrom 86 = .ok (.iload 8, 2) := dk_21 8 (dk_at dksX3_fewestFrom_3 15 rfl rfl)
theorem dX3_fewestFrom_88 : decode cX3_fewestFrom 88 = .ok (.iadd, 1) := dk_96 (dk_at dksX3_fewestFrom_3 17 rfl rfl)
theorem dX3_fewestFrom_89 : decode cX3_fewestFrom 89 = .ok (.iaload, 1) := dk_46 (dk_at dksX3_fewestFrom_3 18 rfl rfl)
theorem dX3_fewestFrom_90 : decode cX3_fewestFrom 90 = .ok (.aload_n 0, 1) := dk_42 (dk_at dksX3_fewestFrom_3 19 rfl rfl)
theorem dX3_fewestFrom_91 : decode cX3_fewestFrom 91 = .ok (.getfield 86, 3) := dk_180 0 86 (dk_at dksX3_fewestFrom_3 20 rfl rfl)
theorem dX3_fewestFrom_94 : decode cX3_fewestFrom 94 = .ok (.bipush 10, 2) := dk_16 10 (dk_at dksX3_fewestFrom_4 0 rfl rfl)
theorem dX3_fewestFrom_96 : decode cX3_fewestFrom 96 = .ok (.iload 4, 2) := dk_21 4 (dk_at dksX3_fewestFrom_4 2 rfl rfl)
theorem dX3_fewestFrom_98 : decode cX3_fewestFrom 98 = .ok (.imul, 1) := dk_104 (dk_at dksX3_fewestFrom_4 4 rfl rfl)
theorem dX3_fewestFrom_99 : decode cX3_fewestFrom 99 = .ok (.iload_n 1, 1) := dk_27 (dk_at dksX3_fewestFrom_4 5 rfl rfl)
theorem dX3_fewestFrom_100 : decode cX3_fewestFrom 100 = .ok (.iadd, 1) := dk_96 (dk_at dksX3_fewestFrom_4 6 rfl rfl)
theorem dX3_fewestFrom_101 : decode cX3_fewestFrom 101 = .ok (.iaload, 1) := dk_46 (dk_at dksX3_fewestFrom_4 7 rfl rfl)
theorem dX3_fewestFrom_102 : decode cX3_fewestFrom 102 = .ok (.if_icmp .ne 35, 3) := dk_160 0 35 (dk_at dksX3_fewestFrom_4 8 rfl rfl)
theorem dX3_fewestFrom_105 : decode cX3_fewestFrom 105 = .ok (.iload 6, 2) := dk_21 6 (dk_at dksX3_fewestFrom_4 11 rfl rfl)
theorem dX3_fewestFrom_107 : decode cX3_fewestFrom 107 = .ok (.iload 7, 2) := dk_21 7 (dk_at dksX3_fewestFrom_4 13 rfl rfl)
theorem dX3_fewestFrom_109 : decode cX3_fewestFrom 109 = .ok (.ifCond .ne 7, 3) := dk_154 0 7 (dk_at dksX3_fewestFrom_4 15 rfl rfl)
theorem dX3_fewestFrom_112 : decode cX3_fewestFrom 112 = .ok (.iconst 0, 1) := dk_3 (dk_at dksX3_fewestFrom_4 18 rfl rfl)
theorem dX3_fewestFrom_113 : decode cX3_fewestFrom 113 = .ok (.goto 4, 3) := dk_167 0 4 (dk_at dksX3_fewestFrom_4 19 rfl rfl)
theorem dX3_fewestFrom_116 : decode cX3_fewestFrom 116 = .ok (.iconst 1, 1) := dk_4 (dk_at dksX3_fewestFrom_4 22 rfl rfl)
theorem dX3_fewestFrom_117 : decode cX3_fewestFrom 117 = .ok (.aload_n 0, 1) := dk_42 (dk_at dksX3_fewestFrom_4 23 rfl rfl)
theorem dX3_fewestFrom_118 : decode cX3_fewestFrom 118 = .ok (.getfield 89, 3) := dk_180 0 89 (dk_at dksX3_fewestFrom_5 0 rfl rfl)
theorem dX3_fewestFrom_121 : decode cX3_fewestFrom 121 = .ok (.iconst 4, 1) := dk_7 (dk_at dksX3_fewestFrom_5 3 rfl rfl)
theorem dX3_fewestFrom_122 : decode cX3_fewestFrom 122 = .ok (.iload 4, 2) := dk_21 4 (dk_at dksX3_fewestFrom_5 4 rfl rfl)
theorem dX3_fewestFrom_124 : decode cX3_fewestFrom 124 = .ok (.iconst 1, 1) := dk_4 (dk_at dksX3_fewestFrom_5 6 rfl rfl)
theorem dX3_fewestFrom_125 : decode cX3_fewestFrom 125 = .ok (.iadd, 1) := dk_96 (dk_at dksX3_fewestFrom_5 7 rfl rfl)
theorem dX3_fewestFrom_126 : decode cX3_fewestFrom 126 = .ok (.imul, 1) := dk_104 (dk_at dksX3_fewestFrom_5 8 rfl rfl)
theorem dX3_fewestFrom_127 : decode cX3_fewestFrom 127 = .ok (.iload 8, 2) := dk_21 8 (dk_at dksX3_fewestFrom_5 9 rfl rfl)
theorem dX3_fewestFrom_129 : decode cX3_fewestFrom 129 = .ok (.iadd, 1) := dk_96 (dk_at dksX3_fewestFrom_5 11 rfl rfl)
theorem dX3_fewestFrom_130 : decode cX3_fewestFrom 130 = .ok (.iaload, 1) := dk_46 (dk_at dksX3_fewestFrom_5 12 rfl rfl)
theorem dX3_fewestFrom_131 : decode cX3_fewestFrom 131 = .ok (.iadd, 1) := dk_96 (dk_at dksX3_fewestFrom_5 13 rfl rfl)
theorem dX3_fewestFrom_132 : decode cX3_fewestFrom 132 = .ok (.invokestatic 218, 3) := dk_184 0 218 (dk_at dksX3_fewestFrom_5 14 rfl rfl)
theorem dX3_fewestFrom_135 : decode cX3_fewestFrom 135 = .ok (.istore 6, 2) := dk_54 6 (dk_at dksX3_fewestFrom_5 17 rfl rfl)
theorem dX3_fewestFrom_137 : decode cX3_fewestFrom 137 = .ok (.iinc 7 1, 3) := dk_132 7 1 (dk_at dksX3_fewestFrom_5 19 rfl rfl)
theorem dX3_fewestFrom_140 : decode cX3_fewestFrom 140 = .ok (.goto (-79), 3) := dk_167 255 177 (dk_at dksX3_fewestFrom_6 0 rfl rfl)
theorem dX3_fewestFrom_143 : decode cX3_fewestFrom 143 = .ok (.aload_n 0, 1) := dk_42 (dk_at dksX3_fewestFrom_6 3 rfl rfl)
theorem dX3_fewestFrom_144 : decode cX3_fewestFrom 144 = .ok (.getfield 89, 3) := dk_180 0 89 (dk_at dksX3_fewestFrom_6 4 rfl rfl)
theorem dX3_fewestFrom_147 : decode cX3_fewestFrom 147 = .ok (.iconst 4, 1) := dk_7 (dk_at dksX3_fewestFrom_6 7 rfl rfl)
theorem dX3_fewestFrom_148 : decode cX3_fewestFrom 148 = .ok (.iload 4, 2) := dk_21 4 (dk_at dksX3_fewestFrom_6 8 rfl rfl)
theorem dX3_fewestFrom_150 : decode cX3_fewestFrom 150 = .ok (.imul, 1) := dk_104 (dk_at dksX3_fewestFrom_6 10 rfl rfl)
theorem dX3_fewestFrom_151 : decode cX3_fewestFrom 151 = .ok (.iload 5, 2) := dk_21 5 (dk_at dksX3_fewestFrom_6 11 rfl rfl)
theorem dX3_fewestFrom_153 : decode cX3_fewestFrom 153 = .ok (.iadd, 1) := dk_96 (dk_at dksX3_fewestFrom_6 13 rfl rfl)
theorem dX3_fewestFrom_154 : decode cX3_fewestFrom 154 = .ok (.sipush 1000, 3) := dk_17 3 232 (dk_at dksX3_fewestFrom_6 14 rfl rfl)
theorem dX3_fewestFrom_157 : decode cX3_fewestFrom 157 = .ok (.iload 6, 2) := dk_21 6 (dk_at dksX3_fewestFrom_6 17 rfl rfl)
theorem dX3_fewestFrom_159 : decode cX3_fewestFrom 159 = .ok (.invokestatic 218, 3) := dk_184 0 218 (dk_at dksX3_fewestFrom_6 19 rfl rfl)
theorem dX3_fewestFrom_162 : decode cX3_fewestFrom 162 = .ok (.iastore, 1) := dk_79 (dk_at dksX3_fewestFrom_6 22 rfl rfl)
theorem dX3_fewestFrom_163 : decode cX3_fewestFrom 163 = .ok (.iinc 5 1, 3) := dk_132 5 1 (dk_at dksX3_fewestFrom_7 0 rfl rfl)
theorem dX3_fewestFrom_166 : decode cX3_fewestFrom 166 = .ok (.goto (-119), 3) := dk_167 255 137 (dk_at dksX3_fewestFrom_7 3 rfl rfl)
theorem dX3_fewestFrom_169 : decode cX3_fewestFrom 169 = .ok (.iinc 4 (-1), 3) := dk_132 4 255 (dk_at dksX3_fewestFrom_7 6 rfl rfl)
theorem dX3_fewestFrom_172 : decode cX3_fewestFrom 172 = .ok (.goto (-134), 3) := dk_167 255 122 (dk_at dksX3_fewestFrom_7 9 rfl rfl)
theorem dX3_fewestFrom_175 : decode cX3_fewestFrom 175 = .ok (.aload_n 0, 1) := dk_42 (dk_at dksX3_fewestFrom_7 12 rfl rfl)
theorem dX3_fewestFrom_176 : decode cX3_fewestFrom 176 = .ok (.getfield 89, 3) := dk_180 0 89 (dk_at dksX3_fewestFrom_7 13 rfl rfl)
theorem dX3_fewestFrom_179 : decode cX3_fewestFrom 179 = .ok (.iconst 4, 1) := dk_7 (dk_at dksX3_fewestFrom_7 16 rfl rfl)
theorem dX3_fewestFrom_180 : decode cX3_fewestFrom 180 = .ok (.iload_n 2, 1) := dk_28 (dk_at dksX3_fewestFrom_7 17 rfl rfl)
theorem dX3_fewestFrom_181 : decode cX3_fewestFrom 181 = .ok (.imul, 1) := dk_104 (dk_at dksX3_fewestFrom_7 18 rfl rfl)
theorem dX3_fewestFrom_182 : decode cX3_fewestFrom 182 = .ok (.iload_n 3, 1) := dk_29 (dk_at dksX3_fewestFrom_7 19 rfl rfl)
theorem dX3_fewestFrom_183 : decode cX3_fewestFrom 183 = .ok (.iadd, 1) := dk_96 (dk_at dksX3_fewestFrom_7 20 rfl rfl)
theorem dX3_fewestFrom_184 : decode cX3_fewestFrom 184 = .ok (.iaload, 1) := dk_46 (dk_at dksX3_fewestFrom_7 21 rfl rfl)
theorem dX3_fewestFrom_185 : decode cX3_fewestFrom 185 = .ok (.ireturn, 1) := dk_172 (dk_at dksX3_fewestFrom_7 22 rfl rfl)
abbrev cX3_mayBe : ByteArray := prog_20_method_52_code
def yX3_mayBe : MethodName := ⟨RX3, "mayBe", "(IIIII)Z"⟩
def dkwX3_mayBe_2 : List UInt8 := [96, 21, 5, 160, 0, 7, 4, 167, 0, 4, 3, 172]
abbrev dktX3_mayBe_2 : List UInt8 := dkwX3_mayBe_2 ++ []
def dkwX3_mayBe_1 : List UInt8 := [180, 0, 86, 16, 10, 28, 104, 27, 96, 46, 160, 0, 24, 4, 42, 27, 28, 4, 96, 21, 6, 182, 0, 221]
abbrev dktX3_mayBe_1 : List UInt8 := dkwX3_mayBe_1 ++ dktX3_mayBe_2
def dkwX3_mayBe_0 : List UInt8 := [29, 21, 4, 184, 0, 174, 96, 7, 112, 54, 6, 42, 180, 0, 20, 7, 27, 104, 21, 6, 96, 46, 42]
abbrev dktX3_mayBe_0 : List UInt8 := dkwX3_mayBe_0 ++ dktX3_mayBe_1
theorem dksX3_mayBe_0 : cX3_mayBe.data.toList.drop 0 = dktX3_mayBe_0 := by decide +kernel
theorem dksX3_mayBe_1 : cX3_mayBe.data.toList.drop 23 = dktX3_mayBe_1 := dk_seg dksX3_mayBe_0 23 rfl rfl
theorem dksX3_mayBe_2 : cX3_mayBe.data.toList.drop 47 = dktX3_mayBe_2 := dk_seg dksX3_mayBe_1 24 rfl rfl
theorem dX3_mayBe_0 : decode cX3_mayBe 0 = .ok (.iload_n 3, 1) := dk_29 (dk_at dksX3_mayBe_0 0 rfl rfl)
theorem dX3_mayBe_1 : decode cX3_mayBe 1 = .ok (.iload 4, 2) := dk_21 4 (dk_at dksX3_mayBe_0 1 rfl rfl)
theorem dX3_mayBe_3 : decode cX3_mayBe 3 = .ok (.invokestatic 174, 3) := dk_184 0 174 (dk_at dksX3_mayBe_0 3 rfl rfl)
theorem dX3_mayBe_6 : decode cX3_mayBe 6 = .ok (.iadd, 1) := dk_96 (dk_at dksX3_mayBe_0 6 rfl rfl)
theorem dX3_mayBe_7 : decode cX3_mayBe 7 = .ok (.iconst 4, 1) := dk_7 (dk_at dksX3_mayBe_0 7 rfl rfl)
theorem dX3_mayBe_8 : decode cX3_mayBe 8 = .ok (.irem, 1) := dk_112 (dk_at dksX3_mayBe_0 8 rfl rfl)
theorem dX3_mayBe_9 : decode cX3_mayBe 9 = .ok (.istore 6, 2) := dk_54 6 (dk_at dksX3_mayBe_0 9 rfl rfl)
theorem dX3_mayBe_11 : decode cX3_mayBe 11 = .ok (.aload_n 0, 1) := dk_42 (dk_at dksX3_mayBe_0 11 rfl rfl)
theorem dX3_mayBe_12 : decode cX3_mayBe 12 = .ok (.getfield 20, 3) := dk_180 0 20 (dk_at dksX3_mayBe_0 12 rfl rfl)
theorem dX3_mayBe_15 : decode cX3_mayBe 15 = .ok (.iconst 4, 1) := dk_7 (dk_at dksX3_mayBe_0 15 rfl rfl)
theorem dX3_mayBe_16 : decode cX3_mayBe 16 = .ok (.iload_n 1, 1) := dk_27 (dk_at dksX3_mayBe_0 16 rfl rfl)
theorem dX3_mayBe_17 : decode cX3_mayBe 17 = .ok (.imul, 1) := dk_104 (dk_at dksX3_mayBe_0 17 rfl rfl)
theorem dX3_mayBe_18 : decode cX3_mayBe 18 = .ok (.iload 6, 2) := dk_21 6 (dk_at dksX3_mayBe_0 18 rfl rfl)
theorem dX3_mayBe_20 : decode cX3_mayBe 20 = .ok (.iadd, 1) := dk_96 (dk_at dksX3_mayBe_0 20 rfl rfl)
theorem dX3_mayBe_21 : decode cX3_mayBe 21 = .ok (.iaload, 1) := dk_46 (dk_at dksX3_mayBe_0 21 rfl rfl)
theorem dX3_mayBe_22 : decode cX3_mayBe 22 = .ok (.aload_n 0, 1) := dk_42 (dk_at dksX3_mayBe_0 22 rfl rfl)
theorem dX3_mayBe_23 : decode cX3_mayBe 23 = .ok (.getfield 86, 3) := dk_180 0 86 (dk_at dksX3_mayBe_1 0 rfl rfl)
theorem dX3_mayBe_26 : decode cX3_mayBe 26 = .ok (.bipush 10, 2) := dk_16 10 (dk_at dksX3_mayBe_1 3 rfl rfl)
theorem dX3_mayBe_28 : decode cX3_mayBe 28 = .ok (.iload_n 2, 1) := dk_28 (dk_at dksX3_mayBe_1 5 rfl rfl)
theorem dX3_mayBe_29 : decode cX3_mayBe 29 = .ok (.imul, 1) := dk_104 (dk_at dksX3_mayBe_1 6 rfl rfl)
theorem dX3_mayBe_30 : decode cX3_mayBe 30 = .ok (.iload_n 1, 1) := dk_27 (dk_at dksX3_mayBe_1 7 rfl rfl)
theorem dX3_mayBe_31 : decode cX3_mayBe 31 = .ok (.iadd, 1) := dk_96 (dk_at dksX3_mayBe_1 8 rfl rfl)
theorem dX3_mayBe_32 : decode cX3_mayBe 32 = .ok (.iaload, 1) := dk_46 (dk_at dksX3_mayBe_1 9 rfl rfl)
theorem dX3_mayBe_33 : decode cX3_mayBe 33 = .ok (.if_icmp .ne 24, 3) := dk_160 0 24 (dk_at dksX3_mayBe_1 10 rfl rfl)
theorem dX3_mayBe_36 : decode cX3_mayBe 36 = .ok (.iconst 1, 1) := dk_4 (dk_at dksX3_mayBe_1 13 rfl rfl)
theorem dX3_mayBe_37 : decode cX3_mayBe 37 = .ok (.aload_n 0, 1) := dk_42 (dk_at dksX3_mayBe_1 14 rfl rfl)
theorem dX3_mayBe_38 : decode cX3_mayBe 38 = .ok (.iload_n 1, 1) := dk_27 (dk_at dksX3_mayBe_1 15 rfl rfl)
theorem dX3_mayBe_39 : decode cX3_mayBe 39 = .ok (.iload_n 2, 1) := dk_28 (dk_at dksX3_mayBe_1 16 rfl rfl)
theorem dX3_mayBe_40 : decode cX3_mayBe 40 = .ok (.iconst 1, 1) := dk_4 (dk_at dksX3_mayBe_1 17 rfl rfl)
theorem dX3_mayBe_41 : decode cX3_mayBe 41 = .ok (.iadd, 1) := dk_96 (dk_at dksX3_mayBe_1 18 rfl rfl)
theorem dX3_mayBe_42 : decode cX3_mayBe 42 = .ok (.iload 6, 2) := dk_21 6 (dk_at dksX3_mayBe_1 19 rfl rfl)
theorem dX3_mayBe_44 : decode cX3_mayBe 44 = .ok (.invokevirtual 221, 3) := dk_182 0 221 (dk_at dksX3_mayBe_1 21 rfl rfl)
theorem dX3_mayBe_47 : decode cX3_mayBe 47 = .ok (.iadd, 1) := dk_96 (dk_at dksX3_mayBe_2 0 rfl rfl)
theorem dX3_mayBe_48 : decode cX3_mayBe 48 = .ok (.iload 5, 2) := dk_21 5 (dk_at dksX3_mayBe_2 1 rfl rfl)
theorem dX3_mayBe_50 : decode cX3_mayBe 50 = .ok (.if_icmp .ne 7, 3) := dk_160 0 7 (dk_at dksX3_mayBe_2 3 rfl rfl)
theorem dX3_mayBe_53 : decode cX3_mayBe 53 = .ok (.iconst 1, 1) := dk_4 (dk_at dksX3_mayBe_2 6 rfl rfl)
theorem dX3_mayBe_54 : decode cX3_mayBe 54 = .ok (.goto 4, 3) := dk_167 0 4 (dk_at dksX3_mayBe_2 7 rfl rfl)
theorem dX3_mayBe_57 : decode cX3_mayBe 57 = .ok (.iconst 0, 1) := dk_3 (dk_at dksX3_mayBe_2 10 rfl rfl)
theorem dX3_mayBe_58 : decode cX3_mayBe 58 = .ok (.ireturn, 1) := dk_172 (dk_at dksX3_mayBe_2 11 rfl rfl)
abbrev cX3_fewest : ByteArray := prog_20_method_54_code
def yX3_fewest : MethodName := ⟨RX3, "fewest", "(I)I"⟩
def dkwX3_fewest_3 : List UInt8 := [132, 3, 1, 167, 255, 201, 28, 172]
abbrev dktX3_fewest_3 : List UInt8 := dkwX3_fewest_3 ++ []
def dkwX3_fewest_2 : List UInt8 := [29, 46, 182, 0, 221, 54, 4, 21, 4, 17, 3, 232, 160, 0, 6, 16, 251, 172, 28, 21, 4, 96, 61]
abbrev dktX3_fewest_2 : List UInt8 := dkwX3_fewest_2 ++ dktX3_fewest_3
def dkwX3_fewest_1 : List UInt8 := [3, 46, 162, 0, 51, 27, 155, 0, 11, 29, 27, 159, 0, 6, 167, 0, 33, 42, 29, 3, 42, 180, 0, 26]
abbrev dktX3_fewest_1 : List UInt8 := dkwX3_fewest_1 ++ dktX3_fewest_2
def dkwX3_fewest_0 : List UInt8 := [27, 2, 159, 0, 13, 42, 27, 182, 0, 161, 154, 0, 5, 2, 172, 3, 61, 3, 62, 29, 42, 180, 0, 13]
abbrev dktX3_fewest_0 : List UInt8 := dkwX3_fewest_0 ++ dktX3_fewest_1
theorem dksX3_fewest_0 : cX3_fewest.data.toList.drop 0 = dktX3_fewest_0 := by decide +kernel
theorem dksX3_fewest_1 : cX3_fewest.data.toList.drop 24 = dktX3_fewest_1 := dk_seg dksX3_fewest_0 24 rfl rfl
theorem dksX3_fewest_2 : cX3_fewest.data.toList.drop 48 = dktX3_fewest_2 := dk_seg dksX3_fewest_1 24 rfl rfl
theorem dksX3_fewest_3 : cX3_fewest.data.toList.drop 71 = dktX3_fewest_3 := dk_seg dksX3_fewest_2 23 rfl rfl
theorem dX3_fewest_0 : decode cX3_fewest 0 = .ok (.iload_n 1, 1) := dk_27 (dk_at dksX3_fewest_0 0 rfl rfl)
theorem dX3_fewest_1 : decode cX3_fewest 1 = .ok (.iconst (-1), 1) := dk_2 (dk_at dksX3_fewest_0 1 rfl rfl)
theorem dX3_fewest_2 : decode cX3_fewest 2 = .ok (.if_icmp .eq 13, 3) := dk_159 0 13 (dk_at dksX3_fewest_0 2 rfl rfl)
theorem dX3_fewest_5 : decode cX3_fewest 5 = .ok (.aload_n 0, 1) := dk_42 (dk_at dksX3_fewest_0 5 rfl rfl)
theorem dX3_fewest_6 : decode cX3_fewest 6 = .ok (.iload_n 1, 1) := dk_27 (dk_at dksX3_fewest_0 6 rfl rfl)
theorem dX3_fewest_7 : decode cX3_fewest 7 = .ok (.invokevirtual 161, 3) := dk_182 0 161 (dk_at dksX3_fewest_0 7 rfl rfl)
theorem dX3_fewest_10 : decode cX3_fewest 10 = .ok (.ifCond .ne 5, 3) := dk_154 0 5 (dk_at dksX3_fewest_0 10 rfl rfl)
theorem dX3_fewest_13 : decode cX3_fewest 13 = .ok (.iconst (-1), 1) := dk_2 (dk_at dksX3_fewest_0 13 rfl rfl)
theorem dX3_fewest_14 : decode cX3_fewest 14 = .ok (.ireturn, 1) := dk_172 (dk_at dksX3_fewest_0 14 rfl rfl)
theorem dX3_fewest_15 : decode cX3_fewest 15 = .ok (.iconst 0, 1) := dk_3 (dk_at dksX3_fewest_0 15 rfl rfl)
theorem dX3_fewest_16 : decode cX3_fewest 16 = .ok (.istore_n 2, 1) := dk_61 (dk_at dksX3_fewest_0 16 rfl rfl)
theorem dX3_fewest_17 : decode cX3_fewest 17 = .ok (.iconst 0, 1) := dk_3 (dk_at dksX3_fewest_0 17 rfl rfl)
theorem dX3_fewest_18 : decode cX3_fewest 18 = .ok (.istore_n 3, 1) := dk_62 (dk_at dksX3_fewest_0 18 rfl rfl)
theorem dX3_fewest_19 : decode cX3_fewest 19 = .ok (.iload_n 3, 1) := dk_29 (dk_at dksX3_fewest_0 19 rfl rfl)
theorem dX3_fewest_20 : decode cX3_fewest 20 = .ok (.aload_n 0, 1) := dk_42 (dk_at dksX3_fewest_0 20 rfl rfl)
theorem dX3_fewest_21 : decode cX3_fewest 21 = .ok (.getfield 13, 3) := dk_180 0 13 (dk_at dksX3_fewest_0 21 rfl rfl)
theorem dX3_fewest_24 : decode cX3_fewest 24 = .ok (.iconst 0, 1) := dk_3 (dk_at dksX3_fewest_1 0 rfl rfl)
theorem dX3_fewest_25 : decode cX3_fewest 25 = .ok (.iaload, 1) := dk_46 (dk_at dksX3_fewest_1 1 rfl rfl)
theorem dX3_fewest_26 : decode cX3_fewest 26 = .ok (.if_icmp .ge 51, 3) := dk_162 0 51 (dk_at dksX3_fewest_1 2 rfl rfl)
theorem dX3_fewest_29 : decode cX3_fewest 29 = .ok (.iload_n 1, 1) := dk_27 (dk_at dksX3_fewest_1 5 rfl rfl)
theorem dX3_fewest_30 : decode cX3_fewest 30 = .ok (.ifCond .lt 11, 3) := dk_155 0 11 (dk_at dksX3_fewest_1 6 rfl rfl)
theorem dX3_fewest_33 : decode cX3_fewest 33 = .ok (.iload_n 3, 1) := dk_29 (dk_at dksX3_fewest_1 9 rfl rfl)
theorem dX3_fewest_34 : decode cX3_fewest 34 = .ok (.iload_n 1, 1) := dk_27 (dk_at dksX3_fewest_1 10 rfl rfl)
theorem dX3_fewest_35 : decode cX3_fewest 35 = .ok (.if_icmp .eq 6, 3) := dk_159 0 6 (dk_at dksX3_fewest_1 11 rfl rfl)
theorem dX3_fewest_38 : decode cX3_fewest 38 = .ok (.goto 33, 3) := dk_167 0 33 (dk_at dksX3_fewest_1 14 rfl rfl)
theorem dX3_fewest_41 : decode cX3_fewest 41 = .ok (.aload_n 0, 1) := dk_42 (dk_at dksX3_fewest_1 17 rfl rfl)
theorem dX3_fewest_42 : decode cX3_fewest 42 = .ok (.iload_n 3, 1) := dk_29 (dk_at dksX3_fewest_1 18 rfl rfl)
theorem dX3_fewest_43 : decode cX3_fewest 43 = .ok (.iconst 0, 1) := dk_3 (dk_at dksX3_fewest_1 19 rfl rfl)
theorem dX3_fewest_44 : decode cX3_fewest 44 = .ok (.aload_n 0, 1) := dk_42 (dk_at dksX3_fewest_1 20 rfl rfl)
theorem dX3_fewest_45 : decode cX3_fewest 45 = .ok (.getfield 26, 3) := dk_180 0 26 (dk_at dksX3_fewest_1 21 rfl rfl)
theorem dX3_fewest_48 : decode cX3_fewest 48 = .ok (.iload_n 3, 1) := dk_29 (dk_at dksX3_fewest_2 0 rfl rfl)
theorem dX3_fewest_49 : decode cX3_fewest 49 = .ok (.iaload, 1) := dk_46 (dk_at dksX3_fewest_2 1 rfl rfl)
theorem dX3_fewest_50 : decode cX3_fewest 50 = .ok (.invokevirtual 221, 3) := dk_182 0 221 (dk_at dksX3_fewest_2 2 rfl rfl)
theorem dX3_fewest_53 : decode cX3_fewest 53 = .ok (.istore 4, 2) := dk_54 4 (dk_at dksX3_fewest_2 5 rfl rfl)
theorem dX3_fewest_55 : decode cX3_fewest 55 = .ok (.iload 4, 2) := dk_21 4 (dk_at dksX3_fewest_2 7 rfl rfl)
theorem dX3_fewest_57 : decode cX3_fewest 57 = .ok (.sipush 1000, 3) := dk_17 3 232 (dk_at dksX3_fewest_2 9 rfl rfl)
theorem dX3_fewest_60 : decode cX3_fewest 60 = .ok (.if_icmp .ne 6, 3) := dk_160 0 6 (dk_at dksX3_fewest_2 12 rfl rfl)
theorem dX3_fewest_63 : decode cX3_fewest 63 = .ok (.bipush (-5), 2) := dk_16 251 (dk_at dksX3_fewest_2 15 rfl rfl)
theorem dX3_fewest_65 : decode cX3_fewest 65 = .ok (.ireturn, 1) := dk_172 (dk_at dksX3_fewest_2 17 rfl rfl)
theorem dX3_fewest_66 : decode cX3_fewest 66 = .ok (.iload_n 2, 1) := dk_28 (dk_at dksX3_fewest_2 18 rfl rfl)
theorem dX3_fewest_67 : decode cX3_fewest 67 = .ok (.iload 4, 2) := dk_21 4 (dk_at dksX3_fewest_2 19 rfl rfl)
theorem dX3_fewest_69 : decode cX3_fewest 69 = .ok (.iadd, 1) := dk_96 (dk_at dksX3_fewest_2 21 rfl rfl)
theorem dX3_fewest_70 : decode cX3_fewest 70 = .ok (.istore_n 2, 1) := dk_61 (dk_at dksX3_fewest_2 22 rfl rfl)
theorem dX3_fewest_71 : decode cX3_fewest 71 = .ok (.iinc 3 1, 3) := dk_132 3 1 (dk_at dksX3_fewest_3 0 rfl rfl)
theorem dX3_fewest_74 : decode cX3_fewest 74 = .ok (.goto (-55), 3) := dk_167 255 201 (dk_at dksX3_fewest_3 3 rfl rfl)
theorem dX3_fewest_77 : decode cX3_fewest 77 = .ok (.iload_n 2, 1) := dk_28 (dk_at dksX3_fewest_3 6 rfl rfl)
theorem dX3_fewest_78 : decode cX3_fewest 78 = .ok (.ireturn, 1) := dk_172 (dk_at dksX3_fewest_3 7 rfl rfl)
abbrev cX3_weaveDraft : ByteArray := prog_20_method_55_code
def yX3_weaveDraft : MethodName := ⟨RX3, "weaveDraft", "()I"⟩
def dkwX3_weaveDraft_7 : List UInt8 := [16, 250, 172, 132, 1, 1, 167, 255, 187, 42, 180, 0, 17, 3, 46, 172]
abbrev dktX3_weaveDraft_7 : List UInt8 := dkwX3_weaveDraft_7 ++ []
def dkwX3_weaveDraft_6 : List UInt8 := [167, 255, 226, 42, 182, 0, 184, 155, 0, 6, 167, 0, 16, 27, 158, 0, 9, 42, 27, 182, 0, 234, 87]
abbrev dktX3_weaveDraft_6 : List UInt8 := dkwX3_weaveDraft_6 ++ dktX3_weaveDraft_7
def dkwX3_weaveDraft_5 : List UInt8 := [162, 0, 26, 42, 180, 0, 77, 28, 42, 180, 0, 92, 16, 10, 27, 104, 28, 96, 46, 79, 132, 2, 1]
abbrev dktX3_weaveDraft_5 : List UInt8 := dkwX3_weaveDraft_5 ++ dktX3_weaveDraft_6
def dkwX3_weaveDraft_4 : List UInt8 := [167, 255, 210, 3, 60, 27, 42, 180, 0, 215, 162, 0, 67, 3, 61, 28, 42, 180, 0, 13, 3, 46]
abbrev dktX3_weaveDraft_4 : List UInt8 := dkwX3_weaveDraft_4 ++ dktX3_weaveDraft_5
def dkwX3_weaveDraft_3 : List UInt8 := [16, 10, 27, 104, 28, 96, 42, 27, 28, 182, 0, 228, 79, 132, 2, 1, 167, 255, 226, 132, 1, 1]
abbrev dktX3_weaveDraft_3 : List UInt8 := dkwX3_weaveDraft_3 ++ dktX3_weaveDraft_4
def dkwX3_weaveDraft_2 : List UInt8 := [27, 42, 180, 0, 215, 162, 0, 44, 3, 61, 28, 42, 180, 0, 13, 3, 46, 162, 0, 26, 42, 180, 0, 92]
abbrev dktX3_weaveDraft_2 : List UInt8 := dkwX3_weaveDraft_2 ++ dktX3_weaveDraft_3
def dkwX3_weaveDraft_1 : List UInt8 := [16, 253, 172, 42, 180, 0, 17, 3, 46, 42, 180, 0, 215, 96, 16, 50, 164, 0, 6, 16, 252, 172, 3, 60]
abbrev dktX3_weaveDraft_1 : List UInt8 := dkwX3_weaveDraft_1 ++ dktX3_weaveDraft_2
def dkwX3_weaveDraft_0 : List UInt8 := [42, 180, 0, 13, 3, 46, 153, 0, 18, 42, 180, 0, 215, 153, 0, 11, 42, 2, 182, 0, 231, 156, 0, 6]
abbrev dktX3_weaveDraft_0 : List UInt8 := dkwX3_weaveDraft_0 ++ dktX3_weaveDraft_1
theorem dksX3_weaveDraft_0 : cX3_weaveDraft.data.toList.drop 0 = dktX3_weaveDraft_0 := by decide +kernel
theorem dksX3_weaveDraft_1 : cX3_weaveDraft.data.toList.drop 24 = dktX3_weaveDraft_1 := dk_seg dksX3_weaveDraft_0 24 rfl rfl
theorem dksX3_weaveDraft_2 : cX3_weaveDraft.data.toList.drop 48 = dktX3_weaveDraft_2 := dk_seg dksX3_weaveDraft_1 24 rfl rfl
theorem dksX3_weaveDraft_3 : cX3_weaveDraft.data.toList.drop 72 = dktX3_weaveDraft_3 := dk_seg dksX3_weaveDraft_2 24 rfl rfl
theorem dksX3_weaveDraft_4 : cX3_weaveDraft.data.toList.drop 94 = dktX3_weaveDraft_4 := dk_seg dksX3_weaveDraft_3 22 rfl rfl
theorem dksX3_weaveDraft_5 : cX3_weaveDraft.data.toList.drop 116 = dktX3_weaveDraft_5 := dk_seg dksX3_weaveDraft_4 22 rfl rfl
theorem dksX3_weaveDraft_6 : cX3_weaveDraft.data.toList.drop 139 = dktX3_weaveDraft_6 := dk_seg dksX3_weaveDraft_5 23 rfl rfl
theorem dksX3_weaveDraft_7 : cX3_weaveDraft.data.toList.drop 162 = dktX3_weaveDraft_7 := dk_seg dksX3_weaveDraft_6 23 rfl rfl
theorem dX3_weaveDraft_0 : decode cX3_weaveDraft 0 = .ok (.aload_n 0, 1) := dk_42 (dk_at dksX3_weaveDraft_0 0 rfl rfl)
theorem dX3_weaveDraft_1 : decode cX3_weaveDraft 1 = .ok (.getfield 13, 3) := dk_180 0 13 (dk_at dksX3_weaveDraft_0 1 rfl rfl)
theorem dX3_weaveDraft_4 : decode cX3_weaveDraft 4 = .ok (.iconst 0, 1) := dk_3 (dk_at dksX3_weaveDraft_0 4 rfl rfl)
theorem dX3_weaveDraft_5 : decode cX3_weaveDraft 5 = .ok (.iaload, 1) := dk_46 (dk_at dksX3_weaveDraft_0 5 rfl rfl)
theorem dX3_weaveDraft_6 : decode cX3_weaveDraft 6 = .ok (.ifCond .eq 18, 3) := dk_153 0 18 (dk_at dksX3_weaveDraft_0 6 rfl rfl)
theorem dX3_weaveDraft_9 : decode cX3_weaveDraft 9 = .ok (.aload_n 0, 1) := dk_42 (dk_at dksX3_weaveDraft_0 9 rfl rfl)
theorem dX3_weaveDraft_10 : decode cX3_weaveDraft 10 = .ok (.getfield 215, 3) := dk_180 0 215 (dk_at dksX3_weaveDraft_0 10 rfl rfl)
theorem dX3_weaveDraft_13 : decode cX3_weaveDraft 13 = .ok (.ifCond .eq 11, 3) := dk_153 0 11 (dk_at dksX3_weaveDraft_0 13 rfl rfl)
theorem dX3_weaveDraft_16 : decode cX3_weaveDraft 16 = .ok (.aload_n 0, 1) := dk_42 (dk_at dksX3_weaveDraft_0 16 rfl rfl)
theorem dX3_weaveDraft_17 : decode cX3_weaveDraft 17 = .ok (.iconst (-1), 1) := dk_2 (dk_at dksX3_weaveDraft_0 17 rfl rfl)
theorem dX3_weaveDraft_18 : decode cX3_weaveDraft 18 = .ok (.invokevirtual 231, 3) := dk_182 0 231 (dk_at dksX3_weaveDraft_0 18 rfl rfl)
theorem dX3_weaveDraft_21 : decode cX3_weaveDraft 21 = .ok (.ifCond .ge 6, 3) := dk_156 0 6 (dk_at dksX3_weaveDraft_0 21 rfl rfl)
theorem dX3_weaveDraft_24 : decode cX3_weaveDraft 24 = .ok (.bipush (-3), 2) := dk_16 253 (dk_at dksX3_weaveDraft_1 0 rfl rfl)
theorem dX3_weaveDraft_26 : decode cX3_weaveDraft 26 = .ok (.ireturn, 1) := dk_172 (dk_at dksX3_weaveDraft_1 2 rfl rfl)
theorem dX3_weaveDraft_27 : decode cX3_weaveDraft 27 = .ok (.aload_n 0, 1) := dk_42 (dk_at dksX3_weaveDraft_1 3 rfl rfl)
theorem dX3_weaveDraft_28 : decode cX3_weaveDraft 28 = .ok (.getfield 17, 3) := dk_180 0 17 (dk_at dksX3_weaveDraft_1 4 rfl rfl)
theorem dX3_weaveDraft_31 : decode cX3_weaveDraft 31 = .ok (.iconst 0, 1) := dk_3 (dk_at dksX3_weaveDraft_1 7 rfl rfl)
theorem dX3_weaveDraft_32 : decode cX3_weaveDraft 32 = .ok (.iaload, 1) := dk_46 (dk_at dksX3_weaveDraft_1 8 rfl rfl)
theorem dX3_weaveDraft_33 : decode cX3_weaveDraft 33 = .ok (.aload_n 0, 1) := dk_42 (dk_at dksX3_weaveDraft_1 9 rfl rfl)
theorem dX3_weaveDraft_34 : decode cX3_weaveDraft 34 = .ok (.getfield 215, 3) := dk_180 0 215 (dk_at dksX3_weaveDraft_1 10 rfl rfl)
theorem dX3_weaveDraft_37 : decode cX3_weaveDraft 37 = .ok (.iadd, 1) := dk_96 (dk_at dksX3_weaveDraft_1 13 rfl rfl)
theorem dX3_weaveDraft_38 : decode cX3_weaveDraft 38 = .ok (.bipush 50, 2) := dk_16 50 (dk_at dksX3_weaveDraft_1 14 rfl rfl)
theorem dX3_weaveDraft_40 : decode cX3_weaveDraft 40 = .ok (.if_icmp .le 6, 3) := dk_164 0 6 (dk_at dksX3_weaveDraft_1 16 rfl rfl)
theorem dX3_weaveDraft_43 : decode cX3_weaveDraft 43 = .ok (.bipush (-4), 2) := dk_16 252 (dk_at dksX3_weaveDraft_1 19 rfl rfl)
theorem dX3_weaveDraft_45 : decode cX3_weaveDraft 45 = .ok (.ireturn, 1) := dk_172 (dk_at dksX3_weaveDraft_1 21 rfl rfl)
theorem dX3_weaveDraft_46 : decode cX3_weaveDraft 46 = .ok (.iconst 0, 1) := dk_3 (dk_at dksX3_weaveDraft_1 22 rfl rfl)
theorem dX3_weaveDraft_47 : decode cX3_weaveDraft 47 = .ok (.istore_n 1, 1) := dk_60 (dk_at dksX3_weaveDraft_1 23 rfl rfl)
theorem dX3_weaveDraft_48 : decode cX3_weaveDraft 48 = .ok (.iload_n 1, 1) := dk_27 (dk_at dksX3_weaveDraft_2 0 rfl rfl)
theorem dX3_weaveDraft_49 : decode cX3_weaveDraft 49 = .ok (.aload_n 0, 1) := dk_42 (dk_at dksX3_weaveDraft_2 1 rfl rfl)
theorem dX3_weaveDraft_50 : decode cX3_weaveDraft 50 = .ok (.getfield 215, 3) := dk_180 0 215 (dk_at dksX3_weaveDraft_2 2 rfl rfl)
theorem dX3_weaveDraft_53 : decode cX3_weaveDraft 53 = .ok (.if_icmp .ge 44, 3) := dk_162 0 44 (dk_at dksX3_weaveDraft_2 5 rfl rfl)
theorem dX3_weaveDraft_56 : decode cX3_weaveDraft 56 = .ok (.iconst 0, 1) := dk_3 (dk_at dksX3_weaveDraft_2 8 rfl rfl)
theorem dX3_weaveDraft_57 : decode cX3_weaveDraft 57 = .ok (.istore_n 2, 1) := dk_61 (dk_at dksX3_weaveDraft_2 9 rfl rfl)
theorem dX3_weaveDraft_58 : decode cX3_weaveDraft 58 = .ok (.iload_n 2, 1) := dk_28 (dk_at dksX3_weaveDraft_2 10 rfl rfl)
theorem dX3_weaveDraft_59 : decode cX3_weaveDraft 59 = .ok (.aload_n 0, 1) := dk_42 (dk_at dksX3_weaveDraft_2 11 rfl rfl)
theorem dX3_weaveDraft_60 : decode cX3_weaveDraft 60 = .ok (.getfield 13, 3) := dk_180 0 13 (dk_at dksX3_weaveDraft_2 12 rfl rfl)
theorem dX3_weaveDraft_63 : decode cX3_weaveDraft 63 = .ok (.iconst 0, 1) := dk_3 (dk_at dksX3_weaveDraft_2 15 rfl rfl)
theorem dX3_weaveDraft_64 : decode cX3_weaveDraft 64 = .ok (.iaload, 1) := dk_46 (dk_at dksX3_weaveDraft_2 16 rfl rfl)
theorem dX3_weaveDraft_65 : decode cX3_weaveDraft 65 = .ok (.if_icmp .ge 26, 3) := dk_162 0 26 (dk_at dksX3_weaveDraft_2 17 rfl rfl)
theorem dX3_weaveDraft_68 : decode cX3_weaveDraft 68 = .ok (.aload_n 0, 1) := dk_42 (dk_at dksX3_weaveDraft_2 20 rfl rfl)
theorem dX3_weaveDraft_69 : decode cX3_weaveDraft 69 = .ok (.getfield 92, 3) := dk_180 0 92 (dk_at dksX3_weaveDraft_2 21 rfl rfl)
theorem dX3_weaveDraft_72 : decode cX3_weaveDraft 72 = .ok (.bipush 10, 2) := dk_16 10 (dk_at dksX3_weaveDraft_3 0 rfl rfl)
theorem dX3_weaveDraft_74 : decode cX3_weaveDraft 74 = .ok (.iload_n 1, 1) := dk_27 (dk_at dksX3_weaveDraft_3 2 rfl rfl)
theorem dX3_weaveDraft_75 : decode cX3_weaveDraft 75 = .ok (.imul, 1) := dk_104 (dk_at dksX3_weaveDraft_3 3 rfl rfl)
theorem dX3_weaveDraft_76 : decode cX3_weaveDraft 76 = .ok (.iload_n 2, 1) := dk_28 (dk_at dksX3_weaveDraft_3 4 rfl rfl)
theorem dX3_weaveDraft_77 : decode cX3_weaveDraft 77 = .ok (.iadd, 1) := dk_96 (dk_at dksX3_weaveDraft_3 5 rfl rfl)
theorem dX3_weaveDraft_78 : decode cX3_weaveDraft 78 = .ok (.aload_n 0, 1) := dk_42 (dk_at dksX3_weaveDraft_3 6 rfl rfl)
theorem dX3_weaveDraft_79 : decode cX3_weaveDraft 79 = .ok (.iload_n 1, 1) := dk_27 (dk_at dksX3_weaveDraft_3 7 rfl rfl)
theorem dX3_weaveDraft_80 : decode cX3_weaveDraft 80 = .ok (.iload_n 2, 1) := dk_28 (dk_at dksX3_weaveDraft_3 8 rfl rfl)
theorem dX3_weaveDraft_81 : decode cX3_weaveDraft 81 = .ok (.invokevirtual 228, 3) := dk_182 0 228 (dk_at dksX3_weaveDraft_3 9 rfl rfl)
theorem dX3_weaveDraft_84 : decode cX3_weaveDraft 84 = .ok (.iastore, 1) := dk_79 (dk_at dksX3_weaveDraft_3 12 rfl rfl)
theorem dX3_weaveDraft_85 : decode cX3_weaveDraft 85 = .ok (.iinc 2 1, 3) := dk_132 2 1 (dk_at dksX3_weaveDraft_3 13 rfl rfl)
theorem dX3_weaveDraft_88 : decode cX3_weaveDraft 88 = .ok (.goto (-30), 3) := dk_167 255 226 (dk_at dksX3_weaveDraft_3 16 rfl rfl)
theorem dX3_weaveDraft_91 : decode cX3_weaveDraft 91 = .ok (.iinc 1 1, 3) := dk_132 1 1 (dk_at dksX3_weaveDraft_3 19 rfl rfl)
theorem dX3_weaveDraft_94 : decode cX3_weaveDraft 94 = .ok (.goto (-46), 3) := dk_167 255 210 (dk_at dksX3_weaveDraft_4 0 rfl rfl)
theorem dX3_weaveDraft_97 : decode cX3_weaveDraft 97 = .ok (.iconst 0, 1) := dk_3 (dk_at dksX3_weaveDraft_4 3 rfl rfl)
theorem dX3_weaveDraft_98 : decode cX3_weaveDraft 98 = .ok (.istore_n 1, 1) := dk_60 (dk_at dksX3_weaveDraft_4 4 rfl rfl)
theorem dX3_weaveDraft_99 : decode cX3_weaveDraft 99 = .ok (.iload_n 1, 1) := dk_27 (dk_at dksX3_weaveDraft_4 5 rfl rfl)
theorem dX3_weaveDraft_100 : decode cX3_weaveDraft 100 = .ok (.aload_n 0, 1) := dk_42 (dk_at dksX3_weaveDraft_4 6 rfl rfl)
theorem dX3_weaveDraft_101 : decode cX3_weaveDraft 101 = .ok (.getfield 215, 3) := dk_180 0 215 (dk_at dksX3_weaveDraft_4 7 rfl rfl)
theorem dX3_weaveDraft_104 : decode cX3_weaveDraft 104 = .ok (.if_icmp .ge 67, 3) := dk_162 0 67 (dk_at dksX3_weaveDraft_4 10 rfl rfl)
theorem dX3_weaveDraft_107 : decode cX3_weaveDraft 107 = .ok (.iconst 0, 1) := dk_3 (dk_at dksX3_weaveDraft_4 13 rfl rfl)
theorem dX3_weaveDraft_108 : decode cX3_weaveDraft 108 = .ok (.istore_n 2, 1) := dk_61 (dk_at dksX3_weaveDraft_4 14 rfl rfl)
theorem dX3_weaveDraft_109 : decode cX3_weaveDraft 109 = .ok (.iload_n 2, 1) := dk_28 (dk_at dksX3_weaveDraft_4 15 rfl rfl)
theorem dX3_weaveDraft_110 : decode cX3_weaveDraft 110 = .ok (.aload_n 0, 1) := dk_42 (dk_at dksX3_weaveDraft_4 16 rfl rfl)
theorem dX3_weaveDraft_111 : decode cX3_weaveDraft 111 = .ok (.getfield 13, 3) := dk_180 0 13 (dk_at dksX3_weaveDraft_4 17 rfl rfl)
theorem dX3_weaveDraft_114 : decode cX3_weaveDraft 114 = .ok (.iconst 0, 1) := dk_3 (dk_at dksX3_weaveDraft_4 20 rfl rfl)
theorem dX3_weaveDraft_115 : decode cX3_weaveDraft 115 = .ok (.iaload, 1) := dk_46 (dk_at dksX3_weaveDraft_4 21 rfl rfl)
theorem dX3_weaveDraft_116 : decode cX3_weaveDraft 116 = .ok (.if_icmp .ge 26, 3) := dk_162 0 26 (dk_at dksX3_weaveDraft_5 0 rfl rfl)
theorem dX3_weaveDraft_119 : decode cX3_weaveDraft 119 = .ok (.aload_n 0, 1) := dk_42 (dk_at dksX3_weaveDraft_5 3 rfl rfl)
theorem dX3_weaveDraft_120 : decode cX3_weaveDraft 120 = .ok (.getfield 77, 3) := dk_180 0 77 (dk_at dksX3_weaveDraft_5 4 rfl rfl)
theorem dX3_weaveDraft_123 : decode cX3_weaveDraft 123 = .ok (.iload_n 2, 1) := dk_28 (dk_at dksX3_weaveDraft_5 7 rfl rfl)
theorem dX3_weaveDraft_124 : decode cX3_weaveDraft 124 = .ok (.aload_n 0, 1) := dk_42 (dk_at dksX3_weaveDraft_5 8 rfl rfl)
theorem dX3_weaveDraft_125 : decode cX3_weaveDraft 125 = .ok (.getfield 92, 3) := dk_180 0 92 (dk_at dksX3_weaveDraft_5 9 rfl rfl)
theorem dX3_weaveDraft_128 : decode cX3_weaveDraft 128 = .ok (.bipush 10, 2) := dk_16 10 (dk_at dksX3_weaveDraft_5 12 rfl rfl)
theorem dX3_weaveDraft_130 : decode cX3_weaveDraft 130 = .ok (.iload_n 1, 1) := dk_27 (dk_at dksX3_weaveDraft_5 14 rfl rfl)
theorem dX3_weaveDraft_131 : decode cX3_weaveDraft 131 = .ok (.imul, 1) := dk_104 (dk_at dksX3_weaveDraft_5 15 rfl rfl)
theorem dX3_weaveDraft_132 : decode cX3_weaveDraft 132 = .ok (.iload_n 2, 1) := dk_28 (dk_at dksX3_weaveDraft_5 16 rfl rfl)
theorem dX3_weaveDraft_133 : decode cX3_weaveDraft 133 = .ok (.iadd, 1) := dk_96 (dk_at dksX3_weaveDraft_5 17 rfl rfl)
theorem dX3_weaveDraft_134 : decode cX3_weaveDraft 134 = .ok (.iaload, 1) := dk_46 (dk_at dksX3_weaveDraft_5 18 rfl rfl)
theorem dX3_weaveDraft_135 : decode cX3_weaveDraft 135 = .ok (.iastore, 1) := dk_79 (dk_at dksX3_weaveDraft_5 19 rfl rfl)
theorem dX3_weaveDraft_136 : decode cX3_weaveDraft 136 = .ok (.iinc 2 1, 3) := dk_132 2 1 (dk_at dksX3_weaveDraft_5 20 rfl rfl)
theorem dX3_weaveDraft_139 : decode cX3_weaveDraft 139 = .ok (.goto (-30), 3) := dk_167 255 226 (dk_at dksX3_weaveDraft_6 0 rfl rfl)
theorem dX3_weaveDraft_142 : decode cX3_weaveDraft 142 = .ok (.aload_n 0, 1) := dk_42 (dk_at dksX3_weaveDraft_6 3 rfl rfl)
theorem dX3_weaveDraft_143 : decode cX3_weaveDraft 143 = .ok (.invokevirtual 184, 3) := dk_182 0 184 (dk_at dksX3_weaveDraft_6 4 rfl rfl)
theorem dX3_weaveDraft_146 : decode cX3_weaveDraft 146 = .ok (.ifCond .lt 6, 3) := dk_155 0 6 (dk_at dksX3_weaveDraft_6 7 rfl rfl)
theorem dX3_weaveDraft_149 : decode cX3_weaveDraft 149 = .ok (.goto 16, 3) := dk_167 0 16 (dk_at dksX3_weaveDraft_6 10 rfl rfl)
theorem dX3_weaveDraft_152 : decode cX3_weaveDraft 152 = .ok (.iload_n 1, 1) := dk_27 (dk_at dksX3_weaveDraft_6 13 rfl rfl)
theorem dX3_weaveDraft_153 : decode cX3_weaveDraft 153 = .ok (.ifCond .le 9, 3) := dk_158 0 9 (dk_at dksX3_weaveDraft_6 14 rfl rfl)
theorem dX3_weaveDraft_156 : decode cX3_weaveDraft 156 = .ok (.aload_n 0, 1) := dk_42 (dk_at dksX3_weaveDraft_6 17 rfl rfl)
theorem dX3_weaveDraft_157 : decode cX3_weaveDraft 157 = .ok (.iload_n 1, 1) := dk_27 (dk_at dksX3_weaveDraft_6 18 rfl rfl)
theorem dX3_weaveDraft_158 : decode cX3_weaveDraft 158 = .ok (.invokevirtual 234, 3) := dk_182 0 234 (dk_at dksX3_weaveDraft_6 19 rfl rfl)
theorem dX3_weaveDraft_161 : decode cX3_weaveDraft 161 = .ok (.pop, 1) := dk_87 (dk_at dksX3_weaveDraft_6 22 rfl rfl)
theorem dX3_weaveDraft_162 : decode cX3_weaveDraft 162 = .ok (.bipush (-6), 2) := dk_16 250 (dk_at dksX3_weaveDraft_7 0 rfl rfl)
theorem dX3_weaveDraft_164 : decode cX3_weaveDraft 164 = .ok (.ireturn, 1) := dk_172 (dk_at dksX3_weaveDraft_7 2 rfl rfl)
theorem dX3_weaveDraft_165 : decode cX3_weaveDraft 165 = .ok (.iinc 1 1, 3) := dk_132 1 1 (dk_at dksX3_weaveDraft_7 3 rfl rfl)
theorem dX3_weaveDraft_168 : decode cX3_weaveDraft 168 = .ok (.goto (-69), 3) := dk_167 255 187 (dk_at dksX3_weaveDraft_7 6 rfl rfl)
theorem dX3_weaveDraft_171 : decode cX3_weaveDraft 171 = .ok (.aload_n 0, 1) := dk_42 (dk_at dksX3_weaveDraft_7 9 rfl rfl)
theorem dX3_weaveDraft_172 : decode cX3_weaveDraft 172 = .ok (.getfield 17, 3) := dk_180 0 17 (dk_at dksX3_weaveDraft_7 10 rfl rfl)
theorem dX3_weaveDraft_175 : decode cX3_weaveDraft 175 = .ok (.iconst 0, 1) := dk_3 (dk_at dksX3_weaveDraft_7 13 rfl rfl)
theorem dX3_weaveDraft_176 : decode cX3_weaveDraft 176 = .ok (.iaload, 1) := dk_46 (dk_at dksX3_weaveDraft_7 14 rfl rfl)
theorem dX3_weaveDraft_177 : decode cX3_weaveDraft 177 = .ok (.ireturn, 1) := dk_172 (dk_at dksX3_weaveDraft_7 15 rfl rfl)
abbrev cX3_matches : ByteArray := prog_20_method_56_code
def yX3_matches : MethodName := ⟨RX3, "matches", "(I)I"⟩
def dkwX3_matches_3 : List UInt8 := [96, 46, 160, 0, 6, 132, 2, 1, 132, 4, 1, 167, 255, 210, 132, 3, 1, 167, 255, 181, 28, 172]
abbrev dktX3_matches_3 : List UInt8 := dkwX3_matches_3 ++ []
def dkwX3_matches_2 : List UInt8 := [42, 180, 0, 32, 16, 10, 27, 29, 96, 104, 21, 4, 96, 46, 42, 180, 0, 86, 16, 10, 29, 104, 21, 4]
abbrev dktX3_matches_2 : List UInt8 := dkwX3_matches_2 ++ dktX3_matches_3
def dkwX3_matches_1 : List UInt8 := [96, 42, 180, 0, 17, 3, 46, 162, 0, 61, 3, 54, 4, 21, 4, 42, 180, 0, 13, 3, 46, 162, 0, 41]
abbrev dktX3_matches_1 : List UInt8 := dkwX3_matches_1 ++ dktX3_matches_2
def dkwX3_matches_0 : List UInt8 := [42, 27, 182, 0, 193, 154, 0, 5, 2, 172, 3, 61, 3, 62, 29, 42, 180, 0, 215, 162, 0, 73, 27, 29]
abbrev dktX3_matches_0 : List UInt8 := dkwX3_matches_0 ++ dktX3_matches_1
theorem dksX3_matches_0 : cX3_matches.data.toList.drop 0 = dktX3_matches_0 := by decide +kernel
theorem dksX3_matches_1 : cX3_matches.data.toList.drop 24 = dktX3_matches_1 := dk_seg dksX3_matches_0 24 rfl rfl
theorem dksX3_matches_2 : cX3_matches.data.toList.drop 48 = dktX3_matches_2 := dk_seg dksX3_matches_1 24 rfl rfl
theorem dksX3_matches_3 : cX3_matches.data.toList.drop 72 = dktX3_matches_3 := dk_seg dksX3_matches_2 24 rfl rfl
theorem dX3_matches_0 : decode cX3_matches 0 = .ok (.aload_n 0, 1) := dk_42 (dk_at dksX3_matches_0 0 rfl rfl)
theorem dX3_matches_1 : decode cX3_matches 1 = .ok (.iload_n 1, 1) := dk_27 (dk_at dksX3_matches_0 1 rfl rfl)
theorem dX3_matches_2 : decode cX3_matches 2 = .ok (.invokevirtual 193, 3) := dk_182 0 193 (dk_at dksX3_matches_0 2 rfl rfl)
theorem dX3_matches_5 : decode cX3_matches 5 = .ok (.ifCond .ne 5, 3) := dk_154 0 5 (dk_at dksX3_matches_0 5 rfl rfl)
theorem dX3_matches_8 : decode cX3_matches 8 = .ok (.iconst (-1), 1) := dk_2 (dk_at dksX3_matches_0 8 rfl rfl)
theorem dX3_matches_9 : decode cX3_matches 9 = .ok (.ireturn, 1) := dk_172 (dk_at dksX3_matches_0 9 rfl rfl)
theorem dX3_matches_10 : decode cX3_matches 10 = .ok (.iconst 0, 1) := dk_3 (dk_at dksX3_matches_0 10 rfl rfl)
theorem dX3_matches_11 : decode cX3_matches 11 = .ok (.istore_n 2, 1) := dk_61 (dk_at dksX3_matches_0 11 rfl rfl)
theorem dX3_matches_12 : decode cX3_matches 12 = .ok (.iconst 0, 1) := dk_3 (dk_at dksX3_matches_0 12 rfl rfl)
theorem dX3_matches_13 : decode cX3_matches 13 = .ok (.istore_n 3, 1) := dk_62 (dk_at dksX3_matches_0 13 rfl rfl)
theorem dX3_matches_14 : decode cX3_matches 14 = .ok (.iload_n 3, 1) := dk_29 (dk_at dksX3_matches_0 14 rfl rfl)
theorem dX3_matches_15 : decode cX3_matches 15 = .ok (.aload_n 0, 1) := dk_42 (dk_at dksX3_matches_0 15 rfl rfl)
theorem dX3_matches_16 : decode cX3_matches 16 = .ok (.getfield 215, 3) := dk_180 0 215 (dk_at dksX3_matches_0 16 rfl rfl)
theorem dX3_matches_19 : decode cX3_matches 19 = .ok (.if_icmp .ge 73, 3) := dk_162 0 73 (dk_at dksX3_matches_0 19 rfl rfl)
theorem dX3_matches_22 : decode cX3_matches 22 = .ok (.iload_n 1, 1) := dk_27 (dk_at dksX3_matches_0 22 rfl rfl)
theorem dX3_matches_23 : decode cX3_matches 23 = .ok (.iload_n 3, 1) := dk_29 (dk_at dksX3_matches_0 23 rfl rfl)
theorem dX3_matches_24 : decode cX3_matches 24 = .ok (.iadd, 1) := dk_96 (dk_at dksX3_matches_1 0 rfl rfl)
theorem dX3_matches_25 : decode cX3_matches 25 = .ok (.aload_n 0, 1) := dk_42 (dk_at dksX3_matches_1 1 rfl rfl)
theorem dX3_matches_26 : decode cX3_matches 26 = .ok (.getfield 17, 3) := dk_180 0 17 (dk_at dksX3_matches_1 2 rfl rfl)
theorem dX3_matches_29 : decode cX3_matches 29 = .ok (.iconst 0, 1) := dk_3 (dk_at dksX3_matches_1 5 rfl rfl)
theorem dX3_matches_30 : decode cX3_matches 30 = .ok (.iaload, 1) := dk_46 (dk_at dksX3_matches_1 6 rfl rfl)
theorem dX3_matches_31 : decode cX3_matches 31 = .ok (.if_icmp .ge 61, 3) := dk_162 0 61 (dk_at dksX3_matches_1 7 rfl rfl)
theorem dX3_matches_34 : decode cX3_matches 34 = .ok (.iconst 0, 1) := dk_3 (dk_at dksX3_matches_1 10 rfl rfl)
theorem dX3_matches_35 : decode cX3_matches 35 = .ok (.istore 4, 2) := dk_54 4 (dk_at dksX3_matches_1 11 rfl rfl)
theorem dX3_matches_37 : decode cX3_matches 37 = .ok (.iload 4, 2) := dk_21 4 (dk_at dksX3_matches_1 13 rfl rfl)
theorem dX3_matches_39 : decode cX3_matches 39 = .ok (.aload_n 0, 1) := dk_42 (dk_at dksX3_matches_1 15 rfl rfl)
theorem dX3_matches_40 : decode cX3_matches 40 = .ok (.getfield 13, 3) := dk_180 0 13 (dk_at dksX3_matches_1 16 rfl rfl)
theorem dX3_matches_43 : decode cX3_matches 43 = .ok (.iconst 0, 1) := dk_3 (dk_at dksX3_matches_1 19 rfl rfl)
theorem dX3_matches_44 : decode cX3_matches 44 = .ok (.iaload, 1) := dk_46 (dk_at dksX3_matches_1 20 rfl rfl)
theorem dX3_matches_45 : decode cX3_matches 45 = .ok (.if_icmp .ge 41, 3) := dk_162 0 41 (dk_at dksX3_matches_1 21 rfl rfl)
theorem dX3_matches_48 : decode cX3_matches 48 = .ok (.aload_n 0, 1) := dk_42 (dk_at dksX3_matches_2 0 rfl rfl)
theorem dX3_matches_49 : decode cX3_matches 49 = .ok (.getfield 32, 3) := dk_180 0 32 (dk_at dksX3_matches_2 1 rfl rfl)
theorem dX3_matches_52 : decode cX3_matches 52 = .ok (.bipush 10, 2) := dk_16 10 (dk_at dksX3_matches_2 4 rfl rfl)
theorem dX3_matches_54 : decode cX3_matches 54 = .ok (.iload_n 1, 1) := dk_27 (dk_at dksX3_matches_2 6 rfl rfl)
theorem dX3_matches_55 : decode cX3_matches 55 = .ok (.iload_n 3, 1) := dk_29 (dk_at dksX3_matches_2 7 rfl rfl)
theorem dX3_matches_56 : decode cX3_matches 56 = .ok (.iadd, 1) := dk_96 (dk_at dksX3_matches_2 8 rfl rfl)
theorem dX3_matches_57 : decode cX3_matches 57 = .ok (.imul, 1) := dk_104 (dk_at dksX3_matches_2 9 rfl rfl)
theorem dX3_matches_58 : decode cX3_matches 58 = .ok (.iload 4, 2) := dk_21 4 (dk_at dksX3_matches_2 10 rfl rfl)
theorem dX3_matches_60 : decode cX3_matches 60 = .ok (.iadd, 1) := dk_96 (dk_at dksX3_matches_2 12 rfl rfl)
theorem dX3_matches_61 : decode cX3_matches 61 = .ok (.iaload, 1) := dk_46 (dk_at dksX3_matches_2 13 rfl rfl)
theorem dX3_matches_62 : decode cX3_matches 62 = .ok (.aload_n 0, 1) := dk_42 (dk_at dksX3_matches_2 14 rfl rfl)
theorem dX3_matches_63 : decode cX3_matches 63 = .ok (.getfield 86, 3) := dk_180 0 86 (dk_at dksX3_matches_2 15 rfl rfl)
theorem dX3_matches_66 : decode cX3_matches 66 = .ok (.bipush 10, 2) := dk_16 10 (dk_at dksX3_matches_2 18 rfl rfl)
theorem dX3_matches_68 : decode cX3_matches 68 = .ok (.iload_n 3, 1) := dk_29 (dk_at dksX3_matches_2 20 rfl rfl)
theorem dX3_matches_69 : decode cX3_matches 69 = .ok (.imul, 1) := dk_104 (dk_at dksX3_matches_2 21 rfl rfl)
theorem dX3_matches_70 : decode cX3_matches 70 = .ok (.iload 4, 2) := dk_21 4 (dk_at dksX3_matches_2 22 rfl rfl)
theorem dX3_matches_72 : decode cX3_matches 72 = .ok (.iadd, 1) := dk_96 (dk_at dksX3_matches_3 0 rfl rfl)
theorem dX3_matches_73 : decode cX3_matches 73 = .ok (.iaload, 1) := dk_46 (dk_at dksX3_matches_3 1 rfl rfl)
theorem dX3_matches_74 : decode cX3_matches 74 = .ok (.if_icmp .ne 6, 3) := dk_160 0 6 (dk_at dksX3_matches_3 2 rfl rfl)
theorem dX3_matches_77 : decode cX3_matches 77 = .ok (.iinc 2 1, 3) := dk_132 2 1 (dk_at dksX3_matches_3 5 rfl rfl)
theorem dX3_matches_80 : decode cX3_matches 80 = .ok (.iinc 4 1, 3) := dk_132 4 1 (dk_at dksX3_matches_3 8 rfl rfl)
theorem dX3_matches_83 : decode cX3_matches 83 = .ok (.goto (-46), 3) := dk_167 255 210 (dk_at dksX3_matches_3 11 rfl rfl)
theorem dX3_matches_86 : decode cX3_matches 86 = .ok (.iinc 3 1, 3) := dk_132 3 1 (dk_at dksX3_matches_3 14 rfl rfl)
theorem dX3_matches_89 : decode cX3_matches 89 = .ok (.goto (-75), 3) := dk_167 255 181 (dk_at dksX3_matches_3 17 rfl rfl)
theorem dX3_matches_92 : decode cX3_matches 92 = .ok (.iload_n 2, 1) := dk_28 (dk_at dksX3_matches_3 20 rfl rfl)
theorem dX3_matches_93 : decode cX3_matches 93 = .ok (.ireturn, 1) := dk_172 (dk_at dksX3_matches_3 21 rfl rfl)
abbrev cX3_period : ByteArray := prog_20_method_58_code
def yX3_period : MethodName := ⟨RX3, "period", "()I"⟩
def dkwX3_period_3 : List UInt8 := [16, 251, 172]
abbrev dktX3_period_3 : List UInt8 := dkwX3_period_3 ++ []
def dkwX3_period_2 : List UInt8 := [167, 0, 4, 3, 126, 61, 132, 3, 1, 167, 255, 216, 28, 153, 0, 5, 27, 172, 132, 1, 1, 167, 255, 190]
abbrev dktX3_period_2 : List UInt8 := dkwX3_period_2 ++ dktX3_period_3
def dkwX3_period_1 : List UInt8 := [46, 162, 0, 34, 28, 42, 29, 29, 27, 96, 182, 0, 237, 42, 180, 0, 13, 3, 46, 160, 0, 7, 4]
abbrev dktX3_period_1 : List UInt8 := dkwX3_period_1 ++ dktX3_period_2
def dkwX3_period_0 : List UInt8 := [4, 60, 27, 42, 180, 0, 17, 3, 46, 162, 0, 62, 4, 61, 3, 62, 29, 27, 96, 42, 180, 0, 17, 3]
abbrev dktX3_period_0 : List UInt8 := dkwX3_period_0 ++ dktX3_period_1
theorem dksX3_period_0 : cX3_period.data.toList.drop 0 = dktX3_period_0 := by decide +kernel
theorem dksX3_period_1 : cX3_period.data.toList.drop 24 = dktX3_period_1 := dk_seg dksX3_period_0 24 rfl rfl
theorem dksX3_period_2 : cX3_period.data.toList.drop 47 = dktX3_period_2 := dk_seg dksX3_period_1 23 rfl rfl
theorem dksX3_period_3 : cX3_period.data.toList.drop 71 = dktX3_period_3 := dk_seg dksX3_period_2 24 rfl rfl
theorem dX3_period_0 : decode cX3_period 0 = .ok (.iconst 1, 1) := dk_4 (dk_at dksX3_period_0 0 rfl rfl)
theorem dX3_period_1 : decode cX3_period 1 = .ok (.istore_n 1, 1) := dk_60 (dk_at dksX3_period_0 1 rfl rfl)
theorem dX3_period_2 : decode cX3_period 2 = .ok (.iload_n 1, 1) := dk_27 (dk_at dksX3_period_0 2 rfl rfl)
theorem dX3_period_3 : decode cX3_period 3 = .ok (.aload_n 0, 1) := dk_42 (dk_at dksX3_period_0 3 rfl rfl)
theorem dX3_period_4 : decode cX3_period 4 = .ok (.getfield 17, 3) := dk_180 0 17 (dk_at dksX3_period_0 4 rfl rfl)
theorem dX3_period_7 : decode cX3_period 7 = .ok (.iconst 0, 1) := dk_3 (dk_at dksX3_period_0 7 rfl rfl)
theorem dX3_period_8 : decode cX3_period 8 = .ok (.iaload, 1) := dk_46 (dk_at dksX3_period_0 8 rfl rfl)
theorem dX3_period_9 : decode cX3_period 9 = .ok (.if_icmp .ge 62, 3) := dk_162 0 62 (dk_at dksX3_period_0 9 rfl rfl)
theorem dX3_period_12 : decode cX3_period 12 = .ok (.iconst 1, 1) := dk_4 (dk_at dksX3_period_0 12 rfl rfl)
theorem dX3_period_13 : decode cX3_period 13 = .ok (.istore_n 2, 1) := dk_61 (dk_at dksX3_period_0 13 rfl rfl)
theorem dX3_period_14 : decode cX3_period 14 = .ok (.iconst 0, 1) := dk_3 (dk_at dksX3_period_0 14 rfl rfl)
theorem dX3_period_15 : decode cX3_period 15 = .ok (.istore_n 3, 1) := dk_62 (dk_at dksX3_period_0 15 rfl rfl)
theorem dX3_period_16 : decode cX3_period 16 = .ok (.iload_n 3, 1) := dk_29 (dk_at dksX3_period_0 16 rfl rfl)
theorem dX3_period_17 : decode cX3_period 17 = .ok (.iload_n 1, 1) := dk_27 (dk_at dksX3_period_0 17 rfl rfl)
theorem dX3_period_18 : decode cX3_period 18 = .ok (.iadd, 1) := dk_96 (dk_at dksX3_period_0 18 rfl rfl)
theorem dX3_period_19 : decode cX3_period 19 = .ok (.aload_n 0, 1) := dk_42 (dk_at dksX3_period_0 19 rfl rfl)
theorem dX3_period_20 : decode cX3_period 20 = .ok (.getfield 17, 3) := dk_180 0 17 (dk_at dksX3_period_0 20 rfl rfl)
theorem dX3_period_23 : decode cX3_period 23 = .ok (.iconst 0, 1) := dk_3 (dk_at dksX3_period_0 23 rfl rfl)
theorem dX3_period_24 : decode cX3_period 24 = .ok (.iaload, 1) := dk_46 (dk_at dksX3_period_1 0 rfl rfl)
theorem dX3_period_25 : decode cX3_period 25 = .ok (.if_icmp .ge 34, 3) := dk_162 0 34 (dk_at dksX3_period_1 1 rfl rfl)
theorem dX3_period_28 : decode cX3_period 28 = .ok (.iload_n 2, 1) := dk_28 (dk_at dksX3_period_1 4 rfl rfl)
theorem dX3_period_29 : decode cX3_period 29 = .ok (.aload_n 0, 1) := dk_42 (dk_at dksX3_period_1 5 rfl rfl)
theorem dX3_period_30 : decode cX3_period 30 = .ok (.iload_n 3, 1) := dk_29 (dk_at dksX3_period_1 6 rfl rfl)
theorem dX3_period_31 : decode cX3_period 31 = .ok (.iload_n 3, 1) := dk_29 (dk_at dksX3_period_1 7 rfl rfl)
theorem dX3_period_32 : decode cX3_period 32 = .ok (.iload_n 1, 1) := dk_27 (dk_at dksX3_period_1 8 rfl rfl)
theorem dX3_period_33 : decode cX3_period 33 = .ok (.iadd, 1) := dk_96 (dk_at dksX3_period_1 9 rfl rfl)
theorem dX3_period_34 : decode cX3_period 34 = .ok (.invokevirtual 237, 3) := dk_182 0 237 (dk_at dksX3_period_1 10 rfl rfl)
theorem dX3_period_37 : decode cX3_period 37 = .ok (.aload_n 0, 1) := dk_42 (dk_at dksX3_period_1 13 rfl rfl)
theorem dX3_period_38 : decode cX3_period 38 = .ok (.getfield 13, 3) := dk_180 0 13 (dk_at dksX3_period_1 14 rfl rfl)
theorem dX3_period_41 : decode cX3_period 41 = .ok (.iconst 0, 1) := dk_3 (dk_at dksX3_period_1 17 rfl rfl)
theorem dX3_period_42 : decode cX3_period 42 = .ok (.iaload, 1) := dk_46 (dk_at dksX3_period_1 18 rfl rfl)
theorem dX3_period_43 : decode cX3_period 43 = .ok (.if_icmp .ne 7, 3) := dk_160 0 7 (dk_at dksX3_period_1 19 rfl rfl)
theorem dX3_period_46 : decode cX3_period 46 = .ok (.iconst 1, 1) := dk_4 (dk_at dksX3_period_1 22 rfl rfl)
theorem dX3_period_47 : decode cX3_period 47 = .ok (.goto 4, 3) := dk_167 0 4 (dk_at dksX3_period_2 0 rfl rfl)
theorem dX3_period_50 : decode cX3_period 50 = .ok (.iconst 0, 1) := dk_3 (dk_at dksX3_period_2 3 rfl rfl)
theorem dX3_period_51 : decode cX3_period 51 = .ok (.iand, 1) := dk_126 (dk_at dksX3_period_2 4 rfl rfl)
theorem dX3_period_52 : decode cX3_period 52 = .ok (.istore_n 2, 1) := dk_61 (dk_at dksX3_period_2 5 rfl rfl)
theorem dX3_period_53 : decode cX3_period 53 = .ok (.iinc 3 1, 3) := dk_132 3 1 (dk_at dksX3_period_2 6 rfl rfl)
theorem dX3_period_56 : decode cX3_period 56 = .ok (.goto (-40), 3) := dk_167 255 216 (dk_at dksX3_period_2 9 rfl rfl)
theorem dX3_period_59 : decode cX3_period 59 = .ok (.iload_n 2, 1) := dk_28 (dk_at dksX3_period_2 12 rfl rfl)
theorem dX3_period_60 : decode cX3_period 60 = .ok (.ifCond .eq 5, 3) := dk_153 0 5 (dk_at dksX3_period_2 13 rfl rfl)
theorem dX3_period_63 : decode cX3_period 63 = .ok (.iload_n 1, 1) := dk_27 (dk_at dksX3_period_2 16 rfl rfl)
theorem dX3_period_64 : decode cX3_period 64 = .ok (.ireturn, 1) := dk_172 (dk_at dksX3_period_2 17 rfl rfl)
theorem dX3_period_65 : decode cX3_period 65 = .ok (.iinc 1 1, 3) := dk_132 1 1 (dk_at dksX3_period_2 18 rfl rfl)
theorem dX3_period_68 : decode cX3_period 68 = .ok (.goto (-66), 3) := dk_167 255 190 (dk_at dksX3_period_2 21 rfl rfl)
theorem dX3_period_71 : decode cX3_period 71 = .ok (.bipush (-5), 2) := dk_16 251 (dk_at dksX3_period_3 0 rfl rfl)
theorem dX3_period_73 : decode cX3_period 73 = .ok (.ireturn, 1) := dk_172 (dk_at dksX3_period_3 2 rfl rfl)
abbrev cX3_alikeIn : ByteArray := prog_20_method_57_code
def yX3_alikeIn : MethodName := ⟨RX3, "alikeIn", "(II)I"⟩
def dkwX3_alikeIn_2 : List UInt8 := [132, 4, 1, 167, 255, 212, 29, 172]
abbrev dktX3_alikeIn_2 : List UInt8 := dkwX3_alikeIn_2 ++ []
def dkwX3_alikeIn_1 : List UInt8 := [21, 4, 96, 46, 42, 180, 0, 32, 16, 10, 28, 104, 21, 4, 96, 46, 160, 0, 6, 132, 3, 1]
abbrev dktX3_alikeIn_1 : List UInt8 := dkwX3_alikeIn_1 ++ dktX3_alikeIn_2
def dkwX3_alikeIn_0 : List UInt8 := [3, 62, 3, 54, 4, 21, 4, 42, 180, 0, 13, 3, 46, 162, 0, 39, 42, 180, 0, 32, 16, 10, 27, 104]
abbrev dktX3_alikeIn_0 : List UInt8 := dkwX3_alikeIn_0 ++ dktX3_alikeIn_1
theorem dksX3_alikeIn_0 : cX3_alikeIn.data.toList.drop 0 = dktX3_alikeIn_0 := by decide +kernel
theorem dksX3_alikeIn_1 : cX3_alikeIn.data.toList.drop 24 = dktX3_alikeIn_1 := dk_seg dksX3_alikeIn_0 24 rfl rfl
theorem dksX3_alikeIn_2 : cX3_alikeIn.data.toList.drop 46 = dktX3_alikeIn_2 := dk_seg dksX3_alikeIn_1 22 rfl rfl
theorem dX3_alikeIn_0 : decode cX3_alikeIn 0 = .ok (.iconst 0, 1) := dk_3 (dk_at dksX3_alikeIn_0 0 rfl rfl)
theorem dX3_alikeIn_1 : decode cX3_alikeIn 1 = .ok (.istore_n 3, 1) := dk_62 (dk_at dksX3_alikeIn_0 1 rfl rfl)
theorem dX3_alikeIn_2 : decode cX3_alikeIn 2 = .ok (.iconst 0, 1) := dk_3 (dk_at dksX3_alikeIn_0 2 rfl rfl)
theorem dX3_alikeIn_3 : decode cX3_alikeIn 3 = .ok (.istore 4, 2) := dk_54 4 (dk_at dksX3_alikeIn_0 3 rfl rfl)
theorem dX3_alikeIn_5 : decode cX3_alikeIn 5 = .ok (.iload 4, 2) := dk_21 4 (dk_at dksX3_alikeIn_0 5 rfl rfl)
theorem dX3_alikeIn_7 : decode cX3_alikeIn 7 = .ok (.aload_n 0, 1) := dk_42 (dk_at dksX3_alikeIn_0 7 rfl rfl)
theorem dX3_alikeIn_8 : decode cX3_alikeIn 8 = .ok (.getfield 13, 3) := dk_180 0 13 (dk_at dksX3_alikeIn_0 8 rfl rfl)
theorem dX3_alikeIn_11 : decode cX3_alikeIn 11 = .ok (.iconst 0, 1) := dk_3 (dk_at dksX3_alikeIn_0 11 rfl rfl)
theorem dX3_alikeIn_12 : decode cX3_alikeIn 12 = .ok (.iaload, 1) := dk_46 (dk_at dksX3_alikeIn_0 12 rfl rfl)
theorem dX3_alikeIn_13 : decode cX3_alikeIn 13 = .ok (.if_icmp .ge 39, 3) := dk_162 0 39 (dk_at dksX3_alikeIn_0 13 rfl rfl)
theorem dX3_alikeIn_16 : decode cX3_alikeIn 16 = .ok (.aload_n 0, 1) := dk_42 (dk_at dksX3_alikeIn_0 16 rfl rfl)
theorem dX3_alikeIn_17 : decode cX3_alikeIn 17 = .ok (.getfield 32, 3) := dk_180 0 32 (dk_at dksX3_alikeIn_0 17 rfl rfl)
theorem dX3_alikeIn_20 : decode cX3_alikeIn 20 = .ok (.bipush 10, 2) := dk_16 10 (dk_at dksX3_alikeIn_0 20 rfl rfl)
theorem dX3_alikeIn_22 : decode cX3_alikeIn 22 = .ok (.iload_n 1, 1) := dk_27 (dk_at dksX3_alikeIn_0 22 rfl rfl)
theorem dX3_alikeIn_23 : decode cX3_alikeIn 23 = .ok (.imul, 1) := dk_104 (dk_at dksX3_alikeIn_0 23 rfl rfl)
theorem dX3_alikeIn_24 : decode cX3_alikeIn 24 = .ok (.iload 4, 2) := dk_21 4 (dk_at dksX3_alikeIn_1 0 rfl rfl)
theorem dX3_alikeIn_26 : decode cX3_alikeIn 26 = .ok (.iadd, 1) := dk_96 (dk_at dksX3_alikeIn_1 2 rfl rfl)
theorem dX3_alikeIn_27 : decode cX3_alikeIn 27 = .ok (.iaload, 1) := dk_46 (dk_at dksX3_alikeIn_1 3 rfl rfl)
theorem dX3_alikeIn_28 : decode cX3_alikeIn 28 = .ok (.aload_n 0, 1) := dk_42 (dk_at dksX3_alikeIn_1 4 rfl rfl)
theorem dX3_alikeIn_29 : decode cX3_alikeIn 29 = .ok (.getfield 32, 3) := dk_180 0 32 (dk_at dksX3_alikeIn_1 5 rfl rfl)
theorem dX3_alikeIn_32 : decode cX3_alikeIn 32 = .ok (.bipush 10, 2) := dk_16 10 (dk_at dksX3_alikeIn_1 8 rfl rfl)
theorem dX3_alikeIn_34 : decode cX3_alikeIn 34 = .ok (.iload_n 2, 1) := dk_28 (dk_at dksX3_alikeIn_1 10 rfl rfl)
theorem dX3_alikeIn_35 : decode cX3_alikeIn 35 = .ok (.imul, 1) := dk_104 (dk_at dksX3_alikeIn_1 11 rfl rfl)
theorem dX3_alikeIn_36 : decode cX3_alikeIn 36 = .ok (.iload 4, 2) := dk_21 4 (dk_at dksX3_alikeIn_1 12 rfl rfl)
theorem dX3_alikeIn_38 : decode cX3_alikeIn 38 = .ok (.iadd, 1) := dk_96 (dk_at dksX3_alikeIn_1 14 rfl rfl)
theorem dX3_alikeIn_39 : decode cX3_alikeIn 39 = .ok (.iaload, 1) := dk_46 (dk_at dksX3_alikeIn_1 15 rfl rfl)
theorem dX3_alikeIn_40 : decode cX3_alikeIn 40 = .ok (.if_icmp .ne 6, 3) := dk_160 0 6 (dk_at dksX3_alikeIn_1 16 rfl rfl)
theorem dX3_alikeIn_43 : decode cX3_alikeIn 43 = .ok (.iinc 3 1, 3) := dk_132 3 1 (dk_at dksX3_alikeIn_1 19 rfl rfl)
theorem dX3_alikeIn_46 : decode cX3_alikeIn 46 = .ok (.iinc 4 1, 3) := dk_132 4 1 (dk_at dksX3_alikeIn_2 0 rfl rfl)
theorem dX3_alikeIn_49 : decode cX3_alikeIn 49 = .ok (.goto (-44), 3) := dk_167 255 212 (dk_at dksX3_alikeIn_2 3 rfl rfl)
theorem dX3_alikeIn_52 : decode cX3_alikeIn 52 = .ok (.iload_n 3, 1) := dk_29 (dk_at dksX3_alikeIn_2 6 rfl rfl)
theorem dX3_alikeIn_53 : decode cX3_alikeIn 53 = .ok (.ireturn, 1) := dk_172 (dk_at dksX3_alikeIn_2 7 rfl rfl)
abbrev cX3_mirrors : ByteArray := prog_20_method_59_code
def yX3_mirrors : MethodName := ⟨RX3, "mirrors", "()I"⟩
def dkwX3_mirrors_4 : List UInt8 := [167, 255, 170, 27, 172]
abbrev dktX3_mirrors_4 : List UInt8 := dkwX3_mirrors_4 ++ []
def dkwX3_mirrors_3 : List UInt8 := [167, 0, 4, 3, 126, 62, 132, 4, 1, 167, 255, 198, 29, 153, 0, 6, 132, 1, 1, 132, 2, 1]
abbrev dktX3_mirrors_3 : List UInt8 := dkwX3_mirrors_3 ++ dktX3_mirrors_4
def dkwX3_mirrors_2 : List UInt8 := [180, 0, 32, 16, 10, 28, 104, 42, 180, 0, 13, 3, 46, 96, 4, 100, 21, 4, 100, 46, 160, 0, 7, 4]
abbrev dktX3_mirrors_2 : List UInt8 := dkwX3_mirrors_2 ++ dktX3_mirrors_3
def dkwX3_mirrors_1 : List UInt8 := [180, 0, 13, 3, 46, 162, 0, 53, 29, 42, 180, 0, 32, 16, 10, 28, 104, 21, 4, 96, 46, 42]
abbrev dktX3_mirrors_1 : List UInt8 := dkwX3_mirrors_1 ++ dktX3_mirrors_2
def dkwX3_mirrors_0 : List UInt8 := [3, 60, 3, 61, 28, 42, 180, 0, 17, 3, 46, 162, 0, 82, 4, 62, 3, 54, 4, 21, 4, 42]
abbrev dktX3_mirrors_0 : List UInt8 := dkwX3_mirrors_0 ++ dktX3_mirrors_1
theorem dksX3_mirrors_0 : cX3_mirrors.data.toList.drop 0 = dktX3_mirrors_0 := by decide +kernel
theorem dksX3_mirrors_1 : cX3_mirrors.data.toList.drop 22 = dktX3_mirrors_1 := dk_seg dksX3_mirrors_0 22 rfl rfl
theorem dksX3_mirrors_2 : cX3_mirrors.data.toList.drop 44 = dktX3_mirrors_2 := dk_seg dksX3_mirrors_1 22 rfl rfl
theorem dksX3_mirrors_3 : cX3_mirrors.data.toList.drop 68 = dktX3_mirrors_3 := dk_seg dksX3_mirrors_2 24 rfl rfl
theorem dksX3_mirrors_4 : cX3_mirrors.data.toList.drop 90 = dktX3_mirrors_4 := dk_seg dksX3_mirrors_3 22 rfl rfl
theorem dX3_mirrors_0 : decode cX3_mirrors 0 = .ok (.iconst 0, 1) := dk_3 (dk_at dksX3_mirrors_0 0 rfl rfl)
theorem dX3_mirrors_1 : decode cX3_mirrors 1 = .ok (.istore_n 1, 1) := dk_60 (dk_at dksX3_mirrors_0 1 rfl rfl)
theorem dX3_mirrors_2 : decode cX3_mirrors 2 = .ok (.iconst 0, 1) := dk_3 (dk_at dksX3_mirrors_0 2 rfl rfl)
theorem dX3_mirrors_3 : decode cX3_mirrors 3 = .ok (.istore_n 2, 1) := dk_61 (dk_at dksX3_mirrors_0 3 rfl rfl)
theorem dX3_mirrors_4 : decode cX3_mirrors 4 = .ok (.iload_n 2, 1) := dk_28 (dk_at dksX3_mirrors_0 4 rfl rfl)
theorem dX3_mirrors_5 : decode cX3_mirrors 5 = .ok (.aload_n 0, 1) := dk_42 (dk_at dksX3_mirrors_0 5 rfl rfl)
theorem dX3_mirrors_6 : decode cX3_mirrors 6 = .ok (.getfield 17, 3) := dk_180 0 17 (dk_at dksX3_mirrors_0 6 rfl rfl)
theorem dX3_mirrors_9 : decode cX3_mirrors 9 = .ok (.iconst 0, 1) := dk_3 (dk_at dksX3_mirrors_0 9 rfl rfl)
theorem dX3_mirrors_10 : decode cX3_mirrors 10 = .ok (.iaload, 1) := dk_46 (dk_at dksX3_mirrors_0 10 rfl rfl)
theorem dX3_mirrors_11 : decode cX3_mirrors 11 = .ok (.if_icmp .ge 82, 3) := dk_162 0 82 (dk_at dksX3_mirrors_0 11 rfl rfl)
theorem dX3_mirrors_14 : decode cX3_mirrors 14 = .ok (.iconst 1, 1) := dk_4 (dk_at dksX3_mirrors_0 14 rfl rfl)
theorem dX3_mirrors_15 : decode cX3_mirrors 15 = .ok (.istore_n 3, 1) := dk_62 (dk_at dksX3_mirrors_0 15 rfl rfl)
theorem dX3_mirrors_16 : decode cX3_mirrors 16 = .ok (.iconst 0, 1) := dk_3 (dk_at dksX3_mirrors_0 16 rfl rfl)
theorem dX3_mirrors_17 : decode cX3_mirrors 17 = .ok (.istore 4, 2) := dk_54 4 (dk_at dksX3_mirrors_0 17 rfl rfl)
theorem dX3_mirrors_19 : decode cX3_mirrors 19 = .ok (.iload 4, 2) := dk_21 4 (dk_at dksX3_mirrors_0 19 rfl rfl)
theorem dX3_mirrors_21 : decode cX3_mirrors 21 = .ok (.aload_n 0, 1) := dk_42 (dk_at dksX3_mirrors_0 21 rfl rfl)
theorem dX3_mirrors_22 : decode cX3_mirrors 22 = .ok (.getfield 13, 3) := dk_180 0 13 (dk_at dksX3_mirrors_1 0 rfl rfl)
theorem dX3_mirrors_25 : decode cX3_mirrors 25 = .ok (.iconst 0, 1) := dk_3 (dk_at dksX3_mirrors_1 3 rfl rfl)
theorem dX3_mirrors_26 : decode cX3_mirrors 26 = .ok (.iaload, 1) := dk_46 (dk_at dksX3_mirrors_1 4 rfl rfl)
theorem dX3_mirrors_27 : decode cX3_mirrors 27 = .ok (.if_icmp .ge 53, 3) := dk_162 0 53 (dk_at dksX3_mirrors_1 5 rfl rfl)
theorem dX3_mirrors_30 : decode cX3_mirrors 30 = .ok (.iload_n 3, 1) := dk_29 (dk_at dksX3_mirrors_1 8 rfl rfl)
theorem dX3_mirrors_31 : decode cX3_mirrors 31 = .ok (.aload_n 0, 1) := dk_42 (dk_at dksX3_mirrors_1 9 rfl rfl)
theorem dX3_mirrors_32 : decode cX3_mirrors 32 = .ok (.getfield 32, 3) := dk_180 0 32 (dk_at dksX3_mirrors_1 10 rfl rfl)
theorem dX3_mirrors_35 : decode cX3_mirrors 35 = .ok (.bipush 10, 2) := dk_16 10 (dk_at dksX3_mirrors_1 13 rfl rfl)
theorem dX3_mirrors_37 : decode cX3_mirrors 37 = .ok (.iload_n 2, 1) := dk_28 (dk_at dksX3_mirrors_1 15 rfl rfl)
theorem dX3_mirrors_38 : decode cX3_mirrors 38 = .ok (.imul, 1) := dk_104 (dk_at dksX3_mirrors_1 16 rfl rfl)
theorem dX3_mirrors_39 : decode cX3_mirrors 39 = .ok (.iload 4, 2) := dk_21 4 (dk_at dksX3_mirrors_1 17 rfl rfl)
theorem dX3_mirrors_41 : decode cX3_mirrors 41 = .ok (.iadd, 1) := dk_96 (dk_at dksX3_mirrors_1 19 rfl rfl)
theorem dX3_mirrors_42 : decode cX3_mirrors 42 = .ok (.iaload, 1) := dk_46 (dk_at dksX3_mirrors_1 20 rfl rfl)
theorem dX3_mirrors_43 : decode cX3_mirrors 43 = .ok (.aload_n 0, 1) := dk_42 (dk_at dksX3_mirrors_1 21 rfl rfl)
theorem dX3_mirrors_44 : decode cX3_mirrors 44 = .ok (.getfield 32, 3) := dk_180 0 32 (dk_at dksX3_mirrors_2 0 rfl rfl)
theorem dX3_mirrors_47 : decode cX3_mirrors 47 = .ok (.bipush 10, 2) := dk_16 10 (dk_at dksX3_mirrors_2 3 rfl rfl)
theorem dX3_mirrors_49 : decode cX3_mirrors 49 = .ok (.iload_n 2, 1) := dk_28 (dk_at dksX3_mirrors_2 5 rfl rfl)
theorem dX3_mirrors_50 : decode cX3_mirrors 50 = .ok (.imul, 1) := dk_104 (dk_at dksX3_mirrors_2 6 rfl rfl)
theorem dX3_mirrors_51 : decode cX3_mirrors 51 = .ok (.aload_n 0, 1) := dk_42 (dk_at dksX3_mirrors_2 7 rfl rfl)
theorem dX3_mirrors_52 : decode cX3_mirrors 52 = .ok (.getfield 13, 3) := dk_180 0 13 (dk_at dksX3_mirrors_2 8 rfl rfl)
theorem dX3_mirrors_55 : decode cX3_mirrors 55 = .ok (.iconst 0, 1) := dk_3 (dk_at dksX3_mirrors_2 11 rfl rfl)
theorem dX3_mirrors_56 : decode cX3_mirrors 56 = .ok (.iaload, 1) := dk_46 (dk_at dksX3_mirrors_2 12 rfl rfl)
theorem dX3_mirrors_57 : decode cX3_mirrors 57 = .ok (.iadd, 1) := dk_96 (dk_at dksX3_mirrors_2 13 rfl rfl)
theorem dX3_mirrors_58 : decode cX3_mirrors 58 = .ok (.iconst 1, 1) := dk_4 (dk_at dksX3_mirrors_2 14 rfl rfl)
theorem dX3_mirrors_59 : decode cX3_mirrors 59 = .ok (.isub, 1) := dk_100 (dk_at dksX3_mirrors_2 15 rfl rfl)
theorem dX3_mirrors_60 : decode cX3_mirrors 60 = .ok (.iload 4, 2) := dk_21 4 (dk_at dksX3_mirrors_2 16 rfl rfl)
theorem dX3_mirrors_62 : decode cX3_mirrors 62 = .ok (.isub, 1) := dk_100 (dk_at dksX3_mirrors_2 18 rfl rfl)
theorem dX3_mirrors_63 : decode cX3_mirrors 63 = .ok (.iaload, 1) := dk_46 (dk_at dksX3_mirrors_2 19 rfl rfl)
theorem dX3_mirrors_64 : decode cX3_mirrors 64 = .ok (.if_icmp .ne 7, 3) := dk_160 0 7 (dk_at dksX3_mirrors_2 20 rfl rfl)
theorem dX3_mirrors_67 : decode cX3_mirrors 67 = .ok (.iconst 1, 1) := dk_4 (dk_at dksX3_mirrors_2 23 rfl rfl)
theorem dX3_mirrors_68 : decode cX3_mirrors 68 = .ok (.goto 4, 3) := dk_167 0 4 (dk_at dksX3_mirrors_3 0 rfl rfl)
theorem dX3_mirrors_71 : decode cX3_mirrors 71 = .ok (.iconst 0, 1) := dk_3 (dk_at dksX3_mirrors_3 3 rfl rfl)
theorem dX3_mirrors_72 : decode cX3_mirrors 72 = .ok (.iand, 1) := dk_126 (dk_at dksX3_mirrors_3 4 rfl rfl)
theorem dX3_mirrors_73 : decode cX3_mirrors 73 = .ok (.istore_n 3, 1) := dk_62 (dk_at dksX3_mirrors_3 5 rfl rfl)
theorem dX3_mirrors_74 : decode cX3_mirrors 74 = .ok (.iinc 4 1, 3) := dk_132 4 1 (dk_at dksX3_mirrors_3 6 rfl rfl)
theorem dX3_mirrors_77 : decode cX3_mirrors 77 = .ok (.goto (-58), 3) := dk_167 255 198 (dk_at dksX3_mirrors_3 9 rfl rfl)
theorem dX3_mirrors_80 : decode cX3_mirrors 80 = .ok (.iload_n 3, 1) := dk_29 (dk_at dksX3_mirrors_3 12 rfl rfl)
theorem dX3_mirrors_81 : decode cX3_mirrors 81 = .ok (.ifCond .eq 6, 3) := dk_153 0 6 (dk_at dksX3_mirrors_3 13 rfl rfl)
theorem dX3_mirrors_84 : decode cX3_mirrors 84 = .ok (.iinc 1 1, 3) := dk_132 1 1 (dk_at dksX3_mirrors_3 16 rfl rfl)
theorem dX3_mirrors_87 : decode cX3_mirrors 87 = .ok (.iinc 2 1, 3) := dk_132 2 1 (dk_at dksX3_mirrors_3 19 rfl rfl)
theorem dX3_mirrors_90 : decode cX3_mirrors 90 = .ok (.goto (-86), 3) := dk_167 255 170 (dk_at dksX3_mirrors_4 0 rfl rfl)
theorem dX3_mirrors_93 : decode cX3_mirrors 93 = .ok (.iload_n 1, 1) := dk_27 (dk_at dksX3_mirrors_4 3 rfl rfl)
theorem dX3_mirrors_94 : decode cX3_mirrors 94 = .ok (.ireturn, 1) := dk_172 (dk_at dksX3_mirrors_4 4 rfl rfl)
abbrev cX3_run : ByteArray := prog_20_method_60_code
def yX3_run : MethodName := ⟨RX3, "run", "(I)I"⟩
def dkwX3_run_3 : List UInt8 := [184, 0, 155, 61, 132, 5, 1, 167, 255, 209, 132, 3, 1, 167, 255, 187, 28, 172]
abbrev dktX3_run_3 : List UInt8 := dkwX3_run_3 ++ []
def dkwX3_run_2 : List UInt8 := [21, 5, 104, 29, 96, 46, 27, 160, 0, 10, 21, 4, 4, 96, 167, 0, 4, 3, 54, 4, 28, 21, 4]
abbrev dktX3_run_2 : List UInt8 := dkwX3_run_2 ++ dktX3_run_3
def dkwX3_run_1 : List UInt8 := [3, 54, 4, 3, 54, 5, 21, 5, 42, 180, 0, 17, 3, 46, 162, 0, 42, 42, 180, 0, 32, 16, 10]
abbrev dktX3_run_1 : List UInt8 := dkwX3_run_1 ++ dktX3_run_2
def dkwX3_run_0 : List UInt8 := [27, 184, 0, 168, 154, 0, 6, 16, 254, 172, 3, 61, 3, 62, 29, 42, 180, 0, 13, 3, 46, 162, 0, 65]
abbrev dktX3_run_0 : List UInt8 := dkwX3_run_0 ++ dktX3_run_1
theorem dksX3_run_0 : cX3_run.data.toList.drop 0 = dktX3_run_0 := by decide +kernel
theorem dksX3_run_1 : cX3_run.data.toList.drop 24 = dktX3_run_1 := dk_seg dksX3_run_0 24 rfl rfl
theorem dksX3_run_2 : cX3_run.data.toList.drop 47 = dktX3_run_2 := dk_seg dksX3_run_1 23 rfl rfl
theorem dksX3_run_3 : cX3_run.data.toList.drop 70 = dktX3_run_3 := dk_seg dksX3_run_2 23 rfl rfl
theorem dX3_run_0 : decode cX3_run 0 = .ok (.iload_n 1, 1) := dk_27 (dk_at dksX3_run_0 0 rfl rfl)
theorem dX3_run_1 : decode cX3_run 1 = .ok (.invokestatic 168, 3) := dk_184 0 168 (dk_at dksX3_run_0 1 rfl rfl)
theorem dX3_run_4 : decode cX3_run 4 = .ok (.ifCond .ne 6, 3) := dk_154 0 6 (dk_at dksX3_run_0 4 rfl rfl)
theorem dX3_run_7 : decode cX3_run 7 = .ok (.bipush (-2), 2) := dk_16 254 (dk_at dksX3_run_0 7 rfl rfl)
theorem dX3_run_9 : decode cX3_run 9 = .ok (.ireturn, 1) := dk_172 (dk_at dksX3_run_0 9 rfl rfl)
theorem dX3_run_10 : decode cX3_run 10 = .ok (.iconst 0, 1) := dk_3 (dk_at dksX3_run_0 10 rfl rfl)
theorem dX3_run_11 : decode cX3_run 11 = .ok (.istore_n 2, 1) := dk_61 (dk_at dksX3_run_0 11 rfl rfl)
theorem dX3_run_12 : decode cX3_run 12 = .ok (.iconst 0, 1) := dk_3 (dk_at dksX3_run_0 12 rfl rfl)
theorem dX3_run_13 : decode cX3_run 13 = .ok (.istore_n 3, 1) := dk_62 (dk_at dksX3_run_0 13 rfl rfl)
theorem dX3_run_14 : decode cX3_run 14 = .ok (.iload_n 3, 1) := dk_29 (dk_at dksX3_run_0 14 rfl rfl)
theorem dX3_run_15 : decode cX3_run 15 = .ok (.aload_n 0, 1) := dk_42 (dk_at dksX3_run_0 15 rfl rfl)
theorem dX3_run_16 : decode cX3_run 16 = .ok (.getfield 13, 3) := dk_180 0 13 (dk_at dksX3_run_0 16 rfl rfl)
theorem dX3_run_19 : decode cX3_run 19 = .ok (.iconst 0, 1) := dk_3 (dk_at dksX3_run_0 19 rfl rfl)
theorem dX3_run_20 : decode cX3_run 20 = .ok (.iaload, 1) := dk_46 (dk_at dksX3_run_0 20 rfl rfl)
theorem dX3_run_21 : decode cX3_run 21 = .ok (.if_icmp .ge 65, 3) := dk_162 0 65 (dk_at dksX3_run_0 21 rfl rfl)
theorem dX3_run_24 : decode cX3_run 24 = .ok (.iconst 0, 1) := dk_3 (dk_at dksX3_run_1 0 rfl rfl)
theorem dX3_run_25 : decode cX3_run 25 = .ok (.istore 4, 2) := dk_54 4 (dk_at dksX3_run_1 1 rfl rfl)
theorem dX3_run_27 : decode cX3_run 27 = .ok (.iconst 0, 1) := dk_3 (dk_at dksX3_run_1 3 rfl rfl)
theorem dX3_run_28 : decode cX3_run 28 = .ok (.istore 5, 2) := dk_54 5 (dk_at dksX3_run_1 4 rfl rfl)
theorem dX3_run_30 : decode cX3_run 30 = .ok (.iload 5, 2) := dk_21 5 (dk_at dksX3_run_1 6 rfl rfl)
theorem dX3_run_32 : decode cX3_run 32 = .ok (.aload_n 0, 1) := dk_42 (dk_at dksX3_run_1 8 rfl rfl)
theorem dX3_run_33 : decode cX3_run 33 = .ok (.getfield 17, 3) := dk_180 0 17 (dk_at dksX3_run_1 9 rfl rfl)
theorem dX3_run_36 : decode cX3_run 36 = .ok (.iconst 0, 1) := dk_3 (dk_at dksX3_run_1 12 rfl rfl)
theorem dX3_run_37 : decode cX3_run 37 = .ok (.iaload, 1) := dk_46 (dk_at dksX3_run_1 13 rfl rfl)
theorem dX3_run_38 : decode cX3_run 38 = .ok (.if_icmp .ge 42, 3) := dk_162 0 42 (dk_at dksX3_run_1 14 rfl rfl)
theorem dX3_run_41 : decode cX3_run 41 = .ok (.aload_n 0, 1) := dk_42 (dk_at dksX3_run_1 17 rfl rfl)
theorem dX3_run_42 : decode cX3_run 42 = .ok (.getfield 32, 3) := dk_180 0 32 (dk_at dksX3_run_1 18 rfl rfl)
theorem dX3_run_45 : decode cX3_run 45 = .ok (.bipush 10, 2) := dk_16 10 (dk_at dksX3_run_1 21 rfl rfl)
theorem dX3_run_47 : decode cX3_run 47 = .ok (.iload 5, 2) := dk_21 5 (dk_at dksX3_run_2 0 rfl rfl)
theorem dX3_run_49 : decode cX3_run 49 = .ok (.imul, 1) := dk_104 (dk_at dksX3_run_2 2 rfl rfl)
theorem dX3_run_50 : decode cX3_run 50 = .ok (.iload_n 3, 1) := dk_29 (dk_at dksX3_run_2 3 rfl rfl)
theorem dX3_run_51 : decode cX3_run 51 = .ok (.iadd, 1) := dk_96 (dk_at dksX3_run_2 4 rfl rfl)
theorem dX3_run_52 : decode cX3_run 52 = .ok (.iaload, 1) := dk_46 (dk_at dksX3_run_2 5 rfl rfl)
theorem dX3_run_53 : decode cX3_run 53 = .ok (.iload_n 1, 1) := dk_27 (dk_at dksX3_run_2 6 rfl rfl)
theorem dX3_run_54 : decode cX3_run 54 = .ok (.if_icmp .ne 10, 3) := dk_160 0 10 (dk_at dksX3_run_2 7 rfl rfl)
theorem dX3_run_57 : decode cX3_run 57 = .ok (.iload 4, 2) := dk_21 4 (dk_at dksX3_run_2 10 rfl rfl)
theorem dX3_run_59 : decode cX3_run 59 = .ok (.iconst 1, 1) := dk_4 (dk_at dksX3_run_2 12 rfl rfl)
theorem dX3_run_60 : decode cX3_run 60 = .ok (.iadd, 1) := dk_96 (dk_at dksX3_run_2 13 rfl rfl)
theorem dX3_run_61 : decode cX3_run 61 = .ok (.goto 4, 3) := dk_167 0 4 (dk_at dksX3_run_2 14 rfl rfl)
theorem dX3_run_64 : decode cX3_run 64 = .ok (.iconst 0, 1) := dk_3 (dk_at dksX3_run_2 17 rfl rfl)
theorem dX3_run_65 : decode cX3_run 65 = .ok (.istore 4, 2) := dk_54 4 (dk_at dksX3_run_2 18 rfl rfl)
theorem dX3_run_67 : decode cX3_run 67 = .ok (.iload_n 2, 1) := dk_28 (dk_at dksX3_run_2 20 rfl rfl)
theorem dX3_run_68 : decode cX3_run 68 = .ok (.iload 4, 2) := dk_21 4 (dk_at dksX3_run_2 21 rfl rfl)
theorem dX3_run_70 : decode cX3_run 70 = .ok (.invokestatic 155, 3) := dk_184 0 155 (dk_at dksX3_run_3 0 rfl rfl)
theorem dX3_run_73 : decode cX3_run 73 = .ok (.istore_n 2, 1) := dk_61 (dk_at dksX3_run_3 3 rfl rfl)
theorem dX3_run_74 : decode cX3_run 74 = .ok (.iinc 5 1, 3) := dk_132 5 1 (dk_at dksX3_run_3 4 rfl rfl)
theorem dX3_run_77 : decode cX3_run 77 = .ok (.goto (-47), 3) := dk_167 255 209 (dk_at dksX3_run_3 7 rfl rfl)
theorem dX3_run_80 : decode cX3_run 80 = .ok (.iinc 3 1, 3) := dk_132 3 1 (dk_at dksX3_run_3 10 rfl rfl)
theorem dX3_run_83 : decode cX3_run 83 = .ok (.goto (-69), 3) := dk_167 255 187 (dk_at dksX3_run_3 13 rfl rfl)
theorem dX3_run_86 : decode cX3_run 86 = .ok (.iload_n 2, 1) := dk_28 (dk_at dksX3_run_3 16 rfl rfl)
theorem dX3_run_87 : decode cX3_run 87 = .ok (.ireturn, 1) := dk_172 (dk_at dksX3_run_3 17 rfl rfl)
abbrev cX3_colours : ByteArray := prog_20_method_62_code
def yX3_colours : MethodName := ⟨RX3, "colours", "(II)I"⟩
def dkwX3_colours_3 : List UInt8 := [160, 0, 6, 132, 3, 1, 132, 4, 1, 167, 255, 226, 29, 172]
abbrev dktX3_colours_3 : List UInt8 := dkwX3_colours_3 ++ []
def dkwX3_colours_2 : List UInt8 := [3, 54, 4, 21, 4, 7, 42, 180, 0, 13, 3, 46, 104, 162, 0, 23, 42, 180, 0, 20, 21, 4, 46, 27]
abbrev dktX3_colours_2 : List UInt8 := dkwX3_colours_2 ++ dktX3_colours_3
def dkwX3_colours_1 : List UInt8 := [28, 4, 160, 0, 13, 42, 27, 42, 180, 0, 35, 182, 0, 240, 172, 28, 5, 159, 0, 5, 2, 172, 3, 62]
abbrev dktX3_colours_1 : List UInt8 := dkwX3_colours_1 ++ dktX3_colours_2
def dkwX3_colours_0 : List UInt8 := [27, 184, 0, 168, 154, 0, 6, 16, 254, 172, 28, 154, 0, 13, 42, 27, 42, 180, 0, 32, 182, 0, 240, 172]
abbrev dktX3_colours_0 : List UInt8 := dkwX3_colours_0 ++ dktX3_colours_1
theorem dksX3_colours_0 : cX3_colours.data.toList.drop 0 = dktX3_colours_0 := by decide +kernel
theorem dksX3_colours_1 : cX3_colours.data.toList.drop 24 = dktX3_colours_1 := dk_seg dksX3_colours_0 24 rfl rfl
theorem dksX3_colours_2 : cX3_colours.data.toList.drop 48 = dktX3_colours_2 := dk_seg dksX3_colours_1 24 rfl rfl
theorem dksX3_colours_3 : cX3_colours.data.toList.drop 72 = dktX3_colours_3 := dk_seg dksX3_colours_2 24 rfl rfl
theorem dX3_colours_0 : decode cX3_colours 0 = .ok (.iload_n 1, 1) := dk_27 (dk_at dksX3_colours_0 0 rfl rfl)
theorem dX3_colours_1 : decode cX3_colours 1 = .ok (.invokestatic 168, 3) := dk_184 0 168 (dk_at dksX3_colours_0 1 rfl rfl)
theorem dX3_colours_4 : decode cX3_colours 4 = .ok (.ifCond .ne 6, 3) := dk_154 0 6 (dk_at dksX3_colours_0 4 rfl rfl)
theorem dX3_colours_7 : decode cX3_colours 7 = .ok (.bipush (-2), 2) := dk_16 254 (dk_at dksX3_colours_0 7 rfl rfl)
theorem dX3_colours_9 : decode cX3_colours 9 = .ok (.ireturn, 1) := dk_172 (dk_at dksX3_colours_0 9 rfl rfl)
theorem dX3_colours_10 : decode cX3_colours 10 = .ok (.iload_n 2, 1) := dk_28 (dk_at dksX3_colours_0 10 rfl rfl)
theorem dX3_colours_11 : decode cX3_colours 11 = .ok (.ifCond .ne 13, 3) := dk_154 0 13 (dk_at dksX3_colours_0 11 rfl rfl)
theorem dX3_colours_14 : decode cX3_colours 14 = .ok (.aload_n 0, 1) := dk_42 (dk_at dksX3_colours_0 14 rfl rfl)
theorem dX3_colours_15 : decode cX3_colours 15 = .ok (.iload_n 1, 1) := dk_27 (dk_at dksX3_colours_0 15 rfl rfl)
theorem dX3_colours_16 : decode cX3_colours 16 = .ok (.aload_n 0, 1) := dk_42 (dk_at dksX3_colours_0 16 rfl rfl)
theorem dX3_colours_17 : decode cX3_colours 17 = .ok (.getfield 32, 3) := dk_180 0 32 (dk_at dksX3_colours_0 17 rfl rfl)
theorem dX3_colours_20 : decode cX3_colours 20 = .ok (.invokevirtual 240, 3) := dk_182 0 240 (dk_at dksX3_colours_0 20 rfl rfl)
theorem dX3_colours_23 : decode cX3_colours 23 = .ok (.ireturn, 1) := dk_172 (dk_at dksX3_colours_0 23 rfl rfl)
theorem dX3_colours_24 : decode cX3_colours 24 = .ok (.iload_n 2, 1) := dk_28 (dk_at dksX3_colours_1 0 rfl rfl)
theorem dX3_colours_25 : decode cX3_colours 25 = .ok (.iconst 1, 1) := dk_4 (dk_at dksX3_colours_1 1 rfl rfl)
theorem dX3_colours_26 : decode cX3_colours 26 = .ok (.if_icmp .ne 13, 3) := dk_160 0 13 (dk_at dksX3_colours_1 2 rfl rfl)
theorem dX3_colours_29 : decode cX3_colours 29 = .ok (.aload_n 0, 1) := dk_42 (dk_at dksX3_colours_1 5 rfl rfl)
theorem dX3_colours_30 : decode cX3_colours 30 = .ok (.iload_n 1, 1) := dk_27 (dk_at dksX3_colours_1 6 rfl rfl)
theorem dX3_colours_31 : decode cX3_colours 31 = .ok (.aload_n 0, 1) := dk_42 (dk_at dksX3_colours_1 7 rfl rfl)
theorem dX3_colours_32 : decode cX3_colours 32 = .ok (.getfield 35, 3) := dk_180 0 35 (dk_at dksX3_colours_1 8 rfl rfl)
theorem dX3_colours_35 : decode cX3_colours 35 = .ok (.invokevirtual 240, 3) := dk_182 0 240 (dk_at dksX3_colours_1 11 rfl rfl)
theorem dX3_colours_38 : decode cX3_colours 38 = .ok (.ireturn, 1) := dk_172 (dk_at dksX3_colours_1 14 rfl rfl)
theorem dX3_colours_39 : decode cX3_colours 39 = .ok (.iload_n 2, 1) := dk_28 (dk_at dksX3_colours_1 15 rfl rfl)
theorem dX3_colours_40 : decode cX3_colours 40 = .ok (.iconst 2, 1) := dk_5 (dk_at dksX3_colours_1 16 rfl rfl)
theorem dX3_colours_41 : decode cX3_colours 41 = .ok (.if_icmp .eq 5, 3) := dk_159 0 5 (dk_at dksX3_colours_1 17 rfl rfl)
theorem dX3_colours_44 : decode cX3_colours 44 = .ok (.iconst (-1), 1) := dk_2 (dk_at dksX3_colours_1 20 rfl rfl)
theorem dX3_colours_45 : decode cX3_colours 45 = .ok (.ireturn, 1) := dk_172 (dk_at dksX3_colours_1 21 rfl rfl)
theorem dX3_colours_46 : decode cX3_colours 46 = .ok (.iconst 0, 1) := dk_3 (dk_at dksX3_colours_1 22 rfl rfl)
theorem dX3_colours_47 : decode cX3_colours 47 = .ok (.istore_n 3, 1) := dk_62 (dk_at dksX3_colours_1 23 rfl rfl)
theorem dX3_colours_48 : decode cX3_colours 48 = .ok (.iconst 0, 1) := dk_3 (dk_at dksX3_colours_2 0 rfl rfl)
theorem dX3_colours_49 : decode cX3_colours 49 = .ok (.istore 4, 2) := dk_54 4 (dk_at dksX3_colours_2 1 rfl rfl)
theorem dX3_colours_51 : decode cX3_colours 51 = .ok (.iload 4, 2) := dk_21 4 (dk_at dksX3_colours_2 3 rfl rfl)
theorem dX3_colours_53 : decode cX3_colours 53 = .ok (.iconst 4, 1) := dk_7 (dk_at dksX3_colours_2 5 rfl rfl)
theorem dX3_colours_54 : decode cX3_colours 54 = .ok (.aload_n 0, 1) := dk_42 (dk_at dksX3_colours_2 6 rfl rfl)
theorem dX3_colours_55 : decode cX3_colours 55 = .ok (.getfield 13, 3) := dk_180 0 13 (dk_at dksX3_colours_2 7 rfl rfl)
theorem dX3_colours_58 : decode cX3_colours 58 = .ok (.iconst 0, 1) := dk_3 (dk_at dksX3_colours_2 10 rfl rfl)
theorem dX3_colours_59 : decode cX3_colours 59 = .ok (.iaload, 1) := dk_46 (dk_at dksX3_colours_2 11 rfl rfl)
theorem dX3_colours_60 : decode cX3_colours 60 = .ok (.imul, 1) := dk_104 (dk_at dksX3_colours_2 12 rfl rfl)
theorem dX3_colours_61 : decode cX3_colours 61 = .ok (.if_icmp .ge 23, 3) := dk_162 0 23 (dk_at dksX3_colours_2 13 rfl rfl)
theorem dX3_colours_64 : decode cX3_colours 64 = .ok (.aload_n 0, 1) := dk_42 (dk_at dksX3_colours_2 16 rfl rfl)
theorem dX3_colours_65 : decode cX3_colours 65 = .ok (.getfield 20, 3) := dk_180 0 20 (dk_at dksX3_colours_2 17 rfl rfl)
theorem dX3_colours_68 : decode cX3_colours 68 = .ok (.iload 4, 2) := dk_21 4 (dk_at dksX3_colours_2 20 rfl rfl)
theorem dX3_colours_70 : decode cX3_colours 70 = .ok (.iaload, 1) := dk_46 (dk_at dksX3_colours_2 22 rfl rfl)
theorem dX3_colours_71 : decode cX3_colours 71 = .ok (.iload_n 1, 1) := dk_27 (dk_at dksX3_colours_2 23 rfl rfl)
theorem dX3_colours_72 : decode cX3_colours 72 = .ok (.if_icmp .ne 6, 3) := dk_160 0 6 (dk_at dksX3_colours_3 0 rfl rfl)
theorem dX3_colours_75 : decode cX3_colours 75 = .ok (.iinc 3 1, 3) := dk_132 3 1 (dk_at dksX3_colours_3 3 rfl rfl)
theorem dX3_colours_78 : decode cX3_colours 78 = .ok (.iinc 4 1, 3) := dk_132 4 1 (dk_at dksX3_colours_3 6 rfl rfl)
theorem dX3_colours_81 : decode cX3_colours 81 = .ok (.goto (-30), 3) := dk_167 255 226 (dk_at dksX3_colours_3 9 rfl rfl)
theorem dX3_colours_84 : decode cX3_colours 84 = .ok (.iload_n 3, 1) := dk_29 (dk_at dksX3_colours_3 12 rfl rfl)
theorem dX3_colours_85 : decode cX3_colours 85 = .ok (.ireturn, 1) := dk_172 (dk_at dksX3_colours_3 13 rfl rfl)
abbrev cX3_countOf : ByteArray := prog_20_method_61_code
def yX3_countOf : MethodName := ⟨RX3, "countOf", "(I[I)I"⟩
def dkwX3_countOf_2 : List UInt8 := [132, 3, 1, 132, 5, 1, 167, 255, 225, 132, 4, 1, 167, 255, 205, 29, 172]
abbrev dktX3_countOf_2 : List UInt8 := dkwX3_countOf_2 ++ []
def dkwX3_countOf_1 : List UInt8 := [180, 0, 13, 3, 46, 162, 0, 26, 44, 16, 10, 21, 4, 104, 21, 5, 96, 46, 27, 160, 0, 6]
abbrev dktX3_countOf_1 : List UInt8 := dkwX3_countOf_1 ++ dktX3_countOf_2
def dkwX3_countOf_0 : List UInt8 := [3, 62, 3, 54, 4, 21, 4, 42, 180, 0, 17, 3, 46, 162, 0, 46, 3, 54, 5, 21, 5, 42]
abbrev dktX3_countOf_0 : List UInt8 := dkwX3_countOf_0 ++ dktX3_countOf_1
theorem dksX3_countOf_0 : cX3_countOf.data.toList.drop 0 = dktX3_countOf_0 := by decide +kernel
theorem dksX3_countOf_1 : cX3_countOf.data.toList.drop 22 = dktX3_countOf_1 := dk_seg dksX3_countOf_0 22 rfl rfl
theorem dksX3_countOf_2 : cX3_countOf.data.toList.drop 44 = dktX3_countOf_2 := dk_seg dksX3_countOf_1 22 rfl rfl
theorem dX3_countOf_0 : decode cX3_countOf 0 = .ok (.iconst 0, 1) := dk_3 (dk_at dksX3_countOf_0 0 rfl rfl)
theorem dX3_countOf_1 : decode cX3_countOf 1 = .ok (.istore_n 3, 1) := dk_62 (dk_at dksX3_countOf_0 1 rfl rfl)
theorem dX3_countOf_2 : decode cX3_countOf 2 = .ok (.iconst 0, 1) := dk_3 (dk_at dksX3_countOf_0 2 rfl rfl)
theorem dX3_countOf_3 : decode cX3_countOf 3 = .ok (.istore 4, 2) := dk_54 4 (dk_at dksX3_countOf_0 3 rfl rfl)
theorem dX3_countOf_5 : decode cX3_countOf 5 = .ok (.iload 4, 2) := dk_21 4 (dk_at dksX3_countOf_0 5 rfl rfl)
theorem dX3_countOf_7 : decode cX3_countOf 7 = .ok (.aload_n 0, 1) := dk_42 (dk_at dksX3_countOf_0 7 rfl rfl)
theorem dX3_countOf_8 : decode cX3_countOf 8 = .ok (.getfield 17, 3) := dk_180 0 17 (dk_at dksX3_countOf_0 8 rfl rfl)
theorem dX3_countOf_11 : decode cX3_countOf 11 = .ok (.iconst 0, 1) := dk_3 (dk_at dksX3_countOf_0 11 rfl rfl)
theorem dX3_countOf_12 : decode cX3_countOf 12 = .ok (.iaload, 1) := dk_46 (dk_at dksX3_countOf_0 12 rfl rfl)
theorem dX3_countOf_13 : decode cX3_countOf 13 = .ok (.if_icmp .ge 46, 3) := dk_162 0 46 (dk_at dksX3_countOf_0 13 rfl rfl)
theorem dX3_countOf_16 : decode cX3_countOf 16 = .ok (.iconst 0, 1) := dk_3 (dk_at dksX3_countOf_0 16 rfl rfl)
theorem dX3_countOf_17 : decode cX3_countOf 17 = .ok (.istore 5, 2) := dk_54 5 (dk_at dksX3_countOf_0 17 rfl rfl)
theorem dX3_countOf_19 : decode cX3_countOf 19 = .ok (.iload 5, 2) := dk_21 5 (dk_at dksX3_countOf_0 19 rfl rfl)
theorem dX3_countOf_21 : decode cX3_countOf 21 = .ok (.aload_n 0, 1) := dk_42 (dk_at dksX3_countOf_0 21 rfl rfl)
theorem dX3_countOf_22 : decode cX3_countOf 22 = .ok (.getfield 13, 3) := dk_180 0 13 (dk_at dksX3_countOf_1 0 rfl rfl)
theorem dX3_countOf_25 : decode cX3_countOf 25 = .ok (.iconst 0, 1) := dk_3 (dk_at dksX3_countOf_1 3 rfl rfl)
theorem dX3_countOf_26 : decode cX3_countOf 26 = .ok (.iaload, 1) := dk_46 (dk_at dksX3_countOf_1 4 rfl rfl)
theorem dX3_countOf_27 : decode cX3_countOf 27 = .ok (.if_icmp .ge 26, 3) := dk_162 0 26 (dk_at dksX3_countOf_1 5 rfl rfl)
theorem dX3_countOf_30 : decode cX3_countOf 30 = .ok (.aload_n 2, 1) := dk_44 (dk_at dksX3_countOf_1 8 rfl rfl)
theorem dX3_countOf_31 : decode cX3_countOf 31 = .ok (.bipush 10, 2) := dk_16 10 (dk_at dksX3_countOf_1 9 rfl rfl)
theorem dX3_countOf_33 : decode cX3_countOf 33 = .ok (.iload 4, 2) := dk_21 4 (dk_at dksX3_countOf_1 11 rfl rfl)
theorem dX3_countOf_35 : decode cX3_countOf 35 = .ok (.imul, 1) := dk_104 (dk_at dksX3_countOf_1 13 rfl rfl)
theorem dX3_countOf_36 : decode cX3_countOf 36 = .ok (.iload 5, 2) := dk_21 5 (dk_at dksX3_countOf_1 14 rfl rfl)
theorem dX3_countOf_38 : decode cX3_countOf 38 = .ok (.iadd, 1) := dk_96 (dk_at dksX3_countOf_1 16 rfl rfl)
theorem dX3_countOf_39 : decode cX3_countOf 39 = .ok (.iaload, 1) := dk_46 (dk_at dksX3_countOf_1 17 rfl rfl)
theorem dX3_countOf_40 : decode cX3_countOf 40 = .ok (.iload_n 1, 1) := dk_27 (dk_at dksX3_countOf_1 18 rfl rfl)
theorem dX3_countOf_41 : decode cX3_countOf 41 = .ok (.if_icmp .ne 6, 3) := dk_160 0 6 (dk_at dksX3_countOf_1 19 rfl rfl)
theorem dX3_countOf_44 : decode cX3_countOf 44 = .ok (.iinc 3 1, 3) := dk_132 3 1 (dk_at dksX3_countOf_2 0 rfl rfl)
theorem dX3_countOf_47 : decode cX3_countOf 47 = .ok (.iinc 5 1, 3) := dk_132 5 1 (dk_at dksX3_countOf_2 3 rfl rfl)
theorem dX3_countOf_50 : decode cX3_countOf 50 = .ok (.goto (-31), 3) := dk_167 255 225 (dk_at dksX3_countOf_2 6 rfl rfl)
theorem dX3_countOf_53 : decode cX3_countOf 53 = .ok (.iinc 4 1, 3) := dk_132 4 1 (dk_at dksX3_countOf_2 9 rfl rfl)
theorem dX3_countOf_56 : decode cX3_countOf 56 = .ok (.goto (-51), 3) := dk_167 255 205 (dk_at dksX3_countOf_2 12 rfl rfl)
theorem dX3_countOf_59 : decode cX3_countOf 59 = .ok (.iload_n 3, 1) := dk_29 (dk_at dksX3_countOf_2 15 rfl rfl)
theorem dX3_countOf_60 : decode cX3_countOf 60 = .ok (.ireturn, 1) := dk_172 (dk_at dksX3_countOf_2 16 rfl rfl)
abbrev cX3_ranked : ByteArray := prog_20_method_64_code
def yX3_ranked : MethodName := ⟨RX3, "ranked", "(I)I"⟩
def dkwX3_ranked_2 : List UInt8 := [160, 0, 5, 28, 172, 132, 2, 1, 167, 255, 203, 2, 172]
abbrev dktX3_ranked_2 : List UInt8 := dkwX3_ranked_2 ++ []
def dkwX3_ranked_1 : List UInt8 := [159, 0, 16, 42, 21, 4, 28, 182, 0, 244, 153, 0, 6, 132, 3, 1, 132, 4, 1, 167, 255, 227, 29, 27]
abbrev dktX3_ranked_1 : List UInt8 := dkwX3_ranked_1 ++ dktX3_ranked_2
def dkwX3_ranked_0 : List UInt8 := [3, 61, 28, 16, 10, 162, 0, 53, 3, 62, 3, 54, 4, 21, 4, 16, 10, 162, 0, 28, 21, 4, 28]
abbrev dktX3_ranked_0 : List UInt8 := dkwX3_ranked_0 ++ dktX3_ranked_1
theorem dksX3_ranked_0 : cX3_ranked.data.toList.drop 0 = dktX3_ranked_0 := by decide +kernel
theorem dksX3_ranked_1 : cX3_ranked.data.toList.drop 23 = dktX3_ranked_1 := dk_seg dksX3_ranked_0 23 rfl rfl
theorem dksX3_ranked_2 : cX3_ranked.data.toList.drop 47 = dktX3_ranked_2 := dk_seg dksX3_ranked_1 24 rfl rfl
theorem dX3_ranked_0 : decode cX3_ranked 0 = .ok (.iconst 0, 1) := dk_3 (dk_at dksX3_ranked_0 0 rfl rfl)
theorem dX3_ranked_1 : decode cX3_ranked 1 = .ok (.istore_n 2, 1) := dk_61 (dk_at dksX3_ranked_0 1 rfl rfl)
theorem dX3_ranked_2 : decode cX3_ranked 2 = .ok (.iload_n 2, 1) := dk_28 (dk_at dksX3_ranked_0 2 rfl rfl)
theorem dX3_ranked_3 : decode cX3_ranked 3 = .ok (.bipush 10, 2) := dk_16 10 (dk_at dksX3_ranked_0 3 rfl rfl)
theorem dX3_ranked_5 : decode cX3_ranked 5 = .ok (.if_icmp .ge 53, 3) := dk_162 0 53 (dk_at dksX3_ranked_0 5 rfl rfl)
theorem dX3_ranked_8 : decode cX3_ranked 8 = .ok (.iconst 0, 1) := dk_3 (dk_at dksX3_ranked_0 8 rfl rfl)
theorem dX3_ranked_9 : decode cX3_ranked 9 = .ok (.istore_n 3, 1) := dk_62 (dk_at dksX3_ranked_0 9 rfl rfl)
theorem dX3_ranked_10 : decode cX3_ranked 10 = .ok (.iconst 0, 1) := dk_3 (dk_at dksX3_ranked_0 10 rfl rfl)
theorem dX3_ranked_11 : decode cX3_ranked 11 = .ok (.istore 4, 2) := dk_54 4 (dk_at dksX3_ranked_0 11 rfl rfl)
theorem dX3_ranked_13 : decode cX3_ranked 13 = .ok (.iload 4, 2) := dk_21 4 (dk_at dksX3_ranked_0 13 rfl rfl)
theorem dX3_ranked_15 : decode cX3_ranked 15 = .ok (.bipush 10, 2) := dk_16 10 (dk_at dksX3_ranked_0 15 rfl rfl)
theorem dX3_ranked_17 : decode cX3_ranked 17 = .ok (.if_icmp .ge 28, 3) := dk_162 0 28 (dk_at dksX3_ranked_0 17 rfl rfl)
theorem dX3_ranked_20 : decode cX3_ranked 20 = .ok (.iload 4, 2) := dk_21 4 (dk_at dksX3_ranked_0 20 rfl rfl)
theorem dX3_ranked_22 : decode cX3_ranked 22 = .ok (.iload_n 2, 1) := dk_28 (dk_at dksX3_ranked_0 22 rfl rfl)
theorem dX3_ranked_23 : decode cX3_ranked 23 = .ok (.if_icmp .eq 16, 3) := dk_159 0 16 (dk_at dksX3_ranked_1 0 rfl rfl)
theorem dX3_ranked_26 : decode cX3_ranked 26 = .ok (.aload_n 0, 1) := dk_42 (dk_at dksX3_ranked_1 3 rfl rfl)
theorem dX3_ranked_27 : decode cX3_ranked 27 = .ok (.iload 4, 2) := dk_21 4 (dk_at dksX3_ranked_1 4 rfl rfl)
theorem dX3_ranked_29 : decode cX3_ranked 29 = .ok (.iload_n 2, 1) := dk_28 (dk_at dksX3_ranked_1 6 rfl rfl)
theorem dX3_ranked_30 : decode cX3_ranked 30 = .ok (.invokevirtual 244, 3) := dk_182 0 244 (dk_at dksX3_ranked_1 7 rfl rfl)
theorem dX3_ranked_33 : decode cX3_ranked 33 = .ok (.ifCond .eq 6, 3) := dk_153 0 6 (dk_at dksX3_ranked_1 10 rfl rfl)
theorem dX3_ranked_36 : decode cX3_ranked 36 = .ok (.iinc 3 1, 3) := dk_132 3 1 (dk_at dksX3_ranked_1 13 rfl rfl)
theorem dX3_ranked_39 : decode cX3_ranked 39 = .ok (.iinc 4 1, 3) := dk_132 4 1 (dk_at dksX3_ranked_1 16 rfl rfl)
theorem dX3_ranked_42 : decode cX3_ranked 42 = .ok (.goto (-29), 3) := dk_167 255 227 (dk_at dksX3_ranked_1 19 rfl rfl)
theorem dX3_ranked_45 : decode cX3_ranked 45 = .ok (.iload_n 3, 1) := dk_29 (dk_at dksX3_ranked_1 22 rfl rfl)
theorem dX3_ranked_46 : decode cX3_ranked 46 = .ok (.iload_n 1, 1) := dk_27 (dk_at dksX3_ranked_1 23 rfl rfl)
theorem dX3_ranked_47 : decode cX3_ranked 47 = .ok (.if_icmp .ne 5, 3) := dk_160 0 5 (dk_at dksX3_ranked_2 0 rfl rfl)
theorem dX3_ranked_50 : decode cX3_ranked 50 = .ok (.iload_n 2, 1) := dk_28 (dk_at dksX3_ranked_2 3 rfl rfl)
theorem dX3_ranked_51 : decode cX3_ranked 51 = .ok (.ireturn, 1) := dk_172 (dk_at dksX3_ranked_2 4 rfl rfl)
theorem dX3_ranked_52 : decode cX3_ranked 52 = .ok (.iinc 2 1, 3) := dk_132 2 1 (dk_at dksX3_ranked_2 5 rfl rfl)
theorem dX3_ranked_55 : decode cX3_ranked 55 = .ok (.goto (-53), 3) := dk_167 255 203 (dk_at dksX3_ranked_2 8 rfl rfl)
theorem dX3_ranked_58 : decode cX3_ranked 58 = .ok (.iconst (-1), 1) := dk_2 (dk_at dksX3_ranked_2 11 rfl rfl)
theorem dX3_ranked_59 : decode cX3_ranked 59 = .ok (.ireturn, 1) := dk_172 (dk_at dksX3_ranked_2 12 rfl rfl)
abbrev cX3_isAhead : ByteArray := prog_20_method_63_code
def yX3_isAhead : MethodName := ⟨RX3, "isAhead", "(II)Z"⟩
def dkwX3_isAhead_3 : List UInt8 := [4, 167, 0, 17, 3, 167, 0, 13, 27, 28, 162, 0, 7, 4, 167, 0, 4, 3, 172]
abbrev dktX3_isAhead_3 : List UInt8 := dkwX3_isAhead_3 ++ []
def dkwX3_isAhead_2 : List UInt8 := [62, 42, 28, 42, 180, 0, 35, 182, 0, 240, 54, 4, 29, 21, 4, 159, 0, 17, 29, 21, 4, 162, 0, 7]
abbrev dktX3_isAhead_2 : List UInt8 := dkwX3_isAhead_2 ++ dktX3_isAhead_3
def dkwX3_isAhead_1 : List UInt8 := [159, 0, 15, 29, 21, 4, 164, 0, 7, 4, 167, 0, 4, 3, 172, 42, 27, 42, 180, 0, 35, 182, 0, 240]
abbrev dktX3_isAhead_1 : List UInt8 := dkwX3_isAhead_1 ++ dktX3_isAhead_2
def dkwX3_isAhead_0 : List UInt8 := [42, 27, 42, 180, 0, 32, 182, 0, 240, 62, 42, 28, 42, 180, 0, 32, 182, 0, 240, 54, 4, 29, 21, 4]
abbrev dktX3_isAhead_0 : List UInt8 := dkwX3_isAhead_0 ++ dktX3_isAhead_1
theorem dksX3_isAhead_0 : cX3_isAhead.data.toList.drop 0 = dktX3_isAhead_0 := by decide +kernel
theorem dksX3_isAhead_1 : cX3_isAhead.data.toList.drop 24 = dktX3_isAhead_1 := dk_seg dksX3_isAhead_0 24 rfl rfl
theorem dksX3_isAhead_2 : cX3_isAhead.data.toList.drop 48 = dktX3_isAhead_2 := dk_seg dksX3_isAhead_1 24 rfl rfl
theorem dksX3_isAhead_3 : cX3_isAhead.data.toList.drop 72 = dktX3_isAhead_3 := dk_seg dksX3_isAhead_2 24 rfl rfl
theorem dX3_isAhead_0 : decode cX3_isAhead 0 = .ok (.aload_n 0, 1) := dk_42 (dk_at dksX3_isAhead_0 0 rfl rfl)
theorem dX3_isAhead_1 : decode cX3_isAhead 1 = .ok (.iload_n 1, 1) := dk_27 (dk_at dksX3_isAhead_0 1 rfl rfl)
theorem dX3_isAhead_2 : decode cX3_isAhead 2 = .ok (.aload_n 0, 1) := dk_42 (dk_at dksX3_isAhead_0 2 rfl rfl)
theorem dX3_isAhead_3 : decode cX3_isAhead 3 = .ok (.getfield 32, 3) := dk_180 0 32 (dk_at dksX3_isAhead_0 3 rfl rfl)
theorem dX3_isAhead_6 : decode cX3_isAhead 6 = .ok (.invokevirtual 240, 3) := dk_182 0 240 (dk_at dksX3_isAhead_0 6 rfl rfl)
theorem dX3_isAhead_9 : decode cX3_isAhead 9 = .ok (.istore_n 3, 1) := dk_62 (dk_at dksX3_isAhead_0 9 rfl rfl)
theorem dX3_isAhead_10 : decode cX3_isAhead 10 = .ok (.aload_n 0, 1) := dk_42 (dk_at dksX3_isAhead_0 10 rfl rfl)
theorem dX3_isAhead_11 : decode cX3_isAhead 11 = .ok (.iload_n 2, 1) := dk_28 (dk_at dksX3_isAhead_0 11 rfl rfl)
theorem dX3_isAhead_12 : decode cX3_isAhead 12 = .ok (.aload_n 0, 1) := dk_42 (dk_at dksX3_isAhead_0 12 rfl rfl)
theorem dX3_isAhead_13 : decode cX3_isAhead 13 = .ok (.getfield 32, 3) := dk_180 0 32 (dk_at dksX3_isAhead_0 13 rfl rfl)
theorem dX3_isAhead_16 : decode cX3_isAhead 16 = .ok (.invokevirtual 240, 3) := dk_182 0 240 (dk_at dksX3_isAhead_0 16 rfl rfl)
theorem dX3_isAhead_19 : decode cX3_isAhead 19 = .ok (.istore 4, 2) := dk_54 4 (dk_at dksX3_isAhead_0 19 rfl rfl)
theorem dX3_isAhead_21 : decode cX3_isAhead 21 = .ok (.iload_n 3, 1) := dk_29 (dk_at dksX3_isAhead_0 21 rfl rfl)
theorem dX3_isAhead_22 : decode cX3_isAhead 22 = .ok (.iload 4, 2) := dk_21 4 (dk_at dksX3_isAhead_0 22 rfl rfl)
theorem dX3_isAhead_24 : decode cX3_isAhead 24 = .ok (.if_icmp .eq 15, 3) := dk_159 0 15 (dk_at dksX3_isAhead_1 0 rfl rfl)
theorem dX3_isAhead_27 : decode cX3_isAhead 27 = .ok (.iload_n 3, 1) := dk_29 (dk_at dksX3_isAhead_1 3 rfl rfl)
theorem dX3_isAhead_28 : decode cX3_isAhead 28 = .ok (.iload 4, 2) := dk_21 4 (dk_at dksX3_isAhead_1 4 rfl rfl)
theorem dX3_isAhead_30 : decode cX3_isAhead 30 = .ok (.if_icmp .le 7, 3) := dk_164 0 7 (dk_at dksX3_isAhead_1 6 rfl rfl)
theorem dX3_isAhead_33 : decode cX3_isAhead 33 = .ok (.iconst 1, 1) := dk_4 (dk_at dksX3_isAhead_1 9 rfl rfl)
theorem dX3_isAhead_34 : decode cX3_isAhead 34 = .ok (.goto 4, 3) := dk_167 0 4 (dk_at dksX3_isAhead_1 10 rfl rfl)
theorem dX3_isAhead_37 : decode cX3_isAhead 37 = .ok (.iconst 0, 1) := dk_3 (dk_at dksX3_isAhead_1 13 rfl rfl)
theorem dX3_isAhead_38 : decode cX3_isAhead 38 = .ok (.ireturn, 1) := dk_172 (dk_at dksX3_isAhead_1 14 rfl rfl)
theorem dX3_isAhead_39 : decode cX3_isAhead 39 = .ok (.aload_n 0, 1) := dk_42 (dk_at dksX3_isAhead_1 15 rfl rfl)
theorem dX3_isAhead_40 : decode cX3_isAhead 40 = .ok (.iload_n 1, 1) := dk_27 (dk_at dksX3_isAhead_1 16 rfl rfl)
theorem dX3_isAhead_41 : decode cX3_isAhead 41 = .ok (.aload_n 0, 1) := dk_42 (dk_at dksX3_isAhead_1 17 rfl rfl)
theorem dX3_isAhead_42 : decode cX3_isAhead 42 = .ok (.getfield 35, 3) := dk_180 0 35 (dk_at dksX3_isAhead_1 18 rfl rfl)
theorem dX3_isAhead_45 : decode cX3_isAhead 45 = .ok (.invokevirtual 240, 3) := dk_182 0 240 (dk_at dksX3_isAhead_1 21 rfl rfl)
theorem dX3_isAhead_48 : decode cX3_isAhead 48 = .ok (.istore_n 3, 1) := dk_62 (dk_at dksX3_isAhead_2 0 rfl rfl)
theorem dX3_isAhead_49 : decode cX3_isAhead 49 = .ok (.aload_n 0, 1) := dk_42 (dk_at dksX3_isAhead_2 1 rfl rfl)
theorem dX3_isAhead_50 : decode cX3_isAhead 50 = .ok (.iload_n 2, 1) := dk_28 (dk_at dksX3_isAhead_2 2 rfl rfl)
theorem dX3_isAhead_51 : decode cX3_isAhead 51 = .ok (.aload_n 0, 1) := dk_42 (dk_at dksX3_isAhead_2 3 rfl rfl)
theorem dX3_isAhead_52 : decode cX3_isAhead 52 = .ok (.getfield 35, 3) := dk_180 0 35 (dk_at dksX3_isAhead_2 4 rfl rfl)
theorem dX3_isAhead_55 : decode cX3_isAhead 55 = .ok (.invokevirtual 240, 3) := dk_182 0 240 (dk_at dksX3_isAhead_2 7 rfl rfl)
theorem dX3_isAhead_58 : decode cX3_isAhead 58 = .ok (.istore 4, 2) := dk_54 4 (dk_at dksX3_isAhead_2 10 rfl rfl)
theorem dX3_isAhead_60 : decode cX3_isAhead 60 = .ok (.iload_n 3, 1) := dk_29 (dk_at dksX3_isAhead_2 12 rfl rfl)
theorem dX3_isAhead_61 : decode cX3_isAhead 61 = .ok (.iload 4, 2) := dk_21 4 (dk_at dksX3_isAhead_2 13 rfl rfl)
theorem dX3_isAhead_63 : decode cX3_isAhead 63 = .ok (.if_icmp .eq 17, 3) := dk_159 0 17 (dk_at dksX3_isAhead_2 15 rfl rfl)
theorem dX3_isAhead_66 : decode cX3_isAhead 66 = .ok (.iload_n 3, 1) := dk_29 (dk_at dksX3_isAhead_2 18 rfl rfl)
theorem dX3_isAhead_67 : decode cX3_isAhead 67 = .ok (.iload 4, 2) := dk_21 4 (dk_at dksX3_isAhead_2 19 rfl rfl)
theorem dX3_isAhead_69 : decode cX3_isAhead 69 = .ok (.if_icmp .ge 7, 3) := dk_162 0 7 (dk_at dksX3_isAhead_2 21 rfl rfl)
theorem dX3_isAhead_72 : decode cX3_isAhead 72 = .ok (.iconst 1, 1) := dk_4 (dk_at dksX3_isAhead_3 0 rfl rfl)
theorem dX3_isAhead_73 : decode cX3_isAhead 73 = .ok (.goto 17, 3) := dk_167 0 17 (dk_at dksX3_isAhead_3 1 rfl rfl)
theorem dX3_isAhead_76 : decode cX3_isAhead 76 = .ok (.iconst 0, 1) := dk_3 (dk_at dksX3_isAhead_3 4 rfl rfl)
theorem dX3_isAhead_77 : decode cX3_isAhead 77 = .ok (.goto 13, 3) := dk_167 0 13 (dk_at dksX3_isAhead_3 5 rfl rfl)
theorem dX3_isAhead_80 : decode cX3_isAhead 80 = .ok (.iload_n 1, 1) := dk_27 (dk_at dksX3_isAhead_3 8 rfl rfl)
theorem dX3_isAhead_81 : decode cX3_isAhead 81 = .ok (.iload_n 2, 1) := dk_28 (dk_at dksX3_isAhead_3 9 rfl rfl)
theorem dX3_isAhead_82 : decode cX3_isAhead 82 = .ok (.if_icmp .ge 7, 3) := dk_162 0 7 (dk_at dksX3_isAhead_3 10 rfl rfl)
theorem dX3_isAhead_85 : decode cX3_isAhead 85 = .ok (.iconst 1, 1) := dk_4 (dk_at dksX3_isAhead_3 13 rfl rfl)
theorem dX3_isAhead_86 : decode cX3_isAhead 86 = .ok (.goto 4, 3) := dk_167 0 4 (dk_at dksX3_isAhead_3 14 rfl rfl)
theorem dX3_isAhead_89 : decode cX3_isAhead 89 = .ok (.iconst 0, 1) := dk_3 (dk_at dksX3_isAhead_3 17 rfl rfl)
theorem dX3_isAhead_90 : decode cX3_isAhead 90 = .ok (.ireturn, 1) := dk_172 (dk_at dksX3_isAhead_3 18 rfl rfl)
abbrev cX3_alike : ByteArray := prog_20_method_65_code
def yX3_alike : MethodName := ⟨RX3, "alike", "(II)I"⟩
def dkwX3_alike_1 : List UInt8 := [167, 0, 4, 2, 172]
abbrev dktX3_alike_1 : List UInt8 := dkwX3_alike_1 ++ []
def dkwX3_alike_0 : List UInt8 := [42, 27, 182, 0, 193, 153, 0, 20, 42, 28, 182, 0, 193, 153, 0, 12, 42, 27, 28, 182, 0, 237]
abbrev dktX3_alike_0 : List UInt8 := dkwX3_alike_0 ++ dktX3_alike_1
theorem dksX3_alike_0 : cX3_alike.data.toList.drop 0 = dktX3_alike_0 := by decide +kernel
theorem dksX3_alike_1 : cX3_alike.data.toList.drop 22 = dktX3_alike_1 := dk_seg dksX3_alike_0 22 rfl rfl
theorem dX3_alike_0 : decode cX3_alike 0 = .ok (.aload_n 0, 1) := dk_42 (dk_at dksX3_alike_0 0 rfl rfl)
theorem dX3_alike_1 : decode cX3_alike 1 = .ok (.iload_n 1, 1) := dk_27 (dk_at dksX3_alike_0 1 rfl rfl)
theorem dX3_alike_2 : decode cX3_alike 2 = .ok (.invokevirtual 193, 3) := dk_182 0 193 (dk_at dksX3_alike_0 2 rfl rfl)
theorem dX3_alike_5 : decode cX3_alike 5 = .ok (.ifCond .eq 20, 3) := dk_153 0 20 (dk_at dksX3_alike_0 5 rfl rfl)
theorem dX3_alike_8 : decode cX3_alike 8 = .ok (.aload_n 0, 1) := dk_42 (dk_at dksX3_alike_0 8 rfl rfl)
theorem dX3_alike_9 : decode cX3_alike 9 = .ok (.iload_n 2, 1) := dk_28 (dk_at dksX3_alike_0 9 rfl rfl)
theorem dX3_alike_10 : decode cX3_alike 10 = .ok (.invokevirtual 193, 3) := dk_182 0 193 (dk_at dksX3_alike_0 10 rfl rfl)
theorem dX3_alike_13 : decode cX3_alike 13 = .ok (.ifCond .eq 12, 3) := dk_153 0 12 (dk_at dksX3_alike_0 13 rfl rfl)
theorem dX3_alike_16 : decode cX3_alike 16 = .ok (.aload_n 0, 1) := dk_42 (dk_at dksX3_alike_0 16 rfl rfl)
theorem dX3_alike_17 : decode cX3_alike 17 = .ok (.iload_n 1, 1) := dk_27 (dk_at dksX3_alike_0 17 rfl rfl)
theorem dX3_alike_18 : decode cX3_alike 18 = .ok (.iload_n 2, 1) := dk_28 (dk_at dksX3_alike_0 18 rfl rfl)
theorem dX3_alike_19 : decode cX3_alike 19 = .ok (.invokevirtual 237, 3) := dk_182 0 237 (dk_at dksX3_alike_0 19 rfl rfl)
theorem dX3_alike_22 : decode cX3_alike 22 = .ok (.goto 4, 3) := dk_167 0 4 (dk_at dksX3_alike_1 0 rfl rfl)
theorem dX3_alike_25 : decode cX3_alike 25 = .ok (.iconst (-1), 1) := dk_2 (dk_at dksX3_alike_1 3 rfl rfl)
theorem dX3_alike_26 : decode cX3_alike 26 = .ok (.ireturn, 1) := dk_172 (dk_at dksX3_alike_1 4 rfl rfl)
abbrev cX3_faces : ByteArray := prog_20_method_66_code
def yX3_faces : MethodName := ⟨RX3, "faces", "(I)I"⟩
def dkwX3_faces_2 : List UInt8 := [160, 0, 6, 132, 2, 1, 132, 3, 1, 167, 255, 215, 28, 172]
abbrev dktX3_faces_2 : List UInt8 := dkwX3_faces_2 ++ []
def dkwX3_faces_1 : List UInt8 := [42, 180, 0, 32, 16, 10, 27, 104, 29, 96, 46, 42, 180, 0, 35, 16, 10, 27, 104, 29, 96, 46]
abbrev dktX3_faces_1 : List UInt8 := dkwX3_faces_1 ++ dktX3_faces_2
def dkwX3_faces_0 : List UInt8 := [42, 27, 182, 0, 193, 154, 0, 5, 2, 172, 3, 61, 3, 62, 29, 42, 180, 0, 13, 3, 46, 162, 0, 37]
abbrev dktX3_faces_0 : List UInt8 := dkwX3_faces_0 ++ dktX3_faces_1
theorem dksX3_faces_0 : cX3_faces.data.toList.drop 0 = dktX3_faces_0 := by decide +kernel
theorem dksX3_faces_1 : cX3_faces.data.toList.drop 24 = dktX3_faces_1 := dk_seg dksX3_faces_0 24 rfl rfl
theorem dksX3_faces_2 : cX3_faces.data.toList.drop 46 = dktX3_faces_2 := dk_seg dksX3_faces_1 22 rfl rfl
theorem dX3_faces_0 : decode cX3_faces 0 = .ok (.aload_n 0, 1) := dk_42 (dk_at dksX3_faces_0 0 rfl rfl)
theorem dX3_faces_1 : decode cX3_faces 1 = .ok (.iload_n 1, 1) := dk_27 (dk_at dksX3_faces_0 1 rfl rfl)
theorem dX3_faces_2 : decode cX3_faces 2 = .ok (.invokevirtual 193, 3) := dk_182 0 193 (dk_at dksX3_faces_0 2 rfl rfl)
theorem dX3_faces_5 : decode cX3_faces 5 = .ok (.ifCond .ne 5, 3) := dk_154 0 5 (dk_at dksX3_faces_0 5 rfl rfl)
theorem dX3_faces_8 : decode cX3_faces 8 = .ok (.iconst (-1), 1) := dk_2 (dk_at dksX3_faces_0 8 rfl rfl)
theorem dX3_faces_9 : decode cX3_faces 9 = .ok (.ireturn, 1) := dk_172 (dk_at dksX3_faces_0 9 rfl rfl)
theorem dX3_faces_10 : decode cX3_faces 10 = .ok (.iconst 0, 1) := dk_3 (dk_at dksX3_faces_0 10 rfl rfl)
theorem dX3_faces_11 : decode cX3_faces 11 = .ok (.istore_n 2, 1) := dk_61 (dk_at dksX3_faces_0 11 rfl rfl)
theorem dX3_faces_12 : decode cX3_faces 12 = .ok (.iconst 0, 1) := dk_3 (dk_at dksX3_faces_0 12 rfl rfl)
theorem dX3_faces_13 : decode cX3_faces 13 = .ok (.istore_n 3, 1) := dk_62 (dk_at dksX3_faces_0 13 rfl rfl)
theorem dX3_faces_14 : decode cX3_faces 14 = .ok (.iload_n 3, 1) := dk_29 (dk_at dksX3_faces_0 14 rfl rfl)
theorem dX3_faces_15 : decode cX3_faces 15 = .ok (.aload_n 0, 1) := dk_42 (dk_at dksX3_faces_0 15 rfl rfl)
theorem dX3_faces_16 : decode cX3_faces 16 = .ok (.getfield 13, 3) := dk_180 0 13 (dk_at dksX3_faces_0 16 rfl rfl)
theorem dX3_faces_19 : decode cX3_faces 19 = .ok (.iconst 0, 1) := dk_3 (dk_at dksX3_faces_0 19 rfl rfl)
theorem dX3_faces_20 : decode cX3_faces 20 = .ok (.iaload, 1) := dk_46 (dk_at dksX3_faces_0 20 rfl rfl)
theorem dX3_faces_21 : decode cX3_faces 21 = .ok (.if_icmp .ge 37, 3) := dk_162 0 37 (dk_at dksX3_faces_0 21 rfl rfl)
theorem dX3_faces_24 : decode cX3_faces 24 = .ok (.aload_n 0, 1) := dk_42 (dk_at dksX3_faces_1 0 rfl rfl)
theorem dX3_faces_25 : decode cX3_faces 25 = .ok (.getfield 32, 3) := dk_180 0 32 (dk_at dksX3_faces_1 1 rfl rfl)
theorem dX3_faces_28 : decode cX3_faces 28 = .ok (.bipush 10, 2) := dk_16 10 (dk_at dksX3_faces_1 4 rfl rfl)
theorem dX3_faces_30 : decode cX3_faces 30 = .ok (.iload_n 1, 1) := dk_27 (dk_at dksX3_faces_1 6 rfl rfl)
theorem dX3_faces_31 : decode cX3_faces 31 = .ok (.imul, 1) := dk_104 (dk_at dksX3_faces_1 7 rfl rfl)
theorem dX3_faces_32 : decode cX3_faces 32 = .ok (.iload_n 3, 1) := dk_29 (dk_at dksX3_faces_1 8 rfl rfl)
theorem dX3_faces_33 : decode cX3_faces 33 = .ok (.iadd, 1) := dk_96 (dk_at dksX3_faces_1 9 rfl rfl)
theorem dX3_faces_34 : decode cX3_faces 34 = .ok (.iaload, 1) := dk_46 (dk_at dksX3_faces_1 10 rfl rfl)
theorem dX3_faces_35 : decode cX3_faces 35 = .ok (.aload_n 0, 1) := dk_42 (dk_at dksX3_faces_1 11 rfl rfl)
theorem dX3_faces_36 : decode cX3_faces 36 = .ok (.getfield 35, 3) := dk_180 0 35 (dk_at dksX3_faces_1 12 rfl rfl)
theorem dX3_faces_39 : decode cX3_faces 39 = .ok (.bipush 10, 2) := dk_16 10 (dk_at dksX3_faces_1 15 rfl rfl)
theorem dX3_faces_41 : decode cX3_faces 41 = .ok (.iload_n 1, 1) := dk_27 (dk_at dksX3_faces_1 17 rfl rfl)
theorem dX3_faces_42 : decode cX3_faces 42 = .ok (.imul, 1) := dk_104 (dk_at dksX3_faces_1 18 rfl rfl)
theorem dX3_faces_43 : decode cX3_faces 43 = .ok (.iload_n 3, 1) := dk_29 (dk_at dksX3_faces_1 19 rfl rfl)
theorem dX3_faces_44 : decode cX3_faces 44 = .ok (.iadd, 1) := dk_96 (dk_at dksX3_faces_1 20 rfl rfl)
theorem dX3_faces_45 : decode cX3_faces 45 = .ok (.iaload, 1) := dk_46 (dk_at dksX3_faces_1 21 rfl rfl)
theorem dX3_faces_46 : decode cX3_faces 46 = .ok (.if_icmp .ne 6, 3) := dk_160 0 6 (dk_at dksX3_faces_2 0 rfl rfl)
theorem dX3_faces_49 : decode cX3_faces 49 = .ok (.iinc 2 1, 3) := dk_132 2 1 (dk_at dksX3_faces_2 3 rfl rfl)
theorem dX3_faces_52 : decode cX3_faces 52 = .ok (.iinc 3 1, 3) := dk_132 3 1 (dk_at dksX3_faces_2 6 rfl rfl)
theorem dX3_faces_55 : decode cX3_faces 55 = .ok (.goto (-41), 3) := dk_167 255 215 (dk_at dksX3_faces_2 9 rfl rfl)
theorem dX3_faces_58 : decode cX3_faces 58 = .ok (.iload_n 2, 1) := dk_28 (dk_at dksX3_faces_2 12 rfl rfl)
theorem dX3_faces_59 : decode cX3_faces 59 = .ok (.ireturn, 1) := dk_172 (dk_at dksX3_faces_2 13 rfl rfl)
abbrev cX3_spell : ByteArray := prog_20_method_67_code
def yX3_spell : MethodName := ⟨RX3, "spell", "()I"⟩
def dkwX3_spell_5 : List UInt8 := [132, 1, 1, 167, 255, 144, 42, 180, 0, 248, 172]
abbrev dktX3_spell_5 : List UInt8 := dkwX3_spell_5 ++ []
def dkwX3_spell_4 : List UInt8 := [46, 154, 0, 8, 16, 83, 167, 0, 5, 16, 90, 79, 42, 89, 180, 0, 248, 8, 96, 181, 0, 248]
abbrev dktX3_spell_4 : List UInt8 := dkwX3_spell_4 ++ dktX3_spell_5
def dkwX3_spell_3 : List UInt8 := [46, 96, 79, 132, 2, 1, 167, 255, 224, 42, 180, 0, 95, 42, 180, 0, 248, 7, 96, 42, 180, 0, 23, 27]
abbrev dktX3_spell_3 : List UInt8 := dkwX3_spell_3 ++ dktX3_spell_4
def dkwX3_spell_2 : List UInt8 := [162, 0, 33, 42, 180, 0, 95, 42, 180, 0, 248, 28, 96, 16, 97, 42, 180, 0, 20, 7, 27, 104, 28, 96]
abbrev dktX3_spell_2 : List UInt8 := dkwX3_spell_2 ++ dktX3_spell_3
def dkwX3_spell_1 : List UInt8 := [180, 0, 95, 42, 180, 0, 248, 16, 59, 79, 42, 89, 180, 0, 248, 4, 96, 181, 0, 248, 3, 61, 28, 7]
abbrev dktX3_spell_1 : List UInt8 := dkwX3_spell_1 ++ dktX3_spell_2
def dkwX3_spell_0 : List UInt8 := [42, 3, 181, 0, 248, 3, 60, 27, 42, 180, 0, 13, 3, 46, 162, 0, 108, 27, 158, 0, 24, 42]
abbrev dktX3_spell_0 : List UInt8 := dkwX3_spell_0 ++ dktX3_spell_1
theorem dksX3_spell_0 : cX3_spell.data.toList.drop 0 = dktX3_spell_0 := by decide +kernel
theorem dksX3_spell_1 : cX3_spell.data.toList.drop 22 = dktX3_spell_1 := dk_seg dksX3_spell_0 22 rfl rfl
theorem dksX3_spell_2 : cX3_spell.data.toList.drop 46 = dktX3_spell_2 := dk_seg dksX3_spell_1 24 rfl rfl
theorem dksX3_spell_3 : cX3_spell.data.toList.drop 70 = dktX3_spell_3 := dk_seg dksX3_spell_2 24 rfl rfl
theorem dksX3_spell_4 : cX3_spell.data.toList.drop 94 = dktX3_spell_4 := dk_seg dksX3_spell_3 24 rfl rfl
theorem dksX3_spell_5 : cX3_spell.data.toList.drop 116 = dktX3_spell_5 := dk_seg dksX3_spell_4 22 rfl rfl
theorem dX3_spell_0 : decode cX3_spell 0 = .ok (.aload_n 0, 1) := dk_42 (dk_at dksX3_spell_0 0 rfl rfl)
theorem dX3_spell_1 : decode cX3_spell 1 = .ok (.iconst 0, 1) := dk_3 (dk_at dksX3_spell_0 1 rfl rfl)
theorem dX3_spell_2 : decode cX3_spell 2 = .ok (.putfield 248, 3) := dk_181 0 248 (dk_at dksX3_spell_0 2 rfl rfl)
theorem dX3_spell_5 : decode cX3_spell 5 = .ok (.iconst 0, 1) := dk_3 (dk_at dksX3_spell_0 5 rfl rfl)
theorem dX3_spell_6 : decode cX3_spell 6 = .ok (.istore_n 1, 1) := dk_60 (dk_at dksX3_spell_0 6 rfl rfl)
theorem dX3_spell_7 : decode cX3_spell 7 = .ok (.iload_n 1, 1) := dk_27 (dk_at dksX3_spell_0 7 rfl rfl)
theorem dX3_spell_8 : decode cX3_spell 8 = .ok (.aload_n 0, 1) := dk_42 (dk_at dksX3_spell_0 8 rfl rfl)
theorem dX3_spell_9 : decode cX3_spell 9 = .ok (.getfield 13, 3) := dk_180 0 13 (dk_at dksX3_spell_0 9 rfl rfl)
theorem dX3_spell_12 : decode cX3_spell 12 = .ok (.iconst 0, 1) := dk_3 (dk_at dksX3_spell_0 12 rfl rfl)
theorem dX3_spell_13 : decode cX3_spell 13 = .ok (.iaload, 1) := dk_46 (dk_at dksX3_spell_0 13 rfl rfl)
theorem dX3_spell_14 : decode cX3_spell 14 = .ok (.if_icmp .ge 108, 3) := dk_162 0 108 (dk_at dksX3_spell_0 14 rfl rfl)
theorem dX3_spell_17 : decode cX3_spell 17 = .ok (.iload_n 1, 1) := dk_27 (dk_at dksX3_spell_0 17 rfl rfl)
theorem dX3_spell_18 : decode cX3_spell 18 = .ok (.ifCond .le 24, 3) := dk_158 0 24 (dk_at dksX3_spell_0 18 rfl rfl)
theorem dX3_spell_21 : decode cX3_spell 21 = .ok (.aload_n 0, 1) := dk_42 (dk_at dksX3_spell_0 21 rfl rfl)
theorem dX3_spell_22 : decode cX3_spell 22 = .ok (.getfield 95, 3) := dk_180 0 95 (dk_at dksX3_spell_1 0 rfl rfl)
theorem dX3_spell_25 : decode cX3_spell 25 = .ok (.aload_n 0, 1) := dk_42 (dk_at dksX3_spell_1 3 rfl rfl)
theorem dX3_spell_26 : decode cX3_spell 26 = .ok (.getfield 248, 3) := dk_180 0 248 (dk_at dksX3_spell_1 4 rfl rfl)
theorem dX3_spell_29 : decode cX3_spell 29 = .ok (.bipush 59, 2) := dk_16 59 (dk_at dksX3_spell_1 7 rfl rfl)
theorem dX3_spell_31 : decode cX3_spell 31 = .ok (.iastore, 1) := dk_79 (dk_at dksX3_spell_1 9 rfl rfl)
theorem dX3_spell_32 : decode cX3_spell 32 = .ok (.aload_n 0, 1) := dk_42 (dk_at dksX3_spell_1 10 rfl rfl)
theorem dX3_spell_33 : decode cX3_spell 33 = .ok (.dup, 1) := dk_89 (dk_at dksX3_spell_1 11 rfl rfl)
theorem dX3_spell_34 : decode cX3_spell 34 = .ok (.getfield 248, 3) := dk_180 0 248 (dk_at dksX3_spell_1 12 rfl rfl)
theorem dX3_spell_37 : decode cX3_spell 37 = .ok (.iconst 1, 1) := dk_4 (dk_at dksX3_spell_1 15 rfl rfl)
theorem dX3_spell_38 : decode cX3_spell 38 = .ok (.iadd, 1) := dk_96 (dk_at dksX3_spell_1 16 rfl rfl)
theorem dX3_spell_39 : decode cX3_spell 39 = .ok (.putfield 248, 3) := dk_181 0 248 (dk_at dksX3_spell_1 17 rfl rfl)
theorem dX3_spell_42 : decode cX3_spell 42 = .ok (.iconst 0, 1) := dk_3 (dk_at dksX3_spell_1 20 rfl rfl)
theorem dX3_spell_43 : decode cX3_spell 43 = .ok (.istore_n 2, 1) := dk_61 (dk_at dksX3_spell_1 21 rfl rfl)
theorem dX3_spell_44 : decode cX3_spell 44 = .ok (.iload_n 2, 1) := dk_28 (dk_at dksX3_spell_1 22 rfl rfl)
theorem dX3_spell_45 : decode cX3_spell 45 = .ok (.iconst 4, 1) := dk_7 (dk_at dksX3_spell_1 23 rfl rfl)
theorem dX3_spell_46 : decode cX3_spell 46 = .ok (.if_icmp .ge 33, 3) := dk_162 0 33 (dk_at dksX3_spell_2 0 rfl rfl)
theorem dX3_spell_49 : decode cX3_spell 49 = .ok (.aload_n 0, 1) := dk_42 (dk_at dksX3_spell_2 3 rfl rfl)
theorem dX3_spell_50 : decode cX3_spell 50 = .ok (.getfield 95, 3) := dk_180 0 95 (dk_at dksX3_spell_2 4 rfl rfl)
theorem dX3_spell_53 : decode cX3_spell 53 = .ok (.aload_n 0, 1) := dk_42 (dk_at dksX3_spell_2 7 rfl rfl)
theorem dX3_spell_54 : decode cX3_spell 54 = .ok (.getfield 248, 3) := dk_180 0 248 (dk_at dksX3_spell_2 8 rfl rfl)
theorem dX3_spell_57 : decode cX3_spell 57 = .ok (.iload_n 2, 1) := dk_28 (dk_at dksX3_spell_2 11 rfl rfl)
theorem dX3_spell_58 : decode cX3_spell 58 = .ok (.iadd, 1) := dk_96 (dk_at dksX3_spell_2 12 rfl rfl)
theorem dX3_spell_59 : decode cX3_spell 59 = .ok (.bipush 97, 2) := dk_16 97 (dk_at dksX3_spell_2 13 rfl rfl)
theorem dX3_spell_61 : decode cX3_spell 61 = .ok (.aload_n 0, 1) := dk_42 (dk_at dksX3_spell_2 15 rfl rfl)
theorem dX3_spell_62 : decode cX3_spell 62 = .ok (.getfield 20, 3) := dk_180 0 20 (dk_at dksX3_spell_2 16 rfl rfl)
theorem dX3_spell_65 : decode cX3_spell 65 = .ok (.iconst 4, 1) := dk_7 (dk_at dksX3_spell_2 19 rfl rfl)
theorem dX3_spell_66 : decode cX3_spell 66 = .ok (.iload_n 1, 1) := dk_27 (dk_at dksX3_spell_2 20 rfl rfl)
theorem dX3_spell_67 : decode cX3_spell 67 = .ok (.imul, 1) := dk_104 (dk_at dksX3_spell_2 21 rfl rfl)
theorem dX3_spell_68 : decode cX3_spell 68 = .ok (.iload_n 2, 1) := dk_28 (dk_at dksX3_spell_2 22 rfl rfl)
theorem dX3_spell_69 : decode cX3_spell 69 = .ok (.iadd, 1) := dk_96 (dk_at dksX3_spell_2 23 rfl rfl)
theorem dX3_spell_70 : decode cX3_spell 70 = .ok (.iaload, 1) := dk_46 (dk_at dksX3_spell_3 0 rfl rfl)
theorem dX3_spell_71 : decode cX3_spell 71 = .ok (.iadd, 1) := dk_96 (dk_at dksX3_spell_3 1 rfl rfl)
theorem dX3_spell_72 : decode cX3_spell 72 = .ok (.iastore, 1) := dk_79 (dk_at dksX3_spell_3 2 rfl rfl)
theorem dX3_spell_73 : decode cX3_spell 73 = .ok (.iinc 2 1, 3) := dk_132 2 1 (dk_at dksX3_spell_3 3 rfl rfl)
theorem dX3_spell_76 : decode cX3_spell 76 = .ok (.goto (-32), 3) := dk_167 255 224 (dk_at dksX3_spell_3 6 rfl rfl)
theorem dX3_spell_79 : decode cX3_spell 79 = .ok (.aload_n 0, 1) := dk_42 (dk_at dksX3_spell_3 9 rfl rfl)
theorem dX3_spell_80 : decode cX3_spell 80 = .ok (.getfield 95, 3) := dk_180 0 95 (dk_at dksX3_spell_3 10 rfl rfl)
theorem dX3_spell_83 : decode cX3_spell 83 = .ok (.aload_n 0, 1) := dk_42 (dk_at dksX3_spell_3 13 rfl rfl)
theorem dX3_spell_84 : decode cX3_spell 84 = .ok (.getfield 248, 3) := dk_180 0 248 (dk_at dksX3_spell_3 14 rfl rfl)
theorem dX3_spell_87 : decode cX3_spell 87 = .ok (.iconst 4, 1) := dk_7 (dk_at dksX3_spell_3 17 rfl rfl)
theorem dX3_spell_88 : decode cX3_spell 88 = .ok (.iadd, 1) := dk_96 (dk_at dksX3_spell_3 18 rfl rfl)
theorem dX3_spell_89 : decode cX3_spell 89 = .ok (.aload_n 0, 1) := dk_42 (dk_at dksX3_spell_3 19 rfl rfl)
theorem dX3_spell_90 : decode cX3_spell 90 = .ok (.getfield 23, 3) := dk_180 0 23 (dk_at dksX3_spell_3 20 rfl rfl)
theorem dX3_spell_93 : decode cX3_spell 93 = .ok (.iload_n 1, 1) := dk_27 (dk_at dksX3_spell_3 23 rfl rfl)
theorem dX3_spell_94 : decode cX3_spell 94 = .ok (.iaload, 1) := dk_46 (dk_at dksX3_spell_4 0 rfl rfl)
theorem dX3_spell_95 : decode cX3_spell 95 = .ok (.ifCond .ne 8, 3) := dk_154 0 8 (dk_at dksX3_spell_4 1 rfl rfl)
theorem dX3_spell_98 : decode cX3_spell 98 = .ok (.bipush 83, 2) := dk_16 83 (dk_at dksX3_spell_4 4 rfl rfl)
theorem dX3_spell_100 : decode cX3_spell 100 = .ok (.goto 5, 3) := dk_167 0 5 (dk_at dksX3_spell_4 6 rfl rfl)
theorem dX3_spell_103 : decode cX3_spell 103 = .ok (.bipush 90, 2) := dk_16 90 (dk_at dksX3_spell_4 9 rfl rfl)
theorem dX3_spell_105 : decode cX3_spell 105 = .ok (.iastore, 1) := dk_79 (dk_at dksX3_spell_4 11 rfl rfl)
theorem dX3_spell_106 : decode cX3_spell 106 = .ok (.aload_n 0, 1) := dk_42 (dk_at dksX3_spell_4 12 rfl rfl)
theorem dX3_spell_107 : decode cX3_spell 107 = .ok (.dup, 1) := dk_89 (dk_at dksX3_spell_4 13 rfl rfl)
theorem dX3_spell_108 : decode cX3_spell 108 = .ok (.getfield 248, 3) := dk_180 0 248 (dk_at dksX3_spell_4 14 rfl rfl)
theorem dX3_spell_111 : decode cX3_spell 111 = .ok (.iconst 5, 1) := dk_8 (dk_at dksX3_spell_4 17 rfl rfl)
theorem dX3_spell_112 : decode cX3_spell 112 = .ok (.iadd, 1) := dk_96 (dk_at dksX3_spell_4 18 rfl rfl)
theorem dX3_spell_113 : decode cX3_spell 113 = .ok (.putfield 248, 3) := dk_181 0 248 (dk_at dksX3_spell_4 19 rfl rfl)
theorem dX3_spell_116 : decode cX3_spell 116 = .ok (.iinc 1 1, 3) := dk_132 1 1 (dk_at dksX3_spell_5 0 rfl rfl)
theorem dX3_spell_119 : decode cX3_spell 119 = .ok (.goto (-112), 3) := dk_167 255 144 (dk_at dksX3_spell_5 3 rfl rfl)
theorem dX3_spell_122 : decode cX3_spell 122 = .ok (.aload_n 0, 1) := dk_42 (dk_at dksX3_spell_5 6 rfl rfl)
theorem dX3_spell_123 : decode cX3_spell 123 = .ok (.getfield 248, 3) := dk_180 0 248 (dk_at dksX3_spell_5 7 rfl rfl)
theorem dX3_spell_126 : decode cX3_spell 126 = .ok (.ireturn, 1) := dk_172 (dk_at dksX3_spell_5 10 rfl rfl)
abbrev cX3_paper : ByteArray := prog_20_method_68_code
def yX3_paper : MethodName := ⟨RX3, "paper", "(I)I"⟩
def dkwX3_paper_1 : List UInt8 := [172]
abbrev dktX3_paper_1 : List UInt8 := dkwX3_paper_1 ++ []
def dkwX3_paper_0 : List UInt8 := [27, 3, 42, 180, 0, 248, 4, 100, 184, 0, 108, 153, 0, 12, 42, 180, 0, 95, 27, 46, 167, 0, 4, 2]
abbrev dktX3_paper_0 : List UInt8 := dkwX3_paper_0 ++ dktX3_paper_1
theorem dksX3_paper_0 : cX3_paper.data.toList.drop 0 = dktX3_paper_0 := by decide +kernel
theorem dksX3_paper_1 : cX3_paper.data.toList.drop 24 = dktX3_paper_1 := dk_seg dksX3_paper_0 24 rfl rfl
theorem dX3_paper_0 : decode cX3_paper 0 = .ok (.iload_n 1, 1) := dk_27 (dk_at dksX3_paper_0 0 rfl rfl)
theorem dX3_paper_1 : decode cX3_paper 1 = .ok (.iconst 0, 1) := dk_3 (dk_at dksX3_paper_0 1 rfl rfl)
theorem dX3_paper_2 : decode cX3_paper 2 = .ok (.aload_n 0, 1) := dk_42 (dk_at dksX3_paper_0 2 rfl rfl)
theorem dX3_paper_3 : decode cX3_paper 3 = .ok (.getfield 248, 3) := dk_180 0 248 (dk_at dksX3_paper_0 3 rfl rfl)
theorem dX3_paper_6 : decode cX3_paper 6 = .ok (.iconst 1, 1) := dk_4 (dk_at dksX3_paper_0 6 rfl rfl)
theorem dX3_paper_7 : decode cX3_paper 7 = .ok (.isub, 1) := dk_100 (dk_at dksX3_paper_0 7 rfl rfl)
theorem dX3_paper_8 : decode cX3_paper 8 = .ok (.invokestatic 108, 3) := dk_184 0 108 (dk_at dksX3_paper_0 8 rfl rfl)
theorem dX3_paper_11 : decode cX3_paper 11 = .ok (.ifCond .eq 12, 3) := dk_153 0 12 (dk_at dksX3_paper_0 11 rfl rfl)
theorem dX3_paper_14 : decode cX3_paper 14 = .ok (.aload_n 0, 1) := dk_42 (dk_at dksX3_paper_0 14 rfl rfl)
theorem dX3_paper_15 : decode cX3_paper 15 = .ok (.getfield 95, 3) := dk_180 0 95 (dk_at dksX3_paper_0 15 rfl rfl)
theorem dX3_paper_18 : decode cX3_paper 18 = .ok (.iload_n 1, 1) := dk_27 (dk_at dksX3_paper_0 18 rfl rfl)
theorem dX3_paper_19 : decode cX3_paper 19 = .ok (.iaload, 1) := dk_46 (dk_at dksX3_paper_0 19 rfl rfl)
theorem dX3_paper_20 : decode cX3_paper 20 = .ok (.goto 4, 3) := dk_167 0 4 (dk_at dksX3_paper_0 20 rfl rfl)
theorem dX3_paper_23 : decode cX3_paper 23 = .ok (.iconst (-1), 1) := dk_2 (dk_at dksX3_paper_0 23 rfl rfl)
theorem dX3_paper_24 : decode cX3_paper 24 = .ok (.ireturn, 1) := dk_172 (dk_at dksX3_paper_1 0 rfl rfl)
abbrev cX3_told : ByteArray := prog_20_method_69_code
def yX3_told : MethodName := ⟨RX3, "told", "(I)I"⟩
def dkwX3_told_5 : List UInt8 := [184, 0, 155, 61, 132, 3, 1, 167, 255, 233, 28, 172, 42, 180, 0, 112, 172, 42, 180, 0, 248, 172, 2, 172]
abbrev dktX3_told_5 : List UInt8 := dkwX3_told_5 ++ []
def dkwX3_told_4 : List UInt8 := [180, 0, 215, 172, 3, 62, 29, 42, 180, 0, 13, 3, 46, 162, 0, 19, 28, 42, 29, 182, 0, 165]
abbrev dktX3_told_4 : List UInt8 := dkwX3_told_4 ++ dktX3_told_5
def dkwX3_told_3 : List UInt8 := [162, 0, 21, 28, 42, 180, 0, 29, 29, 46, 184, 0, 251, 96, 61, 132, 3, 1, 167, 255, 231, 28, 172, 42]
abbrev dktX3_told_3 : List UInt8 := dkwX3_told_3 ++ dktX3_told_4
def dkwX3_told_2 : List UInt8 := [42, 180, 0, 13, 3, 46, 172, 42, 180, 0, 17, 3, 46, 172, 3, 62, 29, 42, 180, 0, 13, 3, 46]
abbrev dktX3_told_2 : List UInt8 := dkwX3_told_2 ++ dktX3_told_3
def dkwX3_told_1 : List UInt8 := [170, 0, 0, 0, 136, 0, 0, 0, 0, 0, 0, 0, 7, 0, 0, 0, 45, 0, 0, 0, 52, 0, 0, 0, 52, 0, 0, 0, 59, 0, 0, 0, 91, 0, 0, 0, 96, 0, 0, 0, 126, 0, 0, 0, 131]
abbrev dktX3_told_1 : List UInt8 := dkwX3_told_1 ++ dktX3_told_2
def dkwX3_told_0 : List UInt8 := [3, 61, 27]
abbrev dktX3_told_0 : List UInt8 := dkwX3_told_0 ++ dktX3_told_1
theorem dksX3_told_0 : cX3_told.data.toList.drop 0 = dktX3_told_0 := by decide +kernel
theorem dksX3_told_1 : cX3_told.data.toList.drop 3 = dktX3_told_1 := dk_seg dksX3_told_0 3 rfl rfl
theorem dksX3_told_2 : cX3_told.data.toList.drop 48 = dktX3_told_2 := dk_seg dksX3_told_1 45 rfl rfl
theorem dksX3_told_3 : cX3_told.data.toList.drop 71 = dktX3_told_3 := dk_seg dksX3_told_2 23 rfl rfl
theorem dksX3_told_4 : cX3_told.data.toList.drop 95 = dktX3_told_4 := dk_seg dksX3_told_3 24 rfl rfl
theorem dksX3_told_5 : cX3_told.data.toList.drop 117 = dktX3_told_5 := dk_seg dksX3_told_4 22 rfl rfl
theorem dX3_told_0 : decode cX3_told 0 = .ok (.iconst 0, 1) := dk_3 (dk_at dksX3_told_0 0 rfl rfl)
theorem dX3_told_1 : decode cX3_told 1 = .ok (.istore_n 2, 1) := dk_61 (dk_at dksX3_told_0 1 rfl rfl)
theorem dX3_told_2 : decode cX3_told 2 = .ok (.iload_n 1, 1) := dk_27 (dk_at dksX3_told_0 2 rfl rfl)
theorem dX3_told_3 : decode cX3_told 3 = .ok (.tableswitch 136 0 7 #[45, 52, 52, 59, 91, 96, 126, 131], 45) := by decide +kernel
theorem dX3_told_48 : decode cX3_told 48 = .ok (.aload_n 0, 1) := dk_42 (dk_at dksX3_told_2 0 rfl rfl)
theorem dX3_told_49 : decode cX3_told 49 = .ok (.getfield 13, 3) := dk_180 0 13 (dk_at dksX3_told_2 1 rfl rfl)
theorem dX3_told_52 : decode cX3_told 52 = .ok (.iconst 0, 1) := dk_3 (dk_at dksX3_told_2 4 rfl rfl)
theorem dX3_told_53 : decode cX3_told 53 = .ok (.iaload, 1) := dk_46 (dk_at dksX3_told_2 5 rfl rfl)
theorem dX3_told_54 : decode cX3_told 54 = .ok (.ireturn, 1) := dk_172 (dk_at dksX3_told_2 6 rfl rfl)
theorem dX3_told_55 : decode cX3_told 55 = .ok (.aload_n 0, 1) := dk_42 (dk_at dksX3_told_2 7 rfl rfl)
theorem dX3_told_56 : decode cX3_told 56 = .ok (.getfield 17, 3) := dk_180 0 17 (dk_at dksX3_told_2 8 rfl rfl)
theorem dX3_told_59 : decode cX3_told 59 = .ok (.iconst 0, 1) := dk_3 (dk_at dksX3_told_2 11 rfl rfl)
theorem dX3_told_60 : decode cX3_told 60 = .ok (.iaload, 1) := dk_46 (dk_at dksX3_told_2 12 rfl rfl)
theorem dX3_told_61 : decode cX3_told 61 = .ok (.ireturn, 1) := dk_172 (dk_at dksX3_told_2 13 rfl rfl)
theorem dX3_told_62 : decode cX3_told 62 = .ok (.iconst 0, 1) := dk_3 (dk_at dksX3_told_2 14 rfl rfl)
theorem dX3_told_63 : decode cX3_told 63 = .ok (.istore_n 3, 1) := dk_62 (dk_at dksX3_told_2 15 rfl rfl)
theorem dX3_told_64 : decode cX3_told 64 = .ok (.iload_n 3, 1) := dk_29 (dk_at dksX3_told_2 16 rfl rfl)
theorem dX3_told_65 : decode cX3_told 65 = .ok (.aload_n 0, 1) := dk_42 (dk_at dksX3_told_2 17 rfl rfl)
theorem dX3_told_66 : decode cX3_told 66 = .ok (.getfield 13, 3) := dk_180 0 13 (dk_at dksX3_told_2 18 rfl rfl)
theorem dX3_told_69 : decode cX3_told 69 = .ok (.iconst 0, 1) := dk_3 (dk_at dksX3_told_2 21 rfl rfl)
theorem dX3_told_70 : decode cX3_told 70 = .ok (.iaload, 1) := dk_46 (dk_at dksX3_told_2 22 rfl rfl)
theorem dX3_told_71 : decode cX3_told 71 = .ok (.if_icmp .ge 21, 3) := dk_162 0 21 (dk_at dksX3_told_3 0 rfl rfl)
theorem dX3_told_74 : decode cX3_told 74 = .ok (.iload_n 2, 1) := dk_28 (dk_at dksX3_told_3 3 rfl rfl)
theorem dX3_told_75 : decode cX3_told 75 = .ok (.aload_n 0, 1) := dk_42 (dk_at dksX3_told_3 4 rfl rfl)
theorem dX3_told_76 : decode cX3_told 76 = .ok (.getfield 29, 3) := dk_180 0 29 (dk_at dksX3_told_3 5 rfl rfl)
theorem dX3_told_79 : decode cX3_told 79 = .ok (.iload_n 3, 1) := dk_29 (dk_at dksX3_told_3 8 rfl rfl)
theorem dX3_told_80 : decode cX3_told 80 = .ok (.iaload, 1) := dk_46 (dk_at dksX3_told_3 9 rfl rfl)
theorem dX3_told_81 : decode cX3_told 81 = .ok (.invokestatic 251, 3) := dk_184 0 251 (dk_at dksX3_told_3 10 rfl rfl)
theorem dX3_told_84 : decode cX3_told 84 = .ok (.iadd, 1) := dk_96 (dk_at dksX3_told_3 13 rfl rfl)
theorem dX3_told_85 : decode cX3_told 85 = .ok (.istore_n 2, 1) := dk_61 (dk_at dksX3_told_3 14 rfl rfl)
theorem dX3_told_86 : decode cX3_told 86 = .ok (.iinc 3 1, 3) := dk_132 3 1 (dk_at dksX3_told_3 15 rfl rfl)
theorem dX3_told_89 : decode cX3_told 89 = .ok (.goto (-25), 3) := dk_167 255 231 (dk_at dksX3_told_3 18 rfl rfl)
theorem dX3_told_92 : decode cX3_told 92 = .ok (.iload_n 2, 1) := dk_28 (dk_at dksX3_told_3 21 rfl rfl)
theorem dX3_told_93 : decode cX3_told 93 = .ok (.ireturn, 1) := dk_172 (dk_at dksX3_told_3 22 rfl rfl)
theorem dX3_told_94 : decode cX3_told 94 = .ok (.aload_n 0, 1) := dk_42 (dk_at dksX3_told_3 23 rfl rfl)
theorem dX3_told_95 : decode cX3_told 95 = .ok (.getfield 215, 3) := dk_180 0 215 (dk_at dksX3_told_4 0 rfl rfl)
theorem dX3_told_98 : decode cX3_told 98 = .ok (.ireturn, 1) := dk_172 (dk_at dksX3_told_4 3 rfl rfl)
theorem dX3_told_99 : decode cX3_told 99 = .ok (.iconst 0, 1) := dk_3 (dk_at dksX3_told_4 4 rfl rfl)
theorem dX3_told_100 : decode cX3_told 100 = .ok (.istore_n 3, 1) := dk_62 (dk_at dksX3_told_4 5 rfl rfl)
theorem dX3_told_101 : decode cX3_told 101 = .ok (.iload_n 3, 1) := dk_29 (dk_at dksX3_told_4 6 rfl rfl)
theorem dX3_told_102 : decode cX3_told 102 = .ok (.aload_n 0, 1) := dk_42 (dk_at dksX3_told_4 7 rfl rfl)
theorem dX3_told_103 : decode cX3_told 103 = .ok (.getfield 13, 3) := dk_180 0 13 (dk_at dksX3_told_4 8 rfl rfl)
theorem dX3_told_106 : decode cX3_told 106 = .ok (.iconst 0, 1) := dk_3 (dk_at dksX3_told_4 11 rfl rfl)
theorem dX3_told_107 : decode cX3_told 107 = .ok (.iaload, 1) := dk_46 (dk_at dksX3_told_4 12 rfl rfl)
theorem dX3_told_108 : decode cX3_told 108 = .ok (.if_icmp .ge 19, 3) := dk_162 0 19 (dk_at dksX3_told_4 13 rfl rfl)
theorem dX3_told_111 : decode cX3_told 111 = .ok (.iload_n 2, 1) := dk_28 (dk_at dksX3_told_4 16 rfl rfl)
theorem dX3_told_112 : decode cX3_told 112 = .ok (.aload_n 0, 1) := dk_42 (dk_at dksX3_told_4 17 rfl rfl)
theorem dX3_told_113 : decode cX3_told 113 = .ok (.iload_n 3, 1) := dk_29 (dk_at dksX3_told_4 18 rfl rfl)
theorem dX3_told_114 : decode cX3_told 114 = .ok (.invokevirtual 165, 3) := dk_182 0 165 (dk_at dksX3_told_4 19 rfl rfl)
theorem dX3_told_117 : decode cX3_told 117 = .ok (.invokestatic 155, 3) := dk_184 0 155 (dk_at dksX3_told_5 0 rfl rfl)
theorem dX3_told_120 : decode cX3_told 120 = .ok (.istore_n 2, 1) := dk_61 (dk_at dksX3_told_5 3 rfl rfl)
theorem dX3_told_121 : decode cX3_told 121 = .ok (.iinc 3 1, 3) := dk_132 3 1 (dk_at dksX3_told_5 4 rfl rfl)
theorem dX3_told_124 : decode cX3_told 124 = .ok (.goto (-23), 3) := dk_167 255 233 (dk_at dksX3_told_5 7 rfl rfl)
theorem dX3_told_127 : decode cX3_told 127 = .ok (.iload_n 2, 1) := dk_28 (dk_at dksX3_told_5 10 rfl rfl)
theorem dX3_told_128 : decode cX3_told 128 = .ok (.ireturn, 1) := dk_172 (dk_at dksX3_told_5 11 rfl rfl)
theorem dX3_told_129 : decode cX3_told 129 = .ok (.aload_n 0, 1) := dk_42 (dk_at dksX3_told_5 12 rfl rfl)
theorem dX3_told_130 : decode cX3_told 130 = .ok (.getfield 112, 3) := dk_180 0 112 (dk_at dksX3_told_5 13 rfl rfl)
theorem dX3_told_133 : decode cX3_told 133 = .ok (.ireturn, 1) := dk_172 (dk_at dksX3_told_5 16 rfl rfl)
theorem dX3_told_134 : decode cX3_told 134 = .ok (.aload_n 0, 1) := dk_42 (dk_at dksX3_told_5 17 rfl rfl)
theorem dX3_told_135 : decode cX3_told 135 = .ok (.getfield 248, 3) := dk_180 0 248 (dk_at dksX3_told_5 18 rfl rfl)
theorem dX3_told_138 : decode cX3_told 138 = .ok (.ireturn, 1) := dk_172 (dk_at dksX3_told_5 21 rfl rfl)
theorem dX3_told_139 : decode cX3_told 139 = .ok (.iconst (-1), 1) := dk_2 (dk_at dksX3_told_5 22 rfl rfl)
theorem dX3_told_140 : decode cX3_told 140 = .ok (.ireturn, 1) := dk_172 (dk_at dksX3_told_5 23 rfl rfl)
abbrev cX3_list : ByteArray := prog_20_method_71_code
def yX3_list : MethodName := ⟨RX3, "list", "(II)I"⟩
def dkwX3_list_2 : List UInt8 := [180, 0, 105, 16, 20, 27, 104, 29, 96, 3, 79, 132, 3, 1, 167, 255, 235, 4, 172]
abbrev dktX3_list_2 : List UInt8 := dkwX3_list_2 ++ []
def dkwX3_list_1 : List UInt8 := [172, 42, 180, 0, 98, 27, 4, 84, 42, 180, 0, 102, 27, 28, 79, 3, 62, 29, 16, 20, 162, 0, 21, 42]
abbrev dktX3_list_1 : List UInt8 := dkwX3_list_1 ++ dktX3_list_2
def dkwX3_list_0 : List UInt8 := [27, 184, 0, 254, 154, 0, 5, 2, 172, 28, 16, 20, 164, 0, 6, 16, 254, 172, 28, 156, 0, 6, 16, 242]
abbrev dktX3_list_0 : List UInt8 := dkwX3_list_0 ++ dktX3_list_1
theorem dksX3_list_0 : cX3_list.data.toList.drop 0 = dktX3_list_0 := by decide +kernel
theorem dksX3_list_1 : cX3_list.data.toList.drop 24 = dktX3_list_1 := dk_seg dksX3_list_0 24 rfl rfl
theorem dksX3_list_2 : cX3_list.data.toList.drop 48 = dktX3_list_2 := dk_seg dksX3_list_1 24 rfl rfl
theorem dX3_list_0 : decode cX3_list 0 = .ok (.iload_n 1, 1) := dk_27 (dk_at dksX3_list_0 0 rfl rfl)
theorem dX3_list_1 : decode cX3_list 1 = .ok (.invokestatic 254, 3) := dk_184 0 254 (dk_at dksX3_list_0 1 rfl rfl)
theorem dX3_list_4 : decode cX3_list 4 = .ok (.ifCond .ne 5, 3) := dk_154 0 5 (dk_at dksX3_list_0 4 rfl rfl)
theorem dX3_list_7 : decode cX3_list 7 = .ok (.iconst (-1), 1) := dk_2 (dk_at dksX3_list_0 7 rfl rfl)
theorem dX3_list_8 : decode cX3_list 8 = .ok (.ireturn, 1) := dk_172 (dk_at dksX3_list_0 8 rfl rfl)
theorem dX3_list_9 : decode cX3_list 9 = .ok (.iload_n 2, 1) := dk_28 (dk_at dksX3_list_0 9 rfl rfl)
theorem dX3_list_10 : decode cX3_list 10 = .ok (.bipush 20, 2) := dk_16 20 (dk_at dksX3_list_0 10 rfl rfl)
theorem dX3_list_12 : decode cX3_list 12 = .ok (.if_icmp .le 6, 3) := dk_164 0 6 (dk_at dksX3_list_0 12 rfl rfl)
theorem dX3_list_15 : decode cX3_list 15 = .ok (.bipush (-2), 2) := dk_16 254 (dk_at dksX3_list_0 15 rfl rfl)
theorem dX3_list_17 : decode cX3_list 17 = .ok (.ireturn, 1) := dk_172 (dk_at dksX3_list_0 17 rfl rfl)
theorem dX3_list_18 : decode cX3_list 18 = .ok (.iload_n 2, 1) := dk_28 (dk_at dksX3_list_0 18 rfl rfl)
theorem dX3_list_19 : decode cX3_list 19 = .ok (.ifCond .ge 6, 3) := dk_156 0 6 (dk_at dksX3_list_0 19 rfl rfl)
theorem dX3_list_22 : decode cX3_list 22 = .ok (.bipush (-14), 2) := dk_16 242 (dk_at dksX3_list_0 22 rfl rfl)
theorem dX3_list_24 : decode cX3_list 24 = .ok (.ireturn, 1) := dk_172 (dk_at dksX3_list_1 0 rfl rfl)
theorem dX3_list_25 : decode cX3_list 25 = .ok (.aload_n 0, 1) := dk_42 (dk_at dksX3_list_1 1 rfl rfl)
theorem dX3_list_26 : decode cX3_list 26 = .ok (.getfield 98, 3) := dk_180 0 98 (dk_at dksX3_list_1 2 rfl rfl)
theorem dX3_list_29 : decode cX3_list 29 = .ok (.iload_n 1, 1) := dk_27 (dk_at dksX3_list_1 5 rfl rfl)
theorem dX3_list_30 : decode cX3_list 30 = .ok (.iconst 1, 1) := dk_4 (dk_at dksX3_list_1 6 rfl rfl)
theorem dX3_list_31 : decode cX3_list 31 = .ok (.bastore, 1) := dk_84 (dk_at dksX3_list_1 7 rfl rfl)
theorem dX3_list_32 : decode cX3_list 32 = .ok (.aload_n 0, 1) := dk_42 (dk_at dksX3_list_1 8 rfl rfl)
theorem dX3_list_33 : decode cX3_list 33 = .ok (.getfield 102, 3) := dk_180 0 102 (dk_at dksX3_list_1 9 rfl rfl)
theorem dX3_list_36 : decode cX3_list 36 = .ok (.iload_n 1, 1) := dk_27 (dk_at dksX3_list_1 12 rfl rfl)
theorem dX3_list_37 : decode cX3_list 37 = .ok (.iload_n 2, 1) := dk_28 (dk_at dksX3_list_1 13 rfl rfl)
theorem dX3_list_38 : decode cX3_list 38 = .ok (.iastore, 1) := dk_79 (dk_at dksX3_list_1 14 rfl rfl)
theorem dX3_list_39 : decode cX3_list 39 = .ok (.iconst 0, 1) := dk_3 (dk_at dksX3_list_1 15 rfl rfl)
theorem dX3_list_40 : decode cX3_list 40 = .ok (.istore_n 3, 1) := dk_62 (dk_at dksX3_list_1 16 rfl rfl)
theorem dX3_list_41 : decode cX3_list 41 = .ok (.iload_n 3, 1) := dk_29 (dk_at dksX3_list_1 17 rfl rfl)
theorem dX3_list_42 : decode cX3_list 42 = .ok (.bipush 20, 2) := dk_16 20 (dk_at dksX3_list_1 18 rfl rfl)
theorem dX3_list_44 : decode cX3_list 44 = .ok (.if_icmp .ge 21, 3) := dk_162 0 21 (dk_at dksX3_list_1 20 rfl rfl)
theorem dX3_list_47 : decode cX3_list 47 = .ok (.aload_n 0, 1) := dk_42 (dk_at dksX3_list_1 23 rfl rfl)
theorem dX3_list_48 : decode cX3_list 48 = .ok (.getfield 105, 3) := dk_180 0 105 (dk_at dksX3_list_2 0 rfl rfl)
theorem dX3_list_51 : decode cX3_list 51 = .ok (.bipush 20, 2) := dk_16 20 (dk_at dksX3_list_2 3 rfl rfl)
theorem dX3_list_53 : decode cX3_list 53 = .ok (.iload_n 1, 1) := dk_27 (dk_at dksX3_list_2 5 rfl rfl)
theorem dX3_list_54 : decode cX3_list 54 = .ok (.imul, 1) := dk_104 (dk_at dksX3_list_2 6 rfl rfl)
theorem dX3_list_55 : decode cX3_list 55 = .ok (.iload_n 3, 1) := dk_29 (dk_at dksX3_list_2 7 rfl rfl)
theorem dX3_list_56 : decode cX3_list 56 = .ok (.iadd, 1) := dk_96 (dk_at dksX3_list_2 8 rfl rfl)
theorem dX3_list_57 : decode cX3_list 57 = .ok (.iconst 0, 1) := dk_3 (dk_at dksX3_list_2 9 rfl rfl)
theorem dX3_list_58 : decode cX3_list 58 = .ok (.iastore, 1) := dk_79 (dk_at dksX3_list_2 10 rfl rfl)
theorem dX3_list_59 : decode cX3_list 59 = .ok (.iinc 3 1, 3) := dk_132 3 1 (dk_at dksX3_list_2 11 rfl rfl)
theorem dX3_list_62 : decode cX3_list 62 = .ok (.goto (-21), 3) := dk_167 255 235 (dk_at dksX3_list_2 14 rfl rfl)
theorem dX3_list_65 : decode cX3_list 65 = .ok (.iconst 1, 1) := dk_4 (dk_at dksX3_list_2 17 rfl rfl)
theorem dX3_list_66 : decode cX3_list 66 = .ok (.ireturn, 1) := dk_172 (dk_at dksX3_list_2 18 rfl rfl)
abbrev cX3_isList : ByteArray := prog_20_method_70_code
def yX3_isList : MethodName := ⟨RX3, "isList", "(I)Z"⟩
def dkwX3_isList_0 : List UInt8 := [26, 3, 6, 184, 0, 108, 172]
abbrev dktX3_isList_0 : List UInt8 := dkwX3_isList_0 ++ []
theorem dksX3_isList_0 : cX3_isList.data.toList.drop 0 = dktX3_isList_0 := by decide +kernel
theorem dX3_isList_0 : decode cX3_isList 0 = .ok (.iload_n 0, 1) := dk_26 (dk_at dksX3_isList_0 0 rfl rfl)
theorem dX3_isList_1 : decode cX3_isList 1 = .ok (.iconst 0, 1) := dk_3 (dk_at dksX3_isList_0 1 rfl rfl)
theorem dX3_isList_2 : decode cX3_isList 2 = .ok (.iconst 3, 1) := dk_6 (dk_at dksX3_isList_0 2 rfl rfl)
theorem dX3_isList_3 : decode cX3_isList 3 = .ok (.invokestatic 108, 3) := dk_184 0 108 (dk_at dksX3_isList_0 3 rfl rfl)
theorem dX3_isList_6 : decode cX3_isList 6 = .ok (.ireturn, 1) := dk_172 (dk_at dksX3_isList_0 6 rfl rfl)
abbrev cX3_set : ByteArray := prog_20_method_72_code
def yX3_set : MethodName := ⟨RX3, "set", "(III)I"⟩
def dkwX3_set_2 : List UInt8 := [28, 96, 29, 79, 4, 172]
abbrev dktX3_set_2 : List UInt8 := dkwX3_set_2 ++ []
def dkwX3_set_1 : List UInt8 := [180, 0, 102, 27, 46, 4, 100, 184, 0, 108, 154, 0, 6, 16, 243, 172, 42, 180, 0, 105, 16, 20, 27, 104]
abbrev dktX3_set_1 : List UInt8 := dkwX3_set_1 ++ dktX3_set_2
def dkwX3_set_0 : List UInt8 := [27, 184, 0, 254, 154, 0, 5, 2, 172, 42, 180, 0, 98, 27, 51, 154, 0, 6, 16, 245, 172, 28, 3, 42]
abbrev dktX3_set_0 : List UInt8 := dkwX3_set_0 ++ dktX3_set_1
theorem dksX3_set_0 : cX3_set.data.toList.drop 0 = dktX3_set_0 := by decide +kernel
theorem dksX3_set_1 : cX3_set.data.toList.drop 24 = dktX3_set_1 := dk_seg dksX3_set_0 24 rfl rfl
theorem dksX3_set_2 : cX3_set.data.toList.drop 48 = dktX3_set_2 := dk_seg dksX3_set_1 24 rfl rfl
theorem dX3_set_0 : decode cX3_set 0 = .ok (.iload_n 1, 1) := dk_27 (dk_at dksX3_set_0 0 rfl rfl)
theorem dX3_set_1 : decode cX3_set 1 = .ok (.invokestatic 254, 3) := dk_184 0 254 (dk_at dksX3_set_0 1 rfl rfl)
theorem dX3_set_4 : decode cX3_set 4 = .ok (.ifCond .ne 5, 3) := dk_154 0 5 (dk_at dksX3_set_0 4 rfl rfl)
theorem dX3_set_7 : decode cX3_set 7 = .ok (.iconst (-1), 1) := dk_2 (dk_at dksX3_set_0 7 rfl rfl)
theorem dX3_set_8 : decode cX3_set 8 = .ok (.ireturn, 1) := dk_172 (dk_at dksX3_set_0 8 rfl rfl)
theorem dX3_set_9 : decode cX3_set 9 = .ok (.aload_n 0, 1) := dk_42 (dk_at dksX3_set_0 9 rfl rfl)
theorem dX3_set_10 : decode cX3_set 10 = .ok (.getfield 98, 3) := dk_180 0 98 (dk_at dksX3_set_0 10 rfl rfl)
theorem dX3_set_13 : decode cX3_set 13 = .ok (.iload_n 1, 1) := dk_27 (dk_at dksX3_set_0 13 rfl rfl)
theorem dX3_set_14 : decode cX3_set 14 = .ok (.baload, 1) := dk_51 (dk_at dksX3_set_0 14 rfl rfl)
theorem dX3_set_15 : decode cX3_set 15 = .ok (.ifCond .ne 6, 3) := dk_154 0 6 (dk_at dksX3_set_0 15 rfl rfl)
theorem dX3_set_18 : decode cX3_set 18 = .ok (.bipush (-11), 2) := dk_16 245 (dk_at dksX3_set_0 18 rfl rfl)
theorem dX3_set_20 : decode cX3_set 20 = .ok (.ireturn, 1) := dk_172 (dk_at dksX3_set_0 20 rfl rfl)
theorem dX3_set_21 : decode cX3_set 21 = .ok (.iload_n 2, 1) := dk_28 (dk_at dksX3_set_0 21 rfl rfl)
theorem dX3_set_22 : decode cX3_set 22 = .ok (.iconst 0, 1) := dk_3 (dk_at dksX3_set_0 22 rfl rfl)
theorem dX3_set_23 : decode cX3_set 23 = .ok (.aload_n 0, 1) := dk_42 (dk_at dksX3_set_0 23 rfl rfl)
theorem dX3_set_24 : decode cX3_set 24 = .ok (.getfield 102, 3) := dk_180 0 102 (dk_at dksX3_set_1 0 rfl rfl)
theorem dX3_set_27 : decode cX3_set 27 = .ok (.iload_n 1, 1) := dk_27 (dk_at dksX3_set_1 3 rfl rfl)
theorem dX3_set_28 : decode cX3_set 28 = .ok (.iaload, 1) := dk_46 (dk_at dksX3_set_1 4 rfl rfl)
theorem dX3_set_29 : decode cX3_set 29 = .ok (.iconst 1, 1) := dk_4 (dk_at dksX3_set_1 5 rfl rfl)
theorem dX3_set_30 : decode cX3_set 30 = .ok (.isub, 1) := dk_100 (dk_at dksX3_set_1 6 rfl rfl)
theorem dX3_set_31 : decode cX3_set 31 = .ok (.invokestatic 108, 3) := dk_184 0 108 (dk_at dksX3_set_1 7 rfl rfl)
theorem dX3_set_34 : decode cX3_set 34 = .ok (.ifCond .ne 6, 3) := dk_154 0 6 (dk_at dksX3_set_1 10 rfl rfl)
theorem dX3_set_37 : decode cX3_set 37 = .ok (.bipush (-13), 2) := dk_16 243 (dk_at dksX3_set_1 13 rfl rfl)
theorem dX3_set_39 : decode cX3_set 39 = .ok (.ireturn, 1) := dk_172 (dk_at dksX3_set_1 15 rfl rfl)
theorem dX3_set_40 : decode cX3_set 40 = .ok (.aload_n 0, 1) := dk_42 (dk_at dksX3_set_1 16 rfl rfl)
theorem dX3_set_41 : decode cX3_set 41 = .ok (.getfield 105, 3) := dk_180 0 105 (dk_at dksX3_set_1 17 rfl rfl)
theorem dX3_set_44 : decode cX3_set 44 = .ok (.bipush 20, 2) := dk_16 20 (dk_at dksX3_set_1 20 rfl rfl)
theorem dX3_set_46 : decode cX3_set 46 = .ok (.iload_n 1, 1) := dk_27 (dk_at dksX3_set_1 22 rfl rfl)
theorem dX3_set_47 : decode cX3_set 47 = .ok (.imul, 1) := dk_104 (dk_at dksX3_set_1 23 rfl rfl)
theorem dX3_set_48 : decode cX3_set 48 = .ok (.iload_n 2, 1) := dk_28 (dk_at dksX3_set_2 0 rfl rfl)
theorem dX3_set_49 : decode cX3_set 49 = .ok (.iadd, 1) := dk_96 (dk_at dksX3_set_2 1 rfl rfl)
theorem dX3_set_50 : decode cX3_set 50 = .ok (.iload_n 3, 1) := dk_29 (dk_at dksX3_set_2 2 rfl rfl)
theorem dX3_set_51 : decode cX3_set 51 = .ok (.iastore, 1) := dk_79 (dk_at dksX3_set_2 3 rfl rfl)
theorem dX3_set_52 : decode cX3_set 52 = .ok (.iconst 1, 1) := dk_4 (dk_at dksX3_set_2 4 rfl rfl)
theorem dX3_set_53 : decode cX3_set 53 = .ok (.ireturn, 1) := dk_172 (dk_at dksX3_set_2 5 rfl rfl)
abbrev cX3_get : ByteArray := prog_20_method_73_code
def yX3_get : MethodName := ⟨RX3, "get", "(II)I"⟩
def dkwX3_get_2 : List UInt8 := [19, 1, 1, 172]
abbrev dktX3_get_2 : List UInt8 := dkwX3_get_2 ++ []
def dkwX3_get_1 : List UInt8 := [4, 100, 184, 0, 108, 153, 0, 17, 42, 180, 0, 105, 16, 20, 27, 104, 28, 96, 46, 167, 0, 6]
abbrev dktX3_get_1 : List UInt8 := dkwX3_get_1 ++ dktX3_get_2
def dkwX3_get_0 : List UInt8 := [27, 184, 0, 254, 153, 0, 42, 42, 180, 0, 98, 27, 51, 153, 0, 33, 28, 3, 42, 180, 0, 102, 27, 46]
abbrev dktX3_get_0 : List UInt8 := dkwX3_get_0 ++ dktX3_get_1
theorem dksX3_get_0 : cX3_get.data.toList.drop 0 = dktX3_get_0 := by decide +kernel
theorem dksX3_get_1 : cX3_get.data.toList.drop 24 = dktX3_get_1 := dk_seg dksX3_get_0 24 rfl rfl
theorem dksX3_get_2 : cX3_get.data.toList.drop 46 = dktX3_get_2 := dk_seg dksX3_get_1 22 rfl rfl
theorem dX3_get_0 : decode cX3_get 0 = .ok (.iload_n 1, 1) := dk_27 (dk_at dksX3_get_0 0 rfl rfl)
theorem dX3_get_1 : decode cX3_get 1 = .ok (.invokestatic 254, 3) := dk_184 0 254 (dk_at dksX3_get_0 1 rfl rfl)
theorem dX3_get_4 : decode cX3_get 4 = .ok (.ifCond .eq 42, 3) := dk_153 0 42 (dk_at dksX3_get_0 4 rfl rfl)
theorem dX3_get_7 : decode cX3_get 7 = .ok (.aload_n 0, 1) := dk_42 (dk_at dksX3_get_0 7 rfl rfl)
theorem dX3_get_8 : decode cX3_get 8 = .ok (.getfield 98, 3) := dk_180 0 98 (dk_at dksX3_get_0 8 rfl rfl)
theorem dX3_get_11 : decode cX3_get 11 = .ok (.iload_n 1, 1) := dk_27 (dk_at dksX3_get_0 11 rfl rfl)
theorem dX3_get_12 : decode cX3_get 12 = .ok (.baload, 1) := dk_51 (dk_at dksX3_get_0 12 rfl rfl)
theorem dX3_get_13 : decode cX3_get 13 = .ok (.ifCond .eq 33, 3) := dk_153 0 33 (dk_at dksX3_get_0 13 rfl rfl)
theorem dX3_get_16 : decode cX3_get 16 = .ok (.iload_n 2, 1) := dk_28 (dk_at dksX3_get_0 16 rfl rfl)
theorem dX3_get_17 : decode cX3_get 17 = .ok (.iconst 0, 1) := dk_3 (dk_at dksX3_get_0 17 rfl rfl)
theorem dX3_get_18 : decode cX3_get 18 = .ok (.aload_n 0, 1) := dk_42 (dk_at dksX3_get_0 18 rfl rfl)
theorem dX3_get_19 : decode cX3_get 19 = .ok (.getfield 102, 3) := dk_180 0 102 (dk_at dksX3_get_0 19 rfl rfl)
theorem dX3_get_22 : decode cX3_get 22 = .ok (.iload_n 1, 1) := dk_27 (dk_at dksX3_get_0 22 rfl rfl)
theorem dX3_get_23 : decode cX3_get 23 = .ok (.iaload, 1) := dk_46 (dk_at dksX3_get_0 23 rfl rfl)
theorem dX3_get_24 : decode cX3_get 24 = .ok (.iconst 1, 1) := dk_4 (dk_at dksX3_get_1 0 rfl rfl)
theorem dX3_get_25 : decode cX3_get 25 = .ok (.isub, 1) := dk_100 (dk_at dksX3_get_1 1 rfl rfl)
theorem dX3_get_26 : decode cX3_get 26 = .ok (.invokestatic 108, 3) := dk_184 0 108 (dk_at dksX3_get_1 2 rfl rfl)
theorem dX3_get_29 : decode cX3_get 29 = .ok (.ifCond .eq 17, 3) := dk_153 0 17 (dk_at dksX3_get_1 5 rfl rfl)
theorem dX3_get_32 : decode cX3_get 32 = .ok (.aload_n 0, 1) := dk_42 (dk_at dksX3_get_1 8 rfl rfl)
theorem dX3_get_33 : decode cX3_get 33 = .ok (.getfield 105, 3) := dk_180 0 105 (dk_at dksX3_get_1 9 rfl rfl)
theorem dX3_get_36 : decode cX3_get 36 = .ok (.bipush 20, 2) := dk_16 20 (dk_at dksX3_get_1 12 rfl rfl)
theorem dX3_get_38 : decode cX3_get 38 = .ok (.iload_n 1, 1) := dk_27 (dk_at dksX3_get_1 14 rfl rfl)
theorem dX3_get_39 : decode cX3_get 39 = .ok (.imul, 1) := dk_104 (dk_at dksX3_get_1 15 rfl rfl)
theorem dX3_get_40 : decode cX3_get 40 = .ok (.iload_n 2, 1) := dk_28 (dk_at dksX3_get_1 16 rfl rfl)
theorem dX3_get_41 : decode cX3_get 41 = .ok (.iadd, 1) := dk_96 (dk_at dksX3_get_1 17 rfl rfl)
theorem dX3_get_42 : decode cX3_get 42 = .ok (.iaload, 1) := dk_46 (dk_at dksX3_get_1 18 rfl rfl)
theorem dX3_get_43 : decode cX3_get 43 = .ok (.goto 6, 3) := dk_167 0 6 (dk_at dksX3_get_1 19 rfl rfl)
theorem dX3_get_46 : decode cX3_get 46 = .ok (.ldc_w 257, 3) := dk_19 1 1 (dk_at dksX3_get_2 0 rfl rfl)
theorem dX3_get_49 : decode cX3_get 49 = .ok (.ireturn, 1) := dk_172 (dk_at dksX3_get_2 3 rfl rfl)
abbrev cX3_lay : ByteArray := prog_20_method_74_code
def yX3_lay : MethodName := ⟨RX3, "lay", "(III)I"⟩
def dkwX3_lay_4 : List UInt8 := [42, 180, 0, 13, 3, 46, 172]
abbrev dktX3_lay_4 : List UInt8 := dkwX3_lay_4 ++ []
def dkwX3_lay_3 : List UInt8 := [28, 96, 21, 4, 96, 42, 180, 0, 32, 16, 10, 29, 104, 21, 4, 96, 46, 79, 132, 4, 1, 167, 255, 196]
abbrev dktX3_lay_3 : List UInt8 := dkwX3_lay_3 ++ dktX3_lay_4
def dkwX3_lay_2 : List UInt8 := [28, 42, 180, 0, 102, 27, 46, 21, 4, 100, 161, 0, 6, 16, 243, 172, 42, 180, 0, 105, 16, 20, 27, 104]
abbrev dktX3_lay_2 : List UInt8 := dkwX3_lay_2 ++ dktX3_lay_3
def dkwX3_lay_1 : List UInt8 := [154, 0, 6, 16, 245, 172, 3, 54, 4, 21, 4, 42, 180, 0, 13, 3, 46, 162, 0, 55, 28, 155, 0, 16]
abbrev dktX3_lay_1 : List UInt8 := dkwX3_lay_1 ++ dktX3_lay_2
def dkwX3_lay_0 : List UInt8 := [27, 184, 0, 254, 153, 0, 11, 42, 29, 182, 0, 193, 154, 0, 5, 2, 172, 42, 180, 0, 98, 27, 51]
abbrev dktX3_lay_0 : List UInt8 := dkwX3_lay_0 ++ dktX3_lay_1
theorem dksX3_lay_0 : cX3_lay.data.toList.drop 0 = dktX3_lay_0 := by decide +kernel
theorem dksX3_lay_1 : cX3_lay.data.toList.drop 23 = dktX3_lay_1 := dk_seg dksX3_lay_0 23 rfl rfl
theorem dksX3_lay_2 : cX3_lay.data.toList.drop 47 = dktX3_lay_2 := dk_seg dksX3_lay_1 24 rfl rfl
theorem dksX3_lay_3 : cX3_lay.data.toList.drop 71 = dktX3_lay_3 := dk_seg dksX3_lay_2 24 rfl rfl
theorem dksX3_lay_4 : cX3_lay.data.toList.drop 95 = dktX3_lay_4 := dk_seg dksX3_lay_3 24 rfl rfl
theorem dX3_lay_0 : decode cX3_lay 0 = .ok (.iload_n 1, 1) := dk_27 (dk_at dksX3_lay_0 0 rfl rfl)
theorem dX3_lay_1 : decode cX3_lay 1 = .ok (.invokestatic 254, 3) := dk_184 0 254 (dk_at dksX3_lay_0 1 rfl rfl)
theorem dX3_lay_4 : decode cX3_lay 4 = .ok (.ifCond .eq 11, 3) := dk_153 0 11 (dk_at dksX3_lay_0 4 rfl rfl)
theorem dX3_lay_7 : decode cX3_lay 7 = .ok (.aload_n 0, 1) := dk_42 (dk_at dksX3_lay_0 7 rfl rfl)
theorem dX3_lay_8 : decode cX3_lay 8 = .ok (.iload_n 3, 1) := dk_29 (dk_at dksX3_lay_0 8 rfl rfl)
theorem dX3_lay_9 : decode cX3_lay 9 = .ok (.invokevirtual 193, 3) := dk_182 0 193 (dk_at dksX3_lay_0 9 rfl rfl)
theorem dX3_lay_12 : decode cX3_lay 12 = .ok (.ifCond .ne 5, 3) := dk_154 0 5 (dk_at dksX3_lay_0 12 rfl rfl)
theorem dX3_lay_15 : decode cX3_lay 15 = .ok (.iconst (-1), 1) := dk_2 (dk_at dksX3_lay_0 15 rfl rfl)
theorem dX3_lay_16 : decode cX3_lay 16 = .ok (.ireturn, 1) := dk_172 (dk_at dksX3_lay_0 16 rfl rfl)
theorem dX3_lay_17 : decode cX3_lay 17 = .ok (.aload_n 0, 1) := dk_42 (dk_at dksX3_lay_0 17 rfl rfl)
theorem dX3_lay_18 : decode cX3_lay 18 = .ok (.getfield 98, 3) := dk_180 0 98 (dk_at dksX3_lay_0 18 rfl rfl)
theorem dX3_lay_21 : decode cX3_lay 21 = .ok (.iload_n 1, 1) := dk_27 (dk_at dksX3_lay_0 21 rfl rfl)
theorem dX3_lay_22 : decode cX3_lay 22 = .ok (.baload, 1) := dk_51 (dk_at dksX3_lay_0 22 rfl rfl)
theorem dX3_lay_23 : decode cX3_lay 23 = .ok (.ifCond .ne 6, 3) := dk_154 0 6 (dk_at dksX3_lay_1 0 rfl rfl)
theorem dX3_lay_26 : decode cX3_lay 26 = .ok (.bipush (-11), 2) := dk_16 245 (dk_at dksX3_lay_1 3 rfl rfl)
theorem dX3_lay_28 : decode cX3_lay 28 = .ok (.ireturn, 1) := dk_172 (dk_at dksX3_lay_1 5 rfl rfl)
theorem dX3_lay_29 : decode cX3_lay 29 = .ok (.iconst 0, 1) := dk_3 (dk_at dksX3_lay_1 6 rfl rfl)
theorem dX3_lay_30 : decode cX3_lay 30 = .ok (.istore 4, 2) := dk_54 4 (dk_at dksX3_lay_1 7 rfl rfl)
theorem dX3_lay_32 : decode cX3_lay 32 = .ok (.iload 4, 2) := dk_21 4 (dk_at dksX3_lay_1 9 rfl rfl)
theorem dX3_lay_34 : decode cX3_lay 34 = .ok (.aload_n 0, 1) := dk_42 (dk_at dksX3_lay_1 11 rfl rfl)
theorem dX3_lay_35 : decode cX3_lay 35 = .ok (.getfield 13, 3) := dk_180 0 13 (dk_at dksX3_lay_1 12 rfl rfl)
theorem dX3_lay_38 : decode cX3_lay 38 = .ok (.iconst 0, 1) := dk_3 (dk_at dksX3_lay_1 15 rfl rfl)
theorem dX3_lay_39 : decode cX3_lay 39 = .ok (.iaload, 1) := dk_46 (dk_at dksX3_lay_1 16 rfl rfl)
theorem dX3_lay_40 : decode cX3_lay 40 = .ok (.if_icmp .ge 55, 3) := dk_162 0 55 (dk_at dksX3_lay_1 17 rfl rfl)
theorem dX3_lay_43 : decode cX3_lay 43 = .ok (.iload_n 2, 1) := dk_28 (dk_at dksX3_lay_1 20 rfl rfl)
theorem dX3_lay_44 : decode cX3_lay 44 = .ok (.ifCond .lt 16, 3) := dk_155 0 16 (dk_at dksX3_lay_1 21 rfl rfl)
theorem dX3_lay_47 : decode cX3_lay 47 = .ok (.iload_n 2, 1) := dk_28 (dk_at dksX3_lay_2 0 rfl rfl)
theorem dX3_lay_48 : decode cX3_lay 48 = .ok (.aload_n 0, 1) := dk_42 (dk_at dksX3_lay_2 1 rfl rfl)
theorem dX3_lay_49 : decode cX3_lay 49 = .ok (.getfield 102, 3) := dk_180 0 102 (dk_at dksX3_lay_2 2 rfl rfl)
theorem dX3_lay_52 : decode cX3_lay 52 = .ok (.iload_n 1, 1) := dk_27 (dk_at dksX3_lay_2 5 rfl rfl)
theorem dX3_lay_53 : decode cX3_lay 53 = .ok (.iaload, 1) := dk_46 (dk_at dksX3_lay_2 6 rfl rfl)
theorem dX3_lay_54 : decode cX3_lay 54 = .ok (.iload 4, 2) := dk_21 4 (dk_at dksX3_lay_2 7 rfl rfl)
theorem dX3_lay_56 : decode cX3_lay 56 = .ok (.isub, 1) := dk_100 (dk_at dksX3_lay_2 9 rfl rfl)
theorem dX3_lay_57 : decode cX3_lay 57 = .ok (.if_icmp .lt 6, 3) := dk_161 0 6 (dk_at dksX3_lay_2 10 rfl rfl)
theorem dX3_lay_60 : decode cX3_lay 60 = .ok (.bipush (-13), 2) := dk_16 243 (dk_at dksX3_lay_2 13 rfl rfl)
theorem dX3_lay_62 : decode cX3_lay 62 = .ok (.ireturn, 1) := dk_172 (dk_at dksX3_lay_2 15 rfl rfl)
theorem dX3_lay_63 : decode cX3_lay 63 = .ok (.aload_n 0, 1) := dk_42 (dk_at dksX3_lay_2 16 rfl rfl)
theorem dX3_lay_64 : decode cX3_lay 64 = .ok (.getfield 105, 3) := dk_180 0 105 (dk_at dksX3_lay_2 17 rfl rfl)
theorem dX3_lay_67 : decode cX3_lay 67 = .ok (.bipush 20, 2) := dk_16 20 (dk_at dksX3_lay_2 20 rfl rfl)
theorem dX3_lay_69 : decode cX3_lay 69 = .ok (.iload_n 1, 1) := dk_27 (dk_at dksX3_lay_2 22 rfl rfl)
theorem dX3_lay_70 : decode cX3_lay 70 = .ok (.imul, 1) := dk_104 (dk_at dksX3_lay_2 23 rfl rfl)
theorem dX3_lay_71 : decode cX3_lay 71 = .ok (.iload_n 2, 1) := dk_28 (dk_at dksX3_lay_3 0 rfl rfl)
theorem dX3_lay_72 : decode cX3_lay 72 = .ok (.iadd, 1) := dk_96 (dk_at dksX3_lay_3 1 rfl rfl)
theorem dX3_lay_73 : decode cX3_lay 73 = .ok (.iload 4, 2) := dk_21 4 (dk_at dksX3_lay_3 2 rfl rfl)
theorem dX3_lay_75 : decode cX3_lay 75 = .ok (.iadd, 1) := dk_96 (dk_at dksX3_lay_3 4 rfl rfl)
theorem dX3_lay_76 : decode cX3_lay 76 = .ok (.aload_n 0, 1) := dk_42 (dk_at dksX3_lay_3 5 rfl rfl)
theorem dX3_lay_77 : decode cX3_lay 77 = .ok (.getfield 32, 3) := dk_180 0 32 (dk_at dksX3_lay_3 6 rfl rfl)
theorem dX3_lay_80 : decode cX3_lay 80 = .ok (.bipush 10, 2) := dk_16 10 (dk_at dksX3_lay_3 9 rfl rfl)
theorem dX3_lay_82 : decode cX3_lay 82 = .ok (.iload_n 3, 1) := dk_29 (dk_at dksX3_lay_3 11 rfl rfl)
theorem dX3_lay_83 : decode cX3_lay 83 = .ok (.imul, 1) := dk_104 (dk_at dksX3_lay_3 12 rfl rfl)
theorem dX3_lay_84 : decode cX3_lay 84 = .ok (.iload 4, 2) := dk_21 4 (dk_at dksX3_lay_3 13 rfl rfl)
theorem dX3_lay_86 : decode cX3_lay 86 = .ok (.iadd, 1) := dk_96 (dk_at dksX3_lay_3 15 rfl rfl)
theorem dX3_lay_87 : decode cX3_lay 87 = .ok (.iaload, 1) := dk_46 (dk_at dksX3_lay_3 16 rfl rfl)
theorem dX3_lay_88 : decode cX3_lay 88 = .ok (.iastore, 1) := dk_79 (dk_at dksX3_lay_3 17 rfl rfl)
theorem dX3_lay_89 : decode cX3_lay 89 = .ok (.iinc 4 1, 3) := dk_132 4 1 (dk_at dksX3_lay_3 18 rfl rfl)
theorem dX3_lay_92 : decode cX3_lay 92 = .ok (.goto (-60), 3) := dk_167 255 196 (dk_at dksX3_lay_3 21 rfl rfl)
theorem dX3_lay_95 : decode cX3_lay 95 = .ok (.aload_n 0, 1) := dk_42 (dk_at dksX3_lay_4 0 rfl rfl)
theorem dX3_lay_96 : decode cX3_lay 96 = .ok (.getfield 13, 3) := dk_180 0 13 (dk_at dksX3_lay_4 1 rfl rfl)
theorem dX3_lay_99 : decode cX3_lay 99 = .ok (.iconst 0, 1) := dk_3 (dk_at dksX3_lay_4 4 rfl rfl)
theorem dX3_lay_100 : decode cX3_lay 100 = .ok (.iaload, 1) := dk_46 (dk_at dksX3_lay_4 5 rfl rfl)
theorem dX3_lay_101 : decode cX3_lay 101 = .ok (.ireturn, 1) := dk_172 (dk_at dksX3_lay_4 6 rfl rfl)
abbrev cX3_judge : ByteArray := prog_20_method_75_code
def yX3_judge : MethodName := ⟨RX3, "judge", "(III)I"⟩
def dkwX3_judge_4 : List UInt8 := [159, 0, 6, 21, 4, 172, 132, 4, 1, 167, 255, 187, 16, 251, 172]
abbrev dktX3_judge_4 : List UInt8 := dkwX3_judge_4 ++ []
def dkwX3_judge_3 : List UInt8 := [16, 20, 27, 104, 28, 96, 21, 4, 96, 46, 42, 180, 0, 32, 16, 10, 29, 104, 21, 4, 96, 46]
abbrev dktX3_judge_3 : List UInt8 := dkwX3_judge_3 ++ dktX3_judge_4
def dkwX3_judge_2 : List UInt8 := [28, 42, 180, 0, 102, 27, 46, 21, 4, 100, 161, 0, 9, 16, 100, 21, 4, 96, 172, 42, 180, 0, 105]
abbrev dktX3_judge_2 : List UInt8 := dkwX3_judge_2 ++ dktX3_judge_3
def dkwX3_judge_1 : List UInt8 := [154, 0, 6, 16, 245, 172, 3, 54, 4, 21, 4, 42, 180, 0, 13, 3, 46, 162, 0, 64, 28, 155, 0, 16]
abbrev dktX3_judge_1 : List UInt8 := dkwX3_judge_1 ++ dktX3_judge_2
def dkwX3_judge_0 : List UInt8 := [27, 184, 0, 254, 153, 0, 11, 42, 29, 182, 0, 193, 154, 0, 5, 2, 172, 42, 180, 0, 98, 27, 51]
abbrev dktX3_judge_0 : List UInt8 := dkwX3_judge_0 ++ dktX3_judge_1
theorem dksX3_judge_0 : cX3_judge.data.toList.drop 0 = dktX3_judge_0 := by decide +kernel
theorem dksX3_judge_1 : cX3_judge.data.toList.drop 23 = dktX3_judge_1 := dk_seg dksX3_judge_0 23 rfl rfl
theorem dksX3_judge_2 : cX3_judge.data.toList.drop 47 = dktX3_judge_2 := dk_seg dksX3_judge_1 24 rfl rfl
theorem dksX3_judge_3 : cX3_judge.data.toList.drop 70 = dktX3_judge_3 := dk_seg dksX3_judge_2 23 rfl rfl
theorem dksX3_judge_4 : cX3_judge.data.toList.drop 92 = dktX3_judge_4 := dk_seg dksX3_judge_3 22 rfl rfl
theorem dX3_judge_0 : decode cX3_judge 0 = .ok (.iload_n 1, 1) := dk_27 (dk_at dksX3_judge_0 0 rfl rfl)
theorem dX3_judge_1 : decode cX3_judge 1 = .ok (.invokestatic 254, 3) := dk_184 0 254 (dk_at dksX3_judge_0 1 rfl rfl)
theorem dX3_judge_4 : decode cX3_judge 4 = .ok (.ifCond .eq 11, 3) := dk_153 0 11 (dk_at dksX3_judge_0 4 rfl rfl)
theorem dX3_judge_7 : decode cX3_judge 7 = .ok (.aload_n 0, 1) := dk_42 (dk_at dksX3_judge_0 7 rfl rfl)
theorem dX3_judge_8 : decode cX3_judge 8 = .ok (.iload_n 3, 1) := dk_29 (dk_at dksX3_judge_0 8 rfl rfl)
theorem dX3_judge_9 : decode cX3_judge 9 = .ok (.invokevirtual 193, 3) := dk_182 0 193 (dk_at dksX3_judge_0 9 rfl rfl)
theorem dX3_judge_12 : decode cX3_judge 12 = .ok (.ifCond .ne 5, 3) := dk_154 0 5 (dk_at dksX3_judge_0 12 rfl rfl)
theorem dX3_judge_15 : decode cX3_judge 15 = .ok (.iconst (-1), 1) := dk_2 (dk_at dksX3_judge_0 15 rfl rfl)
theorem dX3_judge_16 : decode cX3_judge 16 = .ok (.ireturn, 1) := dk_172 (dk_at dksX3_judge_0 16 rfl rfl)
theorem dX3_judge_17 : decode cX3_judge 17 = .ok (.aload_n 0, 1) := dk_42 (dk_at dksX3_judge_0 17 rfl rfl)
theorem dX3_judge_18 : decode cX3_judge 18 = .ok (.getfield 98, 3) := dk_180 0 98 (dk_at dksX3_judge_0 18 rfl rfl)
theorem dX3_judge_21 : decode cX3_judge 21 = .ok (.iload_n 1, 1) := dk_27 (dk_at dksX3_judge_0 21 rfl rfl)
theorem dX3_judge_22 : decode cX3_judge 22 = .ok (.baload, 1) := dk_51 (dk_at dksX3_judge_0 22 rfl rfl)
theorem dX3_judge_23 : decode cX3_judge 23 = .ok (.ifCond .ne 6, 3) := dk_154 0 6 (dk_at dksX3_judge_1 0 rfl rfl)
theorem dX3_judge_26 : decode cX3_judge 26 = .ok (.bipush (-11), 2) := dk_16 245 (dk_at dksX3_judge_1 3 rfl rfl)
theorem dX3_judge_28 : decode cX3_judge 28 = .ok (.ireturn, 1) := dk_172 (dk_at dksX3_judge_1 5 rfl rfl)
theorem dX3_judge_29 : decode cX3_judge 29 = .ok (.iconst 0, 1) := dk_3 (dk_at dksX3_judge_1 6 rfl rfl)
theorem dX3_judge_30 : decode cX3_judge 30 = .ok (.istore 4, 2) := dk_54 4 (dk_at dksX3_judge_1 7 rfl rfl)
theorem dX3_judge_32 : decode cX3_judge 32 = .ok (.iload 4, 2) := dk_21 4 (dk_at dksX3_judge_1 9 rfl rfl)
theorem dX3_judge_34 : decode cX3_judge 34 = .ok (.aload_n 0, 1) := dk_42 (dk_at dksX3_judge_1 11 rfl rfl)
theorem dX3_judge_35 : decode cX3_judge 35 = .ok (.getfield 13, 3) := dk_180 0 13 (dk_at dksX3_judge_1 12 rfl rfl)
theorem dX3_judge_38 : decode cX3_judge 38 = .ok (.iconst 0, 1) := dk_3 (dk_at dksX3_judge_1 15 rfl rfl)
theorem dX3_judge_39 : decode cX3_judge 39 = .ok (.iaload, 1) := dk_46 (dk_at dksX3_judge_1 16 rfl rfl)
theorem dX3_judge_40 : decode cX3_judge 40 = .ok (.if_icmp .ge 64, 3) := dk_162 0 64 (dk_at dksX3_judge_1 17 rfl rfl)
theorem dX3_judge_43 : decode cX3_judge 43 = .ok (.iload_n 2, 1) := dk_28 (dk_at dksX3_judge_1 20 rfl rfl)
theorem dX3_judge_44 : decode cX3_judge 44 = .ok (.ifCond .lt 16, 3) := dk_155 0 16 (dk_at dksX3_judge_1 21 rfl rfl)
theorem dX3_judge_47 : decode cX3_judge 47 = .ok (.iload_n 2, 1) := dk_28 (dk_at dksX3_judge_2 0 rfl rfl)
theorem dX3_judge_48 : decode cX3_judge 48 = .ok (.aload_n 0, 1) := dk_42 (dk_at dksX3_judge_2 1 rfl rfl)
theorem dX3_judge_49 : decode cX3_judge 49 = .ok (.getfield 102, 3) := dk_180 0 102 (dk_at dksX3_judge_2 2 rfl rfl)
theorem dX3_judge_52 : decode cX3_judge 52 = .ok (.iload_n 1, 1) := dk_27 (dk_at dksX3_judge_2 5 rfl rfl)
theorem dX3_judge_53 : decode cX3_judge 53 = .ok (.iaload, 1) := dk_46 (dk_at dksX3_judge_2 6 rfl rfl)
theorem dX3_judge_54 : decode cX3_judge 54 = .ok (.iload 4, 2) := dk_21 4 (dk_at dksX3_judge_2 7 rfl rfl)
theorem dX3_judge_56 : decode cX3_judge 56 = .ok (.isub, 1) := dk_100 (dk_at dksX3_judge_2 9 rfl rfl)
theorem dX3_judge_57 : decode cX3_judge 57 = .ok (.if_icmp .lt 9, 3) := dk_161 0 9 (dk_at dksX3_judge_2 10 rfl rfl)
theorem dX3_judge_60 : decode cX3_judge 60 = .ok (.bipush 100, 2) := dk_16 100 (dk_at dksX3_judge_2 13 rfl rfl)
theorem dX3_judge_62 : decode cX3_judge 62 = .ok (.iload 4, 2) := dk_21 4 (dk_at dksX3_judge_2 15 rfl rfl)
theorem dX3_judge_64 : decode cX3_judge 64 = .ok (.iadd, 1) := dk_96 (dk_at dksX3_judge_2 17 rfl rfl)
theorem dX3_judge_65 : decode cX3_judge 65 = .ok (.ireturn, 1) := dk_172 (dk_at dksX3_judge_2 18 rfl rfl)
theorem dX3_judge_66 : decode cX3_judge 66 = .ok (.aload_n 0, 1) := dk_42 (dk_at dksX3_judge_2 19 rfl rfl)
theorem dX3_judge_67 : decode cX3_judge 67 = .ok (.getfield 105, 3) := dk_180 0 105 (dk_at dksX3_judge_2 20 rfl rfl)
theorem dX3_judge_70 : decode cX3_judge 70 = .ok (.bipush 20, 2) := dk_16 20 (dk_at dksX3_judge_3 0 rfl rfl)
theorem dX3_judge_72 : decode cX3_judge 72 = .ok (.iload_n 1, 1) := dk_27 (dk_at dksX3_judge_3 2 rfl rfl)
theorem dX3_judge_73 : decode cX3_judge 73 = .ok (.imul, 1) := dk_104 (dk_at dksX3_judge_3 3 rfl rfl)
theorem dX3_judge_74 : decode cX3_judge 74 = .ok (.iload_n 2, 1) := dk_28 (dk_at dksX3_judge_3 4 rfl rfl)
theorem dX3_judge_75 : decode cX3_judge 75 = .ok (.iadd, 1) := dk_96 (dk_at dksX3_judge_3 5 rfl rfl)
theorem dX3_judge_76 : decode cX3_judge 76 = .ok (.iload 4, 2) := dk_21 4 (dk_at dksX3_judge_3 6 rfl rfl)
theorem dX3_judge_78 : decode cX3_judge 78 = .ok (.iadd, 1) := dk_96 (dk_at dksX3_judge_3 8 rfl rfl)
theorem dX3_judge_79 : decode cX3_judge 79 = .ok (.iaload, 1) := dk_46 (dk_at dksX3_judge_3 9 rfl rfl)
theorem dX3_judge_80 : decode cX3_judge 80 = .ok (.aload_n 0, 1) := dk_42 (dk_at dksX3_judge_3 10 rfl rfl)
theorem dX3_judge_81 : decode cX3_judge 81 = .ok (.getfield 32, 3) := dk_180 0 32 (dk_at dksX3_judge_3 11 rfl rfl)
theorem dX3_judge_84 : decode cX3_judge 84 = .ok (.bipush 10, 2) := dk_16 10 (dk_at dksX3_judge_3 14 rfl rfl)
theorem dX3_judge_86 : decode cX3_judge 86 = .ok (.iload_n 3, 1) := dk_29 (dk_at dksX3_judge_3 16 rfl rfl)
theorem dX3_judge_87 : decode cX3_judge 87 = .ok (.imul, 1) := dk_104 (dk_at dksX3_judge_3 17 rfl rfl)
theorem dX3_judge_88 : decode cX3_judge 88 = .ok (.iload 4, 2) := dk_21 4 (dk_at dksX3_judge_3 18 rfl rfl)
theorem dX3_judge_90 : decode cX3_judge 90 = .ok (.iadd, 1) := dk_96 (dk_at dksX3_judge_3 20 rfl rfl)
theorem dX3_judge_91 : decode cX3_judge 91 = .ok (.iaload, 1) := dk_46 (dk_at dksX3_judge_3 21 rfl rfl)
theorem dX3_judge_92 : decode cX3_judge 92 = .ok (.if_icmp .eq 6, 3) := dk_159 0 6 (dk_at dksX3_judge_4 0 rfl rfl)
theorem dX3_judge_95 : decode cX3_judge 95 = .ok (.iload 4, 2) := dk_21 4 (dk_at dksX3_judge_4 3 rfl rfl)
theorem dX3_judge_97 : decode cX3_judge 97 = .ok (.ireturn, 1) := dk_172 (dk_at dksX3_judge_4 5 rfl rfl)
theorem dX3_judge_98 : decode cX3_judge 98 = .ok (.iinc 4 1, 3) := dk_132 4 1 (dk_at dksX3_judge_4 6 rfl rfl)
theorem dX3_judge_101 : decode cX3_judge 101 = .ok (.goto (-69), 3) := dk_167 255 187 (dk_at dksX3_judge_4 9 rfl rfl)
theorem dX3_judge_104 : decode cX3_judge 104 = .ok (.bipush (-5), 2) := dk_16 251 (dk_at dksX3_judge_4 12 rfl rfl)
theorem dX3_judge_106 : decode cX3_judge 106 = .ok (.ireturn, 1) := dk_172 (dk_at dksX3_judge_4 14 rfl rfl)
abbrev cX3_image : ByteArray := prog_20_method_78_code
def yX3_image : MethodName := ⟨RX3, "image", "()I"⟩
def dkwX3_image_0 : List UInt8 := [42, 4, 181, 1, 6, 42, 3, 182, 1, 10, 42, 180, 0, 17, 3, 46, 172]
abbrev dktX3_image_0 : List UInt8 := dkwX3_image_0 ++ []
theorem dksX3_image_0 : cX3_image.data.toList.drop 0 = dktX3_image_0 := by decide +kernel
theorem dX3_image_0 : decode cX3_image 0 = .ok (.aload_n 0, 1) := dk_42 (dk_at dksX3_image_0 0 rfl rfl)
theorem dX3_image_1 : decode cX3_image 1 = .ok (.iconst 1, 1) := dk_4 (dk_at dksX3_image_0 1 rfl rfl)
theorem dX3_image_2 : decode cX3_image 2 = .ok (.putfield 262, 3) := dk_181 1 6 (dk_at dksX3_image_0 2 rfl rfl)
theorem dX3_image_5 : decode cX3_image 5 = .ok (.aload_n 0, 1) := dk_42 (dk_at dksX3_image_0 5 rfl rfl)
theorem dX3_image_6 : decode cX3_image 6 = .ok (.iconst 0, 1) := dk_3 (dk_at dksX3_image_0 6 rfl rfl)
theorem dX3_image_7 : decode cX3_image 7 = .ok (.invokevirtual 266, 3) := dk_182 1 10 (dk_at dksX3_image_0 7 rfl rfl)
theorem dX3_image_10 : decode cX3_image 10 = .ok (.aload_n 0, 1) := dk_42 (dk_at dksX3_image_0 10 rfl rfl)
theorem dX3_image_11 : decode cX3_image 11 = .ok (.getfield 17, 3) := dk_180 0 17 (dk_at dksX3_image_0 11 rfl rfl)
theorem dX3_image_14 : decode cX3_image 14 = .ok (.iconst 0, 1) := dk_3 (dk_at dksX3_image_0 14 rfl rfl)
theorem dX3_image_15 : decode cX3_image 15 = .ok (.iaload, 1) := dk_46 (dk_at dksX3_image_0 15 rfl rfl)
theorem dX3_image_16 : decode cX3_image 16 = .ok (.ireturn, 1) := dk_172 (dk_at dksX3_image_0 16 rfl rfl)
abbrev cX3_copyAll : ByteArray := prog_20_method_77_code
def yX3_copyAll : MethodName := ⟨RX3, "copyAll", "(Z)V"⟩
def dkwX3_copyAll_4 : List UInt8 := [42, 180, 0, 50, 27, 184, 1, 2, 42, 180, 0, 53, 27, 184, 1, 2, 177]
abbrev dktX3_copyAll_4 : List UInt8 := dkwX3_copyAll_4 ++ []
def dkwX3_copyAll_3 : List UInt8 := [42, 180, 0, 41, 27, 184, 1, 2, 42, 180, 0, 44, 27, 184, 1, 2, 42, 180, 0, 47, 27, 184, 1, 2]
abbrev dktX3_copyAll_3 : List UInt8 := dkwX3_copyAll_3 ++ dktX3_copyAll_4
def dkwX3_copyAll_2 : List UInt8 := [42, 180, 0, 32, 27, 184, 1, 2, 42, 180, 0, 35, 27, 184, 1, 2, 42, 180, 0, 38, 27, 184, 1, 2]
abbrev dktX3_copyAll_2 : List UInt8 := dkwX3_copyAll_2 ++ dktX3_copyAll_3
def dkwX3_copyAll_1 : List UInt8 := [42, 180, 0, 23, 27, 184, 1, 2, 42, 180, 0, 26, 27, 184, 1, 2, 42, 180, 0, 29, 27, 184, 1, 2]
abbrev dktX3_copyAll_1 : List UInt8 := dkwX3_copyAll_1 ++ dktX3_copyAll_2
def dkwX3_copyAll_0 : List UInt8 := [42, 180, 0, 13, 27, 184, 1, 2, 42, 180, 0, 17, 27, 184, 1, 2, 42, 180, 0, 20, 27, 184, 1, 2]
abbrev dktX3_copyAll_0 : List UInt8 := dkwX3_copyAll_0 ++ dktX3_copyAll_1
theorem dksX3_copyAll_0 : cX3_copyAll.data.toList.drop 0 = dktX3_copyAll_0 := by decide +kernel
theorem dksX3_copyAll_1 : cX3_copyAll.data.toList.drop 24 = dktX3_copyAll_1 := dk_seg dksX3_copyAll_0 24 rfl rfl
theorem dksX3_copyAll_2 : cX3_copyAll.data.toList.drop 48 = dktX3_copyAll_2 := dk_seg dksX3_copyAll_1 24 rfl rfl
theorem dksX3_copyAll_3 : cX3_copyAll.data.toList.drop 72 = dktX3_copyAll_3 := dk_seg dksX3_copyAll_2 24 rfl rfl
theorem dksX3_copyAll_4 : cX3_copyAll.data.toList.drop 96 = dktX3_copyAll_4 := dk_seg dksX3_copyAll_3 24 rfl rfl
theorem dX3_copyAll_0 : decode cX3_copyAll 0 = .ok (.aload_n 0, 1) := dk_42 (dk_at dksX3_copyAll_0 0 rfl rfl)
theorem dX3_copyAll_1 : decode cX3_copyAll 1 = .ok (.getfield 13, 3) := dk_180 0 13 (dk_at dksX3_copyAll_0 1 rfl rfl)
theorem dX3_copyAll_4 : decode cX3_copyAll 4 = .ok (.iload_n 1, 1) := dk_27 (dk_at dksX3_copyAll_0 4 rfl rfl)
theorem dX3_copyAll_5 : decode cX3_copyAll 5 = .ok (.invokestatic 258, 3) := dk_184 1 2 (dk_at dksX3_copyAll_0 5 rfl rfl)
theorem dX3_copyAll_8 : decode cX3_copyAll 8 = .ok (.aload_n 0, 1) := dk_42 (dk_at dksX3_copyAll_0 8 rfl rfl)
theorem dX3_copyAll_9 : decode cX3_copyAll 9 = .ok (.getfield 17, 3) := dk_180 0 17 (dk_at dksX3_copyAll_0 9 rfl rfl)
theorem dX3_copyAll_12 : decode cX3_copyAll 12 = .ok (.iload_n 1, 1) := dk_27 (dk_at dksX3_copyAll_0 12 rfl rfl)
theorem dX3_copyAll_13 : decode cX3_copyAll 13 = .ok (.invokestatic 258, 3) := dk_184 1 2 (dk_at dksX3_copyAll_0 13 rfl rfl)
theorem dX3_copyAll_16 : decode cX3_copyAll 16 = .ok (.aload_n 0, 1) := dk_42 (dk_at dksX3_copyAll_0 16 rfl rfl)
theorem dX3_copyAll_17 : decode cX3_copyAll 17 = .ok (.getfield 20, 3) := dk_180 0 20 (dk_at dksX3_copyAll_0 17 rfl rfl)
theorem dX3_copyAll_20 : decode cX3_copyAll 20 = .ok (.iload_n 1, 1) := dk_27 (dk_at dksX3_copyAll_0 20 rfl rfl)
theorem dX3_copyAll_21 : decode cX3_copyAll 21 = .ok (.invokestatic 258, 3) := dk_184 1 2 (dk_at dksX3_copyAll_0 21 rfl rfl)
theorem dX3_copyAll_24 : decode cX3_copyAll 24 = .ok (.aload_n 0, 1) := dk_42 (dk_at dksX3_copyAll_1 0 rfl rfl)
theorem dX3_copyAll_25 : decode cX3_copyAll 25 = .ok (.getfield 23, 3) := dk_180 0 23 (dk_at dksX3_copyAll_1 1 rfl rfl)
theorem dX3_copyAll_28 : decode cX3_copyAll 28 = .ok (.iload_n 1, 1) := dk_27 (dk_at dksX3_copyAll_1 4 rfl rfl)
theorem dX3_copyAll_29 : decode cX3_copyAll 29 = .ok (.invokestatic 258, 3) := dk_184 1 2 (dk_at dksX3_copyAll_1 5 rfl rfl)
theorem dX3_copyAll_32 : decode cX3_copyAll 32 = .ok (.aload_n 0, 1) := dk_42 (dk_at dksX3_copyAll_1 8 rfl rfl)
theorem dX3_copyAll_33 : decode cX3_copyAll 33 = .ok (.getfield 26, 3) := dk_180 0 26 (dk_at dksX3_copyAll_1 9 rfl rfl)
theorem dX3_copyAll_36 : decode cX3_copyAll 36 = .ok (.iload_n 1, 1) := dk_27 (dk_at dksX3_copyAll_1 12 rfl rfl)
theorem dX3_copyAll_37 : decode cX3_copyAll 37 = .ok (.invokestatic 258, 3) := dk_184 1 2 (dk_at dksX3_copyAll_1 13 rfl rfl)
theorem dX3_copyAll_40 : decode cX3_copyAll 40 = .ok (.aload_n 0, 1) := dk_42 (dk_at dksX3_copyAll_1 16 rfl rfl)
theorem dX3_copyAll_41 : decode cX3_copyAll 41 = .ok (.getfield 29, 3) := dk_180 0 29 (dk_at dksX3_copyAll_1 17 rfl rfl)
theorem dX3_copyAll_44 : decode cX3_copyAll 44 = .ok (.iload_n 1, 1) := dk_27 (dk_at dksX3_copyAll_1 20 rfl rfl)
theorem dX3_copyAll_45 : decode cX3_copyAll 45 = .ok (.invokestatic 258, 3) := dk_184 1 2 (dk_at dksX3_copyAll_1 21 rfl rfl)
theorem dX3_copyAll_48 : decode cX3_copyAll 48 = .ok (.aload_n 0, 1) := dk_42 (dk_at dksX3_copyAll_2 0 rfl rfl)
theorem dX3_copyAll_49 : decode cX3_copyAll 49 = .ok (.getfield 32, 3) := dk_180 0 32 (dk_at dksX3_copyAll_2 1 rfl rfl)
theorem dX3_copyAll_52 : decode cX3_copyAll 52 = .ok (.iload_n 1, 1) := dk_27 (dk_at dksX3_copyAll_2 4 rfl rfl)
theorem dX3_copyAll_53 : decode cX3_copyAll 53 = .ok (.invokestatic 258, 3) := dk_184 1 2 (dk_at dksX3_copyAll_2 5 rfl rfl)
theorem dX3_copyAll_56 : decode cX3_copyAll 56 = .ok (.aload_n 0, 1) := dk_42 (dk_at dksX3_copyAll_2 8 rfl rfl)
theorem dX3_copyAll_57 : decode cX3_copyAll 57 = .ok (.getfield 35, 3) := dk_180 0 35 (dk_at dksX3_copyAll_2 9 rfl rfl)
theorem dX3_copyAll_60 : decode cX3_copyAll 60 = .ok (.iload_n 1, 1) := dk_27 (dk_at dksX3_copyAll_2 12 rfl rfl)
theorem dX3_copyAll_61 : decode cX3_copyAll 61 = .ok (.invokestatic 258, 3) := dk_184 1 2 (dk_at dksX3_copyAll_2 13 rfl rfl)
theorem dX3_copyAll_64 : decode cX3_copyAll 64 = .ok (.aload_n 0, 1) := dk_42 (dk_at dksX3_copyAll_2 16 rfl rfl)
theorem dX3_copyAll_65 : decode cX3_copyAll 65 = .ok (.getfield 38, 3) := dk_180 0 38 (dk_at dksX3_copyAll_2 17 rfl rfl)
theorem dX3_copyAll_68 : decode cX3_copyAll 68 = .ok (.iload_n 1, 1) := dk_27 (dk_at dksX3_copyAll_2 20 rfl rfl)
theorem dX3_copyAll_69 : decode cX3_copyAll 69 = .ok (.invokestatic 258, 3) := dk_184 1 2 (dk_at dksX3_copyAll_2 21 rfl rfl)
theorem dX3_copyAll_72 : decode cX3_copyAll 72 = .ok (.aload_n 0, 1) := dk_42 (dk_at dksX3_copyAll_3 0 rfl rfl)
theorem dX3_copyAll_73 : decode cX3_copyAll 73 = .ok (.getfield 41, 3) := dk_180 0 41 (dk_at dksX3_copyAll_3 1 rfl rfl)
theorem dX3_copyAll_76 : decode cX3_copyAll 76 = .ok (.iload_n 1, 1) := dk_27 (dk_at dksX3_copyAll_3 4 rfl rfl)
theorem dX3_copyAll_77 : decode cX3_copyAll 77 = .ok (.invokestatic 258, 3) := dk_184 1 2 (dk_at dksX3_copyAll_3 5 rfl rfl)
theorem dX3_copyAll_80 : decode cX3_copyAll 80 = .ok (.aload_n 0, 1) := dk_42 (dk_at dksX3_copyAll_3 8 rfl rfl)
theorem dX3_copyAll_81 : decode cX3_copyAll 81 = .ok (.getfield 44, 3) := dk_180 0 44 (dk_at dksX3_copyAll_3 9 rfl rfl)
theorem dX3_copyAll_84 : decode cX3_copyAll 84 = .ok (.iload_n 1, 1) := dk_27 (dk_at dksX3_copyAll_3 12 rfl rfl)
theorem dX3_copyAll_85 : decode cX3_copyAll 85 = .ok (.invokestatic 258, 3) := dk_184 1 2 (dk_at dksX3_copyAll_3 13 rfl rfl)
theorem dX3_copyAll_88 : decode cX3_copyAll 88 = .ok (.aload_n 0, 1) := dk_42 (dk_at dksX3_copyAll_3 16 rfl rfl)
theorem dX3_copyAll_89 : decode cX3_copyAll 89 = .ok (.getfield 47, 3) := dk_180 0 47 (dk_at dksX3_copyAll_3 17 rfl rfl)
theorem dX3_copyAll_92 : decode cX3_copyAll 92 = .ok (.iload_n 1, 1) := dk_27 (dk_at dksX3_copyAll_3 20 rfl rfl)
theorem dX3_copyAll_93 : decode cX3_copyAll 93 = .ok (.invokestatic 258, 3) := dk_184 1 2 (dk_at dksX3_copyAll_3 21 rfl rfl)
theorem dX3_copyAll_96 : decode cX3_copyAll 96 = .ok (.aload_n 0, 1) := dk_42 (dk_at dksX3_copyAll_4 0 rfl rfl)
theorem dX3_copyAll_97 : decode cX3_copyAll 97 = .ok (.getfield 50, 3) := dk_180 0 50 (dk_at dksX3_copyAll_4 1 rfl rfl)
theorem dX3_copyAll_100 : decode cX3_copyAll 100 = .ok (.iload_n 1, 1) := dk_27 (dk_at dksX3_copyAll_4 4 rfl rfl)
theorem dX3_copyAll_101 : decode cX3_copyAll 101 = .ok (.invokestatic 258, 3) := dk_184 1 2 (dk_at dksX3_copyAll_4 5 rfl rfl)
theorem dX3_copyAll_104 : decode cX3_copyAll 104 = .ok (.aload_n 0, 1) := dk_42 (dk_at dksX3_copyAll_4 8 rfl rfl)
theorem dX3_copyAll_105 : decode cX3_copyAll 105 = .ok (.getfield 53, 3) := dk_180 0 53 (dk_at dksX3_copyAll_4 9 rfl rfl)
theorem dX3_copyAll_108 : decode cX3_copyAll 108 = .ok (.iload_n 1, 1) := dk_27 (dk_at dksX3_copyAll_4 12 rfl rfl)
theorem dX3_copyAll_109 : decode cX3_copyAll 109 = .ok (.invokestatic 258, 3) := dk_184 1 2 (dk_at dksX3_copyAll_4 13 rfl rfl)
theorem dX3_copyAll_112 : decode cX3_copyAll 112 = .ok (.return_, 1) := dk_177 (dk_at dksX3_copyAll_4 16 rfl rfl)
abbrev cX3_copy : ByteArray := prog_20_method_76_code
def yX3_copy : MethodName := ⟨RX3, "copy", "([IZ)V"⟩
def dkwX3_copy_1 : List UInt8 := [167, 0, 11, 42, 28, 29, 96, 42, 29, 46, 79, 132, 3, 1, 167, 255, 225, 177]
abbrev dktX3_copy_1 : List UInt8 := dkwX3_copy_1 ++ []
def dkwX3_copy_0 : List UInt8 := [42, 190, 5, 108, 61, 3, 62, 29, 28, 162, 0, 32, 27, 153, 0, 14, 42, 29, 42, 28, 29, 96, 46, 79]
abbrev dktX3_copy_0 : List UInt8 := dkwX3_copy_0 ++ dktX3_copy_1
theorem dksX3_copy_0 : cX3_copy.data.toList.drop 0 = dktX3_copy_0 := by decide +kernel
theorem dksX3_copy_1 : cX3_copy.data.toList.drop 24 = dktX3_copy_1 := dk_seg dksX3_copy_0 24 rfl rfl
theorem dX3_copy_0 : decode cX3_copy 0 = .ok (.aload_n 0, 1) := dk_42 (dk_at dksX3_copy_0 0 rfl rfl)
theorem dX3_copy_1 : decode cX3_copy 1 = .ok (.arraylength, 1) := dk_190 (dk_at dksX3_copy_0 1 rfl rfl)
theorem dX3_copy_2 : decode cX3_copy 2 = .ok (.iconst 2, 1) := dk_5 (dk_at dksX3_copy_0 2 rfl rfl)
theorem dX3_copy_3 : decode cX3_copy 3 = .ok (.idiv, 1) := dk_108 (dk_at dksX3_copy_0 3 rfl rfl)
theorem dX3_copy_4 : decode cX3_copy 4 = .ok (.istore_n 2, 1) := dk_61 (dk_at dksX3_copy_0 4 rfl rfl)
theorem dX3_copy_5 : decode cX3_copy 5 = .ok (.iconst 0, 1) := dk_3 (dk_at dksX3_copy_0 5 rfl rfl)
theorem dX3_copy_6 : decode cX3_copy 6 = .ok (.istore_n 3, 1) := dk_62 (dk_at dksX3_copy_0 6 rfl rfl)
theorem dX3_copy_7 : decode cX3_copy 7 = .ok (.iload_n 3, 1) := dk_29 (dk_at dksX3_copy_0 7 rfl rfl)
theorem dX3_copy_8 : decode cX3_copy 8 = .ok (.iload_n 2, 1) := dk_28 (dk_at dksX3_copy_0 8 rfl rfl)
theorem dX3_copy_9 : decode cX3_copy 9 = .ok (.if_icmp .ge 32, 3) := dk_162 0 32 (dk_at dksX3_copy_0 9 rfl rfl)
theorem dX3_copy_12 : decode cX3_copy 12 = .ok (.iload_n 1, 1) := dk_27 (dk_at dksX3_copy_0 12 rfl rfl)
theorem dX3_copy_13 : decode cX3_copy 13 = .ok (.ifCond .eq 14, 3) := dk_153 0 14 (dk_at dksX3_copy_0 13 rfl rfl)
theorem dX3_copy_16 : decode cX3_copy 16 = .ok (.aload_n 0, 1) := dk_42 (dk_at dksX3_copy_0 16 rfl rfl)
theorem dX3_copy_17 : decode cX3_copy 17 = .ok (.iload_n 3, 1) := dk_29 (dk_at dksX3_copy_0 17 rfl rfl)
theorem dX3_copy_18 : decode cX3_copy 18 = .ok (.aload_n 0, 1) := dk_42 (dk_at dksX3_copy_0 18 rfl rfl)
theorem dX3_copy_19 : decode cX3_copy 19 = .ok (.iload_n 2, 1) := dk_28 (dk_at dksX3_copy_0 19 rfl rfl)
theorem dX3_copy_20 : decode cX3_copy 20 = .ok (.iload_n 3, 1) := dk_29 (dk_at dksX3_copy_0 20 rfl rfl)
theorem dX3_copy_21 : decode cX3_copy 21 = .ok (.iadd, 1) := dk_96 (dk_at dksX3_copy_0 21 rfl rfl)
theorem dX3_copy_22 : decode cX3_copy 22 = .ok (.iaload, 1) := dk_46 (dk_at dksX3_copy_0 22 rfl rfl)
theorem dX3_copy_23 : decode cX3_copy 23 = .ok (.iastore, 1) := dk_79 (dk_at dksX3_copy_0 23 rfl rfl)
theorem dX3_copy_24 : decode cX3_copy 24 = .ok (.goto 11, 3) := dk_167 0 11 (dk_at dksX3_copy_1 0 rfl rfl)
theorem dX3_copy_27 : decode cX3_copy 27 = .ok (.aload_n 0, 1) := dk_42 (dk_at dksX3_copy_1 3 rfl rfl)
theorem dX3_copy_28 : decode cX3_copy 28 = .ok (.iload_n 2, 1) := dk_28 (dk_at dksX3_copy_1 4 rfl rfl)
theorem dX3_copy_29 : decode cX3_copy 29 = .ok (.iload_n 3, 1) := dk_29 (dk_at dksX3_copy_1 5 rfl rfl)
theorem dX3_copy_30 : decode cX3_copy 30 = .ok (.iadd, 1) := dk_96 (dk_at dksX3_copy_1 6 rfl rfl)
theorem dX3_copy_31 : decode cX3_copy 31 = .ok (.aload_n 0, 1) := dk_42 (dk_at dksX3_copy_1 7 rfl rfl)
theorem dX3_copy_32 : decode cX3_copy 32 = .ok (.iload_n 3, 1) := dk_29 (dk_at dksX3_copy_1 8 rfl rfl)
theorem dX3_copy_33 : decode cX3_copy 33 = .ok (.iaload, 1) := dk_46 (dk_at dksX3_copy_1 9 rfl rfl)
theorem dX3_copy_34 : decode cX3_copy 34 = .ok (.iastore, 1) := dk_79 (dk_at dksX3_copy_1 10 rfl rfl)
theorem dX3_copy_35 : decode cX3_copy 35 = .ok (.iinc 3 1, 3) := dk_132 3 1 (dk_at dksX3_copy_1 11 rfl rfl)
theorem dX3_copy_38 : decode cX3_copy 38 = .ok (.goto (-31), 3) := dk_167 255 225 (dk_at dksX3_copy_1 14 rfl rfl)
theorem dX3_copy_41 : decode cX3_copy 41 = .ok (.return_, 1) := dk_177 (dk_at dksX3_copy_1 17 rfl rfl)
abbrev cX3_undo : ByteArray := prog_20_method_79_code
def yX3_undo : MethodName := ⟨RX3, "undo", "()I"⟩
def dkwX3_undo_0 : List UInt8 := [42, 180, 1, 6, 154, 0, 6, 16, 253, 172, 42, 4, 182, 1, 10, 42, 180, 0, 17, 3, 46, 172]
abbrev dktX3_undo_0 : List UInt8 := dkwX3_undo_0 ++ []
theorem dksX3_undo_0 : cX3_undo.data.toList.drop 0 = dktX3_undo_0 := by decide +kernel
theorem dX3_undo_0 : decode cX3_undo 0 = .ok (.aload_n 0, 1) := dk_42 (dk_at dksX3_undo_0 0 rfl rfl)
theorem dX3_undo_1 : decode cX3_undo 1 = .ok (.getfield 262, 3) := dk_180 1 6 (dk_at dksX3_undo_0 1 rfl rfl)
theorem dX3_undo_4 : decode cX3_undo 4 = .ok (.ifCond .ne 6, 3) := dk_154 0 6 (dk_at dksX3_undo_0 4 rfl rfl)
theorem dX3_undo_7 : decode cX3_undo 7 = .ok (.bipush (-3), 2) := dk_16 253 (dk_at dksX3_undo_0 7 rfl rfl)
theorem dX3_undo_9 : decode cX3_undo 9 = .ok (.ireturn, 1) := dk_172 (dk_at dksX3_undo_0 9 rfl rfl)
theorem dX3_undo_10 : decode cX3_undo 10 = .ok (.aload_n 0, 1) := dk_42 (dk_at dksX3_undo_0 10 rfl rfl)
theorem dX3_undo_11 : decode cX3_undo 11 = .ok (.iconst 1, 1) := dk_4 (dk_at dksX3_undo_0 11 rfl rfl)
theorem dX3_undo_12 : decode cX3_undo 12 = .ok (.invokevirtual 266, 3) := dk_182 1 10 (dk_at dksX3_undo_0 12 rfl rfl)
theorem dX3_undo_15 : decode cX3_undo 15 = .ok (.aload_n 0, 1) := dk_42 (dk_at dksX3_undo_0 15 rfl rfl)
theorem dX3_undo_16 : decode cX3_undo 16 = .ok (.getfield 17, 3) := dk_180 0 17 (dk_at dksX3_undo_0 16 rfl rfl)
theorem dX3_undo_19 : decode cX3_undo 19 = .ok (.iconst 0, 1) := dk_3 (dk_at dksX3_undo_0 19 rfl rfl)
theorem dX3_undo_20 : decode cX3_undo 20 = .ok (.iaload, 1) := dk_46 (dk_at dksX3_undo_0 20 rfl rfl)
theorem dX3_undo_21 : decode cX3_undo 21 = .ok (.ireturn, 1) := dk_172 (dk_at dksX3_undo_0 21 rfl rfl)
theorem q85 : (Jvm.Cond.initialized "CardLoomModel") ∈ lw_all := lw_g (lw_at lw_m1 8 rfl) rfl
theorem q445 : (Jvm.Cond.selects "CardLoomModel" ({ cls := "java/lang/Object", name := "getClass", desc := "()Ljava/lang/Class;" } : Jvm.MethodName) ({ cls := "java/lang/Object", name := "getClass", desc := "()Ljava/lang/Class;" } : Jvm.MethodName)) ∈ lw_all := lw_g (lw_at lw_m2 128 rfl) rfl
theorem q2298 : (Jvm.Cond.instantiable "CardLoomModel" (41 : Nat)) ∈ lw_all := lw_g (lw_at lw_m10 61 rfl) rfl
theorem q2300 : (Jvm.Cond.instanceMethod ({ cls := "CardLoomModel", name := "<init>", desc := "()V" } : Jvm.MethodName)) ∈ lw_all := lw_g (lw_at lw_m10 63 rfl) rfl
theorem q2301 : (Jvm.Cond.code ({ cls := "CardLoomModel", name := "<init>", desc := "()V" } : Jvm.MethodName) prog_20_method_3_code (1 : Nat) (Option.none : Option Jvm.ClassFile.FieldType)) ∈ lw_all := lw_g (lw_at lw_m10 64 rfl) rfl
theorem q2302 : (Jvm.Cond.methodLink "CardLoomModel" (7 : Nat) ({ cls := "java/lang/Object", name := "<init>", desc := "()V" } : Jvm.MethodName)) ∈ lw_all := lw_g (lw_at lw_m10 65 rfl) rfl
theorem q2303 : (Jvm.Cond.fieldLink "CardLoomModel" (13 : Nat) "CardLoomModel" "many" "[I") ∈ lw_all := lw_g (lw_at lw_m10 66 rfl) rfl
theorem q2304 : (Jvm.Cond.fieldLink "CardLoomModel" (17 : Nat) "CardLoomModel" "rows" "[I") ∈ lw_all := lw_g (lw_at lw_m10 67 rfl) rfl
theorem q2305 : (Jvm.Cond.fieldLink "CardLoomModel" (20 : Nat) "CardLoomModel" "hole" "[I") ∈ lw_all := lw_g (lw_at lw_m10 68 rfl) rfl
theorem q2306 : (Jvm.Cond.fieldLink "CardLoomModel" (23 : Nat) "CardLoomModel" "slant" "[I") ∈ lw_all := lw_g (lw_at lw_m10 69 rfl) rfl
theorem q2307 : (Jvm.Cond.fieldLink "CardLoomModel" (26 : Nat) "CardLoomModel" "place" "[I") ∈ lw_all := lw_g (lw_at lw_m10 70 rfl) rfl
theorem q2308 : (Jvm.Cond.fieldLink "CardLoomModel" (29 : Nat) "CardLoomModel" "twist" "[I") ∈ lw_all := lw_g (lw_at lw_m10 71 rfl) rfl
theorem q2309 : (Jvm.Cond.fieldLink "CardLoomModel" (32 : Nat) "CardLoomModel" "fronts" "[I") ∈ lw_all := lw_g (lw_at lw_m10 72 rfl) rfl
theorem q2310 : (Jvm.Cond.fieldLink "CardLoomModel" (35 : Nat) "CardLoomModel" "backs" "[I") ∈ lw_all := lw_g (lw_at lw_m10 73 rfl) rfl
theorem q2311 : (Jvm.Cond.fieldLink "CardLoomModel" (38 : Nat) "CardLoomModel" "leans" "[I") ∈ lw_all := lw_g (lw_at lw_m10 74 rfl) rfl
theorem q2312 : (Jvm.Cond.fieldLink "CardLoomModel" (41 : Nat) "CardLoomModel" "turns" "[I") ∈ lw_all := lw_g (lw_at lw_m10 75 rfl) rfl
theorem q2313 : (Jvm.Cond.fieldLink "CardLoomModel" (262 : Nat) "CardLoomModel" "hasImage" "Z") ∈ lw_all := lw_g (lw_at lw_m10 76 rfl) rfl
theorem q2314 : (Jvm.Cond.fieldLink "CardLoomModel" (44 : Nat) "CardLoomModel" "letter" "[I") ∈ lw_all := lw_g (lw_at lw_m10 77 rfl) rfl
theorem q2315 : (Jvm.Cond.fieldLink "CardLoomModel" (47 : Nat) "CardLoomModel" "number" "[I") ∈ lw_all := lw_g (lw_at lw_m10 78 rfl) rfl
theorem q2316 : (Jvm.Cond.fieldLink "CardLoomModel" (50 : Nat) "CardLoomModel" "left" "[I") ∈ lw_all := lw_g (lw_at lw_m10 79 rfl) rfl
theorem q2317 : (Jvm.Cond.fieldLink "CardLoomModel" (53 : Nat) "CardLoomModel" "right" "[I") ∈ lw_all := lw_g (lw_at lw_m10 80 rfl) rfl
theorem q2318 : (Jvm.Cond.fieldLink "CardLoomModel" (56 : Nat) "CardLoomModel" "tape" "[I") ∈ lw_all := lw_g (lw_at lw_m10 81 rfl) rfl
theorem q2319 : (Jvm.Cond.fieldLink "CardLoomModel" (112 : Nat) "CardLoomModel" "taped" "I") ∈ lw_all := lw_g (lw_at lw_m10 82 rfl) rfl
theorem q2320 : (Jvm.Cond.fieldLink "CardLoomModel" (115 : Nat) "CardLoomModel" "at" "I") ∈ lw_all := lw_g (lw_at lw_m10 83 rfl) rfl
theorem q2321 : (Jvm.Cond.fieldLink "CardLoomModel" (118 : Nat) "CardLoomModel" "fault" "I") ∈ lw_all := lw_g (lw_at lw_m10 84 rfl) rfl
theorem q2322 : (Jvm.Cond.fieldLink "CardLoomModel" (135 : Nat) "CardLoomModel" "open" "I") ∈ lw_all := lw_g (lw_at lw_m10 85 rfl) rfl
theorem q2323 : (Jvm.Cond.fieldLink "CardLoomModel" (129 : Nat) "CardLoomModel" "nodes" "I") ∈ lw_all := lw_g (lw_at lw_m10 86 rfl) rfl
theorem q2324 : (Jvm.Cond.fieldLink "CardLoomModel" (132 : Nat) "CardLoomModel" "named" "I") ∈ lw_all := lw_g (lw_at lw_m10 87 rfl) rfl
theorem q2325 : (Jvm.Cond.fieldLink "CardLoomModel" (59 : Nat) "CardLoomModel" "newLetter" "[I") ∈ lw_all := lw_g (lw_at lw_m10 88 rfl) rfl
theorem q2326 : (Jvm.Cond.fieldLink "CardLoomModel" (62 : Nat) "CardLoomModel" "newNumber" "[I") ∈ lw_all := lw_g (lw_at lw_m10 89 rfl) rfl
theorem q2327 : (Jvm.Cond.fieldLink "CardLoomModel" (65 : Nat) "CardLoomModel" "newLeft" "[I") ∈ lw_all := lw_g (lw_at lw_m10 90 rfl) rfl
theorem q2328 : (Jvm.Cond.fieldLink "CardLoomModel" (68 : Nat) "CardLoomModel" "newRight" "[I") ∈ lw_all := lw_g (lw_at lw_m10 91 rfl) rfl
theorem q2329 : (Jvm.Cond.fieldLink "CardLoomModel" (71 : Nat) "CardLoomModel" "newHole" "[I") ∈ lw_all := lw_g (lw_at lw_m10 92 rfl) rfl
theorem q2330 : (Jvm.Cond.fieldLink "CardLoomModel" (74 : Nat) "CardLoomModel" "newSlant" "[I") ∈ lw_all := lw_g (lw_at lw_m10 93 rfl) rfl
theorem q2331 : (Jvm.Cond.fieldLink "CardLoomModel" (77 : Nat) "CardLoomModel" "next" "[I") ∈ lw_all := lw_g (lw_at lw_m10 94 rfl) rfl
theorem q2332 : (Jvm.Cond.fieldLink "CardLoomModel" (80 : Nat) "CardLoomModel" "minded" "[I") ∈ lw_all := lw_g (lw_at lw_m10 95 rfl) rfl
theorem q2333 : (Jvm.Cond.fieldLink "CardLoomModel" (83 : Nat) "CardLoomModel" "mindedTwist" "[I") ∈ lw_all := lw_g (lw_at lw_m10 96 rfl) rfl
theorem q2334 : (Jvm.Cond.fieldLink "CardLoomModel" (215 : Nat) "CardLoomModel" "lines" "I") ∈ lw_all := lw_g (lw_at lw_m10 97 rfl) rfl
theorem q2335 : (Jvm.Cond.fieldLink "CardLoomModel" (86 : Nat) "CardLoomModel" "picture" "[I") ∈ lw_all := lw_g (lw_at lw_m10 98 rfl) rfl
theorem q2336 : (Jvm.Cond.fieldLink "CardLoomModel" (89 : Nat) "CardLoomModel" "least" "[I") ∈ lw_all := lw_g (lw_at lw_m10 99 rfl) rfl
theorem q2337 : (Jvm.Cond.fieldLink "CardLoomModel" (92 : Nat) "CardLoomModel" "drafted" "[I") ∈ lw_all := lw_g (lw_at lw_m10 100 rfl) rfl
theorem q2338 : (Jvm.Cond.fieldLink "CardLoomModel" (95 : Nat) "CardLoomModel" "paper" "[I") ∈ lw_all := lw_g (lw_at lw_m10 101 rfl) rfl
theorem q2339 : (Jvm.Cond.fieldLink "CardLoomModel" (248 : Nat) "CardLoomModel" "papered" "I") ∈ lw_all := lw_g (lw_at lw_m10 102 rfl) rfl
theorem q2340 : (Jvm.Cond.fieldLink "CardLoomModel" (98 : Nat) "CardLoomModel" "holds" "[Z") ∈ lw_all := lw_g (lw_at lw_m10 103 rfl) rfl
theorem q2341 : (Jvm.Cond.fieldLink "CardLoomModel" (102 : Nat) "CardLoomModel" "size" "[I") ∈ lw_all := lw_g (lw_at lw_m10 104 rfl) rfl
theorem q2342 : (Jvm.Cond.fieldLink "CardLoomModel" (105 : Nat) "CardLoomModel" "element" "[I") ∈ lw_all := lw_g (lw_at lw_m10 105 rfl) rfl
theorem q2343 : (Jvm.Cond.lays "CardLoomModel" "CardLoomModel" "code" "I") ∈ lw_all := lw_g (lw_at lw_m10 106 rfl) rfl
theorem q2344 : (Jvm.Cond.soleField "CardLoomModel" "code") ∈ lw_all := lw_g (lw_at lw_m10 107 rfl) rfl
theorem q2345 : (Jvm.Cond.laysFinal "CardLoomModel" "CardLoomModel" "many" "[I") ∈ lw_all := lw_g (lw_at lw_m10 108 rfl) rfl
theorem q2346 : (Jvm.Cond.soleField "CardLoomModel" "many") ∈ lw_all := lw_g (lw_at lw_m10 109 rfl) rfl
theorem q2347 : (Jvm.Cond.laysFinal "CardLoomModel" "CardLoomModel" "rows" "[I") ∈ lw_all := lw_g (lw_at lw_m10 110 rfl) rfl
theorem q2348 : (Jvm.Cond.soleField "CardLoomModel" "rows") ∈ lw_all := lw_g (lw_at lw_m10 111 rfl) rfl
theorem q2349 : (Jvm.Cond.laysFinal "CardLoomModel" "CardLoomModel" "hole" "[I") ∈ lw_all := lw_g (lw_at lw_m10 112 rfl) rfl
theorem q2350 : (Jvm.Cond.soleField "CardLoomModel" "hole") ∈ lw_all := lw_g (lw_at lw_m10 113 rfl) rfl
theorem q2351 : (Jvm.Cond.laysFinal "CardLoomModel" "CardLoomModel" "slant" "[I") ∈ lw_all := lw_g (lw_at lw_m10 114 rfl) rfl
theorem q2352 : (Jvm.Cond.soleField "CardLoomModel" "slant") ∈ lw_all := lw_g (lw_at lw_m10 115 rfl) rfl
theorem q2353 : (Jvm.Cond.laysFinal "CardLoomModel" "CardLoomModel" "place" "[I") ∈ lw_all := lw_g (lw_at lw_m10 116 rfl) rfl
theorem q2354 : (Jvm.Cond.soleField "CardLoomModel" "place") ∈ lw_all := lw_g (lw_at lw_m10 117 rfl) rfl
theorem q2355 : (Jvm.Cond.laysFinal "CardLoomModel" "CardLoomModel" "twist" "[I") ∈ lw_all := lw_g (lw_at lw_m10 118 rfl) rfl
theorem q2356 : (Jvm.Cond.soleField "CardLoomModel" "twist") ∈ lw_all := lw_g (lw_at lw_m10 119 rfl) rfl
theorem q2357 : (Jvm.Cond.laysFinal "CardLoomModel" "CardLoomModel" "fronts" "[I") ∈ lw_all := lw_g (lw_at lw_m10 120 rfl) rfl
theorem q2358 : (Jvm.Cond.soleField "CardLoomModel" "fronts") ∈ lw_all := lw_g (lw_at lw_m10 121 rfl) rfl
theorem q2359 : (Jvm.Cond.laysFinal "CardLoomModel" "CardLoomModel" "backs" "[I") ∈ lw_all := lw_g (lw_at lw_m10 122 rfl) rfl
theorem q2360 : (Jvm.Cond.soleField "CardLoomModel" "backs") ∈ lw_all := lw_g (lw_at lw_m10 123 rfl) rfl
theorem q2361 : (Jvm.Cond.laysFinal "CardLoomModel" "CardLoomModel" "leans" "[I") ∈ lw_all := lw_g (lw_at lw_m10 124 rfl) rfl
theorem q2362 : (Jvm.Cond.soleField "CardLoomModel" "leans") ∈ lw_all := lw_g (lw_at lw_m10 125 rfl) rfl
theorem q2363 : (Jvm.Cond.laysFinal "CardLoomModel" "CardLoomModel" "turns" "[I") ∈ lw_all := lw_g (lw_at lw_m10 126 rfl) rfl
theorem q2364 : (Jvm.Cond.soleField "CardLoomModel" "turns") ∈ lw_all := lw_g (lw_at lw_m10 127 rfl) rfl
theorem q2365 : (Jvm.Cond.lays "CardLoomModel" "CardLoomModel" "hasImage" "Z") ∈ lw_all := lw_g (lw_at lw_m10 128 rfl) rfl
theorem q2366 : (Jvm.Cond.soleField "CardLoomModel" "hasImage") ∈ lw_all := lw_g (lw_at lw_m10 129 rfl) rfl
theorem q2367 : (Jvm.Cond.laysFinal "CardLoomModel" "CardLoomModel" "letter" "[I") ∈ lw_all := lw_g (lw_at lw_m10 130 rfl) rfl
theorem q2368 : (Jvm.Cond.soleField "CardLoomModel" "letter") ∈ lw_all := lw_g (lw_at lw_m10 131 rfl) rfl
theorem q2369 : (Jvm.Cond.laysFinal "CardLoomModel" "CardLoomModel" "number" "[I") ∈ lw_all := lw_g (lw_at lw_m10 132 rfl) rfl
theorem q2370 : (Jvm.Cond.soleField "CardLoomModel" "number") ∈ lw_all := lw_g (lw_at lw_m10 133 rfl) rfl
theorem q2371 : (Jvm.Cond.laysFinal "CardLoomModel" "CardLoomModel" "left" "[I") ∈ lw_all := lw_g (lw_at lw_m10 134 rfl) rfl
theorem q2372 : (Jvm.Cond.soleField "CardLoomModel" "left") ∈ lw_all := lw_g (lw_at lw_m10 135 rfl) rfl
theorem q2373 : (Jvm.Cond.laysFinal "CardLoomModel" "CardLoomModel" "right" "[I") ∈ lw_all := lw_g (lw_at lw_m10 136 rfl) rfl
theorem q2374 : (Jvm.Cond.soleField "CardLoomModel" "right") ∈ lw_all := lw_g (lw_at lw_m10 137 rfl) rfl
theorem q2375 : (Jvm.Cond.laysFinal "CardLoomModel" "CardLoomModel" "tape" "[I") ∈ lw_all := lw_g (lw_at lw_m10 138 rfl) rfl
theorem q2376 : (Jvm.Cond.soleField "CardLoomModel" "tape") ∈ lw_all := lw_g (lw_at lw_m10 139 rfl) rfl
theorem q2377 : (Jvm.Cond.lays "CardLoomModel" "CardLoomModel" "taped" "I") ∈ lw_all := lw_g (lw_at lw_m10 140 rfl) rfl
theorem q2378 : (Jvm.Cond.soleField "CardLoomModel" "taped") ∈ lw_all := lw_g (lw_at lw_m10 141 rfl) rfl
theorem q2379 : (Jvm.Cond.lays "CardLoomModel" "CardLoomModel" "at" "I") ∈ lw_all := lw_g (lw_at lw_m10 142 rfl) rfl
theorem q2380 : (Jvm.Cond.soleField "CardLoomModel" "at") ∈ lw_all := lw_g (lw_at lw_m10 143 rfl) rfl
theorem q2381 : (Jvm.Cond.lays "CardLoomModel" "CardLoomModel" "fault" "I") ∈ lw_all := lw_g (lw_at lw_m10 144 rfl) rfl
theorem q2382 : (Jvm.Cond.soleField "CardLoomModel" "fault") ∈ lw_all := lw_g (lw_at lw_m10 145 rfl) rfl
theorem q2383 : (Jvm.Cond.lays "CardLoomModel" "CardLoomModel" "open" "I") ∈ lw_all := lw_g (lw_at lw_m10 146 rfl) rfl
theorem q2384 : (Jvm.Cond.soleField "CardLoomModel" "open") ∈ lw_all := lw_g (lw_at lw_m10 147 rfl) rfl
theorem q2385 : (Jvm.Cond.lays "CardLoomModel" "CardLoomModel" "nodes" "I") ∈ lw_all := lw_g (lw_at lw_m10 148 rfl) rfl
theorem q2386 : (Jvm.Cond.soleField "CardLoomModel" "nodes") ∈ lw_all := lw_g (lw_at lw_m10 149 rfl) rfl
theorem q2387 : (Jvm.Cond.lays "CardLoomModel" "CardLoomModel" "named" "I") ∈ lw_all := lw_g (lw_at lw_m10 150 rfl) rfl
theorem q2388 : (Jvm.Cond.soleField "CardLoomModel" "named") ∈ lw_all := lw_g (lw_at lw_m10 151 rfl) rfl
theorem q2389 : (Jvm.Cond.laysFinal "CardLoomModel" "CardLoomModel" "newLetter" "[I") ∈ lw_all := lw_g (lw_at lw_m10 152 rfl) rfl
theorem q2390 : (Jvm.Cond.soleField "CardLoomModel" "newLetter") ∈ lw_all := lw_g (lw_at lw_m10 153 rfl) rfl
theorem q2391 : (Jvm.Cond.laysFinal "CardLoomModel" "CardLoomModel" "newNumber" "[I") ∈ lw_all := lw_g (lw_at lw_m10 154 rfl) rfl
theorem q2392 : (Jvm.Cond.soleField "CardLoomModel" "newNumber") ∈ lw_all := lw_g (lw_at lw_m10 155 rfl) rfl
theorem q2393 : (Jvm.Cond.laysFinal "CardLoomModel" "CardLoomModel" "newLeft" "[I") ∈ lw_all := lw_g (lw_at lw_m10 156 rfl) rfl
theorem q2394 : (Jvm.Cond.soleField "CardLoomModel" "newLeft") ∈ lw_all := lw_g (lw_at lw_m10 157 rfl) rfl
theorem q2395 : (Jvm.Cond.laysFinal "CardLoomModel" "CardLoomModel" "newRight" "[I") ∈ lw_all := lw_g (lw_at lw_m10 158 rfl) rfl
theorem q2396 : (Jvm.Cond.soleField "CardLoomModel" "newRight") ∈ lw_all := lw_g (lw_at lw_m10 159 rfl) rfl
theorem q2397 : (Jvm.Cond.laysFinal "CardLoomModel" "CardLoomModel" "newHole" "[I") ∈ lw_all := lw_g (lw_at lw_m10 160 rfl) rfl
theorem q2398 : (Jvm.Cond.soleField "CardLoomModel" "newHole") ∈ lw_all := lw_g (lw_at lw_m10 161 rfl) rfl
theorem q2399 : (Jvm.Cond.laysFinal "CardLoomModel" "CardLoomModel" "newSlant" "[I") ∈ lw_all := lw_g (lw_at lw_m10 162 rfl) rfl
theorem q2400 : (Jvm.Cond.soleField "CardLoomModel" "newSlant") ∈ lw_all := lw_g (lw_at lw_m10 163 rfl) rfl
theorem q2401 : (Jvm.Cond.laysFinal "CardLoomModel" "CardLoomModel" "next" "[I") ∈ lw_all := lw_g (lw_at lw_m10 164 rfl) rfl
theorem q2402 : (Jvm.Cond.soleField "CardLoomModel" "next") ∈ lw_all := lw_g (lw_at lw_m10 165 rfl) rfl
theorem q2403 : (Jvm.Cond.laysFinal "CardLoomModel" "CardLoomModel" "minded" "[I") ∈ lw_all := lw_g (lw_at lw_m10 166 rfl) rfl
theorem q2404 : (Jvm.Cond.soleField "CardLoomModel" "minded") ∈ lw_all := lw_g (lw_at lw_m10 167 rfl) rfl
theorem q2405 : (Jvm.Cond.laysFinal "CardLoomModel" "CardLoomModel" "mindedTwist" "[I") ∈ lw_all := lw_g (lw_at lw_m10 168 rfl) rfl
theorem q2406 : (Jvm.Cond.soleField "CardLoomModel" "mindedTwist") ∈ lw_all := lw_g (lw_at lw_m10 169 rfl) rfl
theorem q2407 : (Jvm.Cond.lays "CardLoomModel" "CardLoomModel" "lines" "I") ∈ lw_all := lw_g (lw_at lw_m10 170 rfl) rfl
theorem q2408 : (Jvm.Cond.soleField "CardLoomModel" "lines") ∈ lw_all := lw_g (lw_at lw_m10 171 rfl) rfl
theorem q2409 : (Jvm.Cond.laysFinal "CardLoomModel" "CardLoomModel" "picture" "[I") ∈ lw_all := lw_g (lw_at lw_m10 172 rfl) rfl
theorem q2410 : (Jvm.Cond.soleField "CardLoomModel" "picture") ∈ lw_all := lw_g (lw_at lw_m10 173 rfl) rfl
theorem q2411 : (Jvm.Cond.laysFinal "CardLoomModel" "CardLoomModel" "least" "[I") ∈ lw_all := lw_g (lw_at lw_m10 174 rfl) rfl
theorem q2412 : (Jvm.Cond.soleField "CardLoomModel" "least") ∈ lw_all := lw_g (lw_at lw_m10 175 rfl) rfl
theorem q2413 : (Jvm.Cond.laysFinal "CardLoomModel" "CardLoomModel" "drafted" "[I") ∈ lw_all := lw_g (lw_at lw_m10 176 rfl) rfl
theorem q2414 : (Jvm.Cond.soleField "CardLoomModel" "drafted") ∈ lw_all := lw_g (lw_at lw_m10 177 rfl) rfl
theorem q2415 : (Jvm.Cond.laysFinal "CardLoomModel" "CardLoomModel" "paper" "[I") ∈ lw_all := lw_g (lw_at lw_m10 178 rfl) rfl
theorem q2416 : (Jvm.Cond.soleField "CardLoomModel" "paper") ∈ lw_all := lw_g (lw_at lw_m10 179 rfl) rfl
theorem q2417 : (Jvm.Cond.lays "CardLoomModel" "CardLoomModel" "papered" "I") ∈ lw_all := lw_g (lw_at lw_m10 180 rfl) rfl
theorem q2418 : (Jvm.Cond.soleField "CardLoomModel" "papered") ∈ lw_all := lw_g (lw_at lw_m10 181 rfl) rfl
theorem q2419 : (Jvm.Cond.laysFinal "CardLoomModel" "CardLoomModel" "holds" "[Z") ∈ lw_all := lw_g (lw_at lw_m10 182 rfl) rfl
theorem q2420 : (Jvm.Cond.soleField "CardLoomModel" "holds") ∈ lw_all := lw_g (lw_at lw_m10 183 rfl) rfl
theorem q2421 : (Jvm.Cond.laysFinal "CardLoomModel" "CardLoomModel" "size" "[I") ∈ lw_all := lw_g (lw_at lw_m10 184 rfl) rfl
theorem q2422 : (Jvm.Cond.soleField "CardLoomModel" "size") ∈ lw_all := lw_g (lw_at lw_m10 185 rfl) rfl
theorem q2423 : (Jvm.Cond.laysFinal "CardLoomModel" "CardLoomModel" "element" "[I") ∈ lw_all := lw_g (lw_at lw_m10 186 rfl) rfl
theorem q2424 : (Jvm.Cond.soleField "CardLoomModel" "element") ∈ lw_all := lw_g (lw_at lw_m10 187 rfl) rfl
theorem q2425 : (Jvm.Cond.superclass "CardLoomModel" "java/lang/Object") ∈ lw_all := lw_g (lw_at lw_m10 188 rfl) rfl
theorem q2428 : (Jvm.Cond.instanceMethod ({ cls := "CardLoomModel", name := "feed", desc := "(I)I" } : Jvm.MethodName)) ∈ lw_all := lw_g (lw_at lw_m10 191 rfl) rfl
theorem q2429 : (Jvm.Cond.selects "CardLoomModel" ({ cls := "CardLoomModel", name := "feed", desc := "(I)I" } : Jvm.MethodName) ({ cls := "CardLoomModel", name := "feed", desc := "(I)I" } : Jvm.MethodName)) ∈ lw_all := lw_g (lw_at lw_m10 192 rfl) rfl
theorem q2430 : (Jvm.Cond.code ({ cls := "CardLoomModel", name := "feed", desc := "(I)I" } : Jvm.MethodName) prog_20_method_7_code (2 : Nat) (Option.some Jvm.ClassFile.FieldType.int)) ∈ lw_all := lw_g (lw_at lw_m10 193 rfl) rfl
theorem q2431 : (Jvm.Cond.methodLink "CardLoomModel" (108 : Nat) ({ cls := "CardLoomModel", name := "in", desc := "(III)Z" } : Jvm.MethodName)) ∈ lw_all := lw_g (lw_at lw_m10 194 rfl) rfl
theorem q2432 : (Jvm.Cond.static ({ cls := "CardLoomModel", name := "in", desc := "(III)Z" } : Jvm.MethodName)) ∈ lw_all := lw_g (lw_at lw_m10 195 rfl) rfl
theorem q2433 : (Jvm.Cond.code ({ cls := "CardLoomModel", name := "in", desc := "(III)Z" } : Jvm.MethodName) prog_20_method_2_code (3 : Nat) (Option.some Jvm.ClassFile.FieldType.boolean)) ∈ lw_all := lw_g (lw_at lw_m10 196 rfl) rfl
theorem q2435 : (Jvm.Cond.instanceMethod ({ cls := "CardLoomModel", name := "clear", desc := "()I" } : Jvm.MethodName)) ∈ lw_all := lw_g (lw_at lw_m10 198 rfl) rfl
theorem q2436 : (Jvm.Cond.selects "CardLoomModel" ({ cls := "CardLoomModel", name := "clear", desc := "()I" } : Jvm.MethodName) ({ cls := "CardLoomModel", name := "clear", desc := "()I" } : Jvm.MethodName)) ∈ lw_all := lw_g (lw_at lw_m10 199 rfl) rfl
theorem q2437 : (Jvm.Cond.code ({ cls := "CardLoomModel", name := "clear", desc := "()I" } : Jvm.MethodName) prog_20_method_8_code (2 : Nat) (Option.some Jvm.ClassFile.FieldType.int)) ∈ lw_all := lw_g (lw_at lw_m10 200 rfl) rfl
theorem q2439 : (Jvm.Cond.instanceMethod ({ cls := "CardLoomModel", name := "law", desc := "()I" } : Jvm.MethodName)) ∈ lw_all := lw_g (lw_at lw_m10 202 rfl) rfl
theorem q2440 : (Jvm.Cond.selects "CardLoomModel" ({ cls := "CardLoomModel", name := "law", desc := "()I" } : Jvm.MethodName) ({ cls := "CardLoomModel", name := "law", desc := "()I" } : Jvm.MethodName)) ∈ lw_all := lw_g (lw_at lw_m10 203 rfl) rfl
theorem q2441 : (Jvm.Cond.code ({ cls := "CardLoomModel", name := "law", desc := "()I" } : Jvm.MethodName) prog_20_method_14_code (2 : Nat) (Option.some Jvm.ClassFile.FieldType.int)) ∈ lw_all := lw_g (lw_at lw_m10 204 rfl) rfl
theorem q2442 : (Jvm.Cond.methodLink "CardLoomModel" (145 : Nat) ({ cls := "CardLoomModel", name := "readLaw", desc := "()I" } : Jvm.MethodName)) ∈ lw_all := lw_g (lw_at lw_m10 205 rfl) rfl
theorem q2443 : (Jvm.Cond.privateMethod ({ cls := "CardLoomModel", name := "readLaw", desc := "()I" } : Jvm.MethodName)) ∈ lw_tbl := lw_at lw_m10 206 rfl
theorem q2444 : (Jvm.Cond.instanceMethod ({ cls := "CardLoomModel", name := "readLaw", desc := "()I" } : Jvm.MethodName)) ∈ lw_all := lw_g (lw_at lw_m10 207 rfl) rfl
theorem q2445 : (Jvm.Cond.code ({ cls := "CardLoomModel", name := "readLaw", desc := "()I" } : Jvm.MethodName) prog_20_method_13_code (5 : Nat) (Option.some Jvm.ClassFile.FieldType.int)) ∈ lw_all := lw_g (lw_at lw_m10 208 rfl) rfl
theorem q2446 : (Jvm.Cond.methodLink "CardLoomModel" (121 : Nat) ({ cls := "CardLoomModel", name := "here", desc := "()I" } : Jvm.MethodName)) ∈ lw_all := lw_g (lw_at lw_m10 209 rfl) rfl
theorem q2447 : (Jvm.Cond.privateMethod ({ cls := "CardLoomModel", name := "here", desc := "()I" } : Jvm.MethodName)) ∈ lw_tbl := lw_at lw_m10 210 rfl
theorem q2448 : (Jvm.Cond.instanceMethod ({ cls := "CardLoomModel", name := "here", desc := "()I" } : Jvm.MethodName)) ∈ lw_all := lw_g (lw_at lw_m10 211 rfl) rfl
theorem q2449 : (Jvm.Cond.code ({ cls := "CardLoomModel", name := "here", desc := "()I" } : Jvm.MethodName) prog_20_method_9_code (1 : Nat) (Option.some Jvm.ClassFile.FieldType.int)) ∈ lw_all := lw_g (lw_at lw_m10 212 rfl) rfl
theorem q2450 : (Jvm.Cond.methodLink "CardLoomModel" (125 : Nat) ({ cls := "CardLoomModel", name := "wrong", desc := "(I)V" } : Jvm.MethodName)) ∈ lw_all := lw_g (lw_at lw_m10 213 rfl) rfl
theorem q2451 : (Jvm.Cond.privateMethod ({ cls := "CardLoomModel", name := "wrong", desc := "(I)V" } : Jvm.MethodName)) ∈ lw_tbl := lw_at lw_m10 214 rfl
theorem q2452 : (Jvm.Cond.instanceMethod ({ cls := "CardLoomModel", name := "wrong", desc := "(I)V" } : Jvm.MethodName)) ∈ lw_all := lw_g (lw_at lw_m10 215 rfl) rfl
theorem q2453 : (Jvm.Cond.code ({ cls := "CardLoomModel", name := "wrong", desc := "(I)V" } : Jvm.MethodName) prog_20_method_10_code (2 : Nat) (Option.none : Option Jvm.ClassFile.FieldType)) ∈ lw_all := lw_g (lw_at lw_m10 216 rfl) rfl
theorem q2454 : (Jvm.Cond.methodLink "CardLoomModel" (138 : Nat) ({ cls := "CardLoomModel", name := "readNumber", desc := "(I)I" } : Jvm.MethodName)) ∈ lw_all := lw_g (lw_at lw_m10 217 rfl) rfl
theorem q2455 : (Jvm.Cond.privateMethod ({ cls := "CardLoomModel", name := "readNumber", desc := "(I)I" } : Jvm.MethodName)) ∈ lw_tbl := lw_at lw_m10 218 rfl
theorem q2456 : (Jvm.Cond.instanceMethod ({ cls := "CardLoomModel", name := "readNumber", desc := "(I)I" } : Jvm.MethodName)) ∈ lw_all := lw_g (lw_at lw_m10 219 rfl) rfl
theorem q2457 : (Jvm.Cond.code ({ cls := "CardLoomModel", name := "readNumber", desc := "(I)I" } : Jvm.MethodName) prog_20_method_12_code (4 : Nat) (Option.some Jvm.ClassFile.FieldType.int)) ∈ lw_all := lw_g (lw_at lw_m10 220 rfl) rfl
theorem q2458 : (Jvm.Cond.methodLink "CardLoomModel" (142 : Nat) ({ cls := "CardLoomModel", name := "expect", desc := "(I)V" } : Jvm.MethodName)) ∈ lw_all := lw_g (lw_at lw_m10 221 rfl) rfl
theorem q2459 : (Jvm.Cond.privateMethod ({ cls := "CardLoomModel", name := "expect", desc := "(I)V" } : Jvm.MethodName)) ∈ lw_tbl := lw_at lw_m10 222 rfl
theorem q2460 : (Jvm.Cond.instanceMethod ({ cls := "CardLoomModel", name := "expect", desc := "(I)V" } : Jvm.MethodName)) ∈ lw_all := lw_g (lw_at lw_m10 223 rfl) rfl
theorem q2461 : (Jvm.Cond.code ({ cls := "CardLoomModel", name := "expect", desc := "(I)V" } : Jvm.MethodName) prog_20_method_11_code (2 : Nat) (Option.none : Option Jvm.ClassFile.FieldType)) ∈ lw_all := lw_g (lw_at lw_m10 224 rfl) rfl
theorem q2463 : (Jvm.Cond.instanceMethod ({ cls := "CardLoomModel", name := "thread", desc := "()I" } : Jvm.MethodName)) ∈ lw_all := lw_g (lw_at lw_m10 226 rfl) rfl
theorem q2464 : (Jvm.Cond.selects "CardLoomModel" ({ cls := "CardLoomModel", name := "thread", desc := "()I" } : Jvm.MethodName) ({ cls := "CardLoomModel", name := "thread", desc := "()I" } : Jvm.MethodName)) ∈ lw_all := lw_g (lw_at lw_m10 227 rfl) rfl
theorem q2465 : (Jvm.Cond.code ({ cls := "CardLoomModel", name := "thread", desc := "()I" } : Jvm.MethodName) prog_20_method_17_code (4 : Nat) (Option.some Jvm.ClassFile.FieldType.int)) ∈ lw_all := lw_g (lw_at lw_m10 228 rfl) rfl
theorem q2466 : (Jvm.Cond.methodLink "CardLoomModel" (152 : Nat) ({ cls := "CardLoomModel", name := "readCard", desc := "(I)V" } : Jvm.MethodName)) ∈ lw_all := lw_g (lw_at lw_m10 229 rfl) rfl
theorem q2467 : (Jvm.Cond.privateMethod ({ cls := "CardLoomModel", name := "readCard", desc := "(I)V" } : Jvm.MethodName)) ∈ lw_tbl := lw_at lw_m10 230 rfl
theorem q2468 : (Jvm.Cond.instanceMethod ({ cls := "CardLoomModel", name := "readCard", desc := "(I)V" } : Jvm.MethodName)) ∈ lw_all := lw_g (lw_at lw_m10 231 rfl) rfl
theorem q2469 : (Jvm.Cond.code ({ cls := "CardLoomModel", name := "readCard", desc := "(I)V" } : Jvm.MethodName) prog_20_method_16_code (3 : Nat) (Option.none : Option Jvm.ClassFile.FieldType)) ∈ lw_all := lw_g (lw_at lw_m10 232 rfl) rfl
theorem q2471 : (Jvm.Cond.instanceMethod ({ cls := "CardLoomModel", name := "card", desc := "(II)I" } : Jvm.MethodName)) ∈ lw_all := lw_g (lw_at lw_m10 234 rfl) rfl
theorem q2472 : (Jvm.Cond.selects "CardLoomModel" ({ cls := "CardLoomModel", name := "card", desc := "(II)I" } : Jvm.MethodName) ({ cls := "CardLoomModel", name := "card", desc := "(II)I" } : Jvm.MethodName)) ∈ lw_all := lw_g (lw_at lw_m10 235 rfl) rfl
theorem q2473 : (Jvm.Cond.code ({ cls := "CardLoomModel", name := "card", desc := "(II)I" } : Jvm.MethodName) prog_20_method_19_code (3 : Nat) (Option.some Jvm.ClassFile.FieldType.int)) ∈ lw_all := lw_g (lw_at lw_m10 236 rfl) rfl
theorem q2474 : (Jvm.Cond.methodLink "CardLoomModel" (161 : Nat) ({ cls := "CardLoomModel", name := "isCard", desc := "(I)Z" } : Jvm.MethodName)) ∈ lw_all := lw_g (lw_at lw_m10 237 rfl) rfl
theorem q2475 : (Jvm.Cond.privateMethod ({ cls := "CardLoomModel", name := "isCard", desc := "(I)Z" } : Jvm.MethodName)) ∈ lw_tbl := lw_at lw_m10 238 rfl
theorem q2476 : (Jvm.Cond.instanceMethod ({ cls := "CardLoomModel", name := "isCard", desc := "(I)Z" } : Jvm.MethodName)) ∈ lw_all := lw_g (lw_at lw_m10 239 rfl) rfl
theorem q2477 : (Jvm.Cond.code ({ cls := "CardLoomModel", name := "isCard", desc := "(I)Z" } : Jvm.MethodName) prog_20_method_4_code (2 : Nat) (Option.some Jvm.ClassFile.FieldType.boolean)) ∈ lw_all := lw_g (lw_at lw_m11 0 rfl) rfl
theorem q2478 : (Jvm.Cond.methodLink "CardLoomModel" (165 : Nat) ({ cls := "CardLoomModel", name := "floatOf", desc := "(I)I" } : Jvm.MethodName)) ∈ lw_all := lw_g (lw_at lw_m11 1 rfl) rfl
theorem q2479 : (Jvm.Cond.privateMethod ({ cls := "CardLoomModel", name := "floatOf", desc := "(I)I" } : Jvm.MethodName)) ∈ lw_tbl := lw_at lw_m11 2 rfl
theorem q2480 : (Jvm.Cond.instanceMethod ({ cls := "CardLoomModel", name := "floatOf", desc := "(I)I" } : Jvm.MethodName)) ∈ lw_all := lw_g (lw_at lw_m11 3 rfl) rfl
theorem q2481 : (Jvm.Cond.code ({ cls := "CardLoomModel", name := "floatOf", desc := "(I)I" } : Jvm.MethodName) prog_20_method_18_code (5 : Nat) (Option.some Jvm.ClassFile.FieldType.int)) ∈ lw_all := lw_g (lw_at lw_m11 4 rfl) rfl
theorem q2482 : (Jvm.Cond.methodLink "CardLoomModel" (155 : Nat) ({ cls := "java/lang/Math", name := "max", desc := "(II)I" } : Jvm.MethodName)) ∈ lw_all := lw_g (lw_at lw_m11 5 rfl) rfl
theorem q2483 : (Jvm.Cond.methodLink "CardLoomModel" (148 : Nat) ({ cls := "CardLoomModel", name := "lawOf", desc := "(III)I" } : Jvm.MethodName)) ∈ lw_all := lw_g (lw_at lw_m11 6 rfl) rfl
theorem q2484 : (Jvm.Cond.privateMethod ({ cls := "CardLoomModel", name := "lawOf", desc := "(III)I" } : Jvm.MethodName)) ∈ lw_tbl := lw_at lw_m11 7 rfl
theorem q2485 : (Jvm.Cond.instanceMethod ({ cls := "CardLoomModel", name := "lawOf", desc := "(III)I" } : Jvm.MethodName)) ∈ lw_all := lw_g (lw_at lw_m11 8 rfl) rfl
theorem q2486 : (Jvm.Cond.code ({ cls := "CardLoomModel", name := "lawOf", desc := "(III)I" } : Jvm.MethodName) prog_20_method_15_code (6 : Nat) (Option.some Jvm.ClassFile.FieldType.int)) ∈ lw_all := lw_g (lw_at lw_m11 9 rfl) rfl
theorem q2488 : (Jvm.Cond.instanceMethod ({ cls := "CardLoomModel", name := "slant", desc := "(I)I" } : Jvm.MethodName)) ∈ lw_all := lw_g (lw_at lw_m11 11 rfl) rfl
theorem q2489 : (Jvm.Cond.selects "CardLoomModel" ({ cls := "CardLoomModel", name := "slant", desc := "(I)I" } : Jvm.MethodName) ({ cls := "CardLoomModel", name := "slant", desc := "(I)I" } : Jvm.MethodName)) ∈ lw_all := lw_g (lw_at lw_m11 12 rfl) rfl
theorem q2490 : (Jvm.Cond.code ({ cls := "CardLoomModel", name := "slant", desc := "(I)I" } : Jvm.MethodName) prog_20_method_20_code (2 : Nat) (Option.some Jvm.ClassFile.FieldType.int)) ∈ lw_all := lw_g (lw_at lw_m11 13 rfl) rfl
theorem q2492 : (Jvm.Cond.instanceMethod ({ cls := "CardLoomModel", name := "place", desc := "(II)I" } : Jvm.MethodName)) ∈ lw_all := lw_g (lw_at lw_m11 15 rfl) rfl
theorem q2493 : (Jvm.Cond.selects "CardLoomModel" ({ cls := "CardLoomModel", name := "place", desc := "(II)I" } : Jvm.MethodName) ({ cls := "CardLoomModel", name := "place", desc := "(II)I" } : Jvm.MethodName)) ∈ lw_all := lw_g (lw_at lw_m11 16 rfl) rfl
theorem q2494 : (Jvm.Cond.code ({ cls := "CardLoomModel", name := "place", desc := "(II)I" } : Jvm.MethodName) prog_20_method_21_code (4 : Nat) (Option.some Jvm.ClassFile.FieldType.int)) ∈ lw_all := lw_g (lw_at lw_m11 17 rfl) rfl
theorem q2496 : (Jvm.Cond.instanceMethod ({ cls := "CardLoomModel", name := "recolour", desc := "(III)I" } : Jvm.MethodName)) ∈ lw_all := lw_g (lw_at lw_m11 19 rfl) rfl
theorem q2497 : (Jvm.Cond.selects "CardLoomModel" ({ cls := "CardLoomModel", name := "recolour", desc := "(III)I" } : Jvm.MethodName) ({ cls := "CardLoomModel", name := "recolour", desc := "(III)I" } : Jvm.MethodName)) ∈ lw_all := lw_g (lw_at lw_m11 20 rfl) rfl
theorem q2498 : (Jvm.Cond.code ({ cls := "CardLoomModel", name := "recolour", desc := "(III)I" } : Jvm.MethodName) prog_20_method_22_code (5 : Nat) (Option.some Jvm.ClassFile.FieldType.int)) ∈ lw_all := lw_g (lw_at lw_m11 21 rfl) rfl
theorem q2499 : (Jvm.Cond.methodLink "CardLoomModel" (168 : Nat) ({ cls := "CardLoomModel", name := "isColour", desc := "(I)Z" } : Jvm.MethodName)) ∈ lw_all := lw_g (lw_at lw_m11 22 rfl) rfl
theorem q2500 : (Jvm.Cond.static ({ cls := "CardLoomModel", name := "isColour", desc := "(I)Z" } : Jvm.MethodName)) ∈ lw_all := lw_g (lw_at lw_m11 23 rfl) rfl
theorem q2501 : (Jvm.Cond.code ({ cls := "CardLoomModel", name := "isColour", desc := "(I)Z" } : Jvm.MethodName) prog_20_method_6_code (1 : Nat) (Option.some Jvm.ClassFile.FieldType.boolean)) ∈ lw_all := lw_g (lw_at lw_m11 24 rfl) rfl
theorem q2503 : (Jvm.Cond.instanceMethod ({ cls := "CardLoomModel", name := "turn", desc := "(II)I" } : Jvm.MethodName)) ∈ lw_all := lw_g (lw_at lw_m11 26 rfl) rfl
theorem q2504 : (Jvm.Cond.selects "CardLoomModel" ({ cls := "CardLoomModel", name := "turn", desc := "(II)I" } : Jvm.MethodName) ({ cls := "CardLoomModel", name := "turn", desc := "(II)I" } : Jvm.MethodName)) ∈ lw_all := lw_g (lw_at lw_m11 27 rfl) rfl
theorem q2505 : (Jvm.Cond.code ({ cls := "CardLoomModel", name := "turn", desc := "(II)I" } : Jvm.MethodName) prog_20_method_29_code (3 : Nat) (Option.some Jvm.ClassFile.FieldType.int)) ∈ lw_all := lw_g (lw_at lw_m11 28 rfl) rfl
theorem q2506 : (Jvm.Cond.methodLink "CardLoomModel" (187 : Nat) ({ cls := "CardLoomModel", name := "picked", desc := "(II)I" } : Jvm.MethodName)) ∈ lw_all := lw_g (lw_at lw_m11 29 rfl) rfl
theorem q2507 : (Jvm.Cond.privateMethod ({ cls := "CardLoomModel", name := "picked", desc := "(II)I" } : Jvm.MethodName)) ∈ lw_tbl := lw_at lw_m11 30 rfl
theorem q2508 : (Jvm.Cond.instanceMethod ({ cls := "CardLoomModel", name := "picked", desc := "(II)I" } : Jvm.MethodName)) ∈ lw_all := lw_g (lw_at lw_m11 31 rfl) rfl
theorem q2509 : (Jvm.Cond.code ({ cls := "CardLoomModel", name := "picked", desc := "(II)I" } : Jvm.MethodName) prog_20_method_28_code (4 : Nat) (Option.some Jvm.ClassFile.FieldType.int)) ∈ lw_all := lw_g (lw_at lw_m11 32 rfl) rfl
theorem q2510 : (Jvm.Cond.methodLink "CardLoomModel" (184 : Nat) ({ cls := "CardLoomModel", name := "pick", desc := "()I" } : Jvm.MethodName)) ∈ lw_all := lw_g (lw_at lw_m11 33 rfl) rfl
theorem q2511 : (Jvm.Cond.privateMethod ({ cls := "CardLoomModel", name := "pick", desc := "()I" } : Jvm.MethodName)) ∈ lw_tbl := lw_at lw_m11 34 rfl
theorem q2512 : (Jvm.Cond.instanceMethod ({ cls := "CardLoomModel", name := "pick", desc := "()I" } : Jvm.MethodName)) ∈ lw_all := lw_g (lw_at lw_m11 35 rfl) rfl
theorem q2513 : (Jvm.Cond.code ({ cls := "CardLoomModel", name := "pick", desc := "()I" } : Jvm.MethodName) prog_20_method_27_code (1 : Nat) (Option.some Jvm.ClassFile.FieldType.int)) ∈ lw_all := lw_g (lw_at lw_m11 36 rfl) rfl
theorem q2514 : (Jvm.Cond.methodLink "CardLoomModel" (177 : Nat) ({ cls := "CardLoomModel", name := "jams", desc := "()Z" } : Jvm.MethodName)) ∈ lw_all := lw_g (lw_at lw_m11 37 rfl) rfl
theorem q2515 : (Jvm.Cond.privateMethod ({ cls := "CardLoomModel", name := "jams", desc := "()Z" } : Jvm.MethodName)) ∈ lw_tbl := lw_at lw_m11 38 rfl
theorem q2516 : (Jvm.Cond.instanceMethod ({ cls := "CardLoomModel", name := "jams", desc := "()Z" } : Jvm.MethodName)) ∈ lw_all := lw_g (lw_at lw_m11 39 rfl) rfl
theorem q2517 : (Jvm.Cond.code ({ cls := "CardLoomModel", name := "jams", desc := "()Z" } : Jvm.MethodName) prog_20_method_25_code (2 : Nat) (Option.some Jvm.ClassFile.FieldType.boolean)) ∈ lw_all := lw_g (lw_at lw_m11 40 rfl) rfl
theorem q2518 : (Jvm.Cond.methodLink "CardLoomModel" (171 : Nat) ({ cls := "CardLoomModel", name := "grown", desc := "(I)I" } : Jvm.MethodName)) ∈ lw_all := lw_g (lw_at lw_m11 41 rfl) rfl
theorem q2519 : (Jvm.Cond.static ({ cls := "CardLoomModel", name := "grown", desc := "(I)I" } : Jvm.MethodName)) ∈ lw_all := lw_g (lw_at lw_m11 42 rfl) rfl
theorem q2520 : (Jvm.Cond.code ({ cls := "CardLoomModel", name := "grown", desc := "(I)I" } : Jvm.MethodName) prog_20_method_24_code (1 : Nat) (Option.some Jvm.ClassFile.FieldType.int)) ∈ lw_all := lw_g (lw_at lw_m11 43 rfl) rfl
theorem q2521 : (Jvm.Cond.methodLink "CardLoomModel" (181 : Nat) ({ cls := "CardLoomModel", name := "weavePick", desc := "()V" } : Jvm.MethodName)) ∈ lw_all := lw_g (lw_at lw_m11 44 rfl) rfl
theorem q2522 : (Jvm.Cond.privateMethod ({ cls := "CardLoomModel", name := "weavePick", desc := "()V" } : Jvm.MethodName)) ∈ lw_tbl := lw_at lw_m11 45 rfl
theorem q2523 : (Jvm.Cond.instanceMethod ({ cls := "CardLoomModel", name := "weavePick", desc := "()V" } : Jvm.MethodName)) ∈ lw_all := lw_g (lw_at lw_m11 46 rfl) rfl
theorem q2524 : (Jvm.Cond.code ({ cls := "CardLoomModel", name := "weavePick", desc := "()V" } : Jvm.MethodName) prog_20_method_26_code (4 : Nat) (Option.none : Option Jvm.ClassFile.FieldType)) ∈ lw_all := lw_g (lw_at lw_m11 47 rfl) rfl
theorem q2525 : (Jvm.Cond.methodLink "CardLoomModel" (174 : Nat) ({ cls := "CardLoomModel", name := "moved", desc := "(I)I" } : Jvm.MethodName)) ∈ lw_all := lw_g (lw_at lw_m11 48 rfl) rfl
theorem q2526 : (Jvm.Cond.static ({ cls := "CardLoomModel", name := "moved", desc := "(I)I" } : Jvm.MethodName)) ∈ lw_all := lw_g (lw_at lw_m11 49 rfl) rfl
theorem q2527 : (Jvm.Cond.code ({ cls := "CardLoomModel", name := "moved", desc := "(I)I" } : Jvm.MethodName) prog_20_method_23_code (1 : Nat) (Option.some Jvm.ClassFile.FieldType.int)) ∈ lw_all := lw_g (lw_at lw_m11 50 rfl) rfl
theorem q2529 : (Jvm.Cond.instanceMethod ({ cls := "CardLoomModel", name := "pack", desc := "(II)I" } : Jvm.MethodName)) ∈ lw_all := lw_g (lw_at lw_m11 52 rfl) rfl
theorem q2530 : (Jvm.Cond.selects "CardLoomModel" ({ cls := "CardLoomModel", name := "pack", desc := "(II)I" } : Jvm.MethodName) ({ cls := "CardLoomModel", name := "pack", desc := "(II)I" } : Jvm.MethodName)) ∈ lw_all := lw_g (lw_at lw_m11 53 rfl) rfl
theorem q2531 : (Jvm.Cond.code ({ cls := "CardLoomModel", name := "pack", desc := "(II)I" } : Jvm.MethodName) prog_20_method_30_code (3 : Nat) (Option.some Jvm.ClassFile.FieldType.int)) ∈ lw_all := lw_g (lw_at lw_m11 54 rfl) rfl
theorem q2533 : (Jvm.Cond.instanceMethod ({ cls := "CardLoomModel", name := "weave", desc := "(I)I" } : Jvm.MethodName)) ∈ lw_all := lw_g (lw_at lw_m11 56 rfl) rfl
theorem q2534 : (Jvm.Cond.selects "CardLoomModel" ({ cls := "CardLoomModel", name := "weave", desc := "(I)I" } : Jvm.MethodName) ({ cls := "CardLoomModel", name := "weave", desc := "(I)I" } : Jvm.MethodName)) ∈ lw_all := lw_g (lw_at lw_m11 57 rfl) rfl
theorem q2535 : (Jvm.Cond.code ({ cls := "CardLoomModel", name := "weave", desc := "(I)I" } : Jvm.MethodName) prog_20_method_32_code (3 : Nat) (Option.some Jvm.ClassFile.FieldType.int)) ∈ lw_all := lw_g (lw_at lw_m11 58 rfl) rfl
theorem q2536 : (Jvm.Cond.methodLink "CardLoomModel" (190 : Nat) ({ cls := "CardLoomModel", name := "layLaw", desc := "(I)V" } : Jvm.MethodName)) ∈ lw_all := lw_g (lw_at lw_m11 59 rfl) rfl
theorem q2537 : (Jvm.Cond.privateMethod ({ cls := "CardLoomModel", name := "layLaw", desc := "(I)V" } : Jvm.MethodName)) ∈ lw_tbl := lw_at lw_m11 60 rfl
theorem q2538 : (Jvm.Cond.instanceMethod ({ cls := "CardLoomModel", name := "layLaw", desc := "(I)V" } : Jvm.MethodName)) ∈ lw_all := lw_g (lw_at lw_m11 61 rfl) rfl
theorem q2539 : (Jvm.Cond.code ({ cls := "CardLoomModel", name := "layLaw", desc := "(I)V" } : Jvm.MethodName) prog_20_method_31_code (3 : Nat) (Option.none : Option Jvm.ClassFile.FieldType)) ∈ lw_all := lw_g (lw_at lw_m11 62 rfl) rfl
theorem q2541 : (Jvm.Cond.instanceMethod ({ cls := "CardLoomModel", name := "unweave", desc := "(I)I" } : Jvm.MethodName)) ∈ lw_all := lw_g (lw_at lw_m11 64 rfl) rfl
theorem q2542 : (Jvm.Cond.selects "CardLoomModel" ({ cls := "CardLoomModel", name := "unweave", desc := "(I)I" } : Jvm.MethodName) ({ cls := "CardLoomModel", name := "unweave", desc := "(I)I" } : Jvm.MethodName)) ∈ lw_all := lw_g (lw_at lw_m11 65 rfl) rfl
theorem q2543 : (Jvm.Cond.code ({ cls := "CardLoomModel", name := "unweave", desc := "(I)I" } : Jvm.MethodName) prog_20_method_33_code (5 : Nat) (Option.some Jvm.ClassFile.FieldType.int)) ∈ lw_all := lw_g (lw_at lw_m11 66 rfl) rfl
theorem q2545 : (Jvm.Cond.instanceMethod ({ cls := "CardLoomModel", name := "front", desc := "(II)I" } : Jvm.MethodName)) ∈ lw_all := lw_g (lw_at lw_m11 68 rfl) rfl
theorem q2546 : (Jvm.Cond.selects "CardLoomModel" ({ cls := "CardLoomModel", name := "front", desc := "(II)I" } : Jvm.MethodName) ({ cls := "CardLoomModel", name := "front", desc := "(II)I" } : Jvm.MethodName)) ∈ lw_all := lw_g (lw_at lw_m11 69 rfl) rfl
theorem q2547 : (Jvm.Cond.code ({ cls := "CardLoomModel", name := "front", desc := "(II)I" } : Jvm.MethodName) prog_20_method_35_code (3 : Nat) (Option.some Jvm.ClassFile.FieldType.int)) ∈ lw_all := lw_g (lw_at lw_m11 70 rfl) rfl
theorem q2548 : (Jvm.Cond.methodLink "CardLoomModel" (196 : Nat) ({ cls := "CardLoomModel", name := "asked", desc := "([III)I" } : Jvm.MethodName)) ∈ lw_all := lw_g (lw_at lw_m11 71 rfl) rfl
theorem q2549 : (Jvm.Cond.privateMethod ({ cls := "CardLoomModel", name := "asked", desc := "([III)I" } : Jvm.MethodName)) ∈ lw_tbl := lw_at lw_m11 72 rfl
theorem q2550 : (Jvm.Cond.instanceMethod ({ cls := "CardLoomModel", name := "asked", desc := "([III)I" } : Jvm.MethodName)) ∈ lw_all := lw_g (lw_at lw_m11 73 rfl) rfl
theorem q2551 : (Jvm.Cond.code ({ cls := "CardLoomModel", name := "asked", desc := "([III)I" } : Jvm.MethodName) prog_20_method_34_code (4 : Nat) (Option.some Jvm.ClassFile.FieldType.int)) ∈ lw_all := lw_g (lw_at lw_m11 74 rfl) rfl
theorem q2552 : (Jvm.Cond.methodLink "CardLoomModel" (193 : Nat) ({ cls := "CardLoomModel", name := "isRow", desc := "(I)Z" } : Jvm.MethodName)) ∈ lw_all := lw_g (lw_at lw_m11 75 rfl) rfl
theorem q2553 : (Jvm.Cond.privateMethod ({ cls := "CardLoomModel", name := "isRow", desc := "(I)Z" } : Jvm.MethodName)) ∈ lw_tbl := lw_at lw_m11 76 rfl
theorem q2554 : (Jvm.Cond.instanceMethod ({ cls := "CardLoomModel", name := "isRow", desc := "(I)Z" } : Jvm.MethodName)) ∈ lw_all := lw_g (lw_at lw_m11 77 rfl) rfl
theorem q2555 : (Jvm.Cond.code ({ cls := "CardLoomModel", name := "isRow", desc := "(I)Z" } : Jvm.MethodName) prog_20_method_5_code (2 : Nat) (Option.some Jvm.ClassFile.FieldType.boolean)) ∈ lw_all := lw_g (lw_at lw_m11 78 rfl) rfl
theorem q2557 : (Jvm.Cond.instanceMethod ({ cls := "CardLoomModel", name := "back", desc := "(II)I" } : Jvm.MethodName)) ∈ lw_all := lw_g (lw_at lw_m11 80 rfl) rfl
theorem q2558 : (Jvm.Cond.selects "CardLoomModel" ({ cls := "CardLoomModel", name := "back", desc := "(II)I" } : Jvm.MethodName) ({ cls := "CardLoomModel", name := "back", desc := "(II)I" } : Jvm.MethodName)) ∈ lw_all := lw_g (lw_at lw_m11 81 rfl) rfl
theorem q2559 : (Jvm.Cond.code ({ cls := "CardLoomModel", name := "back", desc := "(II)I" } : Jvm.MethodName) prog_20_method_36_code (3 : Nat) (Option.some Jvm.ClassFile.FieldType.int)) ∈ lw_all := lw_g (lw_at lw_m11 82 rfl) rfl
theorem q2561 : (Jvm.Cond.instanceMethod ({ cls := "CardLoomModel", name := "lean", desc := "(II)I" } : Jvm.MethodName)) ∈ lw_all := lw_g (lw_at lw_m11 84 rfl) rfl
theorem q2562 : (Jvm.Cond.selects "CardLoomModel" ({ cls := "CardLoomModel", name := "lean", desc := "(II)I" } : Jvm.MethodName) ({ cls := "CardLoomModel", name := "lean", desc := "(II)I" } : Jvm.MethodName)) ∈ lw_all := lw_g (lw_at lw_m11 85 rfl) rfl
theorem q2563 : (Jvm.Cond.code ({ cls := "CardLoomModel", name := "lean", desc := "(II)I" } : Jvm.MethodName) prog_20_method_37_code (3 : Nat) (Option.some Jvm.ClassFile.FieldType.int)) ∈ lw_all := lw_g (lw_at lw_m11 86 rfl) rfl
theorem q2565 : (Jvm.Cond.instanceMethod ({ cls := "CardLoomModel", name := "turning", desc := "(II)I" } : Jvm.MethodName)) ∈ lw_all := lw_g (lw_at lw_m11 88 rfl) rfl
theorem q2566 : (Jvm.Cond.selects "CardLoomModel" ({ cls := "CardLoomModel", name := "turning", desc := "(II)I" } : Jvm.MethodName) ({ cls := "CardLoomModel", name := "turning", desc := "(II)I" } : Jvm.MethodName)) ∈ lw_all := lw_g (lw_at lw_m11 89 rfl) rfl
theorem q2567 : (Jvm.Cond.code ({ cls := "CardLoomModel", name := "turning", desc := "(II)I" } : Jvm.MethodName) prog_20_method_38_code (3 : Nat) (Option.some Jvm.ClassFile.FieldType.int)) ∈ lw_all := lw_g (lw_at lw_m11 90 rfl) rfl
theorem q2569 : (Jvm.Cond.instanceMethod ({ cls := "CardLoomModel", name := "returns", desc := "()I" } : Jvm.MethodName)) ∈ lw_all := lw_g (lw_at lw_m11 92 rfl) rfl
theorem q2570 : (Jvm.Cond.selects "CardLoomModel" ({ cls := "CardLoomModel", name := "returns", desc := "()I" } : Jvm.MethodName) ({ cls := "CardLoomModel", name := "returns", desc := "()I" } : Jvm.MethodName)) ∈ lw_all := lw_g (lw_at lw_m11 93 rfl) rfl
theorem q2571 : (Jvm.Cond.code ({ cls := "CardLoomModel", name := "returns", desc := "()I" } : Jvm.MethodName) prog_20_method_43_code (2 : Nat) (Option.some Jvm.ClassFile.FieldType.int)) ∈ lw_all := lw_g (lw_at lw_m11 94 rfl) rfl
theorem q2572 : (Jvm.Cond.methodLink "CardLoomModel" (200 : Nat) ({ cls := "CardLoomModel", name := "begins", desc := "()V" } : Jvm.MethodName)) ∈ lw_all := lw_g (lw_at lw_m11 95 rfl) rfl
theorem q2573 : (Jvm.Cond.privateMethod ({ cls := "CardLoomModel", name := "begins", desc := "()V" } : Jvm.MethodName)) ∈ lw_tbl := lw_at lw_m11 96 rfl
theorem q2574 : (Jvm.Cond.instanceMethod ({ cls := "CardLoomModel", name := "begins", desc := "()V" } : Jvm.MethodName)) ∈ lw_all := lw_g (lw_at lw_m11 97 rfl) rfl
theorem q2575 : (Jvm.Cond.code ({ cls := "CardLoomModel", name := "begins", desc := "()V" } : Jvm.MethodName) prog_20_method_39_code (2 : Nat) (Option.none : Option Jvm.ClassFile.FieldType)) ∈ lw_all := lw_g (lw_at lw_m11 98 rfl) rfl
theorem q2576 : (Jvm.Cond.methodLink "CardLoomModel" (203 : Nat) ({ cls := "CardLoomModel", name := "mind", desc := "(I)Z" } : Jvm.MethodName)) ∈ lw_all := lw_g (lw_at lw_m11 99 rfl) rfl
theorem q2577 : (Jvm.Cond.privateMethod ({ cls := "CardLoomModel", name := "mind", desc := "(I)Z" } : Jvm.MethodName)) ∈ lw_tbl := lw_at lw_m11 100 rfl
theorem q2578 : (Jvm.Cond.instanceMethod ({ cls := "CardLoomModel", name := "mind", desc := "(I)Z" } : Jvm.MethodName)) ∈ lw_all := lw_g (lw_at lw_m11 101 rfl) rfl
theorem q2579 : (Jvm.Cond.code ({ cls := "CardLoomModel", name := "mind", desc := "(I)Z" } : Jvm.MethodName) prog_20_method_40_code (3 : Nat) (Option.some Jvm.ClassFile.FieldType.boolean)) ∈ lw_all := lw_g (lw_at lw_m11 102 rfl) rfl
theorem q2580 : (Jvm.Cond.methodLink "CardLoomModel" (206 : Nat) ({ cls := "CardLoomModel", name := "areAsNow", desc := "()Z" } : Jvm.MethodName)) ∈ lw_all := lw_g (lw_at lw_m11 103 rfl) rfl
theorem q2581 : (Jvm.Cond.privateMethod ({ cls := "CardLoomModel", name := "areAsNow", desc := "()Z" } : Jvm.MethodName)) ∈ lw_tbl := lw_at lw_m11 104 rfl
theorem q2582 : (Jvm.Cond.instanceMethod ({ cls := "CardLoomModel", name := "areAsNow", desc := "()Z" } : Jvm.MethodName)) ∈ lw_all := lw_g (lw_at lw_m11 105 rfl) rfl
theorem q2583 : (Jvm.Cond.code ({ cls := "CardLoomModel", name := "areAsNow", desc := "()Z" } : Jvm.MethodName) prog_20_method_41_code (2 : Nat) (Option.some Jvm.ClassFile.FieldType.boolean)) ∈ lw_all := lw_g (lw_at lw_m11 106 rfl) rfl
theorem q2585 : (Jvm.Cond.instanceMethod ({ cls := "CardLoomModel", name := "flat", desc := "()I" } : Jvm.MethodName)) ∈ lw_all := lw_g (lw_at lw_m11 108 rfl) rfl
theorem q2586 : (Jvm.Cond.selects "CardLoomModel" ({ cls := "CardLoomModel", name := "flat", desc := "()I" } : Jvm.MethodName) ({ cls := "CardLoomModel", name := "flat", desc := "()I" } : Jvm.MethodName)) ∈ lw_all := lw_g (lw_at lw_m11 109 rfl) rfl
theorem q2587 : (Jvm.Cond.code ({ cls := "CardLoomModel", name := "flat", desc := "()I" } : Jvm.MethodName) prog_20_method_44_code (2 : Nat) (Option.some Jvm.ClassFile.FieldType.int)) ∈ lw_all := lw_g (lw_at lw_m11 110 rfl) rfl
theorem q2588 : (Jvm.Cond.methodLink "CardLoomModel" (209 : Nat) ({ cls := "CardLoomModel", name := "areFlat", desc := "()Z" } : Jvm.MethodName)) ∈ lw_all := lw_g (lw_at lw_m11 111 rfl) rfl
theorem q2589 : (Jvm.Cond.privateMethod ({ cls := "CardLoomModel", name := "areFlat", desc := "()Z" } : Jvm.MethodName)) ∈ lw_tbl := lw_at lw_m11 112 rfl
theorem q2590 : (Jvm.Cond.instanceMethod ({ cls := "CardLoomModel", name := "areFlat", desc := "()Z" } : Jvm.MethodName)) ∈ lw_all := lw_g (lw_at lw_m11 113 rfl) rfl
theorem q2591 : (Jvm.Cond.code ({ cls := "CardLoomModel", name := "areFlat", desc := "()Z" } : Jvm.MethodName) prog_20_method_42_code (2 : Nat) (Option.some Jvm.ClassFile.FieldType.boolean)) ∈ lw_all := lw_g (lw_at lw_m11 114 rfl) rfl
theorem q2593 : (Jvm.Cond.instanceMethod ({ cls := "CardLoomModel", name := "jam", desc := "()I" } : Jvm.MethodName)) ∈ lw_all := lw_g (lw_at lw_m11 116 rfl) rfl
theorem q2594 : (Jvm.Cond.selects "CardLoomModel" ({ cls := "CardLoomModel", name := "jam", desc := "()I" } : Jvm.MethodName) ({ cls := "CardLoomModel", name := "jam", desc := "()I" } : Jvm.MethodName)) ∈ lw_all := lw_g (lw_at lw_m11 117 rfl) rfl
theorem q2595 : (Jvm.Cond.code ({ cls := "CardLoomModel", name := "jam", desc := "()I" } : Jvm.MethodName) prog_20_method_45_code (2 : Nat) (Option.some Jvm.ClassFile.FieldType.int)) ∈ lw_all := lw_g (lw_at lw_m11 118 rfl) rfl
theorem q2597 : (Jvm.Cond.instanceMethod ({ cls := "CardLoomModel", name := "undoing", desc := "(II)I" } : Jvm.MethodName)) ∈ lw_all := lw_g (lw_at lw_m11 120 rfl) rfl
theorem q2598 : (Jvm.Cond.selects "CardLoomModel" ({ cls := "CardLoomModel", name := "undoing", desc := "(II)I" } : Jvm.MethodName) ({ cls := "CardLoomModel", name := "undoing", desc := "(II)I" } : Jvm.MethodName)) ∈ lw_all := lw_g (lw_at lw_m11 121 rfl) rfl
theorem q2599 : (Jvm.Cond.code ({ cls := "CardLoomModel", name := "undoing", desc := "(II)I" } : Jvm.MethodName) prog_20_method_47_code (7 : Nat) (Option.some Jvm.ClassFile.FieldType.int)) ∈ lw_all := lw_g (lw_at lw_m11 122 rfl) rfl
theorem q2600 : (Jvm.Cond.methodLink "CardLoomModel" (212 : Nat) ({ cls := "CardLoomModel", name := "greatest", desc := "(I)I" } : Jvm.MethodName)) ∈ lw_all := lw_g (lw_at lw_m11 123 rfl) rfl
theorem q2601 : (Jvm.Cond.privateMethod ({ cls := "CardLoomModel", name := "greatest", desc := "(I)I" } : Jvm.MethodName)) ∈ lw_tbl := lw_at lw_m11 124 rfl
theorem q2602 : (Jvm.Cond.instanceMethod ({ cls := "CardLoomModel", name := "greatest", desc := "(I)I" } : Jvm.MethodName)) ∈ lw_all := lw_g (lw_at lw_m11 125 rfl) rfl
theorem q2603 : (Jvm.Cond.code ({ cls := "CardLoomModel", name := "greatest", desc := "(I)I" } : Jvm.MethodName) prog_20_method_46_code (4 : Nat) (Option.some Jvm.ClassFile.FieldType.int)) ∈ lw_all := lw_g (lw_at lw_m11 126 rfl) rfl
theorem q2605 : (Jvm.Cond.instanceMethod ({ cls := "CardLoomModel", name := "paint", desc := "(III)I" } : Jvm.MethodName)) ∈ lw_all := lw_g (lw_at lw_m11 128 rfl) rfl
theorem q2606 : (Jvm.Cond.selects "CardLoomModel" ({ cls := "CardLoomModel", name := "paint", desc := "(III)I" } : Jvm.MethodName) ({ cls := "CardLoomModel", name := "paint", desc := "(III)I" } : Jvm.MethodName)) ∈ lw_all := lw_g (lw_at lw_m11 129 rfl) rfl
theorem q2607 : (Jvm.Cond.code ({ cls := "CardLoomModel", name := "paint", desc := "(III)I" } : Jvm.MethodName) prog_20_method_48_code (5 : Nat) (Option.some Jvm.ClassFile.FieldType.int)) ∈ lw_all := lw_g (lw_at lw_m11 130 rfl) rfl
theorem q2609 : (Jvm.Cond.instanceMethod ({ cls := "CardLoomModel", name := "lines", desc := "(I)I" } : Jvm.MethodName)) ∈ lw_all := lw_g (lw_at lw_m11 132 rfl) rfl
theorem q2610 : (Jvm.Cond.selects "CardLoomModel" ({ cls := "CardLoomModel", name := "lines", desc := "(I)I" } : Jvm.MethodName) ({ cls := "CardLoomModel", name := "lines", desc := "(I)I" } : Jvm.MethodName)) ∈ lw_all := lw_g (lw_at lw_m11 133 rfl) rfl
theorem q2611 : (Jvm.Cond.code ({ cls := "CardLoomModel", name := "lines", desc := "(I)I" } : Jvm.MethodName) prog_20_method_49_code (4 : Nat) (Option.some Jvm.ClassFile.FieldType.int)) ∈ lw_all := lw_g (lw_at lw_m11 134 rfl) rfl
theorem q2613 : (Jvm.Cond.instanceMethod ({ cls := "CardLoomModel", name := "draft", desc := "(II)I" } : Jvm.MethodName)) ∈ lw_all := lw_g (lw_at lw_m11 136 rfl) rfl
theorem q2614 : (Jvm.Cond.selects "CardLoomModel" ({ cls := "CardLoomModel", name := "draft", desc := "(II)I" } : Jvm.MethodName) ({ cls := "CardLoomModel", name := "draft", desc := "(II)I" } : Jvm.MethodName)) ∈ lw_all := lw_g (lw_at lw_m11 137 rfl) rfl
theorem q2615 : (Jvm.Cond.code ({ cls := "CardLoomModel", name := "draft", desc := "(II)I" } : Jvm.MethodName) prog_20_method_53_code (3 : Nat) (Option.some Jvm.ClassFile.FieldType.int)) ∈ lw_all := lw_g (lw_at lw_m11 138 rfl) rfl
theorem q2616 : (Jvm.Cond.methodLink "CardLoomModel" (228 : Nat) ({ cls := "CardLoomModel", name := "draftOf", desc := "(II)I" } : Jvm.MethodName)) ∈ lw_all := lw_g (lw_at lw_m11 139 rfl) rfl
theorem q2617 : (Jvm.Cond.privateMethod ({ cls := "CardLoomModel", name := "draftOf", desc := "(II)I" } : Jvm.MethodName)) ∈ lw_tbl := lw_at lw_m11 140 rfl
theorem q2618 : (Jvm.Cond.instanceMethod ({ cls := "CardLoomModel", name := "draftOf", desc := "(II)I" } : Jvm.MethodName)) ∈ lw_all := lw_g (lw_at lw_m11 141 rfl) rfl
theorem q2619 : (Jvm.Cond.code ({ cls := "CardLoomModel", name := "draftOf", desc := "(II)I" } : Jvm.MethodName) prog_20_method_51_code (8 : Nat) (Option.some Jvm.ClassFile.FieldType.int)) ∈ lw_all := lw_g (lw_at lw_m11 142 rfl) rfl
theorem q2620 : (Jvm.Cond.methodLink "CardLoomModel" (221 : Nat) ({ cls := "CardLoomModel", name := "fewestFrom", desc := "(III)I" } : Jvm.MethodName)) ∈ lw_all := lw_g (lw_at lw_m11 143 rfl) rfl
theorem q2621 : (Jvm.Cond.privateMethod ({ cls := "CardLoomModel", name := "fewestFrom", desc := "(III)I" } : Jvm.MethodName)) ∈ lw_tbl := lw_at lw_m11 144 rfl
theorem q2622 : (Jvm.Cond.instanceMethod ({ cls := "CardLoomModel", name := "fewestFrom", desc := "(III)I" } : Jvm.MethodName)) ∈ lw_all := lw_g (lw_at lw_m11 145 rfl) rfl
theorem q2623 : (Jvm.Cond.code ({ cls := "CardLoomModel", name := "fewestFrom", desc := "(III)I" } : Jvm.MethodName) prog_20_method_50_code (9 : Nat) (Option.some Jvm.ClassFile.FieldType.int)) ∈ lw_all := lw_g (lw_at lw_m11 146 rfl) rfl
theorem q2624 : (Jvm.Cond.methodLink "CardLoomModel" (218 : Nat) ({ cls := "java/lang/Math", name := "min", desc := "(II)I" } : Jvm.MethodName)) ∈ lw_all := lw_g (lw_at lw_m11 147 rfl) rfl
theorem q2625 : (Jvm.Cond.methodLink "CardLoomModel" (224 : Nat) ({ cls := "CardLoomModel", name := "mayBe", desc := "(IIIII)Z" } : Jvm.MethodName)) ∈ lw_all := lw_g (lw_at lw_m11 148 rfl) rfl
theorem q2626 : (Jvm.Cond.privateMethod ({ cls := "CardLoomModel", name := "mayBe", desc := "(IIIII)Z" } : Jvm.MethodName)) ∈ lw_tbl := lw_at lw_m11 149 rfl
theorem q2627 : (Jvm.Cond.instanceMethod ({ cls := "CardLoomModel", name := "mayBe", desc := "(IIIII)Z" } : Jvm.MethodName)) ∈ lw_all := lw_g (lw_at lw_m11 150 rfl) rfl
theorem q2628 : (Jvm.Cond.code ({ cls := "CardLoomModel", name := "mayBe", desc := "(IIIII)Z" } : Jvm.MethodName) prog_20_method_52_code (7 : Nat) (Option.some Jvm.ClassFile.FieldType.boolean)) ∈ lw_all := lw_g (lw_at lw_m11 151 rfl) rfl
theorem q2630 : (Jvm.Cond.instanceMethod ({ cls := "CardLoomModel", name := "fewest", desc := "(I)I" } : Jvm.MethodName)) ∈ lw_all := lw_g (lw_at lw_m11 153 rfl) rfl
theorem q2631 : (Jvm.Cond.selects "CardLoomModel" ({ cls := "CardLoomModel", name := "fewest", desc := "(I)I" } : Jvm.MethodName) ({ cls := "CardLoomModel", name := "fewest", desc := "(I)I" } : Jvm.MethodName)) ∈ lw_all := lw_g (lw_at lw_m11 154 rfl) rfl
theorem q2632 : (Jvm.Cond.code ({ cls := "CardLoomModel", name := "fewest", desc := "(I)I" } : Jvm.MethodName) prog_20_method_54_code (5 : Nat) (Option.some Jvm.ClassFile.FieldType.int)) ∈ lw_all := lw_g (lw_at lw_m11 155 rfl) rfl
theorem q2634 : (Jvm.Cond.instanceMethod ({ cls := "CardLoomModel", name := "weaveDraft", desc := "()I" } : Jvm.MethodName)) ∈ lw_all := lw_g (lw_at lw_m11 157 rfl) rfl
theorem q2635 : (Jvm.Cond.selects "CardLoomModel" ({ cls := "CardLoomModel", name := "weaveDraft", desc := "()I" } : Jvm.MethodName) ({ cls := "CardLoomModel", name := "weaveDraft", desc := "()I" } : Jvm.MethodName)) ∈ lw_all := lw_g (lw_at lw_m11 158 rfl) rfl
theorem q2636 : (Jvm.Cond.code ({ cls := "CardLoomModel", name := "weaveDraft", desc := "()I" } : Jvm.MethodName) prog_20_method_55_code (3 : Nat) (Option.some Jvm.ClassFile.FieldType.int)) ∈ lw_all := lw_g (lw_at lw_m11 159 rfl) rfl
theorem q2637 : (Jvm.Cond.methodLink "CardLoomModel" (231 : Nat) ({ cls := "CardLoomModel", name := "fewest", desc := "(I)I" } : Jvm.MethodName)) ∈ lw_all := lw_g (lw_at lw_m11 160 rfl) rfl
theorem q2638 : (Jvm.Cond.methodLink "CardLoomModel" (234 : Nat) ({ cls := "CardLoomModel", name := "unweave", desc := "(I)I" } : Jvm.MethodName)) ∈ lw_all := lw_g (lw_at lw_m11 161 rfl) rfl
theorem q2640 : (Jvm.Cond.instanceMethod ({ cls := "CardLoomModel", name := "matches", desc := "(I)I" } : Jvm.MethodName)) ∈ lw_all := lw_g (lw_at lw_m11 163 rfl) rfl
theorem q2641 : (Jvm.Cond.selects "CardLoomModel" ({ cls := "CardLoomModel", name := "matches", desc := "(I)I" } : Jvm.MethodName) ({ cls := "CardLoomModel", name := "matches", desc := "(I)I" } : Jvm.MethodName)) ∈ lw_all := lw_g (lw_at lw_m11 164 rfl) rfl
theorem q2642 : (Jvm.Cond.code ({ cls := "CardLoomModel", name := "matches", desc := "(I)I" } : Jvm.MethodName) prog_20_method_56_code (5 : Nat) (Option.some Jvm.ClassFile.FieldType.int)) ∈ lw_all := lw_g (lw_at lw_m11 165 rfl) rfl
theorem q2644 : (Jvm.Cond.instanceMethod ({ cls := "CardLoomModel", name := "period", desc := "()I" } : Jvm.MethodName)) ∈ lw_all := lw_g (lw_at lw_m11 167 rfl) rfl
theorem q2645 : (Jvm.Cond.selects "CardLoomModel" ({ cls := "CardLoomModel", name := "period", desc := "()I" } : Jvm.MethodName) ({ cls := "CardLoomModel", name := "period", desc := "()I" } : Jvm.MethodName)) ∈ lw_all := lw_g (lw_at lw_m11 168 rfl) rfl
theorem q2646 : (Jvm.Cond.code ({ cls := "CardLoomModel", name := "period", desc := "()I" } : Jvm.MethodName) prog_20_method_58_code (4 : Nat) (Option.some Jvm.ClassFile.FieldType.int)) ∈ lw_all := lw_g (lw_at lw_m11 169 rfl) rfl
theorem q2647 : (Jvm.Cond.methodLink "CardLoomModel" (237 : Nat) ({ cls := "CardLoomModel", name := "alikeIn", desc := "(II)I" } : Jvm.MethodName)) ∈ lw_all := lw_g (lw_at lw_m11 170 rfl) rfl
theorem q2648 : (Jvm.Cond.privateMethod ({ cls := "CardLoomModel", name := "alikeIn", desc := "(II)I" } : Jvm.MethodName)) ∈ lw_tbl := lw_at lw_m11 171 rfl
theorem q2649 : (Jvm.Cond.instanceMethod ({ cls := "CardLoomModel", name := "alikeIn", desc := "(II)I" } : Jvm.MethodName)) ∈ lw_all := lw_g (lw_at lw_m11 172 rfl) rfl
theorem q2650 : (Jvm.Cond.code ({ cls := "CardLoomModel", name := "alikeIn", desc := "(II)I" } : Jvm.MethodName) prog_20_method_57_code (5 : Nat) (Option.some Jvm.ClassFile.FieldType.int)) ∈ lw_all := lw_g (lw_at lw_m11 173 rfl) rfl
theorem q2652 : (Jvm.Cond.instanceMethod ({ cls := "CardLoomModel", name := "mirrors", desc := "()I" } : Jvm.MethodName)) ∈ lw_all := lw_g (lw_at lw_m11 175 rfl) rfl
theorem q2653 : (Jvm.Cond.selects "CardLoomModel" ({ cls := "CardLoomModel", name := "mirrors", desc := "()I" } : Jvm.MethodName) ({ cls := "CardLoomModel", name := "mirrors", desc := "()I" } : Jvm.MethodName)) ∈ lw_all := lw_g (lw_at lw_m11 176 rfl) rfl
theorem q2654 : (Jvm.Cond.code ({ cls := "CardLoomModel", name := "mirrors", desc := "()I" } : Jvm.MethodName) prog_20_method_59_code (5 : Nat) (Option.some Jvm.ClassFile.FieldType.int)) ∈ lw_all := lw_g (lw_at lw_m11 177 rfl) rfl
theorem q2656 : (Jvm.Cond.instanceMethod ({ cls := "CardLoomModel", name := "run", desc := "(I)I" } : Jvm.MethodName)) ∈ lw_all := lw_g (lw_at lw_m11 179 rfl) rfl
theorem q2657 : (Jvm.Cond.selects "CardLoomModel" ({ cls := "CardLoomModel", name := "run", desc := "(I)I" } : Jvm.MethodName) ({ cls := "CardLoomModel", name := "run", desc := "(I)I" } : Jvm.MethodName)) ∈ lw_all := lw_g (lw_at lw_m11 180 rfl) rfl
theorem q2658 : (Jvm.Cond.code ({ cls := "CardLoomModel", name := "run", desc := "(I)I" } : Jvm.MethodName) prog_20_method_60_code (6 : Nat) (Option.some Jvm.ClassFile.FieldType.int)) ∈ lw_all := lw_g (lw_at lw_m11 181 rfl) rfl
theorem q2660 : (Jvm.Cond.instanceMethod ({ cls := "CardLoomModel", name := "colours", desc := "(II)I" } : Jvm.MethodName)) ∈ lw_all := lw_g (lw_at lw_m11 183 rfl) rfl
theorem q2661 : (Jvm.Cond.selects "CardLoomModel" ({ cls := "CardLoomModel", name := "colours", desc := "(II)I" } : Jvm.MethodName) ({ cls := "CardLoomModel", name := "colours", desc := "(II)I" } : Jvm.MethodName)) ∈ lw_all := lw_g (lw_at lw_m11 184 rfl) rfl
theorem q2662 : (Jvm.Cond.code ({ cls := "CardLoomModel", name := "colours", desc := "(II)I" } : Jvm.MethodName) prog_20_method_62_code (5 : Nat) (Option.some Jvm.ClassFile.FieldType.int)) ∈ lw_all := lw_g (lw_at lw_m11 185 rfl) rfl
theorem q2663 : (Jvm.Cond.methodLink "CardLoomModel" (240 : Nat) ({ cls := "CardLoomModel", name := "countOf", desc := "(I[I)I" } : Jvm.MethodName)) ∈ lw_all := lw_g (lw_at lw_m11 186 rfl) rfl
theorem q2664 : (Jvm.Cond.privateMethod ({ cls := "CardLoomModel", name := "countOf", desc := "(I[I)I" } : Jvm.MethodName)) ∈ lw_tbl := lw_at lw_m11 187 rfl
theorem q2665 : (Jvm.Cond.instanceMethod ({ cls := "CardLoomModel", name := "countOf", desc := "(I[I)I" } : Jvm.MethodName)) ∈ lw_all := lw_g (lw_at lw_m11 188 rfl) rfl
theorem q2666 : (Jvm.Cond.code ({ cls := "CardLoomModel", name := "countOf", desc := "(I[I)I" } : Jvm.MethodName) prog_20_method_61_code (6 : Nat) (Option.some Jvm.ClassFile.FieldType.int)) ∈ lw_all := lw_g (lw_at lw_m11 189 rfl) rfl
theorem q2668 : (Jvm.Cond.instanceMethod ({ cls := "CardLoomModel", name := "ranked", desc := "(I)I" } : Jvm.MethodName)) ∈ lw_all := lw_g (lw_at lw_m11 191 rfl) rfl
theorem q2669 : (Jvm.Cond.selects "CardLoomModel" ({ cls := "CardLoomModel", name := "ranked", desc := "(I)I" } : Jvm.MethodName) ({ cls := "CardLoomModel", name := "ranked", desc := "(I)I" } : Jvm.MethodName)) ∈ lw_all := lw_g (lw_at lw_m11 192 rfl) rfl
theorem q2670 : (Jvm.Cond.code ({ cls := "CardLoomModel", name := "ranked", desc := "(I)I" } : Jvm.MethodName) prog_20_method_64_code (5 : Nat) (Option.some Jvm.ClassFile.FieldType.int)) ∈ lw_all := lw_g (lw_at lw_m11 193 rfl) rfl
theorem q2671 : (Jvm.Cond.methodLink "CardLoomModel" (244 : Nat) ({ cls := "CardLoomModel", name := "isAhead", desc := "(II)Z" } : Jvm.MethodName)) ∈ lw_all := lw_g (lw_at lw_m11 194 rfl) rfl
theorem q2672 : (Jvm.Cond.privateMethod ({ cls := "CardLoomModel", name := "isAhead", desc := "(II)Z" } : Jvm.MethodName)) ∈ lw_tbl := lw_at lw_m11 195 rfl
theorem q2673 : (Jvm.Cond.instanceMethod ({ cls := "CardLoomModel", name := "isAhead", desc := "(II)Z" } : Jvm.MethodName)) ∈ lw_all := lw_g (lw_at lw_m11 196 rfl) rfl
theorem q2674 : (Jvm.Cond.code ({ cls := "CardLoomModel", name := "isAhead", desc := "(II)Z" } : Jvm.MethodName) prog_20_method_63_code (5 : Nat) (Option.some Jvm.ClassFile.FieldType.boolean)) ∈ lw_all := lw_g (lw_at lw_m11 197 rfl) rfl
theorem q2676 : (Jvm.Cond.instanceMethod ({ cls := "CardLoomModel", name := "alike", desc := "(II)I" } : Jvm.MethodName)) ∈ lw_all := lw_g (lw_at lw_m11 199 rfl) rfl
theorem q2677 : (Jvm.Cond.selects "CardLoomModel" ({ cls := "CardLoomModel", name := "alike", desc := "(II)I" } : Jvm.MethodName) ({ cls := "CardLoomModel", name := "alike", desc := "(II)I" } : Jvm.MethodName)) ∈ lw_all := lw_g (lw_at lw_m11 200 rfl) rfl
theorem q2678 : (Jvm.Cond.code ({ cls := "CardLoomModel", name := "alike", desc := "(II)I" } : Jvm.MethodName) prog_20_method_65_code (3 : Nat) (Option.some Jvm.ClassFile.FieldType.int)) ∈ lw_all := lw_g (lw_at lw_m11 201 rfl) rfl
theorem q2680 : (Jvm.Cond.instanceMethod ({ cls := "CardLoomModel", name := "faces", desc := "(I)I" } : Jvm.MethodName)) ∈ lw_all := lw_g (lw_at lw_m11 203 rfl) rfl
theorem q2681 : (Jvm.Cond.selects "CardLoomModel" ({ cls := "CardLoomModel", name := "faces", desc := "(I)I" } : Jvm.MethodName) ({ cls := "CardLoomModel", name := "faces", desc := "(I)I" } : Jvm.MethodName)) ∈ lw_all := lw_g (lw_at lw_m11 204 rfl) rfl
theorem q2682 : (Jvm.Cond.code ({ cls := "CardLoomModel", name := "faces", desc := "(I)I" } : Jvm.MethodName) prog_20_method_66_code (4 : Nat) (Option.some Jvm.ClassFile.FieldType.int)) ∈ lw_all := lw_g (lw_at lw_m11 205 rfl) rfl
theorem q2684 : (Jvm.Cond.instanceMethod ({ cls := "CardLoomModel", name := "spell", desc := "()I" } : Jvm.MethodName)) ∈ lw_all := lw_g (lw_at lw_m11 207 rfl) rfl
theorem q2685 : (Jvm.Cond.selects "CardLoomModel" ({ cls := "CardLoomModel", name := "spell", desc := "()I" } : Jvm.MethodName) ({ cls := "CardLoomModel", name := "spell", desc := "()I" } : Jvm.MethodName)) ∈ lw_all := lw_g (lw_at lw_m11 208 rfl) rfl
theorem q2686 : (Jvm.Cond.code ({ cls := "CardLoomModel", name := "spell", desc := "()I" } : Jvm.MethodName) prog_20_method_67_code (3 : Nat) (Option.some Jvm.ClassFile.FieldType.int)) ∈ lw_all := lw_g (lw_at lw_m11 209 rfl) rfl
theorem q2688 : (Jvm.Cond.instanceMethod ({ cls := "CardLoomModel", name := "paper", desc := "(I)I" } : Jvm.MethodName)) ∈ lw_all := lw_g (lw_at lw_m11 211 rfl) rfl
theorem q2689 : (Jvm.Cond.selects "CardLoomModel" ({ cls := "CardLoomModel", name := "paper", desc := "(I)I" } : Jvm.MethodName) ({ cls := "CardLoomModel", name := "paper", desc := "(I)I" } : Jvm.MethodName)) ∈ lw_all := lw_g (lw_at lw_m11 212 rfl) rfl
theorem q2690 : (Jvm.Cond.code ({ cls := "CardLoomModel", name := "paper", desc := "(I)I" } : Jvm.MethodName) prog_20_method_68_code (2 : Nat) (Option.some Jvm.ClassFile.FieldType.int)) ∈ lw_all := lw_g (lw_at lw_m11 213 rfl) rfl
theorem q2692 : (Jvm.Cond.instanceMethod ({ cls := "CardLoomModel", name := "told", desc := "(I)I" } : Jvm.MethodName)) ∈ lw_all := lw_g (lw_at lw_m11 215 rfl) rfl
theorem q2693 : (Jvm.Cond.selects "CardLoomModel" ({ cls := "CardLoomModel", name := "told", desc := "(I)I" } : Jvm.MethodName) ({ cls := "CardLoomModel", name := "told", desc := "(I)I" } : Jvm.MethodName)) ∈ lw_all := lw_g (lw_at lw_m11 216 rfl) rfl
theorem q2694 : (Jvm.Cond.code ({ cls := "CardLoomModel", name := "told", desc := "(I)I" } : Jvm.MethodName) prog_20_method_69_code (4 : Nat) (Option.some Jvm.ClassFile.FieldType.int)) ∈ lw_all := lw_g (lw_at lw_m11 217 rfl) rfl
theorem q2695 : (Jvm.Cond.methodLink "CardLoomModel" (251 : Nat) ({ cls := "java/lang/Math", name := "abs", desc := "(I)I" } : Jvm.MethodName)) ∈ lw_all := lw_g (lw_at lw_m11 218 rfl) rfl
theorem q2697 : (Jvm.Cond.instanceMethod ({ cls := "CardLoomModel", name := "list", desc := "(II)I" } : Jvm.MethodName)) ∈ lw_all := lw_g (lw_at lw_m11 220 rfl) rfl
theorem q2698 : (Jvm.Cond.selects "CardLoomModel" ({ cls := "CardLoomModel", name := "list", desc := "(II)I" } : Jvm.MethodName) ({ cls := "CardLoomModel", name := "list", desc := "(II)I" } : Jvm.MethodName)) ∈ lw_all := lw_g (lw_at lw_m11 221 rfl) rfl
theorem q2699 : (Jvm.Cond.code ({ cls := "CardLoomModel", name := "list", desc := "(II)I" } : Jvm.MethodName) prog_20_method_71_code (4 : Nat) (Option.some Jvm.ClassFile.FieldType.int)) ∈ lw_all := lw_g (lw_at lw_m11 222 rfl) rfl
theorem q2700 : (Jvm.Cond.methodLink "CardLoomModel" (254 : Nat) ({ cls := "CardLoomModel", name := "isList", desc := "(I)Z" } : Jvm.MethodName)) ∈ lw_all := lw_g (lw_at lw_m11 223 rfl) rfl
theorem q2701 : (Jvm.Cond.static ({ cls := "CardLoomModel", name := "isList", desc := "(I)Z" } : Jvm.MethodName)) ∈ lw_all := lw_g (lw_at lw_m11 224 rfl) rfl
theorem q2702 : (Jvm.Cond.code ({ cls := "CardLoomModel", name := "isList", desc := "(I)Z" } : Jvm.MethodName) prog_20_method_70_code (1 : Nat) (Option.some Jvm.ClassFile.FieldType.boolean)) ∈ lw_all := lw_g (lw_at lw_m11 225 rfl) rfl
theorem q2704 : (Jvm.Cond.instanceMethod ({ cls := "CardLoomModel", name := "set", desc := "(III)I" } : Jvm.MethodName)) ∈ lw_all := lw_g (lw_at lw_m11 227 rfl) rfl
theorem q2705 : (Jvm.Cond.selects "CardLoomModel" ({ cls := "CardLoomModel", name := "set", desc := "(III)I" } : Jvm.MethodName) ({ cls := "CardLoomModel", name := "set", desc := "(III)I" } : Jvm.MethodName)) ∈ lw_all := lw_g (lw_at lw_m11 228 rfl) rfl
theorem q2706 : (Jvm.Cond.code ({ cls := "CardLoomModel", name := "set", desc := "(III)I" } : Jvm.MethodName) prog_20_method_72_code (4 : Nat) (Option.some Jvm.ClassFile.FieldType.int)) ∈ lw_all := lw_g (lw_at lw_m11 229 rfl) rfl
theorem q2708 : (Jvm.Cond.instanceMethod ({ cls := "CardLoomModel", name := "get", desc := "(II)I" } : Jvm.MethodName)) ∈ lw_all := lw_g (lw_at lw_m11 231 rfl) rfl
theorem q2709 : (Jvm.Cond.selects "CardLoomModel" ({ cls := "CardLoomModel", name := "get", desc := "(II)I" } : Jvm.MethodName) ({ cls := "CardLoomModel", name := "get", desc := "(II)I" } : Jvm.MethodName)) ∈ lw_all := lw_g (lw_at lw_m11 232 rfl) rfl
theorem q2710 : (Jvm.Cond.code ({ cls := "CardLoomModel", name := "get", desc := "(II)I" } : Jvm.MethodName) prog_20_method_73_code (3 : Nat) (Option.some Jvm.ClassFile.FieldType.int)) ∈ lw_all := lw_g (lw_at lw_m11 233 rfl) rfl
theorem q2711 : (Jvm.Cond.constant "CardLoomModel" (257 : Nat) (-2000000000 : Int32)) ∈ lw_all := lw_g (lw_at lw_m11 234 rfl) rfl
theorem q2713 : (Jvm.Cond.instanceMethod ({ cls := "CardLoomModel", name := "lay", desc := "(III)I" } : Jvm.MethodName)) ∈ lw_all := lw_g (lw_at lw_m11 236 rfl) rfl
theorem q2714 : (Jvm.Cond.selects "CardLoomModel" ({ cls := "CardLoomModel", name := "lay", desc := "(III)I" } : Jvm.MethodName) ({ cls := "CardLoomModel", name := "lay", desc := "(III)I" } : Jvm.MethodName)) ∈ lw_all := lw_g (lw_at lw_m11 237 rfl) rfl
theorem q2715 : (Jvm.Cond.code ({ cls := "CardLoomModel", name := "lay", desc := "(III)I" } : Jvm.MethodName) prog_20_method_74_code (5 : Nat) (Option.some Jvm.ClassFile.FieldType.int)) ∈ lw_all := lw_g (lw_at lw_m11 238 rfl) rfl
theorem q2717 : (Jvm.Cond.instanceMethod ({ cls := "CardLoomModel", name := "judge", desc := "(III)I" } : Jvm.MethodName)) ∈ lw_all := lw_g (lw_at lw_m12 0 rfl) rfl
theorem q2718 : (Jvm.Cond.selects "CardLoomModel" ({ cls := "CardLoomModel", name := "judge", desc := "(III)I" } : Jvm.MethodName) ({ cls := "CardLoomModel", name := "judge", desc := "(III)I" } : Jvm.MethodName)) ∈ lw_all := lw_g (lw_at lw_m12 1 rfl) rfl
theorem q2719 : (Jvm.Cond.code ({ cls := "CardLoomModel", name := "judge", desc := "(III)I" } : Jvm.MethodName) prog_20_method_75_code (5 : Nat) (Option.some Jvm.ClassFile.FieldType.int)) ∈ lw_all := lw_g (lw_at lw_m12 2 rfl) rfl
theorem q2721 : (Jvm.Cond.instanceMethod ({ cls := "CardLoomModel", name := "image", desc := "()I" } : Jvm.MethodName)) ∈ lw_all := lw_g (lw_at lw_m12 4 rfl) rfl
theorem q2722 : (Jvm.Cond.selects "CardLoomModel" ({ cls := "CardLoomModel", name := "image", desc := "()I" } : Jvm.MethodName) ({ cls := "CardLoomModel", name := "image", desc := "()I" } : Jvm.MethodName)) ∈ lw_all := lw_g (lw_at lw_m12 5 rfl) rfl
theorem q2723 : (Jvm.Cond.code ({ cls := "CardLoomModel", name := "image", desc := "()I" } : Jvm.MethodName) prog_20_method_78_code (1 : Nat) (Option.some Jvm.ClassFile.FieldType.int)) ∈ lw_all := lw_g (lw_at lw_m12 6 rfl) rfl
theorem q2724 : (Jvm.Cond.methodLink "CardLoomModel" (266 : Nat) ({ cls := "CardLoomModel", name := "copyAll", desc := "(Z)V" } : Jvm.MethodName)) ∈ lw_all := lw_g (lw_at lw_m12 7 rfl) rfl
theorem q2725 : (Jvm.Cond.privateMethod ({ cls := "CardLoomModel", name := "copyAll", desc := "(Z)V" } : Jvm.MethodName)) ∈ lw_tbl := lw_at lw_m12 8 rfl
theorem q2726 : (Jvm.Cond.instanceMethod ({ cls := "CardLoomModel", name := "copyAll", desc := "(Z)V" } : Jvm.MethodName)) ∈ lw_all := lw_g (lw_at lw_m12 9 rfl) rfl
theorem q2727 : (Jvm.Cond.code ({ cls := "CardLoomModel", name := "copyAll", desc := "(Z)V" } : Jvm.MethodName) prog_20_method_77_code (2 : Nat) (Option.none : Option Jvm.ClassFile.FieldType)) ∈ lw_all := lw_g (lw_at lw_m12 10 rfl) rfl
theorem q2728 : (Jvm.Cond.methodLink "CardLoomModel" (258 : Nat) ({ cls := "CardLoomModel", name := "copy", desc := "([IZ)V" } : Jvm.MethodName)) ∈ lw_all := lw_g (lw_at lw_m12 11 rfl) rfl
theorem q2729 : (Jvm.Cond.static ({ cls := "CardLoomModel", name := "copy", desc := "([IZ)V" } : Jvm.MethodName)) ∈ lw_all := lw_g (lw_at lw_m12 12 rfl) rfl
theorem q2730 : (Jvm.Cond.code ({ cls := "CardLoomModel", name := "copy", desc := "([IZ)V" } : Jvm.MethodName) prog_20_method_76_code (4 : Nat) (Option.none : Option Jvm.ClassFile.FieldType)) ∈ lw_all := lw_g (lw_at lw_m12 13 rfl) rfl
theorem q2732 : (Jvm.Cond.instanceMethod ({ cls := "CardLoomModel", name := "undo", desc := "()I" } : Jvm.MethodName)) ∈ lw_all := lw_g (lw_at lw_m12 15 rfl) rfl
theorem q2733 : (Jvm.Cond.selects "CardLoomModel" ({ cls := "CardLoomModel", name := "undo", desc := "()I" } : Jvm.MethodName) ({ cls := "CardLoomModel", name := "undo", desc := "()I" } : Jvm.MethodName)) ∈ lw_all := lw_g (lw_at lw_m12 16 rfl) rfl
theorem q2734 : (Jvm.Cond.code ({ cls := "CardLoomModel", name := "undo", desc := "()I" } : Jvm.MethodName) prog_20_method_79_code (1 : Nat) (Option.some Jvm.ClassFile.FieldType.int)) ∈ lw_all := lw_g (lw_at lw_m12 17 rfl) rfl
theorem q2758 : (Jvm.Cond.castable "CardLoomModel" "java/lang/Object") ∈ lw_tbl := lw_at lw_m12 41 rfl
theorem in_X3 : ∀ w ∈ wsX30, w ∈ lw_all := lw_in wsX30 [2343, 2345, 2347, 2349, 2351, 2353, 2355, 2357, 2359, 2361, 2363, 2365, 2367, 2369, 2371, 2373, 2375, 2377, 2379, 2381, 2383, 2385, 2387, 2389, 2391, 2393, 2395, 2397, 2399, 2401, 2403, 2405, 2407, 2409, 2411, 2413, 2415, 2417, 2419, 2421, 2423] (by decide +kernel) (by decide +kernel)
