/-! CardLoom$Turning -/
set_option maxRecDepth 100000
def RX1 : String := "CardLoom$Turning"
abbrev cX1_other : ByteArray := prog_13_method_7_code
def yX1_other : MethodName := ⟨RX1, "other", "()LCardLoom$Turning;"⟩
theorem dX1_other_0 : decode cX1_other 0 = .ok (.aload_n 0, 1) := by decide +kernel
theorem dX1_other_1 : decode cX1_other 1 = .ok (.areturn, 1) := by decide +kernel
abbrev cX1_at : ByteArray := prog_13_method_8_code
def yX1_at : MethodName := ⟨RX1, "at", "(I)LCardLoom$Turning;"⟩
def dkwX1_at_2 : List UInt8 := [178, 0, 7, 176, 178, 0, 10, 176, 178, 0, 13, 176, 178, 0, 3, 176]
abbrev dktX1_at_2 : List UInt8 := dkwX1_at_2 ++ []
def dkwX1_at_1 : List UInt8 := [170, 0, 0, 0, 0, 0, 39, 0, 0, 0, 1, 0, 0, 0, 3, 0, 0, 0, 27, 0, 0, 0, 31, 0, 0, 0, 35]
abbrev dktX1_at_1 : List UInt8 := dkwX1_at_1 ++ dktX1_at_2
def dkwX1_at_0 : List UInt8 := [26]
abbrev dktX1_at_0 : List UInt8 := dkwX1_at_0 ++ dktX1_at_1
theorem dksX1_at_0 : cX1_at.data.toList.drop 0 = dktX1_at_0 := by decide +kernel
theorem dksX1_at_1 : cX1_at.data.toList.drop 1 = dktX1_at_1 := dk_seg dksX1_at_0 1 rfl rfl
theorem dksX1_at_2 : cX1_at.data.toList.drop 28 = dktX1_at_2 := dk_seg dksX1_at_1 27 rfl rfl
theorem dX1_at_0 : decode cX1_at 0 = .ok (.iload_n 0, 1) := dk_26 (dk_at dksX1_at_0 0 rfl rfl)
theorem dX1_at_1 : decode cX1_at 1 = .ok (.tableswitch 39 1 3 #[27, 31, 35], 27) := by decide +kernel
theorem dX1_at_28 : decode cX1_at 28 = .ok (.getstatic 7, 3) := dk_178 0 7 (dk_at dksX1_at_2 0 rfl rfl)
theorem dX1_at_31 : decode cX1_at 31 = .ok (.areturn, 1) := dk_176 (dk_at dksX1_at_2 3 rfl rfl)
theorem dX1_at_32 : decode cX1_at 32 = .ok (.getstatic 10, 3) := dk_178 0 10 (dk_at dksX1_at_2 4 rfl rfl)
theorem dX1_at_35 : decode cX1_at 35 = .ok (.areturn, 1) := dk_176 (dk_at dksX1_at_2 7 rfl rfl)
theorem dX1_at_36 : decode cX1_at 36 = .ok (.getstatic 13, 3) := dk_178 0 13 (dk_at dksX1_at_2 8 rfl rfl)
theorem dX1_at_39 : decode cX1_at 39 = .ok (.areturn, 1) := dk_176 (dk_at dksX1_at_2 11 rfl rfl)
theorem dX1_at_40 : decode cX1_at 40 = .ok (.getstatic 3, 3) := dk_178 0 3 (dk_at dksX1_at_2 12 rfl rfl)
theorem dX1_at_43 : decode cX1_at 43 = .ok (.areturn, 1) := dk_176 (dk_at dksX1_at_2 15 rfl rfl)
abbrev cX1_twist : ByteArray := prog_13_method_6_code
def yX1_twist : MethodName := ⟨RX1, "twist", "()I"⟩
theorem dX1_twist_0 : decode cX1_twist 0 = .ok (.aload_n 0, 1) := by decide +kernel
theorem dX1_twist_1 : decode cX1_twist 1 = .ok (.invokevirtual 39, 3) := by decide +kernel
theorem dX1_twist_4 : decode cX1_twist 4 = .ok (.ireturn, 1) := by decide +kernel
theorem q83 : (Jvm.Cond.initialized "CardLoom$Turning") ∈ lw_all := lw_g (lw_at lw_m1 6 rfl) rfl
theorem q176 : (Jvm.Cond.laysStatic "CardLoom$Turning" "IDLE" "LCardLoom$Turning;") ∈ lw_tbl := lw_at lw_m1 99 rfl
theorem q643 : (Jvm.Cond.instanceMethod ({ cls := "CardLoom$Turning", name := "other", desc := "()LCardLoom$Turning;" } : Jvm.MethodName)) ∈ lw_all := lw_g (lw_at lw_m3 86 rfl) rfl
theorem q644 : (Jvm.Cond.sameMethod "CardLoom$Turning" "CardLoom$Turning" "other" "()LCardLoom$Turning;") ∈ lw_all := lw_g (lw_at lw_m3 87 rfl) rfl
theorem q651 : (Jvm.Cond.laysStatic "CardLoom$Turning" "BACK" "LCardLoom$Turning;") ∈ lw_tbl := lw_at lw_m3 94 rfl
theorem q657 : (Jvm.Cond.laysStatic "CardLoom$Turning" "FORWARD" "LCardLoom$Turning;") ∈ lw_tbl := lw_at lw_m3 100 rfl
theorem q659 : (Jvm.Cond.code ({ cls := "CardLoom$Turning", name := "other", desc := "()LCardLoom$Turning;" } : Jvm.MethodName) prog_13_method_7_code (1 : Nat) (Option.some (Jvm.ClassFile.FieldType.object "CardLoom$Turning"))) ∈ lw_all := lw_g (lw_at lw_m3 102 rfl) rfl
theorem q666 : (Jvm.Cond.static ({ cls := "CardLoom$Turning", name := "at", desc := "(I)LCardLoom$Turning;" } : Jvm.MethodName)) ∈ lw_all := lw_g (lw_at lw_m3 109 rfl) rfl
theorem q667 : (Jvm.Cond.code ({ cls := "CardLoom$Turning", name := "at", desc := "(I)LCardLoom$Turning;" } : Jvm.MethodName) prog_13_method_8_code (1 : Nat) (Option.some (Jvm.ClassFile.FieldType.object "CardLoom$Turning"))) ∈ lw_all := lw_g (lw_at lw_m3 110 rfl) rfl
theorem q668 : (Jvm.Cond.fieldLink "CardLoom$Turning" (7 : Nat) "CardLoom$Turning" "FORWARD" "LCardLoom$Turning;") ∈ lw_all := lw_g (lw_at lw_m3 111 rfl) rfl
theorem q669 : (Jvm.Cond.fieldLink "CardLoom$Turning" (10 : Nat) "CardLoom$Turning" "BACK" "LCardLoom$Turning;") ∈ lw_all := lw_g (lw_at lw_m3 112 rfl) rfl
theorem q670 : (Jvm.Cond.fieldLink "CardLoom$Turning" (13 : Nat) "CardLoom$Turning" "HALF" "LCardLoom$Turning;") ∈ lw_all := lw_g (lw_at lw_m3 113 rfl) rfl
theorem q671 : (Jvm.Cond.laysStatic "CardLoom$Turning" "HALF" "LCardLoom$Turning;") ∈ lw_tbl := lw_at lw_m3 114 rfl
theorem q672 : (Jvm.Cond.fieldLink "CardLoom$Turning" (3 : Nat) "CardLoom$Turning" "IDLE" "LCardLoom$Turning;") ∈ lw_all := lw_g (lw_at lw_m3 115 rfl) rfl
theorem q914 : (Jvm.Cond.instanceMethod ({ cls := "CardLoom$Turning", name := "twist", desc := "()I" } : Jvm.MethodName)) ∈ lw_all := lw_g (lw_at lw_m4 117 rfl) rfl
theorem q915 : (Jvm.Cond.sameMethod "CardLoom$Turning" "CardLoom$Turning" "twist" "()I") ∈ lw_all := lw_g (lw_at lw_m4 118 rfl) rfl
theorem q922 : (Jvm.Cond.code ({ cls := "CardLoom$Turning", name := "twist", desc := "()I" } : Jvm.MethodName) prog_13_method_6_code (1 : Nat) (Option.some Jvm.ClassFile.FieldType.int)) ∈ lw_all := lw_g (lw_at lw_m4 125 rfl) rfl
theorem q923 : (Jvm.Cond.methodLink "CardLoom$Turning" (39 : Nat) ({ cls := "CardLoom$Turning", name := "quarters", desc := "()I" } : Jvm.MethodName)) ∈ lw_all := lw_g (lw_at lw_m4 126 rfl) rfl
theorem q924 : (Jvm.Cond.declares ({ cls := "CardLoom$Turning", name := "quarters", desc := "()I" } : Jvm.MethodName)) ∈ lw_tbl := lw_at lw_m4 127 rfl
theorem q925 : (Jvm.Cond.sameMethod "CardLoom$Turning" "CardLoom$Turning" "quarters" "()I") ∈ lw_all := lw_g (lw_at lw_m4 128 rfl) rfl
theorem q963 : (Jvm.Cond.declares ({ cls := "CardLoom$Turning", name := "lean", desc := "(I)I" } : Jvm.MethodName)) ∈ lw_tbl := lw_at lw_m4 166 rfl
theorem q964 : (Jvm.Cond.sameMethod "CardLoom$Turning" "CardLoom$Turning" "lean" "(I)I") ∈ lw_all := lw_g (lw_at lw_m4 167 rfl) rfl
theorem q2754 : (Jvm.Cond.castable "CardLoom$Turning" "java/lang/Object") ∈ lw_tbl := lw_at lw_m12 37 rfl
/-! CardLoom$Colour -/
set_option maxRecDepth 100000
def RX2 : String := "CardLoom$Colour"
def TX2 : u_T := fun k => match k with
  | _ => ("CardLoom$Colour", "number", "I", true)
def tyX2 : Nat → FieldType := fun k => match k with
  | _ => .int
abbrev wsX20 : List Cond := u_ws RX2 TX2 1
theorem nmX2 : ∀ a, a < 1 → ∀ b, b < 1 → a ≠ b → (TX2 a).2.1 ≠ (TX2 b).2.1 := by decide +kernel
theorem tyX2_ok : ∀ k, k < 1 → parseFieldDescriptor (TX2 k).2.2.1 = some (tyX2 k) := by decide +kernel
abbrev cX2_init : ByteArray := prog_7_method_1_code
def yX2_init : MethodName := ⟨RX2, "<init>", "(I)V"⟩
def dkwX2_init_0 : List UInt8 := [42, 183, 0, 1, 42, 27, 181, 0, 7, 177]
abbrev dktX2_init_0 : List UInt8 := dkwX2_init_0 ++ []
theorem dksX2_init_0 : cX2_init.data.toList.drop 0 = dktX2_init_0 := by decide +kernel
theorem dX2_init_0 : decode cX2_init 0 = .ok (.aload_n 0, 1) := dk_42 (dk_at dksX2_init_0 0 rfl rfl)
theorem dX2_init_1 : decode cX2_init 1 = .ok (.invokespecial 1, 3) := dk_183 0 1 (dk_at dksX2_init_0 1 rfl rfl)
theorem dX2_init_4 : decode cX2_init 4 = .ok (.aload_n 0, 1) := dk_42 (dk_at dksX2_init_0 4 rfl rfl)
theorem dX2_init_5 : decode cX2_init 5 = .ok (.iload_n 1, 1) := dk_27 (dk_at dksX2_init_0 5 rfl rfl)
theorem dX2_init_6 : decode cX2_init 6 = .ok (.putfield 7, 3) := dk_181 0 7 (dk_at dksX2_init_0 6 rfl rfl)
theorem dX2_init_9 : decode cX2_init 9 = .ok (.return_, 1) := dk_177 (dk_at dksX2_init_0 9 rfl rfl)
abbrev cX2_compareTo : ByteArray := prog_7_method_2_code
def yX2_compareTo : MethodName := ⟨RX2, "compareTo", "(LCardLoom$Colour;)I"⟩
def dkwX2_compareTo_0 : List UInt8 := [42, 180, 0, 7, 43, 180, 0, 7, 100, 172]
abbrev dktX2_compareTo_0 : List UInt8 := dkwX2_compareTo_0 ++ []
theorem dksX2_compareTo_0 : cX2_compareTo.data.toList.drop 0 = dktX2_compareTo_0 := by decide +kernel
theorem dX2_compareTo_0 : decode cX2_compareTo 0 = .ok (.aload_n 0, 1) := dk_42 (dk_at dksX2_compareTo_0 0 rfl rfl)
theorem dX2_compareTo_1 : decode cX2_compareTo 1 = .ok (.getfield 7, 3) := dk_180 0 7 (dk_at dksX2_compareTo_0 1 rfl rfl)
theorem dX2_compareTo_4 : decode cX2_compareTo 4 = .ok (.aload_n 1, 1) := dk_43 (dk_at dksX2_compareTo_0 4 rfl rfl)
theorem dX2_compareTo_5 : decode cX2_compareTo 5 = .ok (.getfield 7, 3) := dk_180 0 7 (dk_at dksX2_compareTo_0 5 rfl rfl)
theorem dX2_compareTo_8 : decode cX2_compareTo 8 = .ok (.isub, 1) := dk_100 (dk_at dksX2_compareTo_0 8 rfl rfl)
theorem dX2_compareTo_9 : decode cX2_compareTo 9 = .ok (.ireturn, 1) := dk_172 (dk_at dksX2_compareTo_0 9 rfl rfl)
abbrev cX2_compareTo_2 : ByteArray := prog_7_method_3_code
def yX2_compareTo_2 : MethodName := ⟨RX2, "compareTo", "(Ljava/lang/Object;)I"⟩
def dkwX2_compareTo_2_0 : List UInt8 := [42, 43, 192, 0, 8, 182, 0, 13, 172]
abbrev dktX2_compareTo_2_0 : List UInt8 := dkwX2_compareTo_2_0 ++ []
theorem dksX2_compareTo_2_0 : cX2_compareTo_2.data.toList.drop 0 = dktX2_compareTo_2_0 := by decide +kernel
theorem dX2_compareTo_2_0 : decode cX2_compareTo_2 0 = .ok (.aload_n 0, 1) := dk_42 (dk_at dksX2_compareTo_2_0 0 rfl rfl)
theorem dX2_compareTo_2_1 : decode cX2_compareTo_2 1 = .ok (.aload_n 1, 1) := dk_43 (dk_at dksX2_compareTo_2_0 1 rfl rfl)
theorem dX2_compareTo_2_2 : decode cX2_compareTo_2 2 = .ok (.checkcast 8, 3) := dk_192 0 8 (dk_at dksX2_compareTo_2_0 2 rfl rfl)
theorem dX2_compareTo_2_5 : decode cX2_compareTo_2 5 = .ok (.invokevirtual 13, 3) := dk_182 0 13 (dk_at dksX2_compareTo_2_0 5 rfl rfl)
theorem dX2_compareTo_2_8 : decode cX2_compareTo_2 8 = .ok (.ireturn, 1) := dk_172 (dk_at dksX2_compareTo_2_0 8 rfl rfl)
theorem q84 : (Jvm.Cond.initialized "CardLoom$Colour") ∈ lw_all := lw_g (lw_at lw_m1 7 rfl) rfl
theorem q184 : (Jvm.Cond.instantiable "CardLoom$Colour" (1 : Nat)) ∈ lw_all := lw_g (lw_at lw_m1 107 rfl) rfl
theorem q186 : (Jvm.Cond.instanceMethod ({ cls := "CardLoom$Colour", name := "<init>", desc := "(I)V" } : Jvm.MethodName)) ∈ lw_all := lw_g (lw_at lw_m1 109 rfl) rfl
theorem q187 : (Jvm.Cond.code ({ cls := "CardLoom$Colour", name := "<init>", desc := "(I)V" } : Jvm.MethodName) prog_7_method_1_code (2 : Nat) (Option.none : Option Jvm.ClassFile.FieldType)) ∈ lw_all := lw_g (lw_at lw_m1 110 rfl) rfl
theorem q188 : (Jvm.Cond.methodLink "CardLoom$Colour" (1 : Nat) ({ cls := "java/lang/Object", name := "<init>", desc := "()V" } : Jvm.MethodName)) ∈ lw_all := lw_g (lw_at lw_m1 111 rfl) rfl
theorem q189 : (Jvm.Cond.fieldLink "CardLoom$Colour" (7 : Nat) "CardLoom$Colour" "number" "I") ∈ lw_all := lw_g (lw_at lw_m1 112 rfl) rfl
theorem q191 : (Jvm.Cond.laysFinal "CardLoom$Colour" "CardLoom$Colour" "number" "I") ∈ lw_all := lw_g (lw_at lw_m1 114 rfl) rfl
theorem q192 : (Jvm.Cond.soleField "CardLoom$Colour" "number") ∈ lw_all := lw_g (lw_at lw_m1 115 rfl) rfl
theorem q193 : (Jvm.Cond.superclass "CardLoom$Colour" "java/lang/Object") ∈ lw_all := lw_g (lw_at lw_m1 116 rfl) rfl
theorem q436 : (Jvm.Cond.selects "CardLoom$Colour" ({ cls := "java/lang/Object", name := "getClass", desc := "()Ljava/lang/Class;" } : Jvm.MethodName) ({ cls := "java/lang/Object", name := "getClass", desc := "()Ljava/lang/Class;" } : Jvm.MethodName)) ∈ lw_all := lw_g (lw_at lw_m2 119 rfl) rfl
theorem q1199 : (Jvm.Cond.instanceMethod ({ cls := "CardLoom$Colour", name := "compareTo", desc := "(LCardLoom$Colour;)I" } : Jvm.MethodName)) ∈ lw_all := lw_g (lw_at lw_m5 162 rfl) rfl
theorem q1200 : (Jvm.Cond.selects "CardLoom$Colour" ({ cls := "CardLoom$Colour", name := "compareTo", desc := "(LCardLoom$Colour;)I" } : Jvm.MethodName) ({ cls := "CardLoom$Colour", name := "compareTo", desc := "(LCardLoom$Colour;)I" } : Jvm.MethodName)) ∈ lw_all := lw_g (lw_at lw_m5 163 rfl) rfl
theorem q1201 : (Jvm.Cond.code ({ cls := "CardLoom$Colour", name := "compareTo", desc := "(LCardLoom$Colour;)I" } : Jvm.MethodName) prog_7_method_2_code (2 : Nat) (Option.some Jvm.ClassFile.FieldType.int)) ∈ lw_all := lw_g (lw_at lw_m5 164 rfl) rfl
theorem q1221 : (Jvm.Cond.castable "CardLoom$Colour" "java/lang/Comparable") ∈ lw_tbl := lw_at lw_m5 184 rfl
theorem q1222 : (Jvm.Cond.selects "CardLoom$Colour" ({ cls := "java/lang/Comparable", name := "compareTo", desc := "(Ljava/lang/Object;)I" } : Jvm.MethodName) ({ cls := "CardLoom$Colour", name := "compareTo", desc := "(Ljava/lang/Object;)I" } : Jvm.MethodName)) ∈ lw_all := lw_g (lw_at lw_m5 185 rfl) rfl
theorem q1223 : (Jvm.Cond.unhidden "CardLoom$Colour" "compareTo" "(Ljava/lang/Object;)I") ∈ lw_tbl := lw_at lw_m5 186 rfl
theorem q1224 : (Jvm.Cond.instanceMethod ({ cls := "CardLoom$Colour", name := "compareTo", desc := "(Ljava/lang/Object;)I" } : Jvm.MethodName)) ∈ lw_all := lw_g (lw_at lw_m5 187 rfl) rfl
theorem q1225 : (Jvm.Cond.publicMethod ({ cls := "CardLoom$Colour", name := "compareTo", desc := "(Ljava/lang/Object;)I" } : Jvm.MethodName)) ∈ lw_tbl := lw_at lw_m5 188 rfl
theorem q1226 : (Jvm.Cond.code ({ cls := "CardLoom$Colour", name := "compareTo", desc := "(Ljava/lang/Object;)I" } : Jvm.MethodName) prog_7_method_3_code (2 : Nat) (Option.some Jvm.ClassFile.FieldType.int)) ∈ lw_all := lw_g (lw_at lw_m5 189 rfl) rfl
theorem q1227 : (Jvm.Cond.classLink "CardLoom$Colour" (8 : Nat) "CardLoom$Colour") ∈ lw_all := lw_g (lw_at lw_m5 190 rfl) rfl
theorem q1228 : (Jvm.Cond.methodLink "CardLoom$Colour" (13 : Nat) ({ cls := "CardLoom$Colour", name := "compareTo", desc := "(LCardLoom$Colour;)I" } : Jvm.MethodName)) ∈ lw_all := lw_g (lw_at lw_m5 191 rfl) rfl
theorem q2753 : (Jvm.Cond.castable "CardLoom$Colour" "java/lang/Object") ∈ lw_tbl := lw_at lw_m12 36 rfl
theorem in_X2 : ∀ w ∈ wsX20, w ∈ lw_all := lw_in wsX20 [191] (by decide +kernel) (by decide +kernel)
/-! CardLoom$Reader -/
set_option maxRecDepth 100000
def RX4 : String := "CardLoom$Reader"
def TX4 : u_T := fun k => match k with
  | 0 => ("CardLoom$Reader", "at", "I", false)
  | 1 => ("CardLoom$Reader", "letters", "I", false)
  | _ => ("CardLoom$Reader", "this$0", "LCardLoom;", true)
def tyX4 : Nat → FieldType := fun k => match k with
  | 0 => .int
  | 1 => .int
  | _ => .object "CardLoom"
abbrev wsX40 : List Cond := u_ws RX4 TX4 3
theorem nmX4 : ∀ a, a < 3 → ∀ b, b < 3 → a ≠ b → (TX4 a).2.1 ≠ (TX4 b).2.1 := by decide +kernel
theorem tyX4_ok : ∀ k, k < 3 → parseFieldDescriptor (TX4 k).2.2.1 = some (tyX4 k) := by decide +kernel
abbrev cX4_init : ByteArray := prog_11_method_1_code
def yX4_init : MethodName := ⟨RX4, "<init>", "(LCardLoom;)V"⟩
def dkwX4_init_0 : List UInt8 := [42, 43, 181, 0, 3, 42, 183, 0, 9, 177]
abbrev dktX4_init_0 : List UInt8 := dkwX4_init_0 ++ []
theorem dksX4_init_0 : cX4_init.data.toList.drop 0 = dktX4_init_0 := by decide +kernel
theorem dX4_init_0 : decode cX4_init 0 = .ok (.aload_n 0, 1) := dk_42 (dk_at dksX4_init_0 0 rfl rfl)
theorem dX4_init_1 : decode cX4_init 1 = .ok (.aload_n 1, 1) := dk_43 (dk_at dksX4_init_0 1 rfl rfl)
theorem dX4_init_2 : decode cX4_init 2 = .ok (.putfield 3, 3) := dk_181 0 3 (dk_at dksX4_init_0 2 rfl rfl)
theorem dX4_init_5 : decode cX4_init 5 = .ok (.aload_n 0, 1) := dk_42 (dk_at dksX4_init_0 5 rfl rfl)
theorem dX4_init_6 : decode cX4_init 6 = .ok (.invokespecial 9, 3) := dk_183 0 9 (dk_at dksX4_init_0 6 rfl rfl)
theorem dX4_init_9 : decode cX4_init 9 = .ok (.return_, 1) := dk_177 (dk_at dksX4_init_0 9 rfl rfl)
abbrev cX4_threading : ByteArray := prog_11_method_11_code
def yX4_threading : MethodName := ⟨RX4, "threading", "()Ljava/util/ArrayList;"⟩
def dkwX4_threading_3 : List UInt8 := [187, 0, 30, 89, 42, 180, 0, 15, 183, 0, 32, 191, 43, 176]
abbrev dktX4_threading_3 : List UInt8 := dkwX4_threading_3 ++ []
def dkwX4_threading_2 : List UInt8 := [182, 0, 118, 182, 0, 122, 87, 167, 255, 219, 42, 180, 0, 15, 42, 180, 0, 3, 180, 0, 19, 162, 0, 15]
abbrev dktX4_threading_2 : List UInt8 := dkwX4_threading_2 ++ dktX4_threading_3
def dkwX4_threading_1 : List UInt8 := [162, 0, 34, 42, 182, 0, 26, 16, 59, 160, 0, 25, 42, 89, 180, 0, 15, 4, 96, 181, 0, 15, 43, 42]
abbrev dktX4_threading_1 : List UInt8 := dkwX4_threading_1 ++ dktX4_threading_2
def dkwX4_threading_0 : List UInt8 := [187, 0, 115, 89, 183, 0, 117, 76, 43, 42, 182, 0, 118, 182, 0, 122, 87, 43, 182, 0, 126, 16, 10]
abbrev dktX4_threading_0 : List UInt8 := dkwX4_threading_0 ++ dktX4_threading_1
theorem dksX4_threading_0 : cX4_threading.data.toList.drop 0 = dktX4_threading_0 := by decide +kernel
theorem dksX4_threading_1 : cX4_threading.data.toList.drop 23 = dktX4_threading_1 := dk_seg dksX4_threading_0 23 rfl rfl
theorem dksX4_threading_2 : cX4_threading.data.toList.drop 47 = dktX4_threading_2 := dk_seg dksX4_threading_1 24 rfl rfl
theorem dksX4_threading_3 : cX4_threading.data.toList.drop 71 = dktX4_threading_3 := dk_seg dksX4_threading_2 24 rfl rfl
theorem dX4_threading_0 : decode cX4_threading 0 = .ok (.new 115, 3) := dk_187 0 115 (dk_at dksX4_threading_0 0 rfl rfl)
theorem dX4_threading_3 : decode cX4_threading 3 = .ok (.dup, 1) := dk_89 (dk_at dksX4_threading_0 3 rfl rfl)
theorem dX4_threading_4 : decode cX4_threading 4 = .ok (.invokespecial 117, 3) := dk_183 0 117 (dk_at dksX4_threading_0 4 rfl rfl)
theorem dX4_threading_7 : decode cX4_threading 7 = .ok (.astore_n 1, 1) := dk_76 (dk_at dksX4_threading_0 7 rfl rfl)
theorem dX4_threading_8 : decode cX4_threading 8 = .ok (.aload_n 1, 1) := dk_43 (dk_at dksX4_threading_0 8 rfl rfl)
theorem dX4_threading_9 : decode cX4_threading 9 = .ok (.aload_n 0, 1) := dk_42 (dk_at dksX4_threading_0 9 rfl rfl)
theorem dX4_threading_10 : decode cX4_threading 10 = .ok (.invokevirtual 118, 3) := dk_182 0 118 (dk_at dksX4_threading_0 10 rfl rfl)
theorem dX4_threading_13 : decode cX4_threading 13 = .ok (.invokevirtual 122, 3) := dk_182 0 122 (dk_at dksX4_threading_0 13 rfl rfl)
theorem dX4_threading_16 : decode cX4_threading 16 = .ok (.pop, 1) := dk_87 (dk_at dksX4_threading_0 16 rfl rfl)
theorem dX4_threading_17 : decode cX4_threading 17 = .ok (.aload_n 1, 1) := dk_43 (dk_at dksX4_threading_0 17 rfl rfl)
theorem dX4_threading_18 : decode cX4_threading 18 = .ok (.invokevirtual 126, 3) := dk_182 0 126 (dk_at dksX4_threading_0 18 rfl rfl)
theorem dX4_threading_21 : decode cX4_threading 21 = .ok (.bipush 10, 2) := dk_16 10 (dk_at dksX4_threading_0 21 rfl rfl)
theorem dX4_threading_23 : decode cX4_threading 23 = .ok (.if_icmp .ge 34, 3) := dk_162 0 34 (dk_at dksX4_threading_1 0 rfl rfl)
theorem dX4_threading_26 : decode cX4_threading 26 = .ok (.aload_n 0, 1) := dk_42 (dk_at dksX4_threading_1 3 rfl rfl)
theorem dX4_threading_27 : decode cX4_threading 27 = .ok (.invokevirtual 26, 3) := dk_182 0 26 (dk_at dksX4_threading_1 4 rfl rfl)
theorem dX4_threading_30 : decode cX4_threading 30 = .ok (.bipush 59, 2) := dk_16 59 (dk_at dksX4_threading_1 7 rfl rfl)
theorem dX4_threading_32 : decode cX4_threading 32 = .ok (.if_icmp .ne 25, 3) := dk_160 0 25 (dk_at dksX4_threading_1 9 rfl rfl)
theorem dX4_threading_35 : decode cX4_threading 35 = .ok (.aload_n 0, 1) := dk_42 (dk_at dksX4_threading_1 12 rfl rfl)
theorem dX4_threading_36 : decode cX4_threading 36 = .ok (.dup, 1) := dk_89 (dk_at dksX4_threading_1 13 rfl rfl)
theorem dX4_threading_37 : decode cX4_threading 37 = .ok (.getfield 15, 3) := dk_180 0 15 (dk_at dksX4_threading_1 14 rfl rfl)
theorem dX4_threading_40 : decode cX4_threading 40 = .ok (.iconst 1, 1) := dk_4 (dk_at dksX4_threading_1 17 rfl rfl)
theorem dX4_threading_41 : decode cX4_threading 41 = .ok (.iadd, 1) := dk_96 (dk_at dksX4_threading_1 18 rfl rfl)
theorem dX4_threading_42 : decode cX4_threading 42 = .ok (.putfield 15, 3) := dk_181 0 15 (dk_at dksX4_threading_1 19 rfl rfl)
theorem dX4_threading_45 : decode cX4_threading 45 = .ok (.aload_n 1, 1) := dk_43 (dk_at dksX4_threading_1 22 rfl rfl)
theorem dX4_threading_46 : decode cX4_threading 46 = .ok (.aload_n 0, 1) := dk_42 (dk_at dksX4_threading_1 23 rfl rfl)
theorem dX4_threading_47 : decode cX4_threading 47 = .ok (.invokevirtual 118, 3) := dk_182 0 118 (dk_at dksX4_threading_2 0 rfl rfl)
theorem dX4_threading_50 : decode cX4_threading 50 = .ok (.invokevirtual 122, 3) := dk_182 0 122 (dk_at dksX4_threading_2 3 rfl rfl)
theorem dX4_threading_53 : decode cX4_threading 53 = .ok (.pop, 1) := dk_87 (dk_at dksX4_threading_2 6 rfl rfl)
theorem dX4_threading_54 : decode cX4_threading 54 = .ok (.goto (-37), 3) := dk_167 255 219 (dk_at dksX4_threading_2 7 rfl rfl)
theorem dX4_threading_57 : decode cX4_threading 57 = .ok (.aload_n 0, 1) := dk_42 (dk_at dksX4_threading_2 10 rfl rfl)
theorem dX4_threading_58 : decode cX4_threading 58 = .ok (.getfield 15, 3) := dk_180 0 15 (dk_at dksX4_threading_2 11 rfl rfl)
theorem dX4_threading_61 : decode cX4_threading 61 = .ok (.aload_n 0, 1) := dk_42 (dk_at dksX4_threading_2 14 rfl rfl)
theorem dX4_threading_62 : decode cX4_threading 62 = .ok (.getfield 3, 3) := dk_180 0 3 (dk_at dksX4_threading_2 15 rfl rfl)
theorem dX4_threading_65 : decode cX4_threading 65 = .ok (.getfield 19, 3) := dk_180 0 19 (dk_at dksX4_threading_2 18 rfl rfl)
theorem dX4_threading_68 : decode cX4_threading 68 = .ok (.if_icmp .ge 15, 3) := dk_162 0 15 (dk_at dksX4_threading_2 21 rfl rfl)
theorem dX4_threading_71 : decode cX4_threading 71 = .ok (.new 30, 3) := dk_187 0 30 (dk_at dksX4_threading_3 0 rfl rfl)
theorem dX4_threading_74 : decode cX4_threading 74 = .ok (.dup, 1) := dk_89 (dk_at dksX4_threading_3 3 rfl rfl)
theorem dX4_threading_75 : decode cX4_threading 75 = .ok (.aload_n 0, 1) := dk_42 (dk_at dksX4_threading_3 4 rfl rfl)
theorem dX4_threading_76 : decode cX4_threading 76 = .ok (.getfield 15, 3) := dk_180 0 15 (dk_at dksX4_threading_3 5 rfl rfl)
theorem dX4_threading_79 : decode cX4_threading 79 = .ok (.invokespecial 32, 3) := dk_183 0 32 (dk_at dksX4_threading_3 8 rfl rfl)
theorem dX4_threading_82 : decode cX4_threading 82 = .ok (.athrow, 1) := dk_191 (dk_at dksX4_threading_3 11 rfl rfl)
theorem dX4_threading_83 : decode cX4_threading 83 = .ok (.aload_n 1, 1) := dk_43 (dk_at dksX4_threading_3 12 rfl rfl)
theorem dX4_threading_84 : decode cX4_threading 84 = .ok (.areturn, 1) := dk_176 (dk_at dksX4_threading_3 13 rfl rfl)
abbrev cX4_readCard : ByteArray := prog_11_method_10_code
def yX4_readCard : MethodName := ⟨RX4, "readCard", "()LCardLoom$Card;"⟩
def dkwX4_readCard_5 : List UInt8 := [167, 0, 4, 4, 181, 0, 112, 42, 89, 180, 0, 15, 4, 96, 181, 0, 15, 44, 176]
abbrev dktX4_readCard_5 : List UInt8 := dkwX4_readCard_5 ++ []
def dkwX4_readCard_4 : List UInt8 := [187, 0, 30, 89, 42, 180, 0, 15, 183, 0, 32, 191, 44, 42, 182, 0, 26, 16, 83, 160, 0, 7, 3]
abbrev dktX4_readCard_4 : List UInt8 := dkwX4_readCard_4 ++ dktX4_readCard_5
def dkwX4_readCard_3 : List UInt8 := [183, 0, 109, 77, 42, 182, 0, 26, 16, 83, 159, 0, 24, 42, 182, 0, 26, 16, 90, 159, 0, 15]
abbrev dktX4_readCard_3 : List UInt8 := dkwX4_readCard_3 ++ dktX4_readCard_4
def dkwX4_readCard_2 : List UInt8 := [79, 42, 89, 180, 0, 15, 4, 96, 181, 0, 15, 132, 2, 1, 167, 255, 202, 187, 0, 107, 89, 43]
abbrev dktX4_readCard_2 : List UInt8 := dkwX4_readCard_2 ++ dktX4_readCard_3
def dkwX4_readCard_1 : List UInt8 := [154, 0, 15, 187, 0, 30, 89, 42, 180, 0, 15, 183, 0, 32, 191, 43, 28, 42, 182, 0, 26, 16, 97, 100]
abbrev dktX4_readCard_1 : List UInt8 := dkwX4_readCard_1 ++ dktX4_readCard_2
def dkwX4_readCard_0 : List UInt8 := [7, 188, 10, 76, 3, 61, 28, 7, 162, 0, 55, 42, 182, 0, 26, 16, 97, 16, 106, 184, 0, 35]
abbrev dktX4_readCard_0 : List UInt8 := dkwX4_readCard_0 ++ dktX4_readCard_1
theorem dksX4_readCard_0 : cX4_readCard.data.toList.drop 0 = dktX4_readCard_0 := by decide +kernel
theorem dksX4_readCard_1 : cX4_readCard.data.toList.drop 22 = dktX4_readCard_1 := dk_seg dksX4_readCard_0 22 rfl rfl
theorem dksX4_readCard_2 : cX4_readCard.data.toList.drop 46 = dktX4_readCard_2 := dk_seg dksX4_readCard_1 24 rfl rfl
theorem dksX4_readCard_3 : cX4_readCard.data.toList.drop 68 = dktX4_readCard_3 := dk_seg dksX4_readCard_2 22 rfl rfl
theorem dksX4_readCard_4 : cX4_readCard.data.toList.drop 90 = dktX4_readCard_4 := dk_seg dksX4_readCard_3 22 rfl rfl
theorem dksX4_readCard_5 : cX4_readCard.data.toList.drop 113 = dktX4_readCard_5 := dk_seg dksX4_readCard_4 23 rfl rfl
theorem dX4_readCard_0 : decode cX4_readCard 0 = .ok (.iconst 4, 1) := dk_7 (dk_at dksX4_readCard_0 0 rfl rfl)
theorem dX4_readCard_1 : decode cX4_readCard 1 = .ok (.newarray .int, 2) := dk_188_10 (dk_at dksX4_readCard_0 1 rfl rfl)
theorem dX4_readCard_3 : decode cX4_readCard 3 = .ok (.astore_n 1, 1) := dk_76 (dk_at dksX4_readCard_0 3 rfl rfl)
theorem dX4_readCard_4 : decode cX4_readCard 4 = .ok (.iconst 0, 1) := dk_3 (dk_at dksX4_readCard_0 4 rfl rfl)
theorem dX4_readCard_5 : decode cX4_readCard 5 = .ok (.istore_n 2, 1) := dk_61 (dk_at dksX4_readCard_0 5 rfl rfl)
theorem dX4_readCard_6 : decode cX4_readCard 6 = .ok (.iload_n 2, 1) := dk_28 (dk_at dksX4_readCard_0 6 rfl rfl)
theorem dX4_readCard_7 : decode cX4_readCard 7 = .ok (.iconst 4, 1) := dk_7 (dk_at dksX4_readCard_0 7 rfl rfl)
theorem dX4_readCard_8 : decode cX4_readCard 8 = .ok (.if_icmp .ge 55, 3) := dk_162 0 55 (dk_at dksX4_readCard_0 8 rfl rfl)
theorem dX4_readCard_11 : decode cX4_readCard 11 = .ok (.aload_n 0, 1) := dk_42 (dk_at dksX4_readCard_0 11 rfl rfl)
theorem dX4_readCard_12 : decode cX4_readCard 12 = .ok (.invokevirtual 26, 3) := dk_182 0 26 (dk_at dksX4_readCard_0 12 rfl rfl)
theorem dX4_readCard_15 : decode cX4_readCard 15 = .ok (.bipush 97, 2) := dk_16 97 (dk_at dksX4_readCard_0 15 rfl rfl)
theorem dX4_readCard_17 : decode cX4_readCard 17 = .ok (.bipush 106, 2) := dk_16 106 (dk_at dksX4_readCard_0 17 rfl rfl)
theorem dX4_readCard_19 : decode cX4_readCard 19 = .ok (.invokestatic 35, 3) := dk_184 0 35 (dk_at dksX4_readCard_0 19 rfl rfl)
theorem dX4_readCard_22 : decode cX4_readCard 22 = .ok (.ifCond .ne 15, 3) := dk_154 0 15 (dk_at dksX4_readCard_1 0 rfl rfl)
theorem dX4_readCard_25 : decode cX4_readCard 25 = .ok (.new 30, 3) := dk_187 0 30 (dk_at dksX4_readCard_1 3 rfl rfl)
theorem dX4_readCard_28 : decode cX4_readCard 28 = .ok (.dup, 1) := dk_89 (dk_at dksX4_readCard_1 6 rfl rfl)
theorem dX4_readCard_29 : decode cX4_readCard 29 = .ok (.aload_n 0, 1) := dk_42 (dk_at dksX4_readCard_1 7 rfl rfl)
theorem dX4_readCard_30 : decode cX4_readCard 30 = .ok (.getfield 15, 3) := dk_180 0 15 (dk_at dksX4_readCard_1 8 rfl rfl)
theorem dX4_readCard_33 : decode cX4_readCard 33 = .ok (.invokespecial 32, 3) := dk_183 0 32 (dk_at dksX4_readCard_1 11 rfl rfl)
theorem dX4_readCard_36 : decode cX4_readCard 36 = .ok (.athrow, 1) := dk_191 (dk_at dksX4_readCard_1 14 rfl rfl)
theorem dX4_readCard_37 : decode cX4_readCard 37 = .ok (.aload_n 1, 1) := dk_43 (dk_at dksX4_readCard_1 15 rfl rfl)
theorem dX4_readCard_38 : decode cX4_readCard 38 = .ok (.iload_n 2, 1) := dk_28 (dk_at dksX4_readCard_1 16 rfl rfl)
theorem dX4_readCard_39 : decode cX4_readCard 39 = .ok (.aload_n 0, 1) := dk_42 (dk_at dksX4_readCard_1 17 rfl rfl)
theorem dX4_readCard_40 : decode cX4_readCard 40 = .ok (.invokevirtual 26, 3) := dk_182 0 26 (dk_at dksX4_readCard_1 18 rfl rfl)
theorem dX4_readCard_43 : decode cX4_readCard 43 = .ok (.bipush 97, 2) := dk_16 97 (dk_at dksX4_readCard_1 21 rfl rfl)
theorem dX4_readCard_45 : decode cX4_readCard 45 = .ok (.isub, 1) := dk_100 (dk_at dksX4_readCard_1 23 rfl rfl)
theorem dX4_readCard_46 : decode cX4_readCard 46 = .ok (.iastore, 1) := dk_79 (dk_at dksX4_readCard_2 0 rfl rfl)
theorem dX4_readCard_47 : decode cX4_readCard 47 = .ok (.aload_n 0, 1) := dk_42 (dk_at dksX4_readCard_2 1 rfl rfl)
theorem dX4_readCard_48 : decode cX4_readCard 48 = .ok (.dup, 1) := dk_89 (dk_at dksX4_readCard_2 2 rfl rfl)
theorem dX4_readCard_49 : decode cX4_readCard 49 = .ok (.getfield 15, 3) := dk_180 0 15 (dk_at dksX4_readCard_2 3 rfl rfl)
theorem dX4_readCard_52 : decode cX4_readCard 52 = .ok (.iconst 1, 1) := dk_4 (dk_at dksX4_readCard_2 6 rfl rfl)
theorem dX4_readCard_53 : decode cX4_readCard 53 = .ok (.iadd, 1) := dk_96 (dk_at dksX4_readCard_2 7 rfl rfl)
theorem dX4_readCard_54 : decode cX4_readCard 54 = .ok (.putfield 15, 3) := dk_181 0 15 (dk_at dksX4_readCard_2 8 rfl rfl)
theorem dX4_readCard_57 : decode cX4_readCard 57 = .ok (.iinc 2 1, 3) := dk_132 2 1 (dk_at dksX4_readCard_2 11 rfl rfl)
theorem dX4_readCard_60 : decode cX4_readCard 60 = .ok (.goto (-54), 3) := dk_167 255 202 (dk_at dksX4_readCard_2 14 rfl rfl)
theorem dX4_readCard_63 : decode cX4_readCard 63 = .ok (.new 107, 3) := dk_187 0 107 (dk_at dksX4_readCard_2 17 rfl rfl)
theorem dX4_readCard_66 : decode cX4_readCard 66 = .ok (.dup, 1) := dk_89 (dk_at dksX4_readCard_2 20 rfl rfl)
theorem dX4_readCard_67 : decode cX4_readCard 67 = .ok (.aload_n 1, 1) := dk_43 (dk_at dksX4_readCard_2 21 rfl rfl)
theorem dX4_readCard_68 : decode cX4_readCard 68 = .ok (.invokespecial 109, 3) := dk_183 0 109 (dk_at dksX4_readCard_3 0 rfl rfl)
theorem dX4_readCard_71 : decode cX4_readCard 71 = .ok (.astore_n 2, 1) := dk_77 (dk_at dksX4_readCard_3 3 rfl rfl)
theorem dX4_readCard_72 : decode cX4_readCard 72 = .ok (.aload_n 0, 1) := dk_42 (dk_at dksX4_readCard_3 4 rfl rfl)
theorem dX4_readCard_73 : decode cX4_readCard 73 = .ok (.invokevirtual 26, 3) := dk_182 0 26 (dk_at dksX4_readCard_3 5 rfl rfl)
theorem dX4_readCard_76 : decode cX4_readCard 76 = .ok (.bipush 83, 2) := dk_16 83 (dk_at dksX4_readCard_3 8 rfl rfl)
theorem dX4_readCard_78 : decode cX4_readCard 78 = .ok (.if_icmp .eq 24, 3) := dk_159 0 24 (dk_at dksX4_readCard_3 10 rfl rfl)
theorem dX4_readCard_81 : decode cX4_readCard 81 = .ok (.aload_n 0, 1) := dk_42 (dk_at dksX4_readCard_3 13 rfl rfl)
theorem dX4_readCard_82 : decode cX4_readCard 82 = .ok (.invokevirtual 26, 3) := dk_182 0 26 (dk_at dksX4_readCard_3 14 rfl rfl)
theorem dX4_readCard_85 : decode cX4_readCard 85 = .ok (.bipush 90, 2) := dk_16 90 (dk_at dksX4_readCard_3 17 rfl rfl)
theorem dX4_readCard_87 : decode cX4_readCard 87 = .ok (.if_icmp .eq 15, 3) := dk_159 0 15 (dk_at dksX4_readCard_3 19 rfl rfl)
theorem dX4_readCard_90 : decode cX4_readCard 90 = .ok (.new 30, 3) := dk_187 0 30 (dk_at dksX4_readCard_4 0 rfl rfl)
theorem dX4_readCard_93 : decode cX4_readCard 93 = .ok (.dup, 1) := dk_89 (dk_at dksX4_readCard_4 3 rfl rfl)
theorem dX4_readCard_94 : decode cX4_readCard 94 = .ok (.aload_n 0, 1) := dk_42 (dk_at dksX4_readCard_4 4 rfl rfl)
theorem dX4_readCard_95 : decode cX4_readCard 95 = .ok (.getfield 15, 3) := dk_180 0 15 (dk_at dksX4_readCard_4 5 rfl rfl)
theorem dX4_readCard_98 : decode cX4_readCard 98 = .ok (.invokespecial 32, 3) := dk_183 0 32 (dk_at dksX4_readCard_4 8 rfl rfl)
theorem dX4_readCard_101 : decode cX4_readCard 101 = .ok (.athrow, 1) := dk_191 (dk_at dksX4_readCard_4 11 rfl rfl)
theorem dX4_readCard_102 : decode cX4_readCard 102 = .ok (.aload_n 2, 1) := dk_44 (dk_at dksX4_readCard_4 12 rfl rfl)
theorem dX4_readCard_103 : decode cX4_readCard 103 = .ok (.aload_n 0, 1) := dk_42 (dk_at dksX4_readCard_4 13 rfl rfl)
theorem dX4_readCard_104 : decode cX4_readCard 104 = .ok (.invokevirtual 26, 3) := dk_182 0 26 (dk_at dksX4_readCard_4 14 rfl rfl)
theorem dX4_readCard_107 : decode cX4_readCard 107 = .ok (.bipush 83, 2) := dk_16 83 (dk_at dksX4_readCard_4 17 rfl rfl)
theorem dX4_readCard_109 : decode cX4_readCard 109 = .ok (.if_icmp .ne 7, 3) := dk_160 0 7 (dk_at dksX4_readCard_4 19 rfl rfl)
theorem dX4_readCard_112 : decode cX4_readCard 112 = .ok (.iconst 0, 1) := dk_3 (dk_at dksX4_readCard_4 22 rfl rfl)
theorem dX4_readCard_113 : decode cX4_readCard 113 = .ok (.goto 4, 3) := dk_167 0 4 (dk_at dksX4_readCard_5 0 rfl rfl)
theorem dX4_readCard_116 : decode cX4_readCard 116 = .ok (.iconst 1, 1) := dk_4 (dk_at dksX4_readCard_5 3 rfl rfl)
theorem dX4_readCard_117 : decode cX4_readCard 117 = .ok (.putfield 112, 3) := dk_181 0 112 (dk_at dksX4_readCard_5 4 rfl rfl)
theorem dX4_readCard_120 : decode cX4_readCard 120 = .ok (.aload_n 0, 1) := dk_42 (dk_at dksX4_readCard_5 7 rfl rfl)
theorem dX4_readCard_121 : decode cX4_readCard 121 = .ok (.dup, 1) := dk_89 (dk_at dksX4_readCard_5 8 rfl rfl)
theorem dX4_readCard_122 : decode cX4_readCard 122 = .ok (.getfield 15, 3) := dk_180 0 15 (dk_at dksX4_readCard_5 9 rfl rfl)
theorem dX4_readCard_125 : decode cX4_readCard 125 = .ok (.iconst 1, 1) := dk_4 (dk_at dksX4_readCard_5 12 rfl rfl)
theorem dX4_readCard_126 : decode cX4_readCard 126 = .ok (.iadd, 1) := dk_96 (dk_at dksX4_readCard_5 13 rfl rfl)
theorem dX4_readCard_127 : decode cX4_readCard 127 = .ok (.putfield 15, 3) := dk_181 0 15 (dk_at dksX4_readCard_5 14 rfl rfl)
theorem dX4_readCard_130 : decode cX4_readCard 130 = .ok (.aload_n 2, 1) := dk_44 (dk_at dksX4_readCard_5 17 rfl rfl)
theorem dX4_readCard_131 : decode cX4_readCard 131 = .ok (.areturn, 1) := dk_176 (dk_at dksX4_readCard_5 18 rfl rfl)
abbrev cX4_here : ByteArray := prog_11_method_2_code
def yX4_here : MethodName := ⟨RX4, "here", "()I"⟩
def dkwX4_here_1 : List UInt8 := [180, 0, 15, 51, 167, 0, 4, 2, 172]
abbrev dktX4_here_1 : List UInt8 := dkwX4_here_1 ++ []
def dkwX4_here_0 : List UInt8 := [42, 180, 0, 15, 42, 180, 0, 3, 180, 0, 19, 162, 0, 18, 42, 180, 0, 3, 180, 0, 22, 42]
abbrev dktX4_here_0 : List UInt8 := dkwX4_here_0 ++ dktX4_here_1
theorem dksX4_here_0 : cX4_here.data.toList.drop 0 = dktX4_here_0 := by decide +kernel
theorem dksX4_here_1 : cX4_here.data.toList.drop 22 = dktX4_here_1 := dk_seg dksX4_here_0 22 rfl rfl
theorem dX4_here_0 : decode cX4_here 0 = .ok (.aload_n 0, 1) := dk_42 (dk_at dksX4_here_0 0 rfl rfl)
theorem dX4_here_1 : decode cX4_here 1 = .ok (.getfield 15, 3) := dk_180 0 15 (dk_at dksX4_here_0 1 rfl rfl)
theorem dX4_here_4 : decode cX4_here 4 = .ok (.aload_n 0, 1) := dk_42 (dk_at dksX4_here_0 4 rfl rfl)
theorem dX4_here_5 : decode cX4_here 5 = .ok (.getfield 3, 3) := dk_180 0 3 (dk_at dksX4_here_0 5 rfl rfl)
theorem dX4_here_8 : decode cX4_here 8 = .ok (.getfield 19, 3) := dk_180 0 19 (dk_at dksX4_here_0 8 rfl rfl)
theorem dX4_here_11 : decode cX4_here 11 = .ok (.if_icmp .ge 18, 3) := dk_162 0 18 (dk_at dksX4_here_0 11 rfl rfl)
theorem dX4_here_14 : decode cX4_here 14 = .ok (.aload_n 0, 1) := dk_42 (dk_at dksX4_here_0 14 rfl rfl)
theorem dX4_here_15 : decode cX4_here 15 = .ok (.getfield 3, 3) := dk_180 0 3 (dk_at dksX4_here_0 15 rfl rfl)
theorem dX4_here_18 : decode cX4_here 18 = .ok (.getfield 22, 3) := dk_180 0 22 (dk_at dksX4_here_0 18 rfl rfl)
theorem dX4_here_21 : decode cX4_here 21 = .ok (.aload_n 0, 1) := dk_42 (dk_at dksX4_here_0 21 rfl rfl)
theorem dX4_here_22 : decode cX4_here 22 = .ok (.getfield 15, 3) := dk_180 0 15 (dk_at dksX4_here_1 0 rfl rfl)
theorem dX4_here_25 : decode cX4_here 25 = .ok (.baload, 1) := dk_51 (dk_at dksX4_here_1 3 rfl rfl)
theorem dX4_here_26 : decode cX4_here 26 = .ok (.goto 4, 3) := dk_167 0 4 (dk_at dksX4_here_1 4 rfl rfl)
theorem dX4_here_29 : decode cX4_here 29 = .ok (.iconst (-1), 1) := dk_2 (dk_at dksX4_here_1 7 rfl rfl)
theorem dX4_here_30 : decode cX4_here 30 = .ok (.ireturn, 1) := dk_172 (dk_at dksX4_here_1 8 rfl rfl)
abbrev cX4_law : ByteArray := prog_11_method_9_code
def yX4_law : MethodName := ⟨RX4, "law", "()LCardLoom$Law;"⟩
def dkwX4_law_1 : List UInt8 := [42, 180, 0, 15, 183, 0, 32, 191, 43, 176]
abbrev dktX4_law_1 : List UInt8 := dkwX4_law_1 ++ []
def dkwX4_law_0 : List UInt8 := [42, 3, 182, 0, 42, 76, 42, 180, 0, 15, 42, 180, 0, 3, 180, 0, 19, 162, 0, 15, 187, 0, 30, 89]
abbrev dktX4_law_0 : List UInt8 := dkwX4_law_0 ++ dktX4_law_1
theorem dksX4_law_0 : cX4_law.data.toList.drop 0 = dktX4_law_0 := by decide +kernel
theorem dksX4_law_1 : cX4_law.data.toList.drop 24 = dktX4_law_1 := dk_seg dksX4_law_0 24 rfl rfl
theorem dX4_law_0 : decode cX4_law 0 = .ok (.aload_n 0, 1) := dk_42 (dk_at dksX4_law_0 0 rfl rfl)
theorem dX4_law_1 : decode cX4_law 1 = .ok (.iconst 0, 1) := dk_3 (dk_at dksX4_law_0 1 rfl rfl)
theorem dX4_law_2 : decode cX4_law 2 = .ok (.invokevirtual 42, 3) := dk_182 0 42 (dk_at dksX4_law_0 2 rfl rfl)
theorem dX4_law_5 : decode cX4_law 5 = .ok (.astore_n 1, 1) := dk_76 (dk_at dksX4_law_0 5 rfl rfl)
theorem dX4_law_6 : decode cX4_law 6 = .ok (.aload_n 0, 1) := dk_42 (dk_at dksX4_law_0 6 rfl rfl)
theorem dX4_law_7 : decode cX4_law 7 = .ok (.getfield 15, 3) := dk_180 0 15 (dk_at dksX4_law_0 7 rfl rfl)
theorem dX4_law_10 : decode cX4_law 10 = .ok (.aload_n 0, 1) := dk_42 (dk_at dksX4_law_0 10 rfl rfl)
theorem dX4_law_11 : decode cX4_law 11 = .ok (.getfield 3, 3) := dk_180 0 3 (dk_at dksX4_law_0 11 rfl rfl)
theorem dX4_law_14 : decode cX4_law 14 = .ok (.getfield 19, 3) := dk_180 0 19 (dk_at dksX4_law_0 14 rfl rfl)
theorem dX4_law_17 : decode cX4_law 17 = .ok (.if_icmp .ge 15, 3) := dk_162 0 15 (dk_at dksX4_law_0 17 rfl rfl)
theorem dX4_law_20 : decode cX4_law 20 = .ok (.new 30, 3) := dk_187 0 30 (dk_at dksX4_law_0 20 rfl rfl)
theorem dX4_law_23 : decode cX4_law 23 = .ok (.dup, 1) := dk_89 (dk_at dksX4_law_0 23 rfl rfl)
theorem dX4_law_24 : decode cX4_law 24 = .ok (.aload_n 0, 1) := dk_42 (dk_at dksX4_law_1 0 rfl rfl)
theorem dX4_law_25 : decode cX4_law 25 = .ok (.getfield 15, 3) := dk_180 0 15 (dk_at dksX4_law_1 1 rfl rfl)
theorem dX4_law_28 : decode cX4_law 28 = .ok (.invokespecial 32, 3) := dk_183 0 32 (dk_at dksX4_law_1 4 rfl rfl)
theorem dX4_law_31 : decode cX4_law 31 = .ok (.athrow, 1) := dk_191 (dk_at dksX4_law_1 7 rfl rfl)
theorem dX4_law_32 : decode cX4_law 32 = .ok (.aload_n 1, 1) := dk_43 (dk_at dksX4_law_1 8 rfl rfl)
theorem dX4_law_33 : decode cX4_law 33 = .ok (.areturn, 1) := dk_176 (dk_at dksX4_law_1 9 rfl rfl)
abbrev cX4_readLaw : ByteArray := prog_11_method_8_code
def yX4_readLaw : MethodName := ⟨RX4, "readLaw", "(I)LCardLoom$Law;"⟩
def dkwX4_readLaw_6 : List UInt8 := [182, 0, 92, 176, 42, 89, 180, 0, 95, 4, 96, 181, 0, 95, 29, 184, 0, 98, 184, 0, 103, 176]
abbrev dktX4_readLaw_6 : List UInt8 := dkwX4_readLaw_6 ++ []
def dkwX4_readLaw_5 : List UInt8 := [181, 0, 15, 29, 156, 0, 24, 21, 4, 153, 0, 12, 42, 28, 27, 182, 0, 88, 167, 0, 9, 42, 28, 27]
abbrev dktX4_readLaw_5 : List UInt8 := dkwX4_readLaw_5 ++ dktX4_readLaw_6
def dkwX4_readLaw_4 : List UInt8 := [154, 0, 15, 187, 0, 30, 89, 42, 180, 0, 15, 183, 0, 32, 191, 42, 89, 180, 0, 15, 4, 96]
abbrev dktX4_readLaw_4 : List UInt8 := dkwX4_readLaw_4 ++ dktX4_readLaw_5
def dkwX4_readLaw_3 : List UInt8 := [167, 0, 4, 3, 54, 5, 29, 156, 0, 31, 27, 16, 6, 159, 0, 13, 21, 4, 154, 0, 20, 21, 5]
abbrev dktX4_readLaw_3 : List UInt8 := dkwX4_readLaw_3 ++ dktX4_readLaw_4
def dkwX4_readLaw_2 : List UInt8 := [159, 0, 21, 28, 16, 100, 159, 0, 15, 28, 16, 114, 159, 0, 9, 28, 16, 109, 160, 0, 7, 4]
abbrev dktX4_readLaw_2 : List UInt8 := dkwX4_readLaw_2 ++ dktX4_readLaw_3
def dkwX4_readLaw_1 : List UInt8 := [28, 16, 120, 159, 0, 9, 28, 16, 116, 160, 0, 7, 4, 167, 0, 4, 3, 54, 4, 28, 16, 115]
abbrev dktX4_readLaw_1 : List UInt8 := dkwX4_readLaw_1 ++ dktX4_readLaw_2
def dkwX4_readLaw_0 : List UInt8 := [42, 182, 0, 26, 61, 18, 81, 28, 182, 0, 83, 62, 28, 16, 107, 159, 0, 21, 28, 16, 99, 159, 0, 15]
abbrev dktX4_readLaw_0 : List UInt8 := dkwX4_readLaw_0 ++ dktX4_readLaw_1
theorem dksX4_readLaw_0 : cX4_readLaw.data.toList.drop 0 = dktX4_readLaw_0 := by decide +kernel
theorem dksX4_readLaw_1 : cX4_readLaw.data.toList.drop 24 = dktX4_readLaw_1 := dk_seg dksX4_readLaw_0 24 rfl rfl
theorem dksX4_readLaw_2 : cX4_readLaw.data.toList.drop 46 = dktX4_readLaw_2 := dk_seg dksX4_readLaw_1 22 rfl rfl
theorem dksX4_readLaw_3 : cX4_readLaw.data.toList.drop 68 = dktX4_readLaw_3 := dk_seg dksX4_readLaw_2 22 rfl rfl
theorem dksX4_readLaw_4 : cX4_readLaw.data.toList.drop 91 = dktX4_readLaw_4 := dk_seg dksX4_readLaw_3 23 rfl rfl
theorem dksX4_readLaw_5 : cX4_readLaw.data.toList.drop 113 = dktX4_readLaw_5 := dk_seg dksX4_readLaw_4 22 rfl rfl
theorem dksX4_readLaw_6 : cX4_readLaw.data.toList.drop 137 = dktX4_readLaw_6 := dk_seg dksX4_readLaw_5 24 rfl rfl
theorem dX4_readLaw_0 : decode cX4_readLaw 0 = .ok (.aload_n 0, 1) := dk_42 (dk_at dksX4_readLaw_0 0 rfl rfl)
theorem dX4_readLaw_1 : decode cX4_readLaw 1 = .ok (.invokevirtual 26, 3) := dk_182 0 26 (dk_at dksX4_readLaw_0 1 rfl rfl)
theorem dX4_readLaw_4 : decode cX4_readLaw 4 = .ok (.istore_n 2, 1) := dk_61 (dk_at dksX4_readLaw_0 4 rfl rfl)
theorem dX4_readLaw_5 : decode cX4_readLaw 5 = .ok (.ldc 81, 2) := dk_18 81 (dk_at dksX4_readLaw_0 5 rfl rfl)
theorem dX4_readLaw_7 : decode cX4_readLaw 7 = .ok (.iload_n 2, 1) := dk_28 (dk_at dksX4_readLaw_0 7 rfl rfl)
theorem dX4_readLaw_8 : decode cX4_readLaw 8 = .ok (.invokevirtual 83, 3) := dk_182 0 83 (dk_at dksX4_readLaw_0 8 rfl rfl)
theorem dX4_readLaw_11 : decode cX4_readLaw 11 = .ok (.istore_n 3, 1) := dk_62 (dk_at dksX4_readLaw_0 11 rfl rfl)
theorem dX4_readLaw_12 : decode cX4_readLaw 12 = .ok (.iload_n 2, 1) := dk_28 (dk_at dksX4_readLaw_0 12 rfl rfl)
theorem dX4_readLaw_13 : decode cX4_readLaw 13 = .ok (.bipush 107, 2) := dk_16 107 (dk_at dksX4_readLaw_0 13 rfl rfl)
theorem dX4_readLaw_15 : decode cX4_readLaw 15 = .ok (.if_icmp .eq 21, 3) := dk_159 0 21 (dk_at dksX4_readLaw_0 15 rfl rfl)
theorem dX4_readLaw_18 : decode cX4_readLaw 18 = .ok (.iload_n 2, 1) := dk_28 (dk_at dksX4_readLaw_0 18 rfl rfl)
theorem dX4_readLaw_19 : decode cX4_readLaw 19 = .ok (.bipush 99, 2) := dk_16 99 (dk_at dksX4_readLaw_0 19 rfl rfl)
theorem dX4_readLaw_21 : decode cX4_readLaw 21 = .ok (.if_icmp .eq 15, 3) := dk_159 0 15 (dk_at dksX4_readLaw_0 21 rfl rfl)
theorem dX4_readLaw_24 : decode cX4_readLaw 24 = .ok (.iload_n 2, 1) := dk_28 (dk_at dksX4_readLaw_1 0 rfl rfl)
theorem dX4_readLaw_25 : decode cX4_readLaw 25 = .ok (.bipush 120, 2) := dk_16 120 (dk_at dksX4_readLaw_1 1 rfl rfl)
theorem dX4_readLaw_27 : decode cX4_readLaw 27 = .ok (.if_icmp .eq 9, 3) := dk_159 0 9 (dk_at dksX4_readLaw_1 3 rfl rfl)
theorem dX4_readLaw_30 : decode cX4_readLaw 30 = .ok (.iload_n 2, 1) := dk_28 (dk_at dksX4_readLaw_1 6 rfl rfl)
theorem dX4_readLaw_31 : decode cX4_readLaw 31 = .ok (.bipush 116, 2) := dk_16 116 (dk_at dksX4_readLaw_1 7 rfl rfl)
theorem dX4_readLaw_33 : decode cX4_readLaw 33 = .ok (.if_icmp .ne 7, 3) := dk_160 0 7 (dk_at dksX4_readLaw_1 9 rfl rfl)
theorem dX4_readLaw_36 : decode cX4_readLaw 36 = .ok (.iconst 1, 1) := dk_4 (dk_at dksX4_readLaw_1 12 rfl rfl)
theorem dX4_readLaw_37 : decode cX4_readLaw 37 = .ok (.goto 4, 3) := dk_167 0 4 (dk_at dksX4_readLaw_1 13 rfl rfl)
theorem dX4_readLaw_40 : decode cX4_readLaw 40 = .ok (.iconst 0, 1) := dk_3 (dk_at dksX4_readLaw_1 16 rfl rfl)
theorem dX4_readLaw_41 : decode cX4_readLaw 41 = .ok (.istore 4, 2) := dk_54 4 (dk_at dksX4_readLaw_1 17 rfl rfl)
theorem dX4_readLaw_43 : decode cX4_readLaw 43 = .ok (.iload_n 2, 1) := dk_28 (dk_at dksX4_readLaw_1 19 rfl rfl)
theorem dX4_readLaw_44 : decode cX4_readLaw 44 = .ok (.bipush 115, 2) := dk_16 115 (dk_at dksX4_readLaw_1 20 rfl rfl)
theorem dX4_readLaw_46 : decode cX4_readLaw 46 = .ok (.if_icmp .eq 21, 3) := dk_159 0 21 (dk_at dksX4_readLaw_2 0 rfl rfl)
theorem dX4_readLaw_49 : decode cX4_readLaw 49 = .ok (.iload_n 2, 1) := dk_28 (dk_at dksX4_readLaw_2 3 rfl rfl)
theorem dX4_readLaw_50 : decode cX4_readLaw 50 = .ok (.bipush 100, 2) := dk_16 100 (dk_at dksX4_readLaw_2 4 rfl rfl)
theorem dX4_readLaw_52 : decode cX4_readLaw 52 = .ok (.if_icmp .eq 15, 3) := dk_159 0 15 (dk_at dksX4_readLaw_2 6 rfl rfl)
theorem dX4_readLaw_55 : decode cX4_readLaw 55 = .ok (.iload_n 2, 1) := dk_28 (dk_at dksX4_readLaw_2 9 rfl rfl)
theorem dX4_readLaw_56 : decode cX4_readLaw 56 = .ok (.bipush 114, 2) := dk_16 114 (dk_at dksX4_readLaw_2 10 rfl rfl)
theorem dX4_readLaw_58 : decode cX4_readLaw 58 = .ok (.if_icmp .eq 9, 3) := dk_159 0 9 (dk_at dksX4_readLaw_2 12 rfl rfl)
theorem dX4_readLaw_61 : decode cX4_readLaw 61 = .ok (.iload_n 2, 1) := dk_28 (dk_at dksX4_readLaw_2 15 rfl rfl)
theorem dX4_readLaw_62 : decode cX4_readLaw 62 = .ok (.bipush 109, 2) := dk_16 109 (dk_at dksX4_readLaw_2 16 rfl rfl)
theorem dX4_readLaw_64 : decode cX4_readLaw 64 = .ok (.if_icmp .ne 7, 3) := dk_160 0 7 (dk_at dksX4_readLaw_2 18 rfl rfl)
theorem dX4_readLaw_67 : decode cX4_readLaw 67 = .ok (.iconst 1, 1) := dk_4 (dk_at dksX4_readLaw_2 21 rfl rfl)
theorem dX4_readLaw_68 : decode cX4_readLaw 68 = .ok (.goto 4, 3) := dk_167 0 4 (dk_at dksX4_readLaw_3 0 rfl rfl)
theorem dX4_readLaw_71 : decode cX4_readLaw 71 = .ok (.iconst 0, 1) := dk_3 (dk_at dksX4_readLaw_3 3 rfl rfl)
theorem dX4_readLaw_72 : decode cX4_readLaw 72 = .ok (.istore 5, 2) := dk_54 5 (dk_at dksX4_readLaw_3 4 rfl rfl)
theorem dX4_readLaw_74 : decode cX4_readLaw 74 = .ok (.iload_n 3, 1) := dk_29 (dk_at dksX4_readLaw_3 6 rfl rfl)
theorem dX4_readLaw_75 : decode cX4_readLaw 75 = .ok (.ifCond .ge 31, 3) := dk_156 0 31 (dk_at dksX4_readLaw_3 7 rfl rfl)
theorem dX4_readLaw_78 : decode cX4_readLaw 78 = .ok (.iload_n 1, 1) := dk_27 (dk_at dksX4_readLaw_3 10 rfl rfl)
theorem dX4_readLaw_79 : decode cX4_readLaw 79 = .ok (.bipush 6, 2) := dk_16 6 (dk_at dksX4_readLaw_3 11 rfl rfl)
theorem dX4_readLaw_81 : decode cX4_readLaw 81 = .ok (.if_icmp .eq 13, 3) := dk_159 0 13 (dk_at dksX4_readLaw_3 13 rfl rfl)
theorem dX4_readLaw_84 : decode cX4_readLaw 84 = .ok (.iload 4, 2) := dk_21 4 (dk_at dksX4_readLaw_3 16 rfl rfl)
theorem dX4_readLaw_86 : decode cX4_readLaw 86 = .ok (.ifCond .ne 20, 3) := dk_154 0 20 (dk_at dksX4_readLaw_3 18 rfl rfl)
theorem dX4_readLaw_89 : decode cX4_readLaw 89 = .ok (.iload 5, 2) := dk_21 5 (dk_at dksX4_readLaw_3 21 rfl rfl)
theorem dX4_readLaw_91 : decode cX4_readLaw 91 = .ok (.ifCond .ne 15, 3) := dk_154 0 15 (dk_at dksX4_readLaw_4 0 rfl rfl)
theorem dX4_readLaw_94 : decode cX4_readLaw 94 = .ok (.new 30, 3) := dk_187 0 30 (dk_at dksX4_readLaw_4 3 rfl rfl)
theorem dX4_readLaw_97 : decode cX4_readLaw 97 = .ok (.dup, 1) := dk_89 (dk_at dksX4_readLaw_4 6 rfl rfl)
theorem dX4_readLaw_98 : decode cX4_readLaw 98 = .ok (.aload_n 0, 1) := dk_42 (dk_at dksX4_readLaw_4 7 rfl rfl)
theorem dX4_readLaw_99 : decode cX4_readLaw 99 = .ok (.getfield 15, 3) := dk_180 0 15 (dk_at dksX4_readLaw_4 8 rfl rfl)
theorem dX4_readLaw_102 : decode cX4_readLaw 102 = .ok (.invokespecial 32, 3) := dk_183 0 32 (dk_at dksX4_readLaw_4 11 rfl rfl)
theorem dX4_readLaw_105 : decode cX4_readLaw 105 = .ok (.athrow, 1) := dk_191 (dk_at dksX4_readLaw_4 14 rfl rfl)
theorem dX4_readLaw_106 : decode cX4_readLaw 106 = .ok (.aload_n 0, 1) := dk_42 (dk_at dksX4_readLaw_4 15 rfl rfl)
theorem dX4_readLaw_107 : decode cX4_readLaw 107 = .ok (.dup, 1) := dk_89 (dk_at dksX4_readLaw_4 16 rfl rfl)
theorem dX4_readLaw_108 : decode cX4_readLaw 108 = .ok (.getfield 15, 3) := dk_180 0 15 (dk_at dksX4_readLaw_4 17 rfl rfl)
theorem dX4_readLaw_111 : decode cX4_readLaw 111 = .ok (.iconst 1, 1) := dk_4 (dk_at dksX4_readLaw_4 20 rfl rfl)
theorem dX4_readLaw_112 : decode cX4_readLaw 112 = .ok (.iadd, 1) := dk_96 (dk_at dksX4_readLaw_4 21 rfl rfl)
theorem dX4_readLaw_113 : decode cX4_readLaw 113 = .ok (.putfield 15, 3) := dk_181 0 15 (dk_at dksX4_readLaw_5 0 rfl rfl)
theorem dX4_readLaw_116 : decode cX4_readLaw 116 = .ok (.iload_n 3, 1) := dk_29 (dk_at dksX4_readLaw_5 3 rfl rfl)
theorem dX4_readLaw_117 : decode cX4_readLaw 117 = .ok (.ifCond .ge 24, 3) := dk_156 0 24 (dk_at dksX4_readLaw_5 4 rfl rfl)
theorem dX4_readLaw_120 : decode cX4_readLaw 120 = .ok (.iload 4, 2) := dk_21 4 (dk_at dksX4_readLaw_5 7 rfl rfl)
theorem dX4_readLaw_122 : decode cX4_readLaw 122 = .ok (.ifCond .eq 12, 3) := dk_153 0 12 (dk_at dksX4_readLaw_5 9 rfl rfl)
theorem dX4_readLaw_125 : decode cX4_readLaw 125 = .ok (.aload_n 0, 1) := dk_42 (dk_at dksX4_readLaw_5 12 rfl rfl)
theorem dX4_readLaw_126 : decode cX4_readLaw 126 = .ok (.iload_n 2, 1) := dk_28 (dk_at dksX4_readLaw_5 13 rfl rfl)
theorem dX4_readLaw_127 : decode cX4_readLaw 127 = .ok (.iload_n 1, 1) := dk_27 (dk_at dksX4_readLaw_5 14 rfl rfl)
theorem dX4_readLaw_128 : decode cX4_readLaw 128 = .ok (.invokevirtual 88, 3) := dk_182 0 88 (dk_at dksX4_readLaw_5 15 rfl rfl)
theorem dX4_readLaw_131 : decode cX4_readLaw 131 = .ok (.goto 9, 3) := dk_167 0 9 (dk_at dksX4_readLaw_5 18 rfl rfl)
theorem dX4_readLaw_134 : decode cX4_readLaw 134 = .ok (.aload_n 0, 1) := dk_42 (dk_at dksX4_readLaw_5 21 rfl rfl)
theorem dX4_readLaw_135 : decode cX4_readLaw 135 = .ok (.iload_n 2, 1) := dk_28 (dk_at dksX4_readLaw_5 22 rfl rfl)
theorem dX4_readLaw_136 : decode cX4_readLaw 136 = .ok (.iload_n 1, 1) := dk_27 (dk_at dksX4_readLaw_5 23 rfl rfl)
theorem dX4_readLaw_137 : decode cX4_readLaw 137 = .ok (.invokevirtual 92, 3) := dk_182 0 92 (dk_at dksX4_readLaw_6 0 rfl rfl)
theorem dX4_readLaw_140 : decode cX4_readLaw 140 = .ok (.areturn, 1) := dk_176 (dk_at dksX4_readLaw_6 3 rfl rfl)
theorem dX4_readLaw_141 : decode cX4_readLaw 141 = .ok (.aload_n 0, 1) := dk_42 (dk_at dksX4_readLaw_6 4 rfl rfl)
theorem dX4_readLaw_142 : decode cX4_readLaw 142 = .ok (.dup, 1) := dk_89 (dk_at dksX4_readLaw_6 5 rfl rfl)
theorem dX4_readLaw_143 : decode cX4_readLaw 143 = .ok (.getfield 95, 3) := dk_180 0 95 (dk_at dksX4_readLaw_6 6 rfl rfl)
theorem dX4_readLaw_146 : decode cX4_readLaw 146 = .ok (.iconst 1, 1) := dk_4 (dk_at dksX4_readLaw_6 9 rfl rfl)
theorem dX4_readLaw_147 : decode cX4_readLaw 147 = .ok (.iadd, 1) := dk_96 (dk_at dksX4_readLaw_6 10 rfl rfl)
theorem dX4_readLaw_148 : decode cX4_readLaw 148 = .ok (.putfield 95, 3) := dk_181 0 95 (dk_at dksX4_readLaw_6 11 rfl rfl)
theorem dX4_readLaw_151 : decode cX4_readLaw 151 = .ok (.iload_n 3, 1) := dk_29 (dk_at dksX4_readLaw_6 14 rfl rfl)
theorem dX4_readLaw_152 : decode cX4_readLaw 152 = .ok (.invokestatic 98, 3) := dk_184 0 98 (dk_at dksX4_readLaw_6 15 rfl rfl)
theorem dX4_readLaw_155 : decode cX4_readLaw 155 = .ok (.invokestatic 103, 3) := dk_184 0 103 (dk_at dksX4_readLaw_6 18 rfl rfl)
theorem dX4_readLaw_158 : decode cX4_readLaw 158 = .ok (.areturn, 1) := dk_176 (dk_at dksX4_readLaw_6 21 rfl rfl)
abbrev cX4_readTwo : ByteArray := prog_11_method_6_code
def yX4_readTwo : MethodName := ⟨RX4, "readTwo", "(II)LCardLoom$Law;"⟩
def dkwX4_readTwo_5 : List UInt8 := [184, 0, 57, 176, 25, 4, 25, 5, 184, 0, 60, 176]
abbrev dktX4_readTwo_5 : List UInt8 := dkwX4_readTwo_5 ++ []
def dkwX4_readTwo_4 : List UInt8 := [29, 25, 4, 25, 5, 184, 0, 50, 176, 29, 25, 4, 25, 5, 184, 0, 54, 176, 29, 25, 4, 25, 5]
abbrev dktX4_readTwo_4 : List UInt8 := dkwX4_readTwo_4 ++ dktX4_readTwo_5
def dkwX4_readTwo_3 : List UInt8 := [171, 0, 0, 0, 60, 0, 0, 0, 3, 0, 0, 0, 99, 0, 0, 0, 42, 0, 0, 0, 107, 0, 0, 0, 33, 0, 0, 0, 120, 0, 0, 0, 51]
abbrev dktX4_readTwo_3 : List UInt8 := dkwX4_readTwo_3 ++ dktX4_readTwo_4
def dkwX4_readTwo_2 : List UInt8 := [182, 0, 39, 42, 28, 4, 96, 182, 0, 42, 58, 5, 42, 16, 41, 182, 0, 39, 27]
abbrev dktX4_readTwo_2 : List UInt8 := dkwX4_readTwo_2 ++ dktX4_readTwo_3
def dkwX4_readTwo_1 : List UInt8 := [182, 0, 46, 62, 42, 16, 40, 182, 0, 39, 42, 28, 4, 96, 182, 0, 42, 58, 4, 42, 16, 44]
abbrev dktX4_readTwo_1 : List UInt8 := dkwX4_readTwo_1 ++ dktX4_readTwo_2
def dkwX4_readTwo_0 : List UInt8 := [27, 16, 116, 160, 0, 7, 3, 167, 0, 18, 42, 27, 16, 99, 160, 0, 7, 3, 167, 0, 4, 4]
abbrev dktX4_readTwo_0 : List UInt8 := dkwX4_readTwo_0 ++ dktX4_readTwo_1
theorem dksX4_readTwo_0 : cX4_readTwo.data.toList.drop 0 = dktX4_readTwo_0 := by decide +kernel
theorem dksX4_readTwo_1 : cX4_readTwo.data.toList.drop 22 = dktX4_readTwo_1 := dk_seg dksX4_readTwo_0 22 rfl rfl
theorem dksX4_readTwo_2 : cX4_readTwo.data.toList.drop 44 = dktX4_readTwo_2 := dk_seg dksX4_readTwo_1 22 rfl rfl
theorem dksX4_readTwo_3 : cX4_readTwo.data.toList.drop 63 = dktX4_readTwo_3 := dk_seg dksX4_readTwo_2 19 rfl rfl
theorem dksX4_readTwo_4 : cX4_readTwo.data.toList.drop 96 = dktX4_readTwo_4 := dk_seg dksX4_readTwo_3 33 rfl rfl
theorem dksX4_readTwo_5 : cX4_readTwo.data.toList.drop 119 = dktX4_readTwo_5 := dk_seg dksX4_readTwo_4 23 rfl rfl
theorem dX4_readTwo_0 : decode cX4_readTwo 0 = .ok (.iload_n 1, 1) := dk_27 (dk_at dksX4_readTwo_0 0 rfl rfl)
theorem dX4_readTwo_1 : decode cX4_readTwo 1 = .ok (.bipush 116, 2) := dk_16 116 (dk_at dksX4_readTwo_0 1 rfl rfl)
theorem dX4_readTwo_3 : decode cX4_readTwo 3 = .ok (.if_icmp .ne 7, 3) := dk_160 0 7 (dk_at dksX4_readTwo_0 3 rfl rfl)
theorem dX4_readTwo_6 : decode cX4_readTwo 6 = .ok (.iconst 0, 1) := dk_3 (dk_at dksX4_readTwo_0 6 rfl rfl)
theorem dX4_readTwo_7 : decode cX4_readTwo 7 = .ok (.goto 18, 3) := dk_167 0 18 (dk_at dksX4_readTwo_0 7 rfl rfl)
theorem dX4_readTwo_10 : decode cX4_readTwo 10 = .ok (.aload_n 0, 1) := dk_42 (dk_at dksX4_readTwo_0 10 rfl rfl)
theorem dX4_readTwo_11 : decode cX4_readTwo 11 = .ok (.iload_n 1, 1) := dk_27 (dk_at dksX4_readTwo_0 11 rfl rfl)
theorem dX4_readTwo_12 : decode cX4_readTwo 12 = .ok (.bipush 99, 2) := dk_16 99 (dk_at dksX4_readTwo_0 12 rfl rfl)
theorem dX4_readTwo_14 : decode cX4_readTwo 14 = .ok (.if_icmp .ne 7, 3) := dk_160 0 7 (dk_at dksX4_readTwo_0 14 rfl rfl)
theorem dX4_readTwo_17 : decode cX4_readTwo 17 = .ok (.iconst 0, 1) := dk_3 (dk_at dksX4_readTwo_0 17 rfl rfl)
theorem dX4_readTwo_18 : decode cX4_readTwo 18 = .ok (.goto 4, 3) := dk_167 0 4 (dk_at dksX4_readTwo_0 18 rfl rfl)
theorem dX4_readTwo_21 : decode cX4_readTwo 21 = .ok (.iconst 1, 1) := dk_4 (dk_at dksX4_readTwo_0 21 rfl rfl)
theorem dX4_readTwo_22 : decode cX4_readTwo 22 = .ok (.invokevirtual 46, 3) := dk_182 0 46 (dk_at dksX4_readTwo_1 0 rfl rfl)
theorem dX4_readTwo_25 : decode cX4_readTwo 25 = .ok (.istore_n 3, 1) := dk_62 (dk_at dksX4_readTwo_1 3 rfl rfl)
theorem dX4_readTwo_26 : decode cX4_readTwo 26 = .ok (.aload_n 0, 1) := dk_42 (dk_at dksX4_readTwo_1 4 rfl rfl)
theorem dX4_readTwo_27 : decode cX4_readTwo 27 = .ok (.bipush 40, 2) := dk_16 40 (dk_at dksX4_readTwo_1 5 rfl rfl)
theorem dX4_readTwo_29 : decode cX4_readTwo 29 = .ok (.invokevirtual 39, 3) := dk_182 0 39 (dk_at dksX4_readTwo_1 7 rfl rfl)
theorem dX4_readTwo_32 : decode cX4_readTwo 32 = .ok (.aload_n 0, 1) := dk_42 (dk_at dksX4_readTwo_1 10 rfl rfl)
theorem dX4_readTwo_33 : decode cX4_readTwo 33 = .ok (.iload_n 2, 1) := dk_28 (dk_at dksX4_readTwo_1 11 rfl rfl)
theorem dX4_readTwo_34 : decode cX4_readTwo 34 = .ok (.iconst 1, 1) := dk_4 (dk_at dksX4_readTwo_1 12 rfl rfl)
theorem dX4_readTwo_35 : decode cX4_readTwo 35 = .ok (.iadd, 1) := dk_96 (dk_at dksX4_readTwo_1 13 rfl rfl)
theorem dX4_readTwo_36 : decode cX4_readTwo 36 = .ok (.invokevirtual 42, 3) := dk_182 0 42 (dk_at dksX4_readTwo_1 14 rfl rfl)
theorem dX4_readTwo_39 : decode cX4_readTwo 39 = .ok (.astore 4, 2) := dk_58 4 (dk_at dksX4_readTwo_1 17 rfl rfl)
theorem dX4_readTwo_41 : decode cX4_readTwo 41 = .ok (.aload_n 0, 1) := dk_42 (dk_at dksX4_readTwo_1 19 rfl rfl)
theorem dX4_readTwo_42 : decode cX4_readTwo 42 = .ok (.bipush 44, 2) := dk_16 44 (dk_at dksX4_readTwo_1 20 rfl rfl)
theorem dX4_readTwo_44 : decode cX4_readTwo 44 = .ok (.invokevirtual 39, 3) := dk_182 0 39 (dk_at dksX4_readTwo_2 0 rfl rfl)
theorem dX4_readTwo_47 : decode cX4_readTwo 47 = .ok (.aload_n 0, 1) := dk_42 (dk_at dksX4_readTwo_2 3 rfl rfl)
theorem dX4_readTwo_48 : decode cX4_readTwo 48 = .ok (.iload_n 2, 1) := dk_28 (dk_at dksX4_readTwo_2 4 rfl rfl)
theorem dX4_readTwo_49 : decode cX4_readTwo 49 = .ok (.iconst 1, 1) := dk_4 (dk_at dksX4_readTwo_2 5 rfl rfl)
theorem dX4_readTwo_50 : decode cX4_readTwo 50 = .ok (.iadd, 1) := dk_96 (dk_at dksX4_readTwo_2 6 rfl rfl)
theorem dX4_readTwo_51 : decode cX4_readTwo 51 = .ok (.invokevirtual 42, 3) := dk_182 0 42 (dk_at dksX4_readTwo_2 7 rfl rfl)
theorem dX4_readTwo_54 : decode cX4_readTwo 54 = .ok (.astore 5, 2) := dk_58 5 (dk_at dksX4_readTwo_2 10 rfl rfl)
theorem dX4_readTwo_56 : decode cX4_readTwo 56 = .ok (.aload_n 0, 1) := dk_42 (dk_at dksX4_readTwo_2 12 rfl rfl)
theorem dX4_readTwo_57 : decode cX4_readTwo 57 = .ok (.bipush 41, 2) := dk_16 41 (dk_at dksX4_readTwo_2 13 rfl rfl)
theorem dX4_readTwo_59 : decode cX4_readTwo 59 = .ok (.invokevirtual 39, 3) := dk_182 0 39 (dk_at dksX4_readTwo_2 15 rfl rfl)
theorem dX4_readTwo_62 : decode cX4_readTwo 62 = .ok (.iload_n 1, 1) := dk_27 (dk_at dksX4_readTwo_2 18 rfl rfl)
theorem dX4_readTwo_63 : decode cX4_readTwo 63 = .ok (.lookupswitch 60 #[(99, 42), (107, 33), (120, 51)], 33) := by decide +kernel
theorem dX4_readTwo_96 : decode cX4_readTwo 96 = .ok (.iload_n 3, 1) := dk_29 (dk_at dksX4_readTwo_4 0 rfl rfl)
theorem dX4_readTwo_97 : decode cX4_readTwo 97 = .ok (.aload 4, 2) := dk_25 4 (dk_at dksX4_readTwo_4 1 rfl rfl)
theorem dX4_readTwo_99 : decode cX4_readTwo 99 = .ok (.aload 5, 2) := dk_25 5 (dk_at dksX4_readTwo_4 3 rfl rfl)
theorem dX4_readTwo_101 : decode cX4_readTwo 101 = .ok (.invokestatic 50, 3) := dk_184 0 50 (dk_at dksX4_readTwo_4 5 rfl rfl)
theorem dX4_readTwo_104 : decode cX4_readTwo 104 = .ok (.areturn, 1) := dk_176 (dk_at dksX4_readTwo_4 8 rfl rfl)
theorem dX4_readTwo_105 : decode cX4_readTwo 105 = .ok (.iload_n 3, 1) := dk_29 (dk_at dksX4_readTwo_4 9 rfl rfl)
theorem dX4_readTwo_106 : decode cX4_readTwo 106 = .ok (.aload 4, 2) := dk_25 4 (dk_at dksX4_readTwo_4 10 rfl rfl)
theorem dX4_readTwo_108 : decode cX4_readTwo 108 = .ok (.aload 5, 2) := dk_25 5 (dk_at dksX4_readTwo_4 12 rfl rfl)
theorem dX4_readTwo_110 : decode cX4_readTwo 110 = .ok (.invokestatic 54, 3) := dk_184 0 54 (dk_at dksX4_readTwo_4 14 rfl rfl)
theorem dX4_readTwo_113 : decode cX4_readTwo 113 = .ok (.areturn, 1) := dk_176 (dk_at dksX4_readTwo_4 17 rfl rfl)
theorem dX4_readTwo_114 : decode cX4_readTwo 114 = .ok (.iload_n 3, 1) := dk_29 (dk_at dksX4_readTwo_4 18 rfl rfl)
theorem dX4_readTwo_115 : decode cX4_readTwo 115 = .ok (.aload 4, 2) := dk_25 4 (dk_at dksX4_readTwo_4 19 rfl rfl)
theorem dX4_readTwo_117 : decode cX4_readTwo 117 = .ok (.aload 5, 2) := dk_25 5 (dk_at dksX4_readTwo_4 21 rfl rfl)
theorem dX4_readTwo_119 : decode cX4_readTwo 119 = .ok (.invokestatic 57, 3) := dk_184 0 57 (dk_at dksX4_readTwo_5 0 rfl rfl)
theorem dX4_readTwo_122 : decode cX4_readTwo 122 = .ok (.areturn, 1) := dk_176 (dk_at dksX4_readTwo_5 3 rfl rfl)
theorem dX4_readTwo_123 : decode cX4_readTwo 123 = .ok (.aload 4, 2) := dk_25 4 (dk_at dksX4_readTwo_5 4 rfl rfl)
theorem dX4_readTwo_125 : decode cX4_readTwo 125 = .ok (.aload 5, 2) := dk_25 5 (dk_at dksX4_readTwo_5 6 rfl rfl)
theorem dX4_readTwo_127 : decode cX4_readTwo 127 = .ok (.invokestatic 60, 3) := dk_184 0 60 (dk_at dksX4_readTwo_5 8 rfl rfl)
theorem dX4_readTwo_130 : decode cX4_readTwo 130 = .ok (.areturn, 1) := dk_176 (dk_at dksX4_readTwo_5 11 rfl rfl)
abbrev cX4_number : ByteArray := prog_11_method_4_code
def yX4_number : MethodName := ⟨RX4, "number", "(I)I"⟩
def dkwX4_number_4 : List UInt8 := [183, 0, 32, 191, 29, 172]
abbrev dktX4_number_4 : List UInt8 := dkwX4_number_4 ++ []
def dkwX4_number_3 : List UInt8 := [180, 0, 15, 4, 96, 181, 0, 15, 132, 4, 1, 167, 255, 210, 29, 27, 162, 0, 12, 187, 0, 30, 89, 28]
abbrev dktX4_number_3 : List UInt8 := dkwX4_number_3 ++ dktX4_number_4
def dkwX4_number_2 : List UInt8 := [16, 57, 184, 0, 35, 153, 0, 32, 16, 10, 29, 104, 42, 182, 0, 26, 96, 16, 48, 100, 62, 42, 89]
abbrev dktX4_number_2 : List UInt8 := dkwX4_number_2 ++ dktX4_number_3
def dkwX4_number_1 : List UInt8 := [89, 42, 180, 0, 15, 183, 0, 32, 191, 3, 54, 4, 21, 4, 5, 162, 0, 46, 42, 182, 0, 26, 16, 48]
abbrev dktX4_number_1 : List UInt8 := dkwX4_number_1 ++ dktX4_number_2
def dkwX4_number_0 : List UInt8 := [42, 180, 0, 15, 61, 3, 62, 42, 182, 0, 26, 16, 48, 16, 57, 184, 0, 35, 154, 0, 15, 187, 0, 30]
abbrev dktX4_number_0 : List UInt8 := dkwX4_number_0 ++ dktX4_number_1
theorem dksX4_number_0 : cX4_number.data.toList.drop 0 = dktX4_number_0 := by decide +kernel
theorem dksX4_number_1 : cX4_number.data.toList.drop 24 = dktX4_number_1 := dk_seg dksX4_number_0 24 rfl rfl
theorem dksX4_number_2 : cX4_number.data.toList.drop 48 = dktX4_number_2 := dk_seg dksX4_number_1 24 rfl rfl
theorem dksX4_number_3 : cX4_number.data.toList.drop 71 = dktX4_number_3 := dk_seg dksX4_number_2 23 rfl rfl
theorem dksX4_number_4 : cX4_number.data.toList.drop 95 = dktX4_number_4 := dk_seg dksX4_number_3 24 rfl rfl
theorem dX4_number_0 : decode cX4_number 0 = .ok (.aload_n 0, 1) := dk_42 (dk_at dksX4_number_0 0 rfl rfl)
theorem dX4_number_1 : decode cX4_number 1 = .ok (.getfield 15, 3) := dk_180 0 15 (dk_at dksX4_number_0 1 rfl rfl)
theorem dX4_number_4 : decode cX4_number 4 = .ok (.istore_n 2, 1) := dk_61 (dk_at dksX4_number_0 4 rfl rfl)
theorem dX4_number_5 : decode cX4_number 5 = .ok (.iconst 0, 1) := dk_3 (dk_at dksX4_number_0 5 rfl rfl)
theorem dX4_number_6 : decode cX4_number 6 = .ok (.istore_n 3, 1) := dk_62 (dk_at dksX4_number_0 6 rfl rfl)
theorem dX4_number_7 : decode cX4_number 7 = .ok (.aload_n 0, 1) := dk_42 (dk_at dksX4_number_0 7 rfl rfl)
theorem dX4_number_8 : decode cX4_number 8 = .ok (.invokevirtual 26, 3) := dk_182 0 26 (dk_at dksX4_number_0 8 rfl rfl)
theorem dX4_number_11 : decode cX4_number 11 = .ok (.bipush 48, 2) := dk_16 48 (dk_at dksX4_number_0 11 rfl rfl)
theorem dX4_number_13 : decode cX4_number 13 = .ok (.bipush 57, 2) := dk_16 57 (dk_at dksX4_number_0 13 rfl rfl)
theorem dX4_number_15 : decode cX4_number 15 = .ok (.invokestatic 35, 3) := dk_184 0 35 (dk_at dksX4_number_0 15 rfl rfl)
theorem dX4_number_18 : decode cX4_number 18 = .ok (.ifCond .ne 15, 3) := dk_154 0 15 (dk_at dksX4_number_0 18 rfl rfl)
theorem dX4_number_21 : decode cX4_number 21 = .ok (.new 30, 3) := dk_187 0 30 (dk_at dksX4_number_0 21 rfl rfl)
theorem dX4_number_24 : decode cX4_number 24 = .ok (.dup, 1) := dk_89 (dk_at dksX4_number_1 0 rfl rfl)
theorem dX4_number_25 : decode cX4_number 25 = .ok (.aload_n 0, 1) := dk_42 (dk_at dksX4_number_1 1 rfl rfl)
theorem dX4_number_26 : decode cX4_number 26 = .ok (.getfield 15, 3) := dk_180 0 15 (dk_at dksX4_number_1 2 rfl rfl)
theorem dX4_number_29 : decode cX4_number 29 = .ok (.invokespecial 32, 3) := dk_183 0 32 (dk_at dksX4_number_1 5 rfl rfl)
theorem dX4_number_32 : decode cX4_number 32 = .ok (.athrow, 1) := dk_191 (dk_at dksX4_number_1 8 rfl rfl)
theorem dX4_number_33 : decode cX4_number 33 = .ok (.iconst 0, 1) := dk_3 (dk_at dksX4_number_1 9 rfl rfl)
theorem dX4_number_34 : decode cX4_number 34 = .ok (.istore 4, 2) := dk_54 4 (dk_at dksX4_number_1 10 rfl rfl)
theorem dX4_number_36 : decode cX4_number 36 = .ok (.iload 4, 2) := dk_21 4 (dk_at dksX4_number_1 12 rfl rfl)
theorem dX4_number_38 : decode cX4_number 38 = .ok (.iconst 2, 1) := dk_5 (dk_at dksX4_number_1 14 rfl rfl)
theorem dX4_number_39 : decode cX4_number 39 = .ok (.if_icmp .ge 46, 3) := dk_162 0 46 (dk_at dksX4_number_1 15 rfl rfl)
theorem dX4_number_42 : decode cX4_number 42 = .ok (.aload_n 0, 1) := dk_42 (dk_at dksX4_number_1 18 rfl rfl)
theorem dX4_number_43 : decode cX4_number 43 = .ok (.invokevirtual 26, 3) := dk_182 0 26 (dk_at dksX4_number_1 19 rfl rfl)
theorem dX4_number_46 : decode cX4_number 46 = .ok (.bipush 48, 2) := dk_16 48 (dk_at dksX4_number_1 22 rfl rfl)
theorem dX4_number_48 : decode cX4_number 48 = .ok (.bipush 57, 2) := dk_16 57 (dk_at dksX4_number_2 0 rfl rfl)
theorem dX4_number_50 : decode cX4_number 50 = .ok (.invokestatic 35, 3) := dk_184 0 35 (dk_at dksX4_number_2 2 rfl rfl)
theorem dX4_number_53 : decode cX4_number 53 = .ok (.ifCond .eq 32, 3) := dk_153 0 32 (dk_at dksX4_number_2 5 rfl rfl)
theorem dX4_number_56 : decode cX4_number 56 = .ok (.bipush 10, 2) := dk_16 10 (dk_at dksX4_number_2 8 rfl rfl)
theorem dX4_number_58 : decode cX4_number 58 = .ok (.iload_n 3, 1) := dk_29 (dk_at dksX4_number_2 10 rfl rfl)
theorem dX4_number_59 : decode cX4_number 59 = .ok (.imul, 1) := dk_104 (dk_at dksX4_number_2 11 rfl rfl)
theorem dX4_number_60 : decode cX4_number 60 = .ok (.aload_n 0, 1) := dk_42 (dk_at dksX4_number_2 12 rfl rfl)
theorem dX4_number_61 : decode cX4_number 61 = .ok (.invokevirtual 26, 3) := dk_182 0 26 (dk_at dksX4_number_2 13 rfl rfl)
theorem dX4_number_64 : decode cX4_number 64 = .ok (.iadd, 1) := dk_96 (dk_at dksX4_number_2 16 rfl rfl)
theorem dX4_number_65 : decode cX4_number 65 = .ok (.bipush 48, 2) := dk_16 48 (dk_at dksX4_number_2 17 rfl rfl)
theorem dX4_number_67 : decode cX4_number 67 = .ok (.isub, 1) := dk_100 (dk_at dksX4_number_2 19 rfl rfl)
theorem dX4_number_68 : decode cX4_number 68 = .ok (.istore_n 3, 1) := dk_62 (dk_at dksX4_number_2 20 rfl rfl)
theorem dX4_number_69 : decode cX4_number 69 = .ok (.aload_n 0, 1) := dk_42 (dk_at dksX4_number_2 21 rfl rfl)
theorem dX4_number_70 : decode cX4_number 70 = .ok (.dup, 1) := dk_89 (dk_at dksX4_number_2 22 rfl rfl)
theorem dX4_number_71 : decode cX4_number 71 = .ok (.getfield 15, 3) := dk_180 0 15 (dk_at dksX4_number_3 0 rfl rfl)
theorem dX4_number_74 : decode cX4_number 74 = .ok (.iconst 1, 1) := dk_4 (dk_at dksX4_number_3 3 rfl rfl)
theorem dX4_number_75 : decode cX4_number 75 = .ok (.iadd, 1) := dk_96 (dk_at dksX4_number_3 4 rfl rfl)
theorem dX4_number_76 : decode cX4_number 76 = .ok (.putfield 15, 3) := dk_181 0 15 (dk_at dksX4_number_3 5 rfl rfl)
theorem dX4_number_79 : decode cX4_number 79 = .ok (.iinc 4 1, 3) := dk_132 4 1 (dk_at dksX4_number_3 8 rfl rfl)
theorem dX4_number_82 : decode cX4_number 82 = .ok (.goto (-46), 3) := dk_167 255 210 (dk_at dksX4_number_3 11 rfl rfl)
theorem dX4_number_85 : decode cX4_number 85 = .ok (.iload_n 3, 1) := dk_29 (dk_at dksX4_number_3 14 rfl rfl)
theorem dX4_number_86 : decode cX4_number 86 = .ok (.iload_n 1, 1) := dk_27 (dk_at dksX4_number_3 15 rfl rfl)
theorem dX4_number_87 : decode cX4_number 87 = .ok (.if_icmp .ge 12, 3) := dk_162 0 12 (dk_at dksX4_number_3 16 rfl rfl)
theorem dX4_number_90 : decode cX4_number 90 = .ok (.new 30, 3) := dk_187 0 30 (dk_at dksX4_number_3 19 rfl rfl)
theorem dX4_number_93 : decode cX4_number 93 = .ok (.dup, 1) := dk_89 (dk_at dksX4_number_3 22 rfl rfl)
theorem dX4_number_94 : decode cX4_number 94 = .ok (.iload_n 2, 1) := dk_28 (dk_at dksX4_number_3 23 rfl rfl)
theorem dX4_number_95 : decode cX4_number 95 = .ok (.invokespecial 32, 3) := dk_183 0 32 (dk_at dksX4_number_4 0 rfl rfl)
theorem dX4_number_98 : decode cX4_number 98 = .ok (.athrow, 1) := dk_191 (dk_at dksX4_number_4 3 rfl rfl)
theorem dX4_number_99 : decode cX4_number 99 = .ok (.iload_n 3, 1) := dk_29 (dk_at dksX4_number_4 4 rfl rfl)
theorem dX4_number_100 : decode cX4_number 100 = .ok (.ireturn, 1) := dk_172 (dk_at dksX4_number_4 5 rfl rfl)
abbrev cX4_must : ByteArray := prog_11_method_3_code
def yX4_must : MethodName := ⟨RX4, "must", "(I)V"⟩
def dkwX4_must_1 : List UInt8 := [180, 0, 15, 4, 96, 181, 0, 15, 177]
abbrev dktX4_must_1 : List UInt8 := dkwX4_must_1 ++ []
def dkwX4_must_0 : List UInt8 := [42, 182, 0, 26, 27, 159, 0, 15, 187, 0, 30, 89, 42, 180, 0, 15, 183, 0, 32, 191, 42, 89]
abbrev dktX4_must_0 : List UInt8 := dkwX4_must_0 ++ dktX4_must_1
theorem dksX4_must_0 : cX4_must.data.toList.drop 0 = dktX4_must_0 := by decide +kernel
theorem dksX4_must_1 : cX4_must.data.toList.drop 22 = dktX4_must_1 := dk_seg dksX4_must_0 22 rfl rfl
theorem dX4_must_0 : decode cX4_must 0 = .ok (.aload_n 0, 1) := dk_42 (dk_at dksX4_must_0 0 rfl rfl)
theorem dX4_must_1 : decode cX4_must 1 = .ok (.invokevirtual 26, 3) := dk_182 0 26 (dk_at dksX4_must_0 1 rfl rfl)
theorem dX4_must_4 : decode cX4_must 4 = .ok (.iload_n 1, 1) := dk_27 (dk_at dksX4_must_0 4 rfl rfl)
theorem dX4_must_5 : decode cX4_must 5 = .ok (.if_icmp .eq 15, 3) := dk_159 0 15 (dk_at dksX4_must_0 5 rfl rfl)
theorem dX4_must_8 : decode cX4_must 8 = .ok (.new 30, 3) := dk_187 0 30 (dk_at dksX4_must_0 8 rfl rfl)
theorem dX4_must_11 : decode cX4_must 11 = .ok (.dup, 1) := dk_89 (dk_at dksX4_must_0 11 rfl rfl)
theorem dX4_must_12 : decode cX4_must 12 = .ok (.aload_n 0, 1) := dk_42 (dk_at dksX4_must_0 12 rfl rfl)
theorem dX4_must_13 : decode cX4_must 13 = .ok (.getfield 15, 3) := dk_180 0 15 (dk_at dksX4_must_0 13 rfl rfl)
theorem dX4_must_16 : decode cX4_must 16 = .ok (.invokespecial 32, 3) := dk_183 0 32 (dk_at dksX4_must_0 16 rfl rfl)
theorem dX4_must_19 : decode cX4_must 19 = .ok (.athrow, 1) := dk_191 (dk_at dksX4_must_0 19 rfl rfl)
theorem dX4_must_20 : decode cX4_must 20 = .ok (.aload_n 0, 1) := dk_42 (dk_at dksX4_must_0 20 rfl rfl)
theorem dX4_must_21 : decode cX4_must 21 = .ok (.dup, 1) := dk_89 (dk_at dksX4_must_0 21 rfl rfl)
theorem dX4_must_22 : decode cX4_must 22 = .ok (.getfield 15, 3) := dk_180 0 15 (dk_at dksX4_must_1 0 rfl rfl)
theorem dX4_must_25 : decode cX4_must 25 = .ok (.iconst 1, 1) := dk_4 (dk_at dksX4_must_1 3 rfl rfl)
theorem dX4_must_26 : decode cX4_must 26 = .ok (.iadd, 1) := dk_96 (dk_at dksX4_must_1 4 rfl rfl)
theorem dX4_must_27 : decode cX4_must 27 = .ok (.putfield 15, 3) := dk_181 0 15 (dk_at dksX4_must_1 5 rfl rfl)
theorem dX4_must_30 : decode cX4_must 30 = .ok (.return_, 1) := dk_177 (dk_at dksX4_must_1 8 rfl rfl)
abbrev cX4_readOne : ByteArray := prog_11_method_7_code
def yX4_readOne : MethodName := ⟨RX4, "readOne", "(II)LCardLoom$Law;"⟩
def dkwX4_readOne_3 : List UInt8 := [176]
abbrev dktX4_readOne_3 : List UInt8 := dkwX4_readOne_3 ++ []
def dkwX4_readOne_2 : List UInt8 := [29, 25, 4, 184, 0, 67, 176, 25, 4, 184, 0, 71, 176, 25, 4, 184, 0, 75, 176, 25, 4, 184, 0, 78]
abbrev dktX4_readOne_2 : List UInt8 := dkwX4_readOne_2 ++ dktX4_readOne_3
def dkwX4_readOne_1 : List UInt8 := [171, 0, 0, 0, 0, 0, 0, 55, 0, 0, 0, 3, 0, 0, 0, 100, 0, 0, 0, 43, 0, 0, 0, 114, 0, 0, 0, 49, 0, 0, 0, 115, 0, 0, 0, 36]
abbrev dktX4_readOne_1 : List UInt8 := dkwX4_readOne_1 ++ dktX4_readOne_2
def dkwX4_readOne_0 : List UInt8 := [27, 16, 115, 160, 0, 11, 42, 3, 182, 0, 46, 167, 0, 4, 3, 62, 42, 28, 182, 0, 64, 58, 4, 27]
abbrev dktX4_readOne_0 : List UInt8 := dkwX4_readOne_0 ++ dktX4_readOne_1
theorem dksX4_readOne_0 : cX4_readOne.data.toList.drop 0 = dktX4_readOne_0 := by decide +kernel
theorem dksX4_readOne_1 : cX4_readOne.data.toList.drop 24 = dktX4_readOne_1 := dk_seg dksX4_readOne_0 24 rfl rfl
theorem dksX4_readOne_2 : cX4_readOne.data.toList.drop 60 = dktX4_readOne_2 := dk_seg dksX4_readOne_1 36 rfl rfl
theorem dksX4_readOne_3 : cX4_readOne.data.toList.drop 84 = dktX4_readOne_3 := dk_seg dksX4_readOne_2 24 rfl rfl
theorem dX4_readOne_0 : decode cX4_readOne 0 = .ok (.iload_n 1, 1) := dk_27 (dk_at dksX4_readOne_0 0 rfl rfl)
theorem dX4_readOne_1 : decode cX4_readOne 1 = .ok (.bipush 115, 2) := dk_16 115 (dk_at dksX4_readOne_0 1 rfl rfl)
theorem dX4_readOne_3 : decode cX4_readOne 3 = .ok (.if_icmp .ne 11, 3) := dk_160 0 11 (dk_at dksX4_readOne_0 3 rfl rfl)
theorem dX4_readOne_6 : decode cX4_readOne 6 = .ok (.aload_n 0, 1) := dk_42 (dk_at dksX4_readOne_0 6 rfl rfl)
theorem dX4_readOne_7 : decode cX4_readOne 7 = .ok (.iconst 0, 1) := dk_3 (dk_at dksX4_readOne_0 7 rfl rfl)
theorem dX4_readOne_8 : decode cX4_readOne 8 = .ok (.invokevirtual 46, 3) := dk_182 0 46 (dk_at dksX4_readOne_0 8 rfl rfl)
theorem dX4_readOne_11 : decode cX4_readOne 11 = .ok (.goto 4, 3) := dk_167 0 4 (dk_at dksX4_readOne_0 11 rfl rfl)
theorem dX4_readOne_14 : decode cX4_readOne 14 = .ok (.iconst 0, 1) := dk_3 (dk_at dksX4_readOne_0 14 rfl rfl)
theorem dX4_readOne_15 : decode cX4_readOne 15 = .ok (.istore_n 3, 1) := dk_62 (dk_at dksX4_readOne_0 15 rfl rfl)
theorem dX4_readOne_16 : decode cX4_readOne 16 = .ok (.aload_n 0, 1) := dk_42 (dk_at dksX4_readOne_0 16 rfl rfl)
theorem dX4_readOne_17 : decode cX4_readOne 17 = .ok (.iload_n 2, 1) := dk_28 (dk_at dksX4_readOne_0 17 rfl rfl)
theorem dX4_readOne_18 : decode cX4_readOne 18 = .ok (.invokevirtual 64, 3) := dk_182 0 64 (dk_at dksX4_readOne_0 18 rfl rfl)
theorem dX4_readOne_21 : decode cX4_readOne 21 = .ok (.astore 4, 2) := dk_58 4 (dk_at dksX4_readOne_0 21 rfl rfl)
theorem dX4_readOne_23 : decode cX4_readOne 23 = .ok (.iload_n 1, 1) := dk_27 (dk_at dksX4_readOne_0 23 rfl rfl)
theorem dX4_readOne_24 : decode cX4_readOne 24 = .ok (.lookupswitch 55 #[(100, 43), (114, 49), (115, 36)], 36) := by decide +kernel
theorem dX4_readOne_60 : decode cX4_readOne 60 = .ok (.iload_n 3, 1) := dk_29 (dk_at dksX4_readOne_2 0 rfl rfl)
theorem dX4_readOne_61 : decode cX4_readOne 61 = .ok (.aload 4, 2) := dk_25 4 (dk_at dksX4_readOne_2 1 rfl rfl)
theorem dX4_readOne_63 : decode cX4_readOne 63 = .ok (.invokestatic 67, 3) := dk_184 0 67 (dk_at dksX4_readOne_2 3 rfl rfl)
theorem dX4_readOne_66 : decode cX4_readOne 66 = .ok (.areturn, 1) := dk_176 (dk_at dksX4_readOne_2 6 rfl rfl)
theorem dX4_readOne_67 : decode cX4_readOne 67 = .ok (.aload 4, 2) := dk_25 4 (dk_at dksX4_readOne_2 7 rfl rfl)
theorem dX4_readOne_69 : decode cX4_readOne 69 = .ok (.invokestatic 71, 3) := dk_184 0 71 (dk_at dksX4_readOne_2 9 rfl rfl)
theorem dX4_readOne_72 : decode cX4_readOne 72 = .ok (.areturn, 1) := dk_176 (dk_at dksX4_readOne_2 12 rfl rfl)
theorem dX4_readOne_73 : decode cX4_readOne 73 = .ok (.aload 4, 2) := dk_25 4 (dk_at dksX4_readOne_2 13 rfl rfl)
theorem dX4_readOne_75 : decode cX4_readOne 75 = .ok (.invokestatic 75, 3) := dk_184 0 75 (dk_at dksX4_readOne_2 15 rfl rfl)
theorem dX4_readOne_78 : decode cX4_readOne 78 = .ok (.areturn, 1) := dk_176 (dk_at dksX4_readOne_2 18 rfl rfl)
theorem dX4_readOne_79 : decode cX4_readOne 79 = .ok (.aload 4, 2) := dk_25 4 (dk_at dksX4_readOne_2 19 rfl rfl)
theorem dX4_readOne_81 : decode cX4_readOne 81 = .ok (.invokestatic 78, 3) := dk_184 0 78 (dk_at dksX4_readOne_2 21 rfl rfl)
theorem dX4_readOne_84 : decode cX4_readOne 84 = .ok (.areturn, 1) := dk_176 (dk_at dksX4_readOne_3 0 rfl rfl)
abbrev cX4_readWithin : ByteArray := prog_11_method_5_code
def yX4_readWithin : MethodName := ⟨RX4, "readWithin", "(I)LCardLoom$Law;"⟩
def dkwX4_readWithin_0 : List UInt8 := [42, 16, 40, 182, 0, 39, 42, 27, 4, 96, 182, 0, 42, 77, 42, 16, 41, 182, 0, 39, 44, 176]
abbrev dktX4_readWithin_0 : List UInt8 := dkwX4_readWithin_0 ++ []
theorem dksX4_readWithin_0 : cX4_readWithin.data.toList.drop 0 = dktX4_readWithin_0 := by decide +kernel
theorem dX4_readWithin_0 : decode cX4_readWithin 0 = .ok (.aload_n 0, 1) := dk_42 (dk_at dksX4_readWithin_0 0 rfl rfl)
theorem dX4_readWithin_1 : decode cX4_readWithin 1 = .ok (.bipush 40, 2) := dk_16 40 (dk_at dksX4_readWithin_0 1 rfl rfl)
theorem dX4_readWithin_3 : decode cX4_readWithin 3 = .ok (.invokevirtual 39, 3) := dk_182 0 39 (dk_at dksX4_readWithin_0 3 rfl rfl)
theorem dX4_readWithin_6 : decode cX4_readWithin 6 = .ok (.aload_n 0, 1) := dk_42 (dk_at dksX4_readWithin_0 6 rfl rfl)
theorem dX4_readWithin_7 : decode cX4_readWithin 7 = .ok (.iload_n 1, 1) := dk_27 (dk_at dksX4_readWithin_0 7 rfl rfl)
theorem dX4_readWithin_8 : decode cX4_readWithin 8 = .ok (.iconst 1, 1) := dk_4 (dk_at dksX4_readWithin_0 8 rfl rfl)
theorem dX4_readWithin_9 : decode cX4_readWithin 9 = .ok (.iadd, 1) := dk_96 (dk_at dksX4_readWithin_0 9 rfl rfl)
theorem dX4_readWithin_10 : decode cX4_readWithin 10 = .ok (.invokevirtual 42, 3) := dk_182 0 42 (dk_at dksX4_readWithin_0 10 rfl rfl)
theorem dX4_readWithin_13 : decode cX4_readWithin 13 = .ok (.astore_n 2, 1) := dk_77 (dk_at dksX4_readWithin_0 13 rfl rfl)
theorem dX4_readWithin_14 : decode cX4_readWithin 14 = .ok (.aload_n 0, 1) := dk_42 (dk_at dksX4_readWithin_0 14 rfl rfl)
theorem dX4_readWithin_15 : decode cX4_readWithin 15 = .ok (.bipush 41, 2) := dk_16 41 (dk_at dksX4_readWithin_0 15 rfl rfl)
theorem dX4_readWithin_17 : decode cX4_readWithin 17 = .ok (.invokevirtual 39, 3) := dk_182 0 39 (dk_at dksX4_readWithin_0 17 rfl rfl)
theorem dX4_readWithin_20 : decode cX4_readWithin 20 = .ok (.aload_n 2, 1) := dk_44 (dk_at dksX4_readWithin_0 20 rfl rfl)
theorem dX4_readWithin_21 : decode cX4_readWithin 21 = .ok (.areturn, 1) := dk_176 (dk_at dksX4_readWithin_0 21 rfl rfl)
theorem q86 : (Jvm.Cond.initialized "CardLoom$Reader") ∈ lw_all := lw_g (lw_at lw_m1 9 rfl) rfl
theorem q202 : (Jvm.Cond.fieldLinkNest "CardLoom$Reader" (22 : Nat) "CardLoom" "tape" "[B" "CardLoom") ∈ lw_tbl := lw_at lw_m1 125 rfl
theorem q203 : (Jvm.Cond.fieldLinkNest "CardLoom$Reader" (19 : Nat) "CardLoom" "fed" "I" "CardLoom") ∈ lw_tbl := lw_at lw_m1 126 rfl
theorem q262 : (Jvm.Cond.instantiable "CardLoom$Reader" (3 : Nat)) ∈ lw_all := lw_g (lw_at lw_m1 185 rfl) rfl
theorem q264 : (Jvm.Cond.instanceMethod ({ cls := "CardLoom$Reader", name := "<init>", desc := "(LCardLoom;)V" } : Jvm.MethodName)) ∈ lw_all := lw_g (lw_at lw_m1 187 rfl) rfl
theorem q265 : (Jvm.Cond.code ({ cls := "CardLoom$Reader", name := "<init>", desc := "(LCardLoom;)V" } : Jvm.MethodName) prog_11_method_1_code (2 : Nat) (Option.none : Option Jvm.ClassFile.FieldType)) ∈ lw_all := lw_g (lw_at lw_m1 188 rfl) rfl
theorem q266 : (Jvm.Cond.methodLink "CardLoom$Reader" (9 : Nat) ({ cls := "java/lang/Object", name := "<init>", desc := "()V" } : Jvm.MethodName)) ∈ lw_all := lw_g (lw_at lw_m1 189 rfl) rfl
theorem q267 : (Jvm.Cond.fieldLink "CardLoom$Reader" (15 : Nat) "CardLoom$Reader" "at" "I") ∈ lw_all := lw_g (lw_at lw_m1 190 rfl) rfl
theorem q268 : (Jvm.Cond.fieldLink "CardLoom$Reader" (95 : Nat) "CardLoom$Reader" "letters" "I") ∈ lw_all := lw_g (lw_at lw_m1 191 rfl) rfl
theorem q270 : (Jvm.Cond.fieldLink "CardLoom$Reader" (3 : Nat) "CardLoom$Reader" "this$0" "LCardLoom;") ∈ lw_all := lw_g (lw_at lw_m1 193 rfl) rfl
theorem q271 : (Jvm.Cond.lays "CardLoom$Reader" "CardLoom$Reader" "at" "I") ∈ lw_all := lw_g (lw_at lw_m1 194 rfl) rfl
theorem q272 : (Jvm.Cond.soleField "CardLoom$Reader" "at") ∈ lw_all := lw_g (lw_at lw_m1 195 rfl) rfl
theorem q273 : (Jvm.Cond.lays "CardLoom$Reader" "CardLoom$Reader" "letters" "I") ∈ lw_all := lw_g (lw_at lw_m1 196 rfl) rfl
theorem q274 : (Jvm.Cond.soleField "CardLoom$Reader" "letters") ∈ lw_all := lw_g (lw_at lw_m1 197 rfl) rfl
theorem q275 : (Jvm.Cond.laysFinal "CardLoom$Reader" "CardLoom$Reader" "this$0" "LCardLoom;") ∈ lw_all := lw_g (lw_at lw_m1 198 rfl) rfl
theorem q276 : (Jvm.Cond.soleField "CardLoom$Reader" "this$0") ∈ lw_all := lw_g (lw_at lw_m1 199 rfl) rfl
theorem q277 : (Jvm.Cond.superclass "CardLoom$Reader" "java/lang/Object") ∈ lw_all := lw_g (lw_at lw_m1 200 rfl) rfl
theorem q279 : (Jvm.Cond.instanceMethod ({ cls := "CardLoom$Reader", name := "threading", desc := "()Ljava/util/ArrayList;" } : Jvm.MethodName)) ∈ lw_all := lw_g (lw_at lw_m1 202 rfl) rfl
theorem q280 : (Jvm.Cond.selects "CardLoom$Reader" ({ cls := "CardLoom$Reader", name := "threading", desc := "()Ljava/util/ArrayList;" } : Jvm.MethodName) ({ cls := "CardLoom$Reader", name := "threading", desc := "()Ljava/util/ArrayList;" } : Jvm.MethodName)) ∈ lw_all := lw_g (lw_at lw_m1 203 rfl) rfl
theorem q281 : (Jvm.Cond.code ({ cls := "CardLoom$Reader", name := "threading", desc := "()Ljava/util/ArrayList;" } : Jvm.MethodName) prog_11_method_11_code (2 : Nat) (Option.some (Jvm.ClassFile.FieldType.object "java/util/ArrayList"))) ∈ lw_all := lw_g (lw_at lw_m1 204 rfl) rfl
theorem q282 : (Jvm.Cond.classLink "CardLoom$Reader" (115 : Nat) "java/util/ArrayList") ∈ lw_all := lw_g (lw_at lw_m1 205 rfl) rfl
theorem q283 : (Jvm.Cond.methodLink "CardLoom$Reader" (117 : Nat) ({ cls := "java/util/ArrayList", name := "<init>", desc := "()V" } : Jvm.MethodName)) ∈ lw_all := lw_g (lw_at lw_m1 206 rfl) rfl
theorem q284 : (Jvm.Cond.methodLink "CardLoom$Reader" (118 : Nat) ({ cls := "CardLoom$Reader", name := "readCard", desc := "()LCardLoom$Card;" } : Jvm.MethodName)) ∈ lw_all := lw_g (lw_at lw_m1 207 rfl) rfl
theorem q285 : (Jvm.Cond.privateMethod ({ cls := "CardLoom$Reader", name := "readCard", desc := "()LCardLoom$Card;" } : Jvm.MethodName)) ∈ lw_tbl := lw_at lw_m1 208 rfl
theorem q286 : (Jvm.Cond.instanceMethod ({ cls := "CardLoom$Reader", name := "readCard", desc := "()LCardLoom$Card;" } : Jvm.MethodName)) ∈ lw_all := lw_g (lw_at lw_m1 209 rfl) rfl
theorem q287 : (Jvm.Cond.code ({ cls := "CardLoom$Reader", name := "readCard", desc := "()LCardLoom$Card;" } : Jvm.MethodName) prog_11_method_10_code (3 : Nat) (Option.some (Jvm.ClassFile.FieldType.object "CardLoom$Card"))) ∈ lw_all := lw_g (lw_at lw_m1 210 rfl) rfl
theorem q288 : (Jvm.Cond.methodLink "CardLoom$Reader" (26 : Nat) ({ cls := "CardLoom$Reader", name := "here", desc := "()I" } : Jvm.MethodName)) ∈ lw_all := lw_g (lw_at lw_m1 211 rfl) rfl
theorem q289 : (Jvm.Cond.privateMethod ({ cls := "CardLoom$Reader", name := "here", desc := "()I" } : Jvm.MethodName)) ∈ lw_tbl := lw_at lw_m1 212 rfl
theorem q290 : (Jvm.Cond.instanceMethod ({ cls := "CardLoom$Reader", name := "here", desc := "()I" } : Jvm.MethodName)) ∈ lw_all := lw_g (lw_at lw_m1 213 rfl) rfl
theorem q291 : (Jvm.Cond.code ({ cls := "CardLoom$Reader", name := "here", desc := "()I" } : Jvm.MethodName) prog_11_method_2_code (1 : Nat) (Option.some Jvm.ClassFile.FieldType.int)) ∈ lw_all := lw_g (lw_at lw_m1 214 rfl) rfl
theorem q292 : (Jvm.Cond.methodLinkNest "CardLoom$Reader" (35 : Nat) ({ cls := "CardLoom", name := "isIn", desc := "(III)Z" } : Jvm.MethodName) "CardLoom") ∈ lw_tbl := lw_at lw_m1 215 rfl
theorem q293 : (Jvm.Cond.classLink "CardLoom$Reader" (30 : Nat) "CardLoom$Wrong") ∈ lw_all := lw_g (lw_at lw_m1 216 rfl) rfl
theorem q346 : (Jvm.Cond.methodLink "CardLoom$Reader" (32 : Nat) ({ cls := "CardLoom$Wrong", name := "<init>", desc := "(I)V" } : Jvm.MethodName)) ∈ lw_all := lw_g (lw_at lw_m2 29 rfl) rfl
theorem q372 : (Jvm.Cond.classLink "CardLoom$Reader" (107 : Nat) "CardLoom$Card") ∈ lw_all := lw_g (lw_at lw_m2 55 rfl) rfl
theorem q374 : (Jvm.Cond.methodLink "CardLoom$Reader" (109 : Nat) ({ cls := "CardLoom$Card", name := "<init>", desc := "([I)V" } : Jvm.MethodName)) ∈ lw_all := lw_g (lw_at lw_m2 57 rfl) rfl
theorem q383 : (Jvm.Cond.fieldLinkNest "CardLoom$Reader" (112 : Nat) "CardLoom$Card" "slant" "I" "CardLoom") ∈ lw_tbl := lw_at lw_m2 66 rfl
theorem q399 : (Jvm.Cond.methodLink "CardLoom$Reader" (122 : Nat) ({ cls := "java/util/ArrayList", name := "add", desc := "(Ljava/lang/Object;)Z" } : Jvm.MethodName)) ∈ lw_all := lw_g (lw_at lw_m2 82 rfl) rfl
theorem q438 : (Jvm.Cond.selects "CardLoom$Reader" ({ cls := "java/lang/Object", name := "getClass", desc := "()Ljava/lang/Class;" } : Jvm.MethodName) ({ cls := "java/lang/Object", name := "getClass", desc := "()Ljava/lang/Class;" } : Jvm.MethodName)) ∈ lw_all := lw_g (lw_at lw_m2 121 rfl) rfl
theorem q479 : (Jvm.Cond.methodLink "CardLoom$Reader" (126 : Nat) ({ cls := "java/util/ArrayList", name := "size", desc := "()I" } : Jvm.MethodName)) ∈ lw_all := lw_g (lw_at lw_m2 162 rfl) rfl
theorem q493 : (Jvm.Cond.instanceMethod ({ cls := "CardLoom$Reader", name := "law", desc := "()LCardLoom$Law;" } : Jvm.MethodName)) ∈ lw_all := lw_g (lw_at lw_m2 176 rfl) rfl
theorem q494 : (Jvm.Cond.selects "CardLoom$Reader" ({ cls := "CardLoom$Reader", name := "law", desc := "()LCardLoom$Law;" } : Jvm.MethodName) ({ cls := "CardLoom$Reader", name := "law", desc := "()LCardLoom$Law;" } : Jvm.MethodName)) ∈ lw_all := lw_g (lw_at lw_m2 177 rfl) rfl
theorem q495 : (Jvm.Cond.code ({ cls := "CardLoom$Reader", name := "law", desc := "()LCardLoom$Law;" } : Jvm.MethodName) prog_11_method_9_code (2 : Nat) (Option.some (Jvm.ClassFile.FieldType.object "CardLoom$Law"))) ∈ lw_all := lw_g (lw_at lw_m2 178 rfl) rfl
theorem q496 : (Jvm.Cond.methodLink "CardLoom$Reader" (42 : Nat) ({ cls := "CardLoom$Reader", name := "readLaw", desc := "(I)LCardLoom$Law;" } : Jvm.MethodName)) ∈ lw_all := lw_g (lw_at lw_m2 179 rfl) rfl
theorem q497 : (Jvm.Cond.privateMethod ({ cls := "CardLoom$Reader", name := "readLaw", desc := "(I)LCardLoom$Law;" } : Jvm.MethodName)) ∈ lw_tbl := lw_at lw_m2 180 rfl
theorem q498 : (Jvm.Cond.instanceMethod ({ cls := "CardLoom$Reader", name := "readLaw", desc := "(I)LCardLoom$Law;" } : Jvm.MethodName)) ∈ lw_all := lw_g (lw_at lw_m2 181 rfl) rfl
theorem q499 : (Jvm.Cond.code ({ cls := "CardLoom$Reader", name := "readLaw", desc := "(I)LCardLoom$Law;" } : Jvm.MethodName) prog_11_method_8_code (6 : Nat) (Option.some (Jvm.ClassFile.FieldType.object "CardLoom$Law"))) ∈ lw_all := lw_g (lw_at lw_m2 182 rfl) rfl
theorem q500 : (Jvm.Cond.stringRef "CardLoom$Reader" (81 : Nat) "ifbh") ∈ lw_tbl := lw_at lw_m2 183 rfl
theorem q501 : (Jvm.Cond.methodLink "CardLoom$Reader" (83 : Nat) ({ cls := "java/lang/String", name := "indexOf", desc := "(I)I" } : Jvm.MethodName)) ∈ lw_all := lw_g (lw_at lw_m2 184 rfl) rfl
theorem q583 : (Jvm.Cond.methodLink "CardLoom$Reader" (88 : Nat) ({ cls := "CardLoom$Reader", name := "readTwo", desc := "(II)LCardLoom$Law;" } : Jvm.MethodName)) ∈ lw_all := lw_g (lw_at lw_m3 26 rfl) rfl
theorem q584 : (Jvm.Cond.privateMethod ({ cls := "CardLoom$Reader", name := "readTwo", desc := "(II)LCardLoom$Law;" } : Jvm.MethodName)) ∈ lw_tbl := lw_at lw_m3 27 rfl
theorem q585 : (Jvm.Cond.instanceMethod ({ cls := "CardLoom$Reader", name := "readTwo", desc := "(II)LCardLoom$Law;" } : Jvm.MethodName)) ∈ lw_all := lw_g (lw_at lw_m3 28 rfl) rfl
theorem q586 : (Jvm.Cond.code ({ cls := "CardLoom$Reader", name := "readTwo", desc := "(II)LCardLoom$Law;" } : Jvm.MethodName) prog_11_method_6_code (6 : Nat) (Option.some (Jvm.ClassFile.FieldType.object "CardLoom$Law"))) ∈ lw_all := lw_g (lw_at lw_m3 29 rfl) rfl
theorem q587 : (Jvm.Cond.methodLink "CardLoom$Reader" (46 : Nat) ({ cls := "CardLoom$Reader", name := "number", desc := "(I)I" } : Jvm.MethodName)) ∈ lw_all := lw_g (lw_at lw_m3 30 rfl) rfl
theorem q588 : (Jvm.Cond.privateMethod ({ cls := "CardLoom$Reader", name := "number", desc := "(I)I" } : Jvm.MethodName)) ∈ lw_tbl := lw_at lw_m3 31 rfl
theorem q589 : (Jvm.Cond.instanceMethod ({ cls := "CardLoom$Reader", name := "number", desc := "(I)I" } : Jvm.MethodName)) ∈ lw_all := lw_g (lw_at lw_m3 32 rfl) rfl
theorem q590 : (Jvm.Cond.code ({ cls := "CardLoom$Reader", name := "number", desc := "(I)I" } : Jvm.MethodName) prog_11_method_4_code (5 : Nat) (Option.some Jvm.ClassFile.FieldType.int)) ∈ lw_all := lw_g (lw_at lw_m3 33 rfl) rfl
theorem q591 : (Jvm.Cond.methodLink "CardLoom$Reader" (39 : Nat) ({ cls := "CardLoom$Reader", name := "must", desc := "(I)V" } : Jvm.MethodName)) ∈ lw_all := lw_g (lw_at lw_m3 34 rfl) rfl
theorem q592 : (Jvm.Cond.privateMethod ({ cls := "CardLoom$Reader", name := "must", desc := "(I)V" } : Jvm.MethodName)) ∈ lw_tbl := lw_at lw_m3 35 rfl
theorem q593 : (Jvm.Cond.instanceMethod ({ cls := "CardLoom$Reader", name := "must", desc := "(I)V" } : Jvm.MethodName)) ∈ lw_all := lw_g (lw_at lw_m3 36 rfl) rfl
theorem q594 : (Jvm.Cond.code ({ cls := "CardLoom$Reader", name := "must", desc := "(I)V" } : Jvm.MethodName) prog_11_method_3_code (2 : Nat) (Option.none : Option Jvm.ClassFile.FieldType)) ∈ lw_all := lw_g (lw_at lw_m3 37 rfl) rfl
theorem q595 : (Jvm.Cond.methodLinkNest "CardLoom$Reader" (50 : Nat) ({ cls := "CardLoom", name := "inTurn", desc := "(ILCardLoom$Law;LCardLoom$Law;)LCardLoom$Law;" } : Jvm.MethodName) "CardLoom") ∈ lw_tbl := lw_at lw_m3 38 rfl
theorem q604 : (Jvm.Cond.methodLinkNest "CardLoom$Reader" (54 : Nat) ({ cls := "CardLoom", name := "byCards", desc := "(ILCardLoom$Law;LCardLoom$Law;)LCardLoom$Law;" } : Jvm.MethodName) "CardLoom") ∈ lw_tbl := lw_at lw_m3 47 rfl
theorem q609 : (Jvm.Cond.methodLinkNest "CardLoom$Reader" (57 : Nat) ({ cls := "CardLoom", name := "eachOf", desc := "(ILCardLoom$Law;LCardLoom$Law;)LCardLoom$Law;" } : Jvm.MethodName) "CardLoom") ∈ lw_tbl := lw_at lw_m3 52 rfl
theorem q614 : (Jvm.Cond.methodLinkNest "CardLoom$Reader" (60 : Nat) ({ cls := "CardLoom", name := "first", desc := "(LCardLoom$Law;LCardLoom$Law;)LCardLoom$Law;" } : Jvm.MethodName) "CardLoom") ∈ lw_tbl := lw_at lw_m3 57 rfl
theorem q619 : (Jvm.Cond.methodLink "CardLoom$Reader" (92 : Nat) ({ cls := "CardLoom$Reader", name := "readOne", desc := "(II)LCardLoom$Law;" } : Jvm.MethodName)) ∈ lw_all := lw_g (lw_at lw_m3 62 rfl) rfl
theorem q620 : (Jvm.Cond.privateMethod ({ cls := "CardLoom$Reader", name := "readOne", desc := "(II)LCardLoom$Law;" } : Jvm.MethodName)) ∈ lw_tbl := lw_at lw_m3 63 rfl
theorem q621 : (Jvm.Cond.instanceMethod ({ cls := "CardLoom$Reader", name := "readOne", desc := "(II)LCardLoom$Law;" } : Jvm.MethodName)) ∈ lw_all := lw_g (lw_at lw_m3 64 rfl) rfl
theorem q622 : (Jvm.Cond.code ({ cls := "CardLoom$Reader", name := "readOne", desc := "(II)LCardLoom$Law;" } : Jvm.MethodName) prog_11_method_7_code (5 : Nat) (Option.some (Jvm.ClassFile.FieldType.object "CardLoom$Law"))) ∈ lw_all := lw_g (lw_at lw_m3 65 rfl) rfl
theorem q623 : (Jvm.Cond.methodLink "CardLoom$Reader" (64 : Nat) ({ cls := "CardLoom$Reader", name := "readWithin", desc := "(I)LCardLoom$Law;" } : Jvm.MethodName)) ∈ lw_all := lw_g (lw_at lw_m3 66 rfl) rfl
theorem q624 : (Jvm.Cond.privateMethod ({ cls := "CardLoom$Reader", name := "readWithin", desc := "(I)LCardLoom$Law;" } : Jvm.MethodName)) ∈ lw_tbl := lw_at lw_m3 67 rfl
theorem q625 : (Jvm.Cond.instanceMethod ({ cls := "CardLoom$Reader", name := "readWithin", desc := "(I)LCardLoom$Law;" } : Jvm.MethodName)) ∈ lw_all := lw_g (lw_at lw_m3 68 rfl) rfl
theorem q626 : (Jvm.Cond.code ({ cls := "CardLoom$Reader", name := "readWithin", desc := "(I)LCardLoom$Law;" } : Jvm.MethodName) prog_11_method_5_code (3 : Nat) (Option.some (Jvm.ClassFile.FieldType.object "CardLoom$Law"))) ∈ lw_all := lw_g (lw_at lw_m3 69 rfl) rfl
theorem q627 : (Jvm.Cond.methodLinkNest "CardLoom$Reader" (67 : Nat) ({ cls := "CardLoom", name := "later", desc := "(ILCardLoom$Law;)LCardLoom$Law;" } : Jvm.MethodName) "CardLoom") ∈ lw_tbl := lw_at lw_m3 70 rfl
theorem q632 : (Jvm.Cond.methodLinkNest "CardLoom$Reader" (71 : Nat) ({ cls := "CardLoom", name := "slanting", desc := "(LCardLoom$Law;)LCardLoom$Law;" } : Jvm.MethodName) "CardLoom") ∈ lw_tbl := lw_at lw_m3 75 rfl
theorem q637 : (Jvm.Cond.methodLinkNest "CardLoom$Reader" (75 : Nat) ({ cls := "CardLoom", name := "reversed", desc := "(LCardLoom$Law;)LCardLoom$Law;" } : Jvm.MethodName) "CardLoom") ∈ lw_tbl := lw_at lw_m3 80 rfl
theorem q660 : (Jvm.Cond.methodLinkNest "CardLoom$Reader" (78 : Nat) ({ cls := "CardLoom", name := "mirrored", desc := "(LCardLoom$Law;)LCardLoom$Law;" } : Jvm.MethodName) "CardLoom") ∈ lw_tbl := lw_at lw_m3 103 rfl
theorem q665 : (Jvm.Cond.methodLink "CardLoom$Reader" (98 : Nat) ({ cls := "CardLoom$Turning", name := "at", desc := "(I)LCardLoom$Turning;" } : Jvm.MethodName)) ∈ lw_all := lw_g (lw_at lw_m3 108 rfl) rfl
theorem q673 : (Jvm.Cond.methodLinkNest "CardLoom$Reader" (103 : Nat) ({ cls := "CardLoom", name := "always", desc := "(LCardLoom$Turning;)LCardLoom$Law;" } : Jvm.MethodName) "CardLoom") ∈ lw_tbl := lw_at lw_m3 116 rfl
theorem q2759 : (Jvm.Cond.castable "CardLoom$Reader" "java/lang/Object") ∈ lw_tbl := lw_at lw_m12 42 rfl
theorem in_X4 : ∀ w ∈ wsX40, w ∈ lw_all := lw_in wsX40 [271, 273, 275] (by decide +kernel) (by decide +kernel)
/-! CardLoom$Wrong -/
set_option maxRecDepth 100000
def RX5 : String := "CardLoom$Wrong"
def TX5 : u_T := fun k => match k with
  | 0 => ("java/lang/Throwable", "cause", "Ljava/lang/Throwable;", false)
  | 1 => ("java/lang/Throwable", "stackTrace", "[Ljava/lang/StackTraceElement;", false)
  | 2 => ("java/lang/Throwable", "suppressedExceptions", "Ljava/util/List;", false)
  | 3 => ("java/lang/Throwable", "detailMessage", "Ljava/lang/String;", false)
  | 4 => ("java/lang/Throwable", "backtrace", "Ljava/lang/Object;", false)
  | 5 => ("java/lang/Throwable", "depth", "I", false)
  | _ => ("CardLoom$Wrong", "place", "I", true)
def tyX5 : Nat → FieldType := fun k => match k with
  | 0 => .object "java/lang/Throwable"
  | 1 => .array (.object "java/lang/StackTraceElement")
  | 2 => .object "java/util/List"
  | 3 => .object "java/lang/String"
  | 4 => .object "java/lang/Object"
  | 5 => .int
  | _ => .int
abbrev wsX50 : List Cond := u_ws RX5 TX5 7
theorem nmX5 : ∀ a, a < 7 → ∀ b, b < 7 → a ≠ b → (TX5 a).2.1 ≠ (TX5 b).2.1 := by decide +kernel
theorem tyX5_ok : ∀ k, k < 7 → parseFieldDescriptor (TX5 k).2.2.1 = some (tyX5 k) := by decide +kernel
abbrev cX5_init : ByteArray := prog_18_method_1_code
def yX5_init : MethodName := ⟨RX5, "<init>", "(I)V"⟩
def dkwX5_init_0 : List UInt8 := [42, 1, 1, 3, 3, 183, 0, 1, 42, 27, 181, 0, 7, 177]
abbrev dktX5_init_0 : List UInt8 := dkwX5_init_0 ++ []
theorem dksX5_init_0 : cX5_init.data.toList.drop 0 = dktX5_init_0 := by decide +kernel
theorem dX5_init_0 : decode cX5_init 0 = .ok (.aload_n 0, 1) := dk_42 (dk_at dksX5_init_0 0 rfl rfl)
theorem dX5_init_1 : decode cX5_init 1 = .ok (.aconst_null, 1) := dk_1 (dk_at dksX5_init_0 1 rfl rfl)
theorem dX5_init_2 : decode cX5_init 2 = .ok (.aconst_null, 1) := dk_1 (dk_at dksX5_init_0 2 rfl rfl)
theorem dX5_init_3 : decode cX5_init 3 = .ok (.iconst 0, 1) := dk_3 (dk_at dksX5_init_0 3 rfl rfl)
theorem dX5_init_4 : decode cX5_init 4 = .ok (.iconst 0, 1) := dk_3 (dk_at dksX5_init_0 4 rfl rfl)
theorem dX5_init_5 : decode cX5_init 5 = .ok (.invokespecial 1, 3) := dk_183 0 1 (dk_at dksX5_init_0 5 rfl rfl)
theorem dX5_init_8 : decode cX5_init 8 = .ok (.aload_n 0, 1) := dk_42 (dk_at dksX5_init_0 8 rfl rfl)
theorem dX5_init_9 : decode cX5_init 9 = .ok (.iload_n 1, 1) := dk_27 (dk_at dksX5_init_0 9 rfl rfl)
theorem dX5_init_10 : decode cX5_init 10 = .ok (.putfield 7, 3) := dk_181 0 7 (dk_at dksX5_init_0 10 rfl rfl)
theorem dX5_init_13 : decode cX5_init 13 = .ok (.return_, 1) := dk_177 (dk_at dksX5_init_0 13 rfl rfl)
theorem q89 : (Jvm.Cond.initialized "CardLoom$Wrong") ∈ lw_all := lw_g (lw_at lw_m1 12 rfl) rfl
theorem q294 : (Jvm.Cond.instantiable "CardLoom$Wrong" (7 : Nat)) ∈ lw_all := lw_g (lw_at lw_m1 217 rfl) rfl
theorem q295 : (Jvm.Cond.castable "CardLoom$Wrong" "CardLoom$Wrong") ∈ lw_tbl := lw_at lw_m1 218 rfl
theorem q300 : (Jvm.Cond.selects "CardLoom$Wrong" ({ cls := "java/lang/Throwable", name := "fillInStackTrace", desc := "(I)Ljava/lang/Throwable;" } : Jvm.MethodName) ({ cls := "java/lang/Throwable", name := "fillInStackTrace", desc := "(I)Ljava/lang/Throwable;" } : Jvm.MethodName)) ∈ lw_all := lw_g (lw_at lw_m1 223 rfl) rfl
theorem q301 : (Jvm.Cond.selects "CardLoom$Wrong" ({ cls := "java/lang/Throwable", name := "fillInStackTrace", desc := "()Ljava/lang/Throwable;" } : Jvm.MethodName) ({ cls := "java/lang/Throwable", name := "fillInStackTrace", desc := "()Ljava/lang/Throwable;" } : Jvm.MethodName)) ∈ lw_all := lw_g (lw_at lw_m1 224 rfl) rfl
theorem q302 : (Jvm.Cond.lays "CardLoom$Wrong" "java/lang/Throwable" "cause" "Ljava/lang/Throwable;") ∈ lw_all := lw_g (lw_at lw_m1 225 rfl) rfl
theorem q304 : (Jvm.Cond.lays "CardLoom$Wrong" "java/lang/Throwable" "stackTrace" "[Ljava/lang/StackTraceElement;") ∈ lw_all := lw_g (lw_at lw_m1 227 rfl) rfl
theorem q306 : (Jvm.Cond.lays "CardLoom$Wrong" "java/lang/Throwable" "suppressedExceptions" "Ljava/util/List;") ∈ lw_all := lw_g (lw_at lw_m1 229 rfl) rfl
theorem q308 : (Jvm.Cond.lays "CardLoom$Wrong" "java/lang/Throwable" "detailMessage" "Ljava/lang/String;") ∈ lw_all := lw_g (lw_at lw_m1 231 rfl) rfl
theorem q310 : (Jvm.Cond.lays "CardLoom$Wrong" "java/lang/Throwable" "backtrace" "Ljava/lang/Object;") ∈ lw_all := lw_g (lw_at lw_m1 233 rfl) rfl
theorem q347 : (Jvm.Cond.instanceMethod ({ cls := "CardLoom$Wrong", name := "<init>", desc := "(I)V" } : Jvm.MethodName)) ∈ lw_all := lw_g (lw_at lw_m2 30 rfl) rfl
theorem q348 : (Jvm.Cond.code ({ cls := "CardLoom$Wrong", name := "<init>", desc := "(I)V" } : Jvm.MethodName) prog_18_method_1_code (2 : Nat) (Option.none : Option Jvm.ClassFile.FieldType)) ∈ lw_all := lw_g (lw_at lw_m2 31 rfl) rfl
theorem q349 : (Jvm.Cond.methodLink "CardLoom$Wrong" (1 : Nat) ({ cls := "java/lang/Exception", name := "<init>", desc := "(Ljava/lang/String;Ljava/lang/Throwable;ZZ)V" } : Jvm.MethodName)) ∈ lw_all := lw_g (lw_at lw_m2 32 rfl) rfl
theorem q355 : (Jvm.Cond.fieldLink "CardLoom$Wrong" (7 : Nat) "CardLoom$Wrong" "place" "I") ∈ lw_all := lw_g (lw_at lw_m2 38 rfl) rfl
theorem q362 : (Jvm.Cond.laysFinal "CardLoom$Wrong" "CardLoom$Wrong" "place" "I") ∈ lw_all := lw_g (lw_at lw_m2 45 rfl) rfl
theorem q363 : (Jvm.Cond.soleField "CardLoom$Wrong" "place") ∈ lw_all := lw_g (lw_at lw_m2 46 rfl) rfl
theorem q368 : (Jvm.Cond.lays "CardLoom$Wrong" "java/lang/Throwable" "depth" "I") ∈ lw_all := lw_g (lw_at lw_m2 51 rfl) rfl
theorem q371 : (Jvm.Cond.superclass "CardLoom$Wrong" "java/lang/Exception") ∈ lw_all := lw_g (lw_at lw_m2 54 rfl) rfl
theorem q444 : (Jvm.Cond.selects "CardLoom$Wrong" ({ cls := "java/lang/Object", name := "getClass", desc := "()Ljava/lang/Class;" } : Jvm.MethodName) ({ cls := "java/lang/Object", name := "getClass", desc := "()Ljava/lang/Class;" } : Jvm.MethodName)) ∈ lw_all := lw_g (lw_at lw_m2 127 rfl) rfl
theorem q2760 : (Jvm.Cond.castable "CardLoom$Wrong" "java/lang/Object") ∈ lw_tbl := lw_at lw_m12 43 rfl
theorem in_X5 : ∀ w ∈ wsX50, w ∈ lw_all := lw_in wsX50 [302, 304, 306, 308, 310, 368, 362] (by decide +kernel) (by decide +kernel)
/-! CardLoom$Card -/
set_option maxRecDepth 100000
def RX6 : String := "CardLoom$Card"
def TX6 : u_T := fun k => match k with
  | 0 => ("CardLoom$Card", "holes", "[I", true)
  | 1 => ("CardLoom$Card", "slant", "I", false)
  | 2 => ("CardLoom$Card", "place", "I", false)
  | _ => ("CardLoom$Card", "twist", "I", false)
def tyX6 : Nat → FieldType := fun k => match k with
  | 0 => .array .int
  | 1 => .int
  | 2 => .int
  | _ => .int
abbrev wsX60 : List Cond := u_ws RX6 TX6 4
theorem nmX6 : ∀ a, a < 4 → ∀ b, b < 4 → a ≠ b → (TX6 a).2.1 ≠ (TX6 b).2.1 := by decide +kernel
theorem tyX6_ok : ∀ k, k < 4 → parseFieldDescriptor (TX6 k).2.2.1 = some (tyX6 k) := by decide +kernel
abbrev cX6_init : ByteArray := prog_6_method_1_code
def yX6_init : MethodName := ⟨RX6, "<init>", "([I)V"⟩
def dkwX6_init_0 : List UInt8 := [42, 183, 0, 3, 42, 43, 181, 0, 9, 177]
abbrev dktX6_init_0 : List UInt8 := dkwX6_init_0 ++ []
theorem dksX6_init_0 : cX6_init.data.toList.drop 0 = dktX6_init_0 := by decide +kernel
theorem dX6_init_0 : decode cX6_init 0 = .ok (.aload_n 0, 1) := dk_42 (dk_at dksX6_init_0 0 rfl rfl)
theorem dX6_init_1 : decode cX6_init 1 = .ok (.invokespecial 3, 3) := dk_183 0 3 (dk_at dksX6_init_0 1 rfl rfl)
theorem dX6_init_4 : decode cX6_init 4 = .ok (.aload_n 0, 1) := dk_42 (dk_at dksX6_init_0 4 rfl rfl)
theorem dX6_init_5 : decode cX6_init 5 = .ok (.aload_n 1, 1) := dk_43 (dk_at dksX6_init_0 5 rfl rfl)
theorem dX6_init_6 : decode cX6_init 6 = .ok (.putfield 9, 3) := dk_181 0 9 (dk_at dksX6_init_0 6 rfl rfl)
theorem dX6_init_9 : decode cX6_init 9 = .ok (.return_, 1) := dk_177 (dk_at dksX6_init_0 9 rfl rfl)
abbrev cX6_jams : ByteArray := prog_6_method_5_code
def yX6_jams : MethodName := ⟨RX6, "jams", "(LCardLoom$Turning;)Z"⟩
def dkwX6_jams_1 : List UInt8 := [172]
abbrev dktX6_jams_1 : List UInt8 := dkwX6_jams_1 ++ []
def dkwX6_jams_0 : List UInt8 := [42, 180, 0, 30, 43, 182, 0, 33, 96, 16, 157, 16, 99, 184, 0, 38, 154, 0, 7, 4, 167, 0, 4, 3]
abbrev dktX6_jams_0 : List UInt8 := dkwX6_jams_0 ++ dktX6_jams_1
theorem dksX6_jams_0 : cX6_jams.data.toList.drop 0 = dktX6_jams_0 := by decide +kernel
theorem dksX6_jams_1 : cX6_jams.data.toList.drop 24 = dktX6_jams_1 := dk_seg dksX6_jams_0 24 rfl rfl
theorem dX6_jams_0 : decode cX6_jams 0 = .ok (.aload_n 0, 1) := dk_42 (dk_at dksX6_jams_0 0 rfl rfl)
theorem dX6_jams_1 : decode cX6_jams 1 = .ok (.getfield 30, 3) := dk_180 0 30 (dk_at dksX6_jams_0 1 rfl rfl)
theorem dX6_jams_4 : decode cX6_jams 4 = .ok (.aload_n 1, 1) := dk_43 (dk_at dksX6_jams_0 4 rfl rfl)
theorem dX6_jams_5 : decode cX6_jams 5 = .ok (.invokevirtual 33, 3) := dk_182 0 33 (dk_at dksX6_jams_0 5 rfl rfl)
theorem dX6_jams_8 : decode cX6_jams 8 = .ok (.iadd, 1) := dk_96 (dk_at dksX6_jams_0 8 rfl rfl)
theorem dX6_jams_9 : decode cX6_jams 9 = .ok (.bipush (-99), 2) := dk_16 157 (dk_at dksX6_jams_0 9 rfl rfl)
theorem dX6_jams_11 : decode cX6_jams 11 = .ok (.bipush 99, 2) := dk_16 99 (dk_at dksX6_jams_0 11 rfl rfl)
theorem dX6_jams_13 : decode cX6_jams 13 = .ok (.invokestatic 38, 3) := dk_184 0 38 (dk_at dksX6_jams_0 13 rfl rfl)
theorem dX6_jams_16 : decode cX6_jams 16 = .ok (.ifCond .ne 7, 3) := dk_154 0 7 (dk_at dksX6_jams_0 16 rfl rfl)
theorem dX6_jams_19 : decode cX6_jams 19 = .ok (.iconst 1, 1) := dk_4 (dk_at dksX6_jams_0 19 rfl rfl)
theorem dX6_jams_20 : decode cX6_jams 20 = .ok (.goto 4, 3) := dk_167 0 4 (dk_at dksX6_jams_0 20 rfl rfl)
theorem dX6_jams_23 : decode cX6_jams 23 = .ok (.iconst 0, 1) := dk_3 (dk_at dksX6_jams_0 23 rfl rfl)
theorem dX6_jams_24 : decode cX6_jams 24 = .ok (.ireturn, 1) := dk_172 (dk_at dksX6_jams_1 0 rfl rfl)
abbrev cX6_turns : ByteArray := prog_6_method_6_code
def yX6_turns : MethodName := ⟨RX6, "turns", "(LCardLoom$Turning;)V"⟩
def dkwX6_turns_1 : List UInt8 := [96, 181, 0, 30, 177]
abbrev dktX6_turns_1 : List UInt8 := dkwX6_turns_1 ++ []
def dkwX6_turns_0 : List UInt8 := [42, 42, 180, 0, 27, 43, 182, 0, 42, 96, 7, 112, 181, 0, 27, 42, 89, 180, 0, 30, 43, 182, 0, 33]
abbrev dktX6_turns_0 : List UInt8 := dkwX6_turns_0 ++ dktX6_turns_1
theorem dksX6_turns_0 : cX6_turns.data.toList.drop 0 = dktX6_turns_0 := by decide +kernel
theorem dksX6_turns_1 : cX6_turns.data.toList.drop 24 = dktX6_turns_1 := dk_seg dksX6_turns_0 24 rfl rfl
theorem dX6_turns_0 : decode cX6_turns 0 = .ok (.aload_n 0, 1) := dk_42 (dk_at dksX6_turns_0 0 rfl rfl)
theorem dX6_turns_1 : decode cX6_turns 1 = .ok (.aload_n 0, 1) := dk_42 (dk_at dksX6_turns_0 1 rfl rfl)
theorem dX6_turns_2 : decode cX6_turns 2 = .ok (.getfield 27, 3) := dk_180 0 27 (dk_at dksX6_turns_0 2 rfl rfl)
theorem dX6_turns_5 : decode cX6_turns 5 = .ok (.aload_n 1, 1) := dk_43 (dk_at dksX6_turns_0 5 rfl rfl)
theorem dX6_turns_6 : decode cX6_turns 6 = .ok (.invokevirtual 42, 3) := dk_182 0 42 (dk_at dksX6_turns_0 6 rfl rfl)
theorem dX6_turns_9 : decode cX6_turns 9 = .ok (.iadd, 1) := dk_96 (dk_at dksX6_turns_0 9 rfl rfl)
theorem dX6_turns_10 : decode cX6_turns 10 = .ok (.iconst 4, 1) := dk_7 (dk_at dksX6_turns_0 10 rfl rfl)
theorem dX6_turns_11 : decode cX6_turns 11 = .ok (.irem, 1) := dk_112 (dk_at dksX6_turns_0 11 rfl rfl)
theorem dX6_turns_12 : decode cX6_turns 12 = .ok (.putfield 27, 3) := dk_181 0 27 (dk_at dksX6_turns_0 12 rfl rfl)
theorem dX6_turns_15 : decode cX6_turns 15 = .ok (.aload_n 0, 1) := dk_42 (dk_at dksX6_turns_0 15 rfl rfl)
theorem dX6_turns_16 : decode cX6_turns 16 = .ok (.dup, 1) := dk_89 (dk_at dksX6_turns_0 16 rfl rfl)
theorem dX6_turns_17 : decode cX6_turns 17 = .ok (.getfield 30, 3) := dk_180 0 30 (dk_at dksX6_turns_0 17 rfl rfl)
theorem dX6_turns_20 : decode cX6_turns 20 = .ok (.aload_n 1, 1) := dk_43 (dk_at dksX6_turns_0 20 rfl rfl)
theorem dX6_turns_21 : decode cX6_turns 21 = .ok (.invokevirtual 33, 3) := dk_182 0 33 (dk_at dksX6_turns_0 21 rfl rfl)
theorem dX6_turns_24 : decode cX6_turns 24 = .ok (.iadd, 1) := dk_96 (dk_at dksX6_turns_1 0 rfl rfl)
theorem dX6_turns_25 : decode cX6_turns 25 = .ok (.putfield 30, 3) := dk_181 0 30 (dk_at dksX6_turns_1 1 rfl rfl)
theorem dX6_turns_28 : decode cX6_turns 28 = .ok (.return_, 1) := dk_177 (dk_at dksX6_turns_1 4 rfl rfl)
abbrev cX6_top : ByteArray := prog_6_method_3_code
def yX6_top : MethodName := ⟨RX6, "top", "()I"⟩
def dkwX6_top_0 : List UInt8 := [42, 180, 0, 9, 42, 180, 0, 27, 46, 172]
abbrev dktX6_top_0 : List UInt8 := dkwX6_top_0 ++ []
theorem dksX6_top_0 : cX6_top.data.toList.drop 0 = dktX6_top_0 := by decide +kernel
theorem dX6_top_0 : decode cX6_top 0 = .ok (.aload_n 0, 1) := dk_42 (dk_at dksX6_top_0 0 rfl rfl)
theorem dX6_top_1 : decode cX6_top 1 = .ok (.getfield 9, 3) := dk_180 0 9 (dk_at dksX6_top_0 1 rfl rfl)
theorem dX6_top_4 : decode cX6_top 4 = .ok (.aload_n 0, 1) := dk_42 (dk_at dksX6_top_0 4 rfl rfl)
theorem dX6_top_5 : decode cX6_top 5 = .ok (.getfield 27, 3) := dk_180 0 27 (dk_at dksX6_top_0 5 rfl rfl)
theorem dX6_top_8 : decode cX6_top 8 = .ok (.iaload, 1) := dk_46 (dk_at dksX6_top_0 8 rfl rfl)
theorem dX6_top_9 : decode cX6_top 9 = .ok (.ireturn, 1) := dk_172 (dk_at dksX6_top_0 9 rfl rfl)
abbrev cX6_below : ByteArray := prog_6_method_4_code
def yX6_below : MethodName := ⟨RX6, "below", "()I"⟩
def dkwX6_below_0 : List UInt8 := [42, 180, 0, 9, 42, 180, 0, 27, 5, 96, 7, 112, 46, 172]
abbrev dktX6_below_0 : List UInt8 := dkwX6_below_0 ++ []
theorem dksX6_below_0 : cX6_below.data.toList.drop 0 = dktX6_below_0 := by decide +kernel
theorem dX6_below_0 : decode cX6_below 0 = .ok (.aload_n 0, 1) := dk_42 (dk_at dksX6_below_0 0 rfl rfl)
theorem dX6_below_1 : decode cX6_below 1 = .ok (.getfield 9, 3) := dk_180 0 9 (dk_at dksX6_below_0 1 rfl rfl)
theorem dX6_below_4 : decode cX6_below 4 = .ok (.aload_n 0, 1) := dk_42 (dk_at dksX6_below_0 4 rfl rfl)
theorem dX6_below_5 : decode cX6_below 5 = .ok (.getfield 27, 3) := dk_180 0 27 (dk_at dksX6_below_0 5 rfl rfl)
theorem dX6_below_8 : decode cX6_below 8 = .ok (.iconst 2, 1) := dk_5 (dk_at dksX6_below_0 8 rfl rfl)
theorem dX6_below_9 : decode cX6_below 9 = .ok (.iadd, 1) := dk_96 (dk_at dksX6_below_0 9 rfl rfl)
theorem dX6_below_10 : decode cX6_below 10 = .ok (.iconst 4, 1) := dk_7 (dk_at dksX6_below_0 10 rfl rfl)
theorem dX6_below_11 : decode cX6_below 11 = .ok (.irem, 1) := dk_112 (dk_at dksX6_below_0 11 rfl rfl)
theorem dX6_below_12 : decode cX6_below 12 = .ok (.iaload, 1) := dk_46 (dk_at dksX6_below_0 12 rfl rfl)
theorem dX6_below_13 : decode cX6_below 13 = .ok (.ireturn, 1) := dk_172 (dk_at dksX6_below_0 13 rfl rfl)
abbrev cX6_turnsBack : ByteArray := prog_6_method_7_code
def yX6_turnsBack : MethodName := ⟨RX6, "turnsBack", "(LCardLoom$Turning;)V"⟩
def dkwX6_turnsBack_1 : List UInt8 := [182, 0, 33, 100, 181, 0, 30, 177]
abbrev dktX6_turnsBack_1 : List UInt8 := dkwX6_turnsBack_1 ++ []
def dkwX6_turnsBack_0 : List UInt8 := [42, 42, 180, 0, 27, 7, 96, 43, 182, 0, 42, 100, 7, 112, 181, 0, 27, 42, 89, 180, 0, 30, 43]
abbrev dktX6_turnsBack_0 : List UInt8 := dkwX6_turnsBack_0 ++ dktX6_turnsBack_1
theorem dksX6_turnsBack_0 : cX6_turnsBack.data.toList.drop 0 = dktX6_turnsBack_0 := by decide +kernel
theorem dksX6_turnsBack_1 : cX6_turnsBack.data.toList.drop 23 = dktX6_turnsBack_1 := dk_seg dksX6_turnsBack_0 23 rfl rfl
theorem dX6_turnsBack_0 : decode cX6_turnsBack 0 = .ok (.aload_n 0, 1) := dk_42 (dk_at dksX6_turnsBack_0 0 rfl rfl)
theorem dX6_turnsBack_1 : decode cX6_turnsBack 1 = .ok (.aload_n 0, 1) := dk_42 (dk_at dksX6_turnsBack_0 1 rfl rfl)
theorem dX6_turnsBack_2 : decode cX6_turnsBack 2 = .ok (.getfield 27, 3) := dk_180 0 27 (dk_at dksX6_turnsBack_0 2 rfl rfl)
theorem dX6_turnsBack_5 : decode cX6_turnsBack 5 = .ok (.iconst 4, 1) := dk_7 (dk_at dksX6_turnsBack_0 5 rfl rfl)
theorem dX6_turnsBack_6 : decode cX6_turnsBack 6 = .ok (.iadd, 1) := dk_96 (dk_at dksX6_turnsBack_0 6 rfl rfl)
theorem dX6_turnsBack_7 : decode cX6_turnsBack 7 = .ok (.aload_n 1, 1) := dk_43 (dk_at dksX6_turnsBack_0 7 rfl rfl)
theorem dX6_turnsBack_8 : decode cX6_turnsBack 8 = .ok (.invokevirtual 42, 3) := dk_182 0 42 (dk_at dksX6_turnsBack_0 8 rfl rfl)
theorem dX6_turnsBack_11 : decode cX6_turnsBack 11 = .ok (.isub, 1) := dk_100 (dk_at dksX6_turnsBack_0 11 rfl rfl)
theorem dX6_turnsBack_12 : decode cX6_turnsBack 12 = .ok (.iconst 4, 1) := dk_7 (dk_at dksX6_turnsBack_0 12 rfl rfl)
theorem dX6_turnsBack_13 : decode cX6_turnsBack 13 = .ok (.irem, 1) := dk_112 (dk_at dksX6_turnsBack_0 13 rfl rfl)
theorem dX6_turnsBack_14 : decode cX6_turnsBack 14 = .ok (.putfield 27, 3) := dk_181 0 27 (dk_at dksX6_turnsBack_0 14 rfl rfl)
theorem dX6_turnsBack_17 : decode cX6_turnsBack 17 = .ok (.aload_n 0, 1) := dk_42 (dk_at dksX6_turnsBack_0 17 rfl rfl)
theorem dX6_turnsBack_18 : decode cX6_turnsBack 18 = .ok (.dup, 1) := dk_89 (dk_at dksX6_turnsBack_0 18 rfl rfl)
theorem dX6_turnsBack_19 : decode cX6_turnsBack 19 = .ok (.getfield 30, 3) := dk_180 0 30 (dk_at dksX6_turnsBack_0 19 rfl rfl)
theorem dX6_turnsBack_22 : decode cX6_turnsBack 22 = .ok (.aload_n 1, 1) := dk_43 (dk_at dksX6_turnsBack_0 22 rfl rfl)
theorem dX6_turnsBack_23 : decode cX6_turnsBack 23 = .ok (.invokevirtual 33, 3) := dk_182 0 33 (dk_at dksX6_turnsBack_1 0 rfl rfl)
theorem dX6_turnsBack_26 : decode cX6_turnsBack 26 = .ok (.isub, 1) := dk_100 (dk_at dksX6_turnsBack_1 3 rfl rfl)
theorem dX6_turnsBack_27 : decode cX6_turnsBack 27 = .ok (.putfield 30, 3) := dk_181 0 30 (dk_at dksX6_turnsBack_1 4 rfl rfl)
theorem dX6_turnsBack_30 : decode cX6_turnsBack 30 = .ok (.return_, 1) := dk_177 (dk_at dksX6_turnsBack_1 7 rfl rfl)
abbrev cX6_twin : ByteArray := prog_6_method_2_code
def yX6_twin : MethodName := ⟨RX6, "twin", "()LCardLoom$Card;"⟩
def dkwX6_twin_1 : List UInt8 := [181, 0, 23, 43, 42, 180, 0, 27, 181, 0, 27, 43, 42, 180, 0, 30, 181, 0, 30, 43, 176]
abbrev dktX6_twin_1 : List UInt8 := dkwX6_twin_1 ++ []
def dkwX6_twin_0 : List UInt8 := [187, 0, 10, 89, 42, 180, 0, 9, 182, 0, 15, 192, 0, 16, 183, 0, 20, 76, 43, 42, 180, 0, 23]
abbrev dktX6_twin_0 : List UInt8 := dkwX6_twin_0 ++ dktX6_twin_1
theorem dksX6_twin_0 : cX6_twin.data.toList.drop 0 = dktX6_twin_0 := by decide +kernel
theorem dksX6_twin_1 : cX6_twin.data.toList.drop 23 = dktX6_twin_1 := dk_seg dksX6_twin_0 23 rfl rfl
theorem dX6_twin_0 : decode cX6_twin 0 = .ok (.new 10, 3) := dk_187 0 10 (dk_at dksX6_twin_0 0 rfl rfl)
theorem dX6_twin_3 : decode cX6_twin 3 = .ok (.dup, 1) := dk_89 (dk_at dksX6_twin_0 3 rfl rfl)
theorem dX6_twin_4 : decode cX6_twin 4 = .ok (.aload_n 0, 1) := dk_42 (dk_at dksX6_twin_0 4 rfl rfl)
theorem dX6_twin_5 : decode cX6_twin 5 = .ok (.getfield 9, 3) := dk_180 0 9 (dk_at dksX6_twin_0 5 rfl rfl)
theorem dX6_twin_8 : decode cX6_twin 8 = .ok (.invokevirtual 15, 3) := dk_182 0 15 (dk_at dksX6_twin_0 8 rfl rfl)
theorem dX6_twin_11 : decode cX6_twin 11 = .ok (.checkcast 16, 3) := dk_192 0 16 (dk_at dksX6_twin_0 11 rfl rfl)
theorem dX6_twin_14 : decode cX6_twin 14 = .ok (.invokespecial 20, 3) := dk_183 0 20 (dk_at dksX6_twin_0 14 rfl rfl)
theorem dX6_twin_17 : decode cX6_twin 17 = .ok (.astore_n 1, 1) := dk_76 (dk_at dksX6_twin_0 17 rfl rfl)
theorem dX6_twin_18 : decode cX6_twin 18 = .ok (.aload_n 1, 1) := dk_43 (dk_at dksX6_twin_0 18 rfl rfl)
theorem dX6_twin_19 : decode cX6_twin 19 = .ok (.aload_n 0, 1) := dk_42 (dk_at dksX6_twin_0 19 rfl rfl)
theorem dX6_twin_20 : decode cX6_twin 20 = .ok (.getfield 23, 3) := dk_180 0 23 (dk_at dksX6_twin_0 20 rfl rfl)
theorem dX6_twin_23 : decode cX6_twin 23 = .ok (.putfield 23, 3) := dk_181 0 23 (dk_at dksX6_twin_1 0 rfl rfl)
theorem dX6_twin_26 : decode cX6_twin 26 = .ok (.aload_n 1, 1) := dk_43 (dk_at dksX6_twin_1 3 rfl rfl)
theorem dX6_twin_27 : decode cX6_twin 27 = .ok (.aload_n 0, 1) := dk_42 (dk_at dksX6_twin_1 4 rfl rfl)
theorem dX6_twin_28 : decode cX6_twin 28 = .ok (.getfield 27, 3) := dk_180 0 27 (dk_at dksX6_twin_1 5 rfl rfl)
theorem dX6_twin_31 : decode cX6_twin 31 = .ok (.putfield 27, 3) := dk_181 0 27 (dk_at dksX6_twin_1 8 rfl rfl)
theorem dX6_twin_34 : decode cX6_twin 34 = .ok (.aload_n 1, 1) := dk_43 (dk_at dksX6_twin_1 11 rfl rfl)
theorem dX6_twin_35 : decode cX6_twin 35 = .ok (.aload_n 0, 1) := dk_42 (dk_at dksX6_twin_1 12 rfl rfl)
theorem dX6_twin_36 : decode cX6_twin 36 = .ok (.getfield 30, 3) := dk_180 0 30 (dk_at dksX6_twin_1 13 rfl rfl)
theorem dX6_twin_39 : decode cX6_twin 39 = .ok (.putfield 30, 3) := dk_181 0 30 (dk_at dksX6_twin_1 16 rfl rfl)
theorem dX6_twin_42 : decode cX6_twin 42 = .ok (.aload_n 1, 1) := dk_43 (dk_at dksX6_twin_1 19 rfl rfl)
theorem dX6_twin_43 : decode cX6_twin 43 = .ok (.areturn, 1) := dk_176 (dk_at dksX6_twin_1 20 rfl rfl)
abbrev cX6_told : ByteArray := prog_6_method_8_code
def yX6_told : MethodName := ⟨RX6, "told", "()Ljava/lang/String;"⟩
def dkwX6_told_3 : List UInt8 := [176]
abbrev dktX6_told_3 : List UInt8 := dkwX6_told_3 ++ []
def dkwX6_told_2 : List UInt8 := [167, 255, 230, 43, 42, 180, 0, 23, 154, 0, 8, 16, 83, 167, 0, 5, 16, 90, 182, 0, 48, 182, 0, 52]
abbrev dktX6_told_2 : List UInt8 := dkwX6_told_2 ++ dktX6_told_3
def dkwX6_told_1 : List UInt8 := [162, 0, 26, 44, 21, 4, 46, 54, 5, 43, 16, 97, 21, 5, 96, 146, 182, 0, 48, 87, 132, 4, 1]
abbrev dktX6_told_1 : List UInt8 := dkwX6_told_1 ++ dktX6_told_2
def dkwX6_told_0 : List UInt8 := [187, 0, 45, 89, 183, 0, 47, 76, 42, 180, 0, 9, 77, 44, 190, 62, 3, 54, 4, 21, 4, 29]
abbrev dktX6_told_0 : List UInt8 := dkwX6_told_0 ++ dktX6_told_1
theorem dksX6_told_0 : cX6_told.data.toList.drop 0 = dktX6_told_0 := by decide +kernel
theorem dksX6_told_1 : cX6_told.data.toList.drop 22 = dktX6_told_1 := dk_seg dksX6_told_0 22 rfl rfl
theorem dksX6_told_2 : cX6_told.data.toList.drop 45 = dktX6_told_2 := dk_seg dksX6_told_1 23 rfl rfl
theorem dksX6_told_3 : cX6_told.data.toList.drop 69 = dktX6_told_3 := dk_seg dksX6_told_2 24 rfl rfl
theorem dX6_told_0 : decode cX6_told 0 = .ok (.new 45, 3) := dk_187 0 45 (dk_at dksX6_told_0 0 rfl rfl)
theorem dX6_told_3 : decode cX6_told 3 = .ok (.dup, 1) := dk_89 (dk_at dksX6_told_0 3 rfl rfl)
theorem dX6_told_4 : decode cX6_told 4 = .ok (.invokespecial 47, 3) := dk_183 0 47 (dk_at dksX6_told_0 4 rfl rfl)
theorem dX6_told_7 : decode cX6_told 7 = .ok (.astore_n 1, 1) := dk_76 (dk_at dksX6_told_0 7 rfl rfl)
theorem dX6_told_8 : decode cX6_told 8 = .ok (.aload_n 0, 1) := dk_42 (dk_at dksX6_told_0 8 rfl rfl)
theorem dX6_told_9 : decode cX6_told 9 = .ok (.getfield 9, 3) := dk_180 0 9 (dk_at dksX6_told_0 9 rfl rfl)
theorem dX6_told_12 : decode cX6_told 12 = .ok (.astore_n 2, 1) := dk_77 (dk_at dksX6_told_0 12 rfl rfl)
theorem dX6_told_13 : decode cX6_told 13 = .ok (.aload_n 2, 1) := dk_44 (dk_at dksX6_told_0 13 rfl rfl)
theorem dX6_told_14 : decode cX6_told 14 = .ok (.arraylength, 1) := dk_190 (dk_at dksX6_told_0 14 rfl rfl)
theorem dX6_told_15 : decode cX6_told 15 = .ok (.istore_n 3, 1) := dk_62 (dk_at dksX6_told_0 15 rfl rfl)
theorem dX6_told_16 : decode cX6_told 16 = .ok (.iconst 0, 1) := dk_3 (dk_at dksX6_told_0 16 rfl rfl)
theorem dX6_told_17 : decode cX6_told 17 = .ok (.istore 4, 2) := dk_54 4 (dk_at dksX6_told_0 17 rfl rfl)
theorem dX6_told_19 : decode cX6_told 19 = .ok (.iload 4, 2) := dk_21 4 (dk_at dksX6_told_0 19 rfl rfl)
theorem dX6_told_21 : decode cX6_told 21 = .ok (.iload_n 3, 1) := dk_29 (dk_at dksX6_told_0 21 rfl rfl)
theorem dX6_told_22 : decode cX6_told 22 = .ok (.if_icmp .ge 26, 3) := dk_162 0 26 (dk_at dksX6_told_1 0 rfl rfl)
theorem dX6_told_25 : decode cX6_told 25 = .ok (.aload_n 2, 1) := dk_44 (dk_at dksX6_told_1 3 rfl rfl)
theorem dX6_told_26 : decode cX6_told 26 = .ok (.iload 4, 2) := dk_21 4 (dk_at dksX6_told_1 4 rfl rfl)
theorem dX6_told_28 : decode cX6_told 28 = .ok (.iaload, 1) := dk_46 (dk_at dksX6_told_1 6 rfl rfl)
theorem dX6_told_29 : decode cX6_told 29 = .ok (.istore 5, 2) := dk_54 5 (dk_at dksX6_told_1 7 rfl rfl)
theorem dX6_told_31 : decode cX6_told 31 = .ok (.aload_n 1, 1) := dk_43 (dk_at dksX6_told_1 9 rfl rfl)
theorem dX6_told_32 : decode cX6_told 32 = .ok (.bipush 97, 2) := dk_16 97 (dk_at dksX6_told_1 10 rfl rfl)
theorem dX6_told_34 : decode cX6_told 34 = .ok (.iload 5, 2) := dk_21 5 (dk_at dksX6_told_1 12 rfl rfl)
theorem dX6_told_36 : decode cX6_told 36 = .ok (.iadd, 1) := dk_96 (dk_at dksX6_told_1 14 rfl rfl)
theorem dX6_told_37 : decode cX6_told 37 = .ok (.i2c, 1) := dk_146 (dk_at dksX6_told_1 15 rfl rfl)
theorem dX6_told_38 : decode cX6_told 38 = .ok (.invokevirtual 48, 3) := dk_182 0 48 (dk_at dksX6_told_1 16 rfl rfl)
theorem dX6_told_41 : decode cX6_told 41 = .ok (.pop, 1) := dk_87 (dk_at dksX6_told_1 19 rfl rfl)
theorem dX6_told_42 : decode cX6_told 42 = .ok (.iinc 4 1, 3) := dk_132 4 1 (dk_at dksX6_told_1 20 rfl rfl)
theorem dX6_told_45 : decode cX6_told 45 = .ok (.goto (-26), 3) := dk_167 255 230 (dk_at dksX6_told_2 0 rfl rfl)
theorem dX6_told_48 : decode cX6_told 48 = .ok (.aload_n 1, 1) := dk_43 (dk_at dksX6_told_2 3 rfl rfl)
theorem dX6_told_49 : decode cX6_told 49 = .ok (.aload_n 0, 1) := dk_42 (dk_at dksX6_told_2 4 rfl rfl)
theorem dX6_told_50 : decode cX6_told 50 = .ok (.getfield 23, 3) := dk_180 0 23 (dk_at dksX6_told_2 5 rfl rfl)
theorem dX6_told_53 : decode cX6_told 53 = .ok (.ifCond .ne 8, 3) := dk_154 0 8 (dk_at dksX6_told_2 8 rfl rfl)
theorem dX6_told_56 : decode cX6_told 56 = .ok (.bipush 83, 2) := dk_16 83 (dk_at dksX6_told_2 11 rfl rfl)
theorem dX6_told_58 : decode cX6_told 58 = .ok (.goto 5, 3) := dk_167 0 5 (dk_at dksX6_told_2 13 rfl rfl)
theorem dX6_told_61 : decode cX6_told 61 = .ok (.bipush 90, 2) := dk_16 90 (dk_at dksX6_told_2 16 rfl rfl)
theorem dX6_told_63 : decode cX6_told 63 = .ok (.invokevirtual 48, 3) := dk_182 0 48 (dk_at dksX6_told_2 18 rfl rfl)
theorem dX6_told_66 : decode cX6_told 66 = .ok (.invokevirtual 52, 3) := dk_182 0 52 (dk_at dksX6_told_2 21 rfl rfl)
theorem dX6_told_69 : decode cX6_told 69 = .ok (.areturn, 1) := dk_176 (dk_at dksX6_told_3 0 rfl rfl)
theorem q90 : (Jvm.Cond.initialized "CardLoom$Card") ∈ lw_all := lw_g (lw_at lw_m1 13 rfl) rfl
theorem q373 : (Jvm.Cond.instantiable "CardLoom$Card" (4 : Nat)) ∈ lw_all := lw_g (lw_at lw_m2 56 rfl) rfl
theorem q375 : (Jvm.Cond.instanceMethod ({ cls := "CardLoom$Card", name := "<init>", desc := "([I)V" } : Jvm.MethodName)) ∈ lw_all := lw_g (lw_at lw_m2 58 rfl) rfl
theorem q376 : (Jvm.Cond.code ({ cls := "CardLoom$Card", name := "<init>", desc := "([I)V" } : Jvm.MethodName) prog_6_method_1_code (2 : Nat) (Option.none : Option Jvm.ClassFile.FieldType)) ∈ lw_all := lw_g (lw_at lw_m2 59 rfl) rfl
theorem q377 : (Jvm.Cond.methodLink "CardLoom$Card" (3 : Nat) ({ cls := "java/lang/Object", name := "<init>", desc := "()V" } : Jvm.MethodName)) ∈ lw_all := lw_g (lw_at lw_m2 60 rfl) rfl
theorem q378 : (Jvm.Cond.fieldLink "CardLoom$Card" (9 : Nat) "CardLoom$Card" "holes" "[I") ∈ lw_all := lw_g (lw_at lw_m2 61 rfl) rfl
theorem q382 : (Jvm.Cond.fieldLink "CardLoom$Card" (23 : Nat) "CardLoom$Card" "slant" "I") ∈ lw_all := lw_g (lw_at lw_m2 65 rfl) rfl
theorem q385 : (Jvm.Cond.fieldLink "CardLoom$Card" (27 : Nat) "CardLoom$Card" "place" "I") ∈ lw_all := lw_g (lw_at lw_m2 68 rfl) rfl
theorem q388 : (Jvm.Cond.fieldLink "CardLoom$Card" (30 : Nat) "CardLoom$Card" "twist" "I") ∈ lw_all := lw_g (lw_at lw_m2 71 rfl) rfl
theorem q390 : (Jvm.Cond.laysFinal "CardLoom$Card" "CardLoom$Card" "holes" "[I") ∈ lw_all := lw_g (lw_at lw_m2 73 rfl) rfl
theorem q391 : (Jvm.Cond.soleField "CardLoom$Card" "holes") ∈ lw_all := lw_g (lw_at lw_m2 74 rfl) rfl
theorem q392 : (Jvm.Cond.lays "CardLoom$Card" "CardLoom$Card" "slant" "I") ∈ lw_all := lw_g (lw_at lw_m2 75 rfl) rfl
theorem q393 : (Jvm.Cond.soleField "CardLoom$Card" "slant") ∈ lw_all := lw_g (lw_at lw_m2 76 rfl) rfl
theorem q394 : (Jvm.Cond.lays "CardLoom$Card" "CardLoom$Card" "place" "I") ∈ lw_all := lw_g (lw_at lw_m2 77 rfl) rfl
theorem q395 : (Jvm.Cond.soleField "CardLoom$Card" "place") ∈ lw_all := lw_g (lw_at lw_m2 78 rfl) rfl
theorem q396 : (Jvm.Cond.lays "CardLoom$Card" "CardLoom$Card" "twist" "I") ∈ lw_all := lw_g (lw_at lw_m2 79 rfl) rfl
theorem q397 : (Jvm.Cond.soleField "CardLoom$Card" "twist") ∈ lw_all := lw_g (lw_at lw_m2 80 rfl) rfl
theorem q398 : (Jvm.Cond.superclass "CardLoom$Card" "java/lang/Object") ∈ lw_all := lw_g (lw_at lw_m2 81 rfl) rfl
theorem q435 : (Jvm.Cond.selects "CardLoom$Card" ({ cls := "java/lang/Object", name := "getClass", desc := "()Ljava/lang/Class;" } : Jvm.MethodName) ({ cls := "java/lang/Object", name := "getClass", desc := "()Ljava/lang/Class;" } : Jvm.MethodName)) ∈ lw_all := lw_g (lw_at lw_m2 118 rfl) rfl
theorem q910 : (Jvm.Cond.instanceMethod ({ cls := "CardLoom$Card", name := "jams", desc := "(LCardLoom$Turning;)Z" } : Jvm.MethodName)) ∈ lw_all := lw_g (lw_at lw_m4 113 rfl) rfl
theorem q911 : (Jvm.Cond.selects "CardLoom$Card" ({ cls := "CardLoom$Card", name := "jams", desc := "(LCardLoom$Turning;)Z" } : Jvm.MethodName) ({ cls := "CardLoom$Card", name := "jams", desc := "(LCardLoom$Turning;)Z" } : Jvm.MethodName)) ∈ lw_all := lw_g (lw_at lw_m4 114 rfl) rfl
theorem q912 : (Jvm.Cond.code ({ cls := "CardLoom$Card", name := "jams", desc := "(LCardLoom$Turning;)Z" } : Jvm.MethodName) prog_6_method_5_code (2 : Nat) (Option.some Jvm.ClassFile.FieldType.boolean)) ∈ lw_all := lw_g (lw_at lw_m4 115 rfl) rfl
theorem q913 : (Jvm.Cond.methodLink "CardLoom$Card" (33 : Nat) ({ cls := "CardLoom$Turning", name := "twist", desc := "()I" } : Jvm.MethodName)) ∈ lw_all := lw_g (lw_at lw_m4 116 rfl) rfl
theorem q938 : (Jvm.Cond.methodLinkNest "CardLoom$Card" (38 : Nat) ({ cls := "CardLoom", name := "isIn", desc := "(III)Z" } : Jvm.MethodName) "CardLoom") ∈ lw_tbl := lw_at lw_m4 141 rfl
theorem q943 : (Jvm.Cond.instanceMethod ({ cls := "CardLoom$Card", name := "turns", desc := "(LCardLoom$Turning;)V" } : Jvm.MethodName)) ∈ lw_all := lw_g (lw_at lw_m4 146 rfl) rfl
theorem q944 : (Jvm.Cond.selects "CardLoom$Card" ({ cls := "CardLoom$Card", name := "turns", desc := "(LCardLoom$Turning;)V" } : Jvm.MethodName) ({ cls := "CardLoom$Card", name := "turns", desc := "(LCardLoom$Turning;)V" } : Jvm.MethodName)) ∈ lw_all := lw_g (lw_at lw_m4 147 rfl) rfl
theorem q945 : (Jvm.Cond.code ({ cls := "CardLoom$Card", name := "turns", desc := "(LCardLoom$Turning;)V" } : Jvm.MethodName) prog_6_method_6_code (2 : Nat) (Option.none : Option Jvm.ClassFile.FieldType)) ∈ lw_all := lw_g (lw_at lw_m4 148 rfl) rfl
theorem q946 : (Jvm.Cond.methodLink "CardLoom$Card" (42 : Nat) ({ cls := "CardLoom$Turning", name := "quarters", desc := "()I" } : Jvm.MethodName)) ∈ lw_all := lw_g (lw_at lw_m4 149 rfl) rfl
theorem q955 : (Jvm.Cond.instanceMethod ({ cls := "CardLoom$Card", name := "top", desc := "()I" } : Jvm.MethodName)) ∈ lw_all := lw_g (lw_at lw_m4 158 rfl) rfl
theorem q956 : (Jvm.Cond.selects "CardLoom$Card" ({ cls := "CardLoom$Card", name := "top", desc := "()I" } : Jvm.MethodName) ({ cls := "CardLoom$Card", name := "top", desc := "()I" } : Jvm.MethodName)) ∈ lw_all := lw_g (lw_at lw_m4 159 rfl) rfl
theorem q957 : (Jvm.Cond.code ({ cls := "CardLoom$Card", name := "top", desc := "()I" } : Jvm.MethodName) prog_6_method_3_code (1 : Nat) (Option.some Jvm.ClassFile.FieldType.int)) ∈ lw_all := lw_g (lw_at lw_m4 160 rfl) rfl
theorem q959 : (Jvm.Cond.instanceMethod ({ cls := "CardLoom$Card", name := "below", desc := "()I" } : Jvm.MethodName)) ∈ lw_all := lw_g (lw_at lw_m4 162 rfl) rfl
theorem q960 : (Jvm.Cond.selects "CardLoom$Card" ({ cls := "CardLoom$Card", name := "below", desc := "()I" } : Jvm.MethodName) ({ cls := "CardLoom$Card", name := "below", desc := "()I" } : Jvm.MethodName)) ∈ lw_all := lw_g (lw_at lw_m4 163 rfl) rfl
theorem q961 : (Jvm.Cond.code ({ cls := "CardLoom$Card", name := "below", desc := "()I" } : Jvm.MethodName) prog_6_method_4_code (1 : Nat) (Option.some Jvm.ClassFile.FieldType.int)) ∈ lw_all := lw_g (lw_at lw_m4 164 rfl) rfl
theorem q1025 : (Jvm.Cond.instanceMethod ({ cls := "CardLoom$Card", name := "turnsBack", desc := "(LCardLoom$Turning;)V" } : Jvm.MethodName)) ∈ lw_all := lw_g (lw_at lw_m4 228 rfl) rfl
theorem q1026 : (Jvm.Cond.selects "CardLoom$Card" ({ cls := "CardLoom$Card", name := "turnsBack", desc := "(LCardLoom$Turning;)V" } : Jvm.MethodName) ({ cls := "CardLoom$Card", name := "turnsBack", desc := "(LCardLoom$Turning;)V" } : Jvm.MethodName)) ∈ lw_all := lw_g (lw_at lw_m4 229 rfl) rfl
theorem q1027 : (Jvm.Cond.code ({ cls := "CardLoom$Card", name := "turnsBack", desc := "(LCardLoom$Turning;)V" } : Jvm.MethodName) prog_6_method_7_code (2 : Nat) (Option.none : Option Jvm.ClassFile.FieldType)) ∈ lw_all := lw_g (lw_at lw_m4 230 rfl) rfl
theorem q1067 : (Jvm.Cond.instanceMethod ({ cls := "CardLoom$Card", name := "twin", desc := "()LCardLoom$Card;" } : Jvm.MethodName)) ∈ lw_all := lw_g (lw_at lw_m5 30 rfl) rfl
theorem q1068 : (Jvm.Cond.selects "CardLoom$Card" ({ cls := "CardLoom$Card", name := "twin", desc := "()LCardLoom$Card;" } : Jvm.MethodName) ({ cls := "CardLoom$Card", name := "twin", desc := "()LCardLoom$Card;" } : Jvm.MethodName)) ∈ lw_all := lw_g (lw_at lw_m5 31 rfl) rfl
theorem q1069 : (Jvm.Cond.code ({ cls := "CardLoom$Card", name := "twin", desc := "()LCardLoom$Card;" } : Jvm.MethodName) prog_6_method_2_code (2 : Nat) (Option.some (Jvm.ClassFile.FieldType.object "CardLoom$Card"))) ∈ lw_all := lw_g (lw_at lw_m5 32 rfl) rfl
theorem q1070 : (Jvm.Cond.classLink "CardLoom$Card" (10 : Nat) "CardLoom$Card") ∈ lw_all := lw_g (lw_at lw_m5 33 rfl) rfl
theorem q1071 : (Jvm.Cond.methodLink "CardLoom$Card" (15 : Nat) ({ cls := "[I", name := "clone", desc := "()Ljava/lang/Object;" } : Jvm.MethodName)) ∈ lw_all := lw_g (lw_at lw_m5 34 rfl) rfl
theorem q1075 : (Jvm.Cond.classLink "CardLoom$Card" (16 : Nat) "[I") ∈ lw_all := lw_g (lw_at lw_m5 38 rfl) rfl
theorem q1076 : (Jvm.Cond.methodLink "CardLoom$Card" (20 : Nat) ({ cls := "CardLoom$Card", name := "<init>", desc := "([I)V" } : Jvm.MethodName)) ∈ lw_all := lw_g (lw_at lw_m5 39 rfl) rfl
theorem q2111 : (Jvm.Cond.instanceMethod ({ cls := "CardLoom$Card", name := "told", desc := "()Ljava/lang/String;" } : Jvm.MethodName)) ∈ lw_all := lw_g (lw_at lw_m9 114 rfl) rfl
theorem q2112 : (Jvm.Cond.selects "CardLoom$Card" ({ cls := "CardLoom$Card", name := "told", desc := "()Ljava/lang/String;" } : Jvm.MethodName) ({ cls := "CardLoom$Card", name := "told", desc := "()Ljava/lang/String;" } : Jvm.MethodName)) ∈ lw_all := lw_g (lw_at lw_m9 115 rfl) rfl
theorem q2113 : (Jvm.Cond.code ({ cls := "CardLoom$Card", name := "told", desc := "()Ljava/lang/String;" } : Jvm.MethodName) prog_6_method_8_code (6 : Nat) (Option.some (Jvm.ClassFile.FieldType.object "java/lang/String"))) ∈ lw_all := lw_g (lw_at lw_m9 116 rfl) rfl
theorem q2114 : (Jvm.Cond.classLink "CardLoom$Card" (45 : Nat) "java/lang/StringBuilder") ∈ lw_all := lw_g (lw_at lw_m9 117 rfl) rfl
theorem q2115 : (Jvm.Cond.methodLink "CardLoom$Card" (47 : Nat) ({ cls := "java/lang/StringBuilder", name := "<init>", desc := "()V" } : Jvm.MethodName)) ∈ lw_all := lw_g (lw_at lw_m9 118 rfl) rfl
theorem q2116 : (Jvm.Cond.methodLink "CardLoom$Card" (48 : Nat) ({ cls := "java/lang/StringBuilder", name := "append", desc := "(C)Ljava/lang/StringBuilder;" } : Jvm.MethodName)) ∈ lw_all := lw_g (lw_at lw_m9 119 rfl) rfl
theorem q2117 : (Jvm.Cond.methodLink "CardLoom$Card" (52 : Nat) ({ cls := "java/lang/StringBuilder", name := "toString", desc := "()Ljava/lang/String;" } : Jvm.MethodName)) ∈ lw_all := lw_g (lw_at lw_m9 120 rfl) rfl
theorem q2761 : (Jvm.Cond.castable "CardLoom$Card" "java/lang/Object") ∈ lw_tbl := lw_at lw_m12 44 rfl
theorem in_X6 : ∀ w ∈ wsX60, w ∈ lw_all := lw_in wsX60 [390, 392, 394, 396] (by decide +kernel) (by decide +kernel)
/-! CardLoom$Turning$2 -/
set_option maxRecDepth 100000
def RX7 : String := "CardLoom$Turning$2"
abbrev cX7_other : ByteArray := prog_15_method_4_code
def yX7_other : MethodName := ⟨RX7, "other", "()LCardLoom$Turning;"⟩
theorem dX7_other_0 : decode cX7_other 0 = .ok (.getstatic 7, 3) := by decide +kernel
theorem dX7_other_3 : decode cX7_other 3 = .ok (.areturn, 1) := by decide +kernel
abbrev cX7_quarters : ByteArray := prog_15_method_2_code
def yX7_quarters : MethodName := ⟨RX7, "quarters", "()I"⟩
theorem dX7_quarters_0 : decode cX7_quarters 0 = .ok (.iconst 1, 1) := by decide +kernel
theorem dX7_quarters_1 : decode cX7_quarters 1 = .ok (.ireturn, 1) := by decide +kernel
abbrev cX7_lean : ByteArray := prog_15_method_3_code
def yX7_lean : MethodName := ⟨RX7, "lean", "(I)I"⟩
def dkwX7_lean_0 : List UInt8 := [4, 27, 96, 172]
abbrev dktX7_lean_0 : List UInt8 := dkwX7_lean_0 ++ []
theorem dksX7_lean_0 : cX7_lean.data.toList.drop 0 = dktX7_lean_0 := by decide +kernel
theorem dX7_lean_0 : decode cX7_lean 0 = .ok (.iconst 1, 1) := dk_4 (dk_at dksX7_lean_0 0 rfl rfl)
theorem dX7_lean_1 : decode cX7_lean 1 = .ok (.iload_n 1, 1) := dk_27 (dk_at dksX7_lean_0 1 rfl rfl)
theorem dX7_lean_2 : decode cX7_lean 2 = .ok (.iadd, 1) := dk_96 (dk_at dksX7_lean_0 2 rfl rfl)
theorem dX7_lean_3 : decode cX7_lean 3 = .ok (.ireturn, 1) := dk_172 (dk_at dksX7_lean_0 3 rfl rfl)
theorem q100 : (Jvm.Cond.initialized "CardLoom$Turning$2") ∈ lw_all := lw_g (lw_at lw_m1 23 rfl) rfl
theorem q441 : (Jvm.Cond.selects "CardLoom$Turning$2" ({ cls := "java/lang/Object", name := "getClass", desc := "()Ljava/lang/Class;" } : Jvm.MethodName) ({ cls := "java/lang/Object", name := "getClass", desc := "()Ljava/lang/Class;" } : Jvm.MethodName)) ∈ lw_all := lw_g (lw_at lw_m2 124 rfl) rfl
theorem q646 : (Jvm.Cond.selects "CardLoom$Turning$2" ({ cls := "CardLoom$Turning", name := "other", desc := "()LCardLoom$Turning;" } : Jvm.MethodName) ({ cls := "CardLoom$Turning$2", name := "other", desc := "()LCardLoom$Turning;" } : Jvm.MethodName)) ∈ lw_all := lw_g (lw_at lw_m3 89 rfl) rfl
theorem q647 : (Jvm.Cond.instanceMethod ({ cls := "CardLoom$Turning$2", name := "other", desc := "()LCardLoom$Turning;" } : Jvm.MethodName)) ∈ lw_all := lw_g (lw_at lw_m3 90 rfl) rfl
theorem q648 : (Jvm.Cond.code ({ cls := "CardLoom$Turning$2", name := "other", desc := "()LCardLoom$Turning;" } : Jvm.MethodName) prog_15_method_4_code (1 : Nat) (Option.some (Jvm.ClassFile.FieldType.object "CardLoom$Turning"))) ∈ lw_all := lw_g (lw_at lw_m3 91 rfl) rfl
theorem q649 : (Jvm.Cond.fieldLink "CardLoom$Turning$2" (7 : Nat) "CardLoom$Turning$2" "BACK" "LCardLoom$Turning;") ∈ lw_all := lw_g (lw_at lw_m3 92 rfl) rfl
theorem q650 : (Jvm.Cond.sameField "CardLoom$Turning$2" "CardLoom$Turning" "BACK" "LCardLoom$Turning;") ∈ lw_all := lw_g (lw_at lw_m3 93 rfl) rfl
theorem q917 : (Jvm.Cond.selects "CardLoom$Turning$2" ({ cls := "CardLoom$Turning", name := "twist", desc := "()I" } : Jvm.MethodName) ({ cls := "CardLoom$Turning", name := "twist", desc := "()I" } : Jvm.MethodName)) ∈ lw_all := lw_g (lw_at lw_m4 120 rfl) rfl
theorem q929 : (Jvm.Cond.selects "CardLoom$Turning$2" ({ cls := "CardLoom$Turning", name := "quarters", desc := "()I" } : Jvm.MethodName) ({ cls := "CardLoom$Turning$2", name := "quarters", desc := "()I" } : Jvm.MethodName)) ∈ lw_all := lw_g (lw_at lw_m4 132 rfl) rfl
theorem q930 : (Jvm.Cond.instanceMethod ({ cls := "CardLoom$Turning$2", name := "quarters", desc := "()I" } : Jvm.MethodName)) ∈ lw_all := lw_g (lw_at lw_m4 133 rfl) rfl
theorem q931 : (Jvm.Cond.code ({ cls := "CardLoom$Turning$2", name := "quarters", desc := "()I" } : Jvm.MethodName) prog_15_method_2_code (1 : Nat) (Option.some Jvm.ClassFile.FieldType.int)) ∈ lw_all := lw_g (lw_at lw_m4 134 rfl) rfl
theorem q968 : (Jvm.Cond.selects "CardLoom$Turning$2" ({ cls := "CardLoom$Turning", name := "lean", desc := "(I)I" } : Jvm.MethodName) ({ cls := "CardLoom$Turning$2", name := "lean", desc := "(I)I" } : Jvm.MethodName)) ∈ lw_all := lw_g (lw_at lw_m4 171 rfl) rfl
theorem q969 : (Jvm.Cond.instanceMethod ({ cls := "CardLoom$Turning$2", name := "lean", desc := "(I)I" } : Jvm.MethodName)) ∈ lw_all := lw_g (lw_at lw_m4 172 rfl) rfl
theorem q970 : (Jvm.Cond.code ({ cls := "CardLoom$Turning$2", name := "lean", desc := "(I)I" } : Jvm.MethodName) prog_15_method_3_code (2 : Nat) (Option.some Jvm.ClassFile.FieldType.int)) ∈ lw_all := lw_g (lw_at lw_m4 173 rfl) rfl
theorem q1240 : (Jvm.Cond.selects "CardLoom$Turning$2" ({ cls := "java/lang/Enum", name := "compareTo", desc := "(Ljava/lang/Enum;)I" } : Jvm.MethodName) ({ cls := "java/lang/Enum", name := "compareTo", desc := "(Ljava/lang/Enum;)I" } : Jvm.MethodName)) ∈ lw_all := lw_g (lw_at lw_m5 203 rfl) rfl
theorem q1249 : (Jvm.Cond.selects "CardLoom$Turning$2" ({ cls := "java/lang/Enum", name := "getDeclaringClass", desc := "()Ljava/lang/Class;" } : Jvm.MethodName) ({ cls := "java/lang/Enum", name := "getDeclaringClass", desc := "()Ljava/lang/Class;" } : Jvm.MethodName)) ∈ lw_all := lw_g (lw_at lw_m5 212 rfl) rfl
theorem q1253 : (Jvm.Cond.castable "CardLoom$Turning$2" "java/lang/Comparable") ∈ lw_tbl := lw_at lw_m5 216 rfl
theorem q1254 : (Jvm.Cond.selects "CardLoom$Turning$2" ({ cls := "java/lang/Comparable", name := "compareTo", desc := "(Ljava/lang/Object;)I" } : Jvm.MethodName) ({ cls := "java/lang/Enum", name := "compareTo", desc := "(Ljava/lang/Object;)I" } : Jvm.MethodName)) ∈ lw_all := lw_g (lw_at lw_m5 217 rfl) rfl
theorem q1255 : (Jvm.Cond.unhidden "CardLoom$Turning$2" "compareTo" "(Ljava/lang/Object;)I") ∈ lw_tbl := lw_at lw_m5 218 rfl
theorem q2750 : (Jvm.Cond.castable "CardLoom$Turning$2" "java/lang/Enum") ∈ lw_tbl := lw_at lw_m12 33 rfl
theorem q2762 : (Jvm.Cond.castable "CardLoom$Turning$2" "java/lang/Object") ∈ lw_tbl := lw_at lw_m12 45 rfl
theorem q2789 : (Jvm.Cond.castable "CardLoom$Turning$2" "CardLoom$Turning") ∈ lw_tbl := lw_at lw_m12 72 rfl
/-! CardLoom$Turning$3 -/
set_option maxRecDepth 100000
def RX8 : String := "CardLoom$Turning$3"
abbrev cX8_other : ByteArray := prog_16_method_5_code
def yX8_other : MethodName := ⟨RX8, "other", "()LCardLoom$Turning;"⟩
theorem dX8_other_0 : decode cX8_other 0 = .ok (.getstatic 7, 3) := by decide +kernel
theorem dX8_other_3 : decode cX8_other 3 = .ok (.areturn, 1) := by decide +kernel
abbrev cX8_twist : ByteArray := prog_16_method_3_code
def yX8_twist : MethodName := ⟨RX8, "twist", "()I"⟩
theorem dX8_twist_0 : decode cX8_twist 0 = .ok (.iconst (-1), 1) := by decide +kernel
theorem dX8_twist_1 : decode cX8_twist 1 = .ok (.ireturn, 1) := by decide +kernel
abbrev cX8_quarters : ByteArray := prog_16_method_2_code
def yX8_quarters : MethodName := ⟨RX8, "quarters", "()I"⟩
theorem dX8_quarters_0 : decode cX8_quarters 0 = .ok (.iconst 3, 1) := by decide +kernel
theorem dX8_quarters_1 : decode cX8_quarters 1 = .ok (.ireturn, 1) := by decide +kernel
abbrev cX8_lean : ByteArray := prog_16_method_4_code
def yX8_lean : MethodName := ⟨RX8, "lean", "(I)I"⟩
def dkwX8_lean_0 : List UInt8 := [5, 27, 100, 172]
abbrev dktX8_lean_0 : List UInt8 := dkwX8_lean_0 ++ []
theorem dksX8_lean_0 : cX8_lean.data.toList.drop 0 = dktX8_lean_0 := by decide +kernel
theorem dX8_lean_0 : decode cX8_lean 0 = .ok (.iconst 2, 1) := dk_5 (dk_at dksX8_lean_0 0 rfl rfl)
theorem dX8_lean_1 : decode cX8_lean 1 = .ok (.iload_n 1, 1) := dk_27 (dk_at dksX8_lean_0 1 rfl rfl)
theorem dX8_lean_2 : decode cX8_lean 2 = .ok (.isub, 1) := dk_100 (dk_at dksX8_lean_0 2 rfl rfl)
theorem dX8_lean_3 : decode cX8_lean 3 = .ok (.ireturn, 1) := dk_172 (dk_at dksX8_lean_0 3 rfl rfl)
theorem q101 : (Jvm.Cond.initialized "CardLoom$Turning$3") ∈ lw_all := lw_g (lw_at lw_m1 24 rfl) rfl
theorem q442 : (Jvm.Cond.selects "CardLoom$Turning$3" ({ cls := "java/lang/Object", name := "getClass", desc := "()Ljava/lang/Class;" } : Jvm.MethodName) ({ cls := "java/lang/Object", name := "getClass", desc := "()Ljava/lang/Class;" } : Jvm.MethodName)) ∈ lw_all := lw_g (lw_at lw_m2 125 rfl) rfl
theorem q652 : (Jvm.Cond.selects "CardLoom$Turning$3" ({ cls := "CardLoom$Turning", name := "other", desc := "()LCardLoom$Turning;" } : Jvm.MethodName) ({ cls := "CardLoom$Turning$3", name := "other", desc := "()LCardLoom$Turning;" } : Jvm.MethodName)) ∈ lw_all := lw_g (lw_at lw_m3 95 rfl) rfl
theorem q653 : (Jvm.Cond.instanceMethod ({ cls := "CardLoom$Turning$3", name := "other", desc := "()LCardLoom$Turning;" } : Jvm.MethodName)) ∈ lw_all := lw_g (lw_at lw_m3 96 rfl) rfl
theorem q654 : (Jvm.Cond.code ({ cls := "CardLoom$Turning$3", name := "other", desc := "()LCardLoom$Turning;" } : Jvm.MethodName) prog_16_method_5_code (1 : Nat) (Option.some (Jvm.ClassFile.FieldType.object "CardLoom$Turning"))) ∈ lw_all := lw_g (lw_at lw_m3 97 rfl) rfl
theorem q655 : (Jvm.Cond.fieldLink "CardLoom$Turning$3" (7 : Nat) "CardLoom$Turning$3" "FORWARD" "LCardLoom$Turning;") ∈ lw_all := lw_g (lw_at lw_m3 98 rfl) rfl
theorem q656 : (Jvm.Cond.sameField "CardLoom$Turning$3" "CardLoom$Turning" "FORWARD" "LCardLoom$Turning;") ∈ lw_all := lw_g (lw_at lw_m3 99 rfl) rfl
theorem q918 : (Jvm.Cond.selects "CardLoom$Turning$3" ({ cls := "CardLoom$Turning", name := "twist", desc := "()I" } : Jvm.MethodName) ({ cls := "CardLoom$Turning$3", name := "twist", desc := "()I" } : Jvm.MethodName)) ∈ lw_all := lw_g (lw_at lw_m4 121 rfl) rfl
theorem q919 : (Jvm.Cond.instanceMethod ({ cls := "CardLoom$Turning$3", name := "twist", desc := "()I" } : Jvm.MethodName)) ∈ lw_all := lw_g (lw_at lw_m4 122 rfl) rfl
theorem q920 : (Jvm.Cond.code ({ cls := "CardLoom$Turning$3", name := "twist", desc := "()I" } : Jvm.MethodName) prog_16_method_3_code (1 : Nat) (Option.some Jvm.ClassFile.FieldType.int)) ∈ lw_all := lw_g (lw_at lw_m4 123 rfl) rfl
theorem q932 : (Jvm.Cond.selects "CardLoom$Turning$3" ({ cls := "CardLoom$Turning", name := "quarters", desc := "()I" } : Jvm.MethodName) ({ cls := "CardLoom$Turning$3", name := "quarters", desc := "()I" } : Jvm.MethodName)) ∈ lw_all := lw_g (lw_at lw_m4 135 rfl) rfl
theorem q933 : (Jvm.Cond.instanceMethod ({ cls := "CardLoom$Turning$3", name := "quarters", desc := "()I" } : Jvm.MethodName)) ∈ lw_all := lw_g (lw_at lw_m4 136 rfl) rfl
theorem q934 : (Jvm.Cond.code ({ cls := "CardLoom$Turning$3", name := "quarters", desc := "()I" } : Jvm.MethodName) prog_16_method_2_code (1 : Nat) (Option.some Jvm.ClassFile.FieldType.int)) ∈ lw_all := lw_g (lw_at lw_m4 137 rfl) rfl
theorem q971 : (Jvm.Cond.selects "CardLoom$Turning$3" ({ cls := "CardLoom$Turning", name := "lean", desc := "(I)I" } : Jvm.MethodName) ({ cls := "CardLoom$Turning$3", name := "lean", desc := "(I)I" } : Jvm.MethodName)) ∈ lw_all := lw_g (lw_at lw_m4 174 rfl) rfl
theorem q972 : (Jvm.Cond.instanceMethod ({ cls := "CardLoom$Turning$3", name := "lean", desc := "(I)I" } : Jvm.MethodName)) ∈ lw_all := lw_g (lw_at lw_m4 175 rfl) rfl
theorem q973 : (Jvm.Cond.code ({ cls := "CardLoom$Turning$3", name := "lean", desc := "(I)I" } : Jvm.MethodName) prog_16_method_4_code (2 : Nat) (Option.some Jvm.ClassFile.FieldType.int)) ∈ lw_all := lw_g (lw_at lw_m4 176 rfl) rfl
theorem q1241 : (Jvm.Cond.selects "CardLoom$Turning$3" ({ cls := "java/lang/Enum", name := "compareTo", desc := "(Ljava/lang/Enum;)I" } : Jvm.MethodName) ({ cls := "java/lang/Enum", name := "compareTo", desc := "(Ljava/lang/Enum;)I" } : Jvm.MethodName)) ∈ lw_all := lw_g (lw_at lw_m5 204 rfl) rfl
theorem q1250 : (Jvm.Cond.selects "CardLoom$Turning$3" ({ cls := "java/lang/Enum", name := "getDeclaringClass", desc := "()Ljava/lang/Class;" } : Jvm.MethodName) ({ cls := "java/lang/Enum", name := "getDeclaringClass", desc := "()Ljava/lang/Class;" } : Jvm.MethodName)) ∈ lw_all := lw_g (lw_at lw_m5 213 rfl) rfl
theorem q1256 : (Jvm.Cond.castable "CardLoom$Turning$3" "java/lang/Comparable") ∈ lw_tbl := lw_at lw_m5 219 rfl
theorem q1257 : (Jvm.Cond.selects "CardLoom$Turning$3" ({ cls := "java/lang/Comparable", name := "compareTo", desc := "(Ljava/lang/Object;)I" } : Jvm.MethodName) ({ cls := "java/lang/Enum", name := "compareTo", desc := "(Ljava/lang/Object;)I" } : Jvm.MethodName)) ∈ lw_all := lw_g (lw_at lw_m5 220 rfl) rfl
theorem q1258 : (Jvm.Cond.unhidden "CardLoom$Turning$3" "compareTo" "(Ljava/lang/Object;)I") ∈ lw_tbl := lw_at lw_m5 221 rfl
theorem q2751 : (Jvm.Cond.castable "CardLoom$Turning$3" "java/lang/Enum") ∈ lw_tbl := lw_at lw_m12 34 rfl
theorem q2763 : (Jvm.Cond.castable "CardLoom$Turning$3" "java/lang/Object") ∈ lw_tbl := lw_at lw_m12 46 rfl
theorem q2790 : (Jvm.Cond.castable "CardLoom$Turning$3" "CardLoom$Turning") ∈ lw_tbl := lw_at lw_m12 73 rfl
/-! CardLoom$Row -/
set_option maxRecDepth 100000
def RX9 : String := "CardLoom$Row"
def TX9 : u_T := fun k => match k with
  | 0 => ("CardLoom$Row", "front", "[I", true)
  | 1 => ("CardLoom$Row", "back", "[I", true)
  | 2 => ("CardLoom$Row", "lean", "[I", true)
  | _ => ("CardLoom$Row", "turnings", "[LCardLoom$Turning;", true)
def tyX9 : Nat → FieldType := fun k => match k with
  | 0 => .array .int
  | 1 => .array .int
  | 2 => .array .int
  | _ => .array (.object "CardLoom$Turning")
abbrev wsX90 : List Cond := u_ws RX9 TX9 4
theorem nmX9 : ∀ a, a < 4 → ∀ b, b < 4 → a ≠ b → (TX9 a).2.1 ≠ (TX9 b).2.1 := by decide +kernel
theorem tyX9_ok : ∀ k, k < 4 → parseFieldDescriptor (TX9 k).2.2.1 = some (tyX9 k) := by decide +kernel
abbrev cX9_init : ByteArray := prog_12_method_1_code
def yX9_init : MethodName := ⟨RX9, "<init>", "(Ljava/util/ArrayList;[LCardLoom$Turning;)V"⟩
def dkwX9_init_4 : List UInt8 := [180, 0, 38, 182, 0, 42, 79, 132, 3, 1, 167, 255, 190, 177]
abbrev dktX9_init_4 : List UInt8 := dkwX9_init_4 ++ []
def dkwX9_init_3 : List UInt8 := [192, 0, 29, 182, 0, 35, 79, 42, 180, 0, 20, 29, 44, 29, 50, 43, 29, 182, 0, 23, 192, 0, 29]
abbrev dktX9_init_3 : List UInt8 := dkwX9_init_3 ++ dktX9_init_4
def dkwX9_init_2 : List UInt8 := [43, 29, 182, 0, 23, 192, 0, 29, 182, 0, 31, 79, 42, 180, 0, 17, 29, 43, 29, 182, 0, 23]
abbrev dktX9_init_2 : List UInt8 := dkwX9_init_2 ++ dktX9_init_3
def dkwX9_init_1 : List UInt8 := [181, 0, 17, 42, 44, 190, 188, 10, 181, 0, 20, 3, 62, 29, 44, 190, 162, 0, 66, 42, 180, 0, 13, 29]
abbrev dktX9_init_1 : List UInt8 := dkwX9_init_1 ++ dktX9_init_2
def dkwX9_init_0 : List UInt8 := [42, 183, 0, 1, 42, 44, 181, 0, 7, 42, 44, 190, 188, 10, 181, 0, 13, 42, 44, 190, 188, 10]
abbrev dktX9_init_0 : List UInt8 := dkwX9_init_0 ++ dktX9_init_1
theorem dksX9_init_0 : cX9_init.data.toList.drop 0 = dktX9_init_0 := by decide +kernel
theorem dksX9_init_1 : cX9_init.data.toList.drop 22 = dktX9_init_1 := dk_seg dksX9_init_0 22 rfl rfl
theorem dksX9_init_2 : cX9_init.data.toList.drop 46 = dktX9_init_2 := dk_seg dksX9_init_1 24 rfl rfl
theorem dksX9_init_3 : cX9_init.data.toList.drop 68 = dktX9_init_3 := dk_seg dksX9_init_2 22 rfl rfl
theorem dksX9_init_4 : cX9_init.data.toList.drop 91 = dktX9_init_4 := dk_seg dksX9_init_3 23 rfl rfl
theorem dX9_init_0 : decode cX9_init 0 = .ok (.aload_n 0, 1) := dk_42 (dk_at dksX9_init_0 0 rfl rfl)
theorem dX9_init_1 : decode cX9_init 1 = .ok (.invokespecial 1, 3) := dk_183 0 1 (dk_at dksX9_init_0 1 rfl rfl)
theorem dX9_init_4 : decode cX9_init 4 = .ok (.aload_n 0, 1) := dk_42 (dk_at dksX9_init_0 4 rfl rfl)
theorem dX9_init_5 : decode cX9_init 5 = .ok (.aload_n 2, 1) := dk_44 (dk_at dksX9_init_0 5 rfl rfl)
theorem dX9_init_6 : decode cX9_init 6 = .ok (.putfield 7, 3) := dk_181 0 7 (dk_at dksX9_init_0 6 rfl rfl)
theorem dX9_init_9 : decode cX9_init 9 = .ok (.aload_n 0, 1) := dk_42 (dk_at dksX9_init_0 9 rfl rfl)
theorem dX9_init_10 : decode cX9_init 10 = .ok (.aload_n 2, 1) := dk_44 (dk_at dksX9_init_0 10 rfl rfl)
theorem dX9_init_11 : decode cX9_init 11 = .ok (.arraylength, 1) := dk_190 (dk_at dksX9_init_0 11 rfl rfl)
theorem dX9_init_12 : decode cX9_init 12 = .ok (.newarray .int, 2) := dk_188_10 (dk_at dksX9_init_0 12 rfl rfl)
theorem dX9_init_14 : decode cX9_init 14 = .ok (.putfield 13, 3) := dk_181 0 13 (dk_at dksX9_init_0 14 rfl rfl)
theorem dX9_init_17 : decode cX9_init 17 = .ok (.aload_n 0, 1) := dk_42 (dk_at dksX9_init_0 17 rfl rfl)
theorem dX9_init_18 : decode cX9_init 18 = .ok (.aload_n 2, 1) := dk_44 (dk_at dksX9_init_0 18 rfl rfl)
theorem dX9_init_19 : decode cX9_init 19 = .ok (.arraylength, 1) := dk_190 (dk_at dksX9_init_0 19 rfl rfl)
theorem dX9_init_20 : decode cX9_init 20 = .ok (.newarray .int, 2) := dk_188_10 (dk_at dksX9_init_0 20 rfl rfl)
theorem dX9_init_22 : decode cX9_init 22 = .ok (.putfield 17, 3) := dk_181 0 17 (dk_at dksX9_init_1 0 rfl rfl)
theorem dX9_init_25 : decode cX9_init 25 = .ok (.aload_n 0, 1) := dk_42 (dk_at dksX9_init_1 3 rfl rfl)
theorem dX9_init_26 : decode cX9_init 26 = .ok (.aload_n 2, 1) := dk_44 (dk_at dksX9_init_1 4 rfl rfl)
theorem dX9_init_27 : decode cX9_init 27 = .ok (.arraylength, 1) := dk_190 (dk_at dksX9_init_1 5 rfl rfl)
theorem dX9_init_28 : decode cX9_init 28 = .ok (.newarray .int, 2) := dk_188_10 (dk_at dksX9_init_1 6 rfl rfl)
theorem dX9_init_30 : decode cX9_init 30 = .ok (.putfield 20, 3) := dk_181 0 20 (dk_at dksX9_init_1 8 rfl rfl)
theorem dX9_init_33 : decode cX9_init 33 = .ok (.iconst 0, 1) := dk_3 (dk_at dksX9_init_1 11 rfl rfl)
theorem dX9_init_34 : decode cX9_init 34 = .ok (.istore_n 3, 1) := dk_62 (dk_at dksX9_init_1 12 rfl rfl)
theorem dX9_init_35 : decode cX9_init 35 = .ok (.iload_n 3, 1) := dk_29 (dk_at dksX9_init_1 13 rfl rfl)
theorem dX9_init_36 : decode cX9_init 36 = .ok (.aload_n 2, 1) := dk_44 (dk_at dksX9_init_1 14 rfl rfl)
theorem dX9_init_37 : decode cX9_init 37 = .ok (.arraylength, 1) := dk_190 (dk_at dksX9_init_1 15 rfl rfl)
theorem dX9_init_38 : decode cX9_init 38 = .ok (.if_icmp .ge 66, 3) := dk_162 0 66 (dk_at dksX9_init_1 16 rfl rfl)
theorem dX9_init_41 : decode cX9_init 41 = .ok (.aload_n 0, 1) := dk_42 (dk_at dksX9_init_1 19 rfl rfl)
theorem dX9_init_42 : decode cX9_init 42 = .ok (.getfield 13, 3) := dk_180 0 13 (dk_at dksX9_init_1 20 rfl rfl)
theorem dX9_init_45 : decode cX9_init 45 = .ok (.iload_n 3, 1) := dk_29 (dk_at dksX9_init_1 23 rfl rfl)
theorem dX9_init_46 : decode cX9_init 46 = .ok (.aload_n 1, 1) := dk_43 (dk_at dksX9_init_2 0 rfl rfl)
theorem dX9_init_47 : decode cX9_init 47 = .ok (.iload_n 3, 1) := dk_29 (dk_at dksX9_init_2 1 rfl rfl)
theorem dX9_init_48 : decode cX9_init 48 = .ok (.invokevirtual 23, 3) := dk_182 0 23 (dk_at dksX9_init_2 2 rfl rfl)
theorem dX9_init_51 : decode cX9_init 51 = .ok (.checkcast 29, 3) := dk_192 0 29 (dk_at dksX9_init_2 5 rfl rfl)
theorem dX9_init_54 : decode cX9_init 54 = .ok (.invokevirtual 31, 3) := dk_182 0 31 (dk_at dksX9_init_2 8 rfl rfl)
theorem dX9_init_57 : decode cX9_init 57 = .ok (.iastore, 1) := dk_79 (dk_at dksX9_init_2 11 rfl rfl)
theorem dX9_init_58 : decode cX9_init 58 = .ok (.aload_n 0, 1) := dk_42 (dk_at dksX9_init_2 12 rfl rfl)
theorem dX9_init_59 : decode cX9_init 59 = .ok (.getfield 17, 3) := dk_180 0 17 (dk_at dksX9_init_2 13 rfl rfl)
theorem dX9_init_62 : decode cX9_init 62 = .ok (.iload_n 3, 1) := dk_29 (dk_at dksX9_init_2 16 rfl rfl)
theorem dX9_init_63 : decode cX9_init 63 = .ok (.aload_n 1, 1) := dk_43 (dk_at dksX9_init_2 17 rfl rfl)
theorem dX9_init_64 : decode cX9_init 64 = .ok (.iload_n 3, 1) := dk_29 (dk_at dksX9_init_2 18 rfl rfl)
theorem dX9_init_65 : decode cX9_init 65 = .ok (.invokevirtual 23, 3) := dk_182 0 23 (dk_at dksX9_init_2 19 rfl rfl)
theorem dX9_init_68 : decode cX9_init 68 = .ok (.checkcast 29, 3) := dk_192 0 29 (dk_at dksX9_init_3 0 rfl rfl)
theorem dX9_init_71 : decode cX9_init 71 = .ok (.invokevirtual 35, 3) := dk_182 0 35 (dk_at dksX9_init_3 3 rfl rfl)
theorem dX9_init_74 : decode cX9_init 74 = .ok (.iastore, 1) := dk_79 (dk_at dksX9_init_3 6 rfl rfl)
theorem dX9_init_75 : decode cX9_init 75 = .ok (.aload_n 0, 1) := dk_42 (dk_at dksX9_init_3 7 rfl rfl)
theorem dX9_init_76 : decode cX9_init 76 = .ok (.getfield 20, 3) := dk_180 0 20 (dk_at dksX9_init_3 8 rfl rfl)
theorem dX9_init_79 : decode cX9_init 79 = .ok (.iload_n 3, 1) := dk_29 (dk_at dksX9_init_3 11 rfl rfl)
theorem dX9_init_80 : decode cX9_init 80 = .ok (.aload_n 2, 1) := dk_44 (dk_at dksX9_init_3 12 rfl rfl)
theorem dX9_init_81 : decode cX9_init 81 = .ok (.iload_n 3, 1) := dk_29 (dk_at dksX9_init_3 13 rfl rfl)
theorem dX9_init_82 : decode cX9_init 82 = .ok (.aaload, 1) := dk_50 (dk_at dksX9_init_3 14 rfl rfl)
theorem dX9_init_83 : decode cX9_init 83 = .ok (.aload_n 1, 1) := dk_43 (dk_at dksX9_init_3 15 rfl rfl)
theorem dX9_init_84 : decode cX9_init 84 = .ok (.iload_n 3, 1) := dk_29 (dk_at dksX9_init_3 16 rfl rfl)
theorem dX9_init_85 : decode cX9_init 85 = .ok (.invokevirtual 23, 3) := dk_182 0 23 (dk_at dksX9_init_3 17 rfl rfl)
theorem dX9_init_88 : decode cX9_init 88 = .ok (.checkcast 29, 3) := dk_192 0 29 (dk_at dksX9_init_3 20 rfl rfl)
theorem dX9_init_91 : decode cX9_init 91 = .ok (.getfield 38, 3) := dk_180 0 38 (dk_at dksX9_init_4 0 rfl rfl)
theorem dX9_init_94 : decode cX9_init 94 = .ok (.invokevirtual 42, 3) := dk_182 0 42 (dk_at dksX9_init_4 3 rfl rfl)
theorem dX9_init_97 : decode cX9_init 97 = .ok (.iastore, 1) := dk_79 (dk_at dksX9_init_4 6 rfl rfl)
theorem dX9_init_98 : decode cX9_init 98 = .ok (.iinc 3 1, 3) := dk_132 3 1 (dk_at dksX9_init_4 7 rfl rfl)
theorem dX9_init_101 : decode cX9_init 101 = .ok (.goto (-66), 3) := dk_167 255 190 (dk_at dksX9_init_4 10 rfl rfl)
theorem dX9_init_104 : decode cX9_init 104 = .ok (.return_, 1) := dk_177 (dk_at dksX9_init_4 13 rfl rfl)
abbrev cX9_isLike : ByteArray := prog_12_method_3_code
def yX9_isLike : MethodName := ⟨RX9, "isLike", "(LCardLoom$Row;)Z"⟩
def dkwX9_isLike_0 : List UInt8 := [42, 43, 182, 0, 47, 42, 182, 0, 51, 160, 0, 7, 4, 167, 0, 4, 3, 172]
abbrev dktX9_isLike_0 : List UInt8 := dkwX9_isLike_0 ++ []
theorem dksX9_isLike_0 : cX9_isLike.data.toList.drop 0 = dktX9_isLike_0 := by decide +kernel
theorem dX9_isLike_0 : decode cX9_isLike 0 = .ok (.aload_n 0, 1) := dk_42 (dk_at dksX9_isLike_0 0 rfl rfl)
theorem dX9_isLike_1 : decode cX9_isLike 1 = .ok (.aload_n 1, 1) := dk_43 (dk_at dksX9_isLike_0 1 rfl rfl)
theorem dX9_isLike_2 : decode cX9_isLike 2 = .ok (.invokevirtual 47, 3) := dk_182 0 47 (dk_at dksX9_isLike_0 2 rfl rfl)
theorem dX9_isLike_5 : decode cX9_isLike 5 = .ok (.aload_n 0, 1) := dk_42 (dk_at dksX9_isLike_0 5 rfl rfl)
theorem dX9_isLike_6 : decode cX9_isLike 6 = .ok (.invokevirtual 51, 3) := dk_182 0 51 (dk_at dksX9_isLike_0 6 rfl rfl)
theorem dX9_isLike_9 : decode cX9_isLike 9 = .ok (.if_icmp .ne 7, 3) := dk_160 0 7 (dk_at dksX9_isLike_0 9 rfl rfl)
theorem dX9_isLike_12 : decode cX9_isLike 12 = .ok (.iconst 1, 1) := dk_4 (dk_at dksX9_isLike_0 12 rfl rfl)
theorem dX9_isLike_13 : decode cX9_isLike 13 = .ok (.goto 4, 3) := dk_167 0 4 (dk_at dksX9_isLike_0 13 rfl rfl)
theorem dX9_isLike_16 : decode cX9_isLike 16 = .ok (.iconst 0, 1) := dk_3 (dk_at dksX9_isLike_0 16 rfl rfl)
theorem dX9_isLike_17 : decode cX9_isLike 17 = .ok (.ireturn, 1) := dk_172 (dk_at dksX9_isLike_0 17 rfl rfl)
abbrev cX9_alike : ByteArray := prog_12_method_4_code
def yX9_alike : MethodName := ⟨RX9, "alike", "(LCardLoom$Row;)I"⟩
def dkwX9_alike_1 : List UInt8 := [46, 160, 0, 7, 4, 167, 0, 4, 3, 96, 61, 132, 3, 1, 167, 255, 222, 28, 172]
abbrev dktX9_alike_1 : List UInt8 := dkwX9_alike_1 ++ []
def dkwX9_alike_0 : List UInt8 := [3, 61, 3, 62, 29, 42, 182, 0, 51, 162, 0, 32, 28, 42, 180, 0, 13, 29, 46, 43, 180, 0, 13, 29]
abbrev dktX9_alike_0 : List UInt8 := dkwX9_alike_0 ++ dktX9_alike_1
theorem dksX9_alike_0 : cX9_alike.data.toList.drop 0 = dktX9_alike_0 := by decide +kernel
theorem dksX9_alike_1 : cX9_alike.data.toList.drop 24 = dktX9_alike_1 := dk_seg dksX9_alike_0 24 rfl rfl
theorem dX9_alike_0 : decode cX9_alike 0 = .ok (.iconst 0, 1) := dk_3 (dk_at dksX9_alike_0 0 rfl rfl)
theorem dX9_alike_1 : decode cX9_alike 1 = .ok (.istore_n 2, 1) := dk_61 (dk_at dksX9_alike_0 1 rfl rfl)
theorem dX9_alike_2 : decode cX9_alike 2 = .ok (.iconst 0, 1) := dk_3 (dk_at dksX9_alike_0 2 rfl rfl)
theorem dX9_alike_3 : decode cX9_alike 3 = .ok (.istore_n 3, 1) := dk_62 (dk_at dksX9_alike_0 3 rfl rfl)
theorem dX9_alike_4 : decode cX9_alike 4 = .ok (.iload_n 3, 1) := dk_29 (dk_at dksX9_alike_0 4 rfl rfl)
theorem dX9_alike_5 : decode cX9_alike 5 = .ok (.aload_n 0, 1) := dk_42 (dk_at dksX9_alike_0 5 rfl rfl)
theorem dX9_alike_6 : decode cX9_alike 6 = .ok (.invokevirtual 51, 3) := dk_182 0 51 (dk_at dksX9_alike_0 6 rfl rfl)
theorem dX9_alike_9 : decode cX9_alike 9 = .ok (.if_icmp .ge 32, 3) := dk_162 0 32 (dk_at dksX9_alike_0 9 rfl rfl)
theorem dX9_alike_12 : decode cX9_alike 12 = .ok (.iload_n 2, 1) := dk_28 (dk_at dksX9_alike_0 12 rfl rfl)
theorem dX9_alike_13 : decode cX9_alike 13 = .ok (.aload_n 0, 1) := dk_42 (dk_at dksX9_alike_0 13 rfl rfl)
theorem dX9_alike_14 : decode cX9_alike 14 = .ok (.getfield 13, 3) := dk_180 0 13 (dk_at dksX9_alike_0 14 rfl rfl)
theorem dX9_alike_17 : decode cX9_alike 17 = .ok (.iload_n 3, 1) := dk_29 (dk_at dksX9_alike_0 17 rfl rfl)
theorem dX9_alike_18 : decode cX9_alike 18 = .ok (.iaload, 1) := dk_46 (dk_at dksX9_alike_0 18 rfl rfl)
theorem dX9_alike_19 : decode cX9_alike 19 = .ok (.aload_n 1, 1) := dk_43 (dk_at dksX9_alike_0 19 rfl rfl)
theorem dX9_alike_20 : decode cX9_alike 20 = .ok (.getfield 13, 3) := dk_180 0 13 (dk_at dksX9_alike_0 20 rfl rfl)
theorem dX9_alike_23 : decode cX9_alike 23 = .ok (.iload_n 3, 1) := dk_29 (dk_at dksX9_alike_0 23 rfl rfl)
theorem dX9_alike_24 : decode cX9_alike 24 = .ok (.iaload, 1) := dk_46 (dk_at dksX9_alike_1 0 rfl rfl)
theorem dX9_alike_25 : decode cX9_alike 25 = .ok (.if_icmp .ne 7, 3) := dk_160 0 7 (dk_at dksX9_alike_1 1 rfl rfl)
theorem dX9_alike_28 : decode cX9_alike 28 = .ok (.iconst 1, 1) := dk_4 (dk_at dksX9_alike_1 4 rfl rfl)
theorem dX9_alike_29 : decode cX9_alike 29 = .ok (.goto 4, 3) := dk_167 0 4 (dk_at dksX9_alike_1 5 rfl rfl)
theorem dX9_alike_32 : decode cX9_alike 32 = .ok (.iconst 0, 1) := dk_3 (dk_at dksX9_alike_1 8 rfl rfl)
theorem dX9_alike_33 : decode cX9_alike 33 = .ok (.iadd, 1) := dk_96 (dk_at dksX9_alike_1 9 rfl rfl)
theorem dX9_alike_34 : decode cX9_alike 34 = .ok (.istore_n 2, 1) := dk_61 (dk_at dksX9_alike_1 10 rfl rfl)
theorem dX9_alike_35 : decode cX9_alike 35 = .ok (.iinc 3 1, 3) := dk_132 3 1 (dk_at dksX9_alike_1 11 rfl rfl)
theorem dX9_alike_38 : decode cX9_alike 38 = .ok (.goto (-34), 3) := dk_167 255 222 (dk_at dksX9_alike_1 14 rfl rfl)
theorem dX9_alike_41 : decode cX9_alike 41 = .ok (.iload_n 2, 1) := dk_28 (dk_at dksX9_alike_1 17 rfl rfl)
theorem dX9_alike_42 : decode cX9_alike 42 = .ok (.ireturn, 1) := dk_172 (dk_at dksX9_alike_1 18 rfl rfl)
abbrev cX9_many : ByteArray := prog_12_method_2_code
def yX9_many : MethodName := ⟨RX9, "many", "()I"⟩
def dkwX9_many_0 : List UInt8 := [42, 180, 0, 13, 190, 172]
abbrev dktX9_many_0 : List UInt8 := dkwX9_many_0 ++ []
theorem dksX9_many_0 : cX9_many.data.toList.drop 0 = dktX9_many_0 := by decide +kernel
theorem dX9_many_0 : decode cX9_many 0 = .ok (.aload_n 0, 1) := dk_42 (dk_at dksX9_many_0 0 rfl rfl)
theorem dX9_many_1 : decode cX9_many 1 = .ok (.getfield 13, 3) := dk_180 0 13 (dk_at dksX9_many_0 1 rfl rfl)
theorem dX9_many_4 : decode cX9_many 4 = .ok (.arraylength, 1) := dk_190 (dk_at dksX9_many_0 4 rfl rfl)
theorem dX9_many_5 : decode cX9_many 5 = .ok (.ireturn, 1) := dk_172 (dk_at dksX9_many_0 5 rfl rfl)
abbrev cX9_isMirror : ByteArray := prog_12_method_5_code
def yX9_isMirror : MethodName := ⟨RX9, "isMirror", "()Z"⟩
def dkwX9_isMirror_2 : List UInt8 := [27, 172]
abbrev dktX9_isMirror_2 : List UInt8 := dkwX9_isMirror_2 ++ []
def dkwX9_isMirror_1 : List UInt8 := [182, 0, 51, 4, 100, 28, 100, 46, 160, 0, 7, 4, 167, 0, 4, 3, 126, 60, 132, 2, 1, 167, 255, 215]
abbrev dktX9_isMirror_1 : List UInt8 := dkwX9_isMirror_1 ++ dktX9_isMirror_2
def dkwX9_isMirror_0 : List UInt8 := [4, 60, 3, 61, 28, 42, 182, 0, 51, 162, 0, 39, 27, 42, 180, 0, 13, 28, 46, 42, 180, 0, 13, 42]
abbrev dktX9_isMirror_0 : List UInt8 := dkwX9_isMirror_0 ++ dktX9_isMirror_1
theorem dksX9_isMirror_0 : cX9_isMirror.data.toList.drop 0 = dktX9_isMirror_0 := by decide +kernel
theorem dksX9_isMirror_1 : cX9_isMirror.data.toList.drop 24 = dktX9_isMirror_1 := dk_seg dksX9_isMirror_0 24 rfl rfl
theorem dksX9_isMirror_2 : cX9_isMirror.data.toList.drop 48 = dktX9_isMirror_2 := dk_seg dksX9_isMirror_1 24 rfl rfl
theorem dX9_isMirror_0 : decode cX9_isMirror 0 = .ok (.iconst 1, 1) := dk_4 (dk_at dksX9_isMirror_0 0 rfl rfl)
theorem dX9_isMirror_1 : decode cX9_isMirror 1 = .ok (.istore_n 1, 1) := dk_60 (dk_at dksX9_isMirror_0 1 rfl rfl)
theorem dX9_isMirror_2 : decode cX9_isMirror 2 = .ok (.iconst 0, 1) := dk_3 (dk_at dksX9_isMirror_0 2 rfl rfl)
theorem dX9_isMirror_3 : decode cX9_isMirror 3 = .ok (.istore_n 2, 1) := dk_61 (dk_at dksX9_isMirror_0 3 rfl rfl)
theorem dX9_isMirror_4 : decode cX9_isMirror 4 = .ok (.iload_n 2, 1) := dk_28 (dk_at dksX9_isMirror_0 4 rfl rfl)
theorem dX9_isMirror_5 : decode cX9_isMirror 5 = .ok (.aload_n 0, 1) := dk_42 (dk_at dksX9_isMirror_0 5 rfl rfl)
theorem dX9_isMirror_6 : decode cX9_isMirror 6 = .ok (.invokevirtual 51, 3) := dk_182 0 51 (dk_at dksX9_isMirror_0 6 rfl rfl)
theorem dX9_isMirror_9 : decode cX9_isMirror 9 = .ok (.if_icmp .ge 39, 3) := dk_162 0 39 (dk_at dksX9_isMirror_0 9 rfl rfl)
theorem dX9_isMirror_12 : decode cX9_isMirror 12 = .ok (.iload_n 1, 1) := dk_27 (dk_at dksX9_isMirror_0 12 rfl rfl)
theorem dX9_isMirror_13 : decode cX9_isMirror 13 = .ok (.aload_n 0, 1) := dk_42 (dk_at dksX9_isMirror_0 13 rfl rfl)
theorem dX9_isMirror_14 : decode cX9_isMirror 14 = .ok (.getfield 13, 3) := dk_180 0 13 (dk_at dksX9_isMirror_0 14 rfl rfl)
theorem dX9_isMirror_17 : decode cX9_isMirror 17 = .ok (.iload_n 2, 1) := dk_28 (dk_at dksX9_isMirror_0 17 rfl rfl)
theorem dX9_isMirror_18 : decode cX9_isMirror 18 = .ok (.iaload, 1) := dk_46 (dk_at dksX9_isMirror_0 18 rfl rfl)
theorem dX9_isMirror_19 : decode cX9_isMirror 19 = .ok (.aload_n 0, 1) := dk_42 (dk_at dksX9_isMirror_0 19 rfl rfl)
theorem dX9_isMirror_20 : decode cX9_isMirror 20 = .ok (.getfield 13, 3) := dk_180 0 13 (dk_at dksX9_isMirror_0 20 rfl rfl)
theorem dX9_isMirror_23 : decode cX9_isMirror 23 = .ok (.aload_n 0, 1) := dk_42 (dk_at dksX9_isMirror_0 23 rfl rfl)
theorem dX9_isMirror_24 : decode cX9_isMirror 24 = .ok (.invokevirtual 51, 3) := dk_182 0 51 (dk_at dksX9_isMirror_1 0 rfl rfl)
theorem dX9_isMirror_27 : decode cX9_isMirror 27 = .ok (.iconst 1, 1) := dk_4 (dk_at dksX9_isMirror_1 3 rfl rfl)
theorem dX9_isMirror_28 : decode cX9_isMirror 28 = .ok (.isub, 1) := dk_100 (dk_at dksX9_isMirror_1 4 rfl rfl)
theorem dX9_isMirror_29 : decode cX9_isMirror 29 = .ok (.iload_n 2, 1) := dk_28 (dk_at dksX9_isMirror_1 5 rfl rfl)
theorem dX9_isMirror_30 : decode cX9_isMirror 30 = .ok (.isub, 1) := dk_100 (dk_at dksX9_isMirror_1 6 rfl rfl)
theorem dX9_isMirror_31 : decode cX9_isMirror 31 = .ok (.iaload, 1) := dk_46 (dk_at dksX9_isMirror_1 7 rfl rfl)
theorem dX9_isMirror_32 : decode cX9_isMirror 32 = .ok (.if_icmp .ne 7, 3) := dk_160 0 7 (dk_at dksX9_isMirror_1 8 rfl rfl)
theorem dX9_isMirror_35 : decode cX9_isMirror 35 = .ok (.iconst 1, 1) := dk_4 (dk_at dksX9_isMirror_1 11 rfl rfl)
theorem dX9_isMirror_36 : decode cX9_isMirror 36 = .ok (.goto 4, 3) := dk_167 0 4 (dk_at dksX9_isMirror_1 12 rfl rfl)
theorem dX9_isMirror_39 : decode cX9_isMirror 39 = .ok (.iconst 0, 1) := dk_3 (dk_at dksX9_isMirror_1 15 rfl rfl)
theorem dX9_isMirror_40 : decode cX9_isMirror 40 = .ok (.iand, 1) := dk_126 (dk_at dksX9_isMirror_1 16 rfl rfl)
theorem dX9_isMirror_41 : decode cX9_isMirror 41 = .ok (.istore_n 1, 1) := dk_60 (dk_at dksX9_isMirror_1 17 rfl rfl)
theorem dX9_isMirror_42 : decode cX9_isMirror 42 = .ok (.iinc 2 1, 3) := dk_132 2 1 (dk_at dksX9_isMirror_1 18 rfl rfl)
theorem dX9_isMirror_45 : decode cX9_isMirror 45 = .ok (.goto (-41), 3) := dk_167 255 215 (dk_at dksX9_isMirror_1 21 rfl rfl)
theorem dX9_isMirror_48 : decode cX9_isMirror 48 = .ok (.iload_n 1, 1) := dk_27 (dk_at dksX9_isMirror_2 0 rfl rfl)
theorem dX9_isMirror_49 : decode cX9_isMirror 49 = .ok (.ireturn, 1) := dk_172 (dk_at dksX9_isMirror_2 1 rfl rfl)
abbrev cX9_faces : ByteArray := prog_12_method_6_code
def yX9_faces : MethodName := ⟨RX9, "faces", "()I"⟩
def dkwX9_faces_1 : List UInt8 := [46, 160, 0, 7, 4, 167, 0, 4, 3, 96, 60, 132, 2, 1, 167, 255, 222, 27, 172]
abbrev dktX9_faces_1 : List UInt8 := dkwX9_faces_1 ++ []
def dkwX9_faces_0 : List UInt8 := [3, 60, 3, 61, 28, 42, 182, 0, 51, 162, 0, 32, 27, 42, 180, 0, 13, 28, 46, 42, 180, 0, 17, 28]
abbrev dktX9_faces_0 : List UInt8 := dkwX9_faces_0 ++ dktX9_faces_1
theorem dksX9_faces_0 : cX9_faces.data.toList.drop 0 = dktX9_faces_0 := by decide +kernel
theorem dksX9_faces_1 : cX9_faces.data.toList.drop 24 = dktX9_faces_1 := dk_seg dksX9_faces_0 24 rfl rfl
theorem dX9_faces_0 : decode cX9_faces 0 = .ok (.iconst 0, 1) := dk_3 (dk_at dksX9_faces_0 0 rfl rfl)
theorem dX9_faces_1 : decode cX9_faces 1 = .ok (.istore_n 1, 1) := dk_60 (dk_at dksX9_faces_0 1 rfl rfl)
theorem dX9_faces_2 : decode cX9_faces 2 = .ok (.iconst 0, 1) := dk_3 (dk_at dksX9_faces_0 2 rfl rfl)
theorem dX9_faces_3 : decode cX9_faces 3 = .ok (.istore_n 2, 1) := dk_61 (dk_at dksX9_faces_0 3 rfl rfl)
theorem dX9_faces_4 : decode cX9_faces 4 = .ok (.iload_n 2, 1) := dk_28 (dk_at dksX9_faces_0 4 rfl rfl)
theorem dX9_faces_5 : decode cX9_faces 5 = .ok (.aload_n 0, 1) := dk_42 (dk_at dksX9_faces_0 5 rfl rfl)
theorem dX9_faces_6 : decode cX9_faces 6 = .ok (.invokevirtual 51, 3) := dk_182 0 51 (dk_at dksX9_faces_0 6 rfl rfl)
theorem dX9_faces_9 : decode cX9_faces 9 = .ok (.if_icmp .ge 32, 3) := dk_162 0 32 (dk_at dksX9_faces_0 9 rfl rfl)
theorem dX9_faces_12 : decode cX9_faces 12 = .ok (.iload_n 1, 1) := dk_27 (dk_at dksX9_faces_0 12 rfl rfl)
theorem dX9_faces_13 : decode cX9_faces 13 = .ok (.aload_n 0, 1) := dk_42 (dk_at dksX9_faces_0 13 rfl rfl)
theorem dX9_faces_14 : decode cX9_faces 14 = .ok (.getfield 13, 3) := dk_180 0 13 (dk_at dksX9_faces_0 14 rfl rfl)
theorem dX9_faces_17 : decode cX9_faces 17 = .ok (.iload_n 2, 1) := dk_28 (dk_at dksX9_faces_0 17 rfl rfl)
theorem dX9_faces_18 : decode cX9_faces 18 = .ok (.iaload, 1) := dk_46 (dk_at dksX9_faces_0 18 rfl rfl)
theorem dX9_faces_19 : decode cX9_faces 19 = .ok (.aload_n 0, 1) := dk_42 (dk_at dksX9_faces_0 19 rfl rfl)
theorem dX9_faces_20 : decode cX9_faces 20 = .ok (.getfield 17, 3) := dk_180 0 17 (dk_at dksX9_faces_0 20 rfl rfl)
theorem dX9_faces_23 : decode cX9_faces 23 = .ok (.iload_n 2, 1) := dk_28 (dk_at dksX9_faces_0 23 rfl rfl)
theorem dX9_faces_24 : decode cX9_faces 24 = .ok (.iaload, 1) := dk_46 (dk_at dksX9_faces_1 0 rfl rfl)
theorem dX9_faces_25 : decode cX9_faces 25 = .ok (.if_icmp .ne 7, 3) := dk_160 0 7 (dk_at dksX9_faces_1 1 rfl rfl)
theorem dX9_faces_28 : decode cX9_faces 28 = .ok (.iconst 1, 1) := dk_4 (dk_at dksX9_faces_1 4 rfl rfl)
theorem dX9_faces_29 : decode cX9_faces 29 = .ok (.goto 4, 3) := dk_167 0 4 (dk_at dksX9_faces_1 5 rfl rfl)
theorem dX9_faces_32 : decode cX9_faces 32 = .ok (.iconst 0, 1) := dk_3 (dk_at dksX9_faces_1 8 rfl rfl)
theorem dX9_faces_33 : decode cX9_faces 33 = .ok (.iadd, 1) := dk_96 (dk_at dksX9_faces_1 9 rfl rfl)
theorem dX9_faces_34 : decode cX9_faces 34 = .ok (.istore_n 1, 1) := dk_60 (dk_at dksX9_faces_1 10 rfl rfl)
theorem dX9_faces_35 : decode cX9_faces 35 = .ok (.iinc 2 1, 3) := dk_132 2 1 (dk_at dksX9_faces_1 11 rfl rfl)
theorem dX9_faces_38 : decode cX9_faces 38 = .ok (.goto (-34), 3) := dk_167 255 222 (dk_at dksX9_faces_1 14 rfl rfl)
theorem dX9_faces_41 : decode cX9_faces 41 = .ok (.iload_n 1, 1) := dk_27 (dk_at dksX9_faces_1 17 rfl rfl)
theorem dX9_faces_42 : decode cX9_faces 42 = .ok (.ireturn, 1) := dk_172 (dk_at dksX9_faces_1 18 rfl rfl)
theorem q108 : (Jvm.Cond.initialized "CardLoom$Row") ∈ lw_all := lw_g (lw_at lw_m1 31 rfl) rfl
theorem q381 : (Jvm.Cond.fieldLinkNest "CardLoom$Row" (38 : Nat) "CardLoom$Card" "slant" "I" "CardLoom") ∈ lw_tbl := lw_at lw_m2 64 rfl
theorem q439 : (Jvm.Cond.selects "CardLoom$Row" ({ cls := "java/lang/Object", name := "getClass", desc := "()Ljava/lang/Class;" } : Jvm.MethodName) ({ cls := "java/lang/Object", name := "getClass", desc := "()Ljava/lang/Class;" } : Jvm.MethodName)) ∈ lw_all := lw_g (lw_at lw_m2 122 rfl) rfl
theorem q947 : (Jvm.Cond.instantiable "CardLoom$Row" (4 : Nat)) ∈ lw_all := lw_g (lw_at lw_m4 150 rfl) rfl
theorem q949 : (Jvm.Cond.instanceMethod ({ cls := "CardLoom$Row", name := "<init>", desc := "(Ljava/util/ArrayList;[LCardLoom$Turning;)V" } : Jvm.MethodName)) ∈ lw_all := lw_g (lw_at lw_m4 152 rfl) rfl
theorem q950 : (Jvm.Cond.code ({ cls := "CardLoom$Row", name := "<init>", desc := "(Ljava/util/ArrayList;[LCardLoom$Turning;)V" } : Jvm.MethodName) prog_12_method_1_code (4 : Nat) (Option.none : Option Jvm.ClassFile.FieldType)) ∈ lw_all := lw_g (lw_at lw_m4 153 rfl) rfl
theorem q951 : (Jvm.Cond.methodLink "CardLoom$Row" (1 : Nat) ({ cls := "java/lang/Object", name := "<init>", desc := "()V" } : Jvm.MethodName)) ∈ lw_all := lw_g (lw_at lw_m4 154 rfl) rfl
theorem q952 : (Jvm.Cond.methodLink "CardLoom$Row" (23 : Nat) ({ cls := "java/util/ArrayList", name := "get", desc := "(I)Ljava/lang/Object;" } : Jvm.MethodName)) ∈ lw_all := lw_g (lw_at lw_m4 155 rfl) rfl
theorem q953 : (Jvm.Cond.classLink "CardLoom$Row" (29 : Nat) "CardLoom$Card") ∈ lw_all := lw_g (lw_at lw_m4 156 rfl) rfl
theorem q954 : (Jvm.Cond.methodLink "CardLoom$Row" (31 : Nat) ({ cls := "CardLoom$Card", name := "top", desc := "()I" } : Jvm.MethodName)) ∈ lw_all := lw_g (lw_at lw_m4 157 rfl) rfl
theorem q958 : (Jvm.Cond.methodLink "CardLoom$Row" (35 : Nat) ({ cls := "CardLoom$Card", name := "below", desc := "()I" } : Jvm.MethodName)) ∈ lw_all := lw_g (lw_at lw_m4 161 rfl) rfl
theorem q962 : (Jvm.Cond.methodLink "CardLoom$Row" (42 : Nat) ({ cls := "CardLoom$Turning", name := "lean", desc := "(I)I" } : Jvm.MethodName)) ∈ lw_all := lw_g (lw_at lw_m4 165 rfl) rfl
theorem q977 : (Jvm.Cond.fieldLink "CardLoom$Row" (13 : Nat) "CardLoom$Row" "front" "[I") ∈ lw_all := lw_g (lw_at lw_m4 180 rfl) rfl
theorem q979 : (Jvm.Cond.fieldLink "CardLoom$Row" (17 : Nat) "CardLoom$Row" "back" "[I") ∈ lw_all := lw_g (lw_at lw_m4 182 rfl) rfl
theorem q981 : (Jvm.Cond.fieldLink "CardLoom$Row" (20 : Nat) "CardLoom$Row" "lean" "[I") ∈ lw_all := lw_g (lw_at lw_m4 184 rfl) rfl
theorem q983 : (Jvm.Cond.fieldLink "CardLoom$Row" (7 : Nat) "CardLoom$Row" "turnings" "[LCardLoom$Turning;") ∈ lw_all := lw_g (lw_at lw_m4 186 rfl) rfl
theorem q985 : (Jvm.Cond.laysFinal "CardLoom$Row" "CardLoom$Row" "front" "[I") ∈ lw_all := lw_g (lw_at lw_m4 188 rfl) rfl
theorem q986 : (Jvm.Cond.soleField "CardLoom$Row" "front") ∈ lw_all := lw_g (lw_at lw_m4 189 rfl) rfl
theorem q987 : (Jvm.Cond.laysFinal "CardLoom$Row" "CardLoom$Row" "back" "[I") ∈ lw_all := lw_g (lw_at lw_m4 190 rfl) rfl
theorem q988 : (Jvm.Cond.soleField "CardLoom$Row" "back") ∈ lw_all := lw_g (lw_at lw_m4 191 rfl) rfl
theorem q989 : (Jvm.Cond.laysFinal "CardLoom$Row" "CardLoom$Row" "lean" "[I") ∈ lw_all := lw_g (lw_at lw_m4 192 rfl) rfl
theorem q990 : (Jvm.Cond.soleField "CardLoom$Row" "lean") ∈ lw_all := lw_g (lw_at lw_m4 193 rfl) rfl
theorem q991 : (Jvm.Cond.laysFinal "CardLoom$Row" "CardLoom$Row" "turnings" "[LCardLoom$Turning;") ∈ lw_all := lw_g (lw_at lw_m4 194 rfl) rfl
theorem q992 : (Jvm.Cond.soleField "CardLoom$Row" "turnings") ∈ lw_all := lw_g (lw_at lw_m4 195 rfl) rfl
theorem q993 : (Jvm.Cond.superclass "CardLoom$Row" "java/lang/Object") ∈ lw_all := lw_g (lw_at lw_m4 196 rfl) rfl
theorem q1601 : (Jvm.Cond.instanceMethod ({ cls := "CardLoom$Row", name := "isLike", desc := "(LCardLoom$Row;)Z" } : Jvm.MethodName)) ∈ lw_all := lw_g (lw_at lw_m7 84 rfl) rfl
theorem q1602 : (Jvm.Cond.selects "CardLoom$Row" ({ cls := "CardLoom$Row", name := "isLike", desc := "(LCardLoom$Row;)Z" } : Jvm.MethodName) ({ cls := "CardLoom$Row", name := "isLike", desc := "(LCardLoom$Row;)Z" } : Jvm.MethodName)) ∈ lw_all := lw_g (lw_at lw_m7 85 rfl) rfl
theorem q1603 : (Jvm.Cond.code ({ cls := "CardLoom$Row", name := "isLike", desc := "(LCardLoom$Row;)Z" } : Jvm.MethodName) prog_12_method_3_code (2 : Nat) (Option.some Jvm.ClassFile.FieldType.boolean)) ∈ lw_all := lw_g (lw_at lw_m7 86 rfl) rfl
theorem q1604 : (Jvm.Cond.methodLink "CardLoom$Row" (47 : Nat) ({ cls := "CardLoom$Row", name := "alike", desc := "(LCardLoom$Row;)I" } : Jvm.MethodName)) ∈ lw_all := lw_g (lw_at lw_m7 87 rfl) rfl
theorem q1605 : (Jvm.Cond.instanceMethod ({ cls := "CardLoom$Row", name := "alike", desc := "(LCardLoom$Row;)I" } : Jvm.MethodName)) ∈ lw_all := lw_g (lw_at lw_m7 88 rfl) rfl
theorem q1606 : (Jvm.Cond.selects "CardLoom$Row" ({ cls := "CardLoom$Row", name := "alike", desc := "(LCardLoom$Row;)I" } : Jvm.MethodName) ({ cls := "CardLoom$Row", name := "alike", desc := "(LCardLoom$Row;)I" } : Jvm.MethodName)) ∈ lw_all := lw_g (lw_at lw_m7 89 rfl) rfl
theorem q1607 : (Jvm.Cond.code ({ cls := "CardLoom$Row", name := "alike", desc := "(LCardLoom$Row;)I" } : Jvm.MethodName) prog_12_method_4_code (4 : Nat) (Option.some Jvm.ClassFile.FieldType.int)) ∈ lw_all := lw_g (lw_at lw_m7 90 rfl) rfl
theorem q1608 : (Jvm.Cond.methodLink "CardLoom$Row" (51 : Nat) ({ cls := "CardLoom$Row", name := "many", desc := "()I" } : Jvm.MethodName)) ∈ lw_all := lw_g (lw_at lw_m7 91 rfl) rfl
theorem q1609 : (Jvm.Cond.instanceMethod ({ cls := "CardLoom$Row", name := "many", desc := "()I" } : Jvm.MethodName)) ∈ lw_all := lw_g (lw_at lw_m7 92 rfl) rfl
theorem q1610 : (Jvm.Cond.selects "CardLoom$Row" ({ cls := "CardLoom$Row", name := "many", desc := "()I" } : Jvm.MethodName) ({ cls := "CardLoom$Row", name := "many", desc := "()I" } : Jvm.MethodName)) ∈ lw_all := lw_g (lw_at lw_m7 93 rfl) rfl
theorem q1611 : (Jvm.Cond.code ({ cls := "CardLoom$Row", name := "many", desc := "()I" } : Jvm.MethodName) prog_12_method_2_code (1 : Nat) (Option.some Jvm.ClassFile.FieldType.int)) ∈ lw_all := lw_g (lw_at lw_m7 94 rfl) rfl
theorem q1617 : (Jvm.Cond.instanceMethod ({ cls := "CardLoom$Row", name := "isMirror", desc := "()Z" } : Jvm.MethodName)) ∈ lw_all := lw_g (lw_at lw_m7 100 rfl) rfl
theorem q1618 : (Jvm.Cond.selects "CardLoom$Row" ({ cls := "CardLoom$Row", name := "isMirror", desc := "()Z" } : Jvm.MethodName) ({ cls := "CardLoom$Row", name := "isMirror", desc := "()Z" } : Jvm.MethodName)) ∈ lw_all := lw_g (lw_at lw_m7 101 rfl) rfl
theorem q1619 : (Jvm.Cond.code ({ cls := "CardLoom$Row", name := "isMirror", desc := "()Z" } : Jvm.MethodName) prog_12_method_5_code (3 : Nat) (Option.some Jvm.ClassFile.FieldType.boolean)) ∈ lw_all := lw_g (lw_at lw_m7 102 rfl) rfl
theorem q1993 : (Jvm.Cond.instanceMethod ({ cls := "CardLoom$Row", name := "faces", desc := "()I" } : Jvm.MethodName)) ∈ lw_all := lw_g (lw_at lw_m8 236 rfl) rfl
theorem q1994 : (Jvm.Cond.selects "CardLoom$Row" ({ cls := "CardLoom$Row", name := "faces", desc := "()I" } : Jvm.MethodName) ({ cls := "CardLoom$Row", name := "faces", desc := "()I" } : Jvm.MethodName)) ∈ lw_all := lw_g (lw_at lw_m8 237 rfl) rfl
theorem q1995 : (Jvm.Cond.code ({ cls := "CardLoom$Row", name := "faces", desc := "()I" } : Jvm.MethodName) prog_12_method_6_code (3 : Nat) (Option.some Jvm.ClassFile.FieldType.int)) ∈ lw_all := lw_g (lw_at lw_m8 238 rfl) rfl
theorem q2767 : (Jvm.Cond.castable "CardLoom$Row" "java/lang/Object") ∈ lw_tbl := lw_at lw_m12 50 rfl
theorem in_X9 : ∀ w ∈ wsX90, w ∈ lw_all := lw_in wsX90 [985, 987, 989, 991] (by decide +kernel) (by decide +kernel)
/-! CardLoom$ByTwist -/
set_option maxRecDepth 100000
def RX10 : String := "CardLoom$ByTwist"
def TX10 : u_T := fun k => match k with
  | _ => ("CardLoom$ByTwist", "sign", "I", true)
def tyX10 : Nat → FieldType := fun k => match k with
  | _ => .int
abbrev wsX100 : List Cond := u_ws RX10 TX10 1
theorem nmX10 : ∀ a, a < 1 → ∀ b, b < 1 → a ≠ b → (TX10 a).2.1 ≠ (TX10 b).2.1 := by decide +kernel
theorem tyX10_ok : ∀ k, k < 1 → parseFieldDescriptor (TX10 k).2.2.1 = some (tyX10 k) := by decide +kernel
abbrev cX10_init : ByteArray := prog_5_method_1_code
def yX10_init : MethodName := ⟨RX10, "<init>", "(I)V"⟩
def dkwX10_init_0 : List UInt8 := [42, 183, 0, 1, 42, 27, 181, 0, 7, 177]
abbrev dktX10_init_0 : List UInt8 := dkwX10_init_0 ++ []
theorem dksX10_init_0 : cX10_init.data.toList.drop 0 = dktX10_init_0 := by decide +kernel
theorem dX10_init_0 : decode cX10_init 0 = .ok (.aload_n 0, 1) := dk_42 (dk_at dksX10_init_0 0 rfl rfl)
theorem dX10_init_1 : decode cX10_init 1 = .ok (.invokespecial 1, 3) := dk_183 0 1 (dk_at dksX10_init_0 1 rfl rfl)
theorem dX10_init_4 : decode cX10_init 4 = .ok (.aload_n 0, 1) := dk_42 (dk_at dksX10_init_0 4 rfl rfl)
theorem dX10_init_5 : decode cX10_init 5 = .ok (.iload_n 1, 1) := dk_27 (dk_at dksX10_init_0 5 rfl rfl)
theorem dX10_init_6 : decode cX10_init 6 = .ok (.putfield 7, 3) := dk_181 0 7 (dk_at dksX10_init_0 6 rfl rfl)
theorem dX10_init_9 : decode cX10_init 9 = .ok (.return_, 1) := dk_177 (dk_at dksX10_init_0 9 rfl rfl)
abbrev cX10_compare : ByteArray := prog_5_method_3_code
def yX10_compare : MethodName := ⟨RX10, "compare", "(Ljava/lang/Object;Ljava/lang/Object;)I"⟩
def dkwX10_compare_0 : List UInt8 := [42, 43, 192, 0, 14, 44, 192, 0, 14, 182, 0, 18, 172]
abbrev dktX10_compare_0 : List UInt8 := dkwX10_compare_0 ++ []
theorem dksX10_compare_0 : cX10_compare.data.toList.drop 0 = dktX10_compare_0 := by decide +kernel
theorem dX10_compare_0 : decode cX10_compare 0 = .ok (.aload_n 0, 1) := dk_42 (dk_at dksX10_compare_0 0 rfl rfl)
theorem dX10_compare_1 : decode cX10_compare 1 = .ok (.aload_n 1, 1) := dk_43 (dk_at dksX10_compare_0 1 rfl rfl)
theorem dX10_compare_2 : decode cX10_compare 2 = .ok (.checkcast 14, 3) := dk_192 0 14 (dk_at dksX10_compare_0 2 rfl rfl)
theorem dX10_compare_5 : decode cX10_compare 5 = .ok (.aload_n 2, 1) := dk_44 (dk_at dksX10_compare_0 5 rfl rfl)
theorem dX10_compare_6 : decode cX10_compare 6 = .ok (.checkcast 14, 3) := dk_192 0 14 (dk_at dksX10_compare_0 6 rfl rfl)
theorem dX10_compare_9 : decode cX10_compare 9 = .ok (.invokevirtual 18, 3) := dk_182 0 18 (dk_at dksX10_compare_0 9 rfl rfl)
theorem dX10_compare_12 : decode cX10_compare 12 = .ok (.ireturn, 1) := dk_172 (dk_at dksX10_compare_0 12 rfl rfl)
abbrev cX10_compare_2 : ByteArray := prog_5_method_2_code
def yX10_compare_2 : MethodName := ⟨RX10, "compare", "(LCardLoom$Card;LCardLoom$Card;)I"⟩
def dkwX10_compare_2_0 : List UInt8 := [42, 180, 0, 7, 44, 180, 0, 13, 43, 180, 0, 13, 100, 104, 172]
abbrev dktX10_compare_2_0 : List UInt8 := dkwX10_compare_2_0 ++ []
theorem dksX10_compare_2_0 : cX10_compare_2.data.toList.drop 0 = dktX10_compare_2_0 := by decide +kernel
theorem dX10_compare_2_0 : decode cX10_compare_2 0 = .ok (.aload_n 0, 1) := dk_42 (dk_at dksX10_compare_2_0 0 rfl rfl)
theorem dX10_compare_2_1 : decode cX10_compare_2 1 = .ok (.getfield 7, 3) := dk_180 0 7 (dk_at dksX10_compare_2_0 1 rfl rfl)
theorem dX10_compare_2_4 : decode cX10_compare_2 4 = .ok (.aload_n 2, 1) := dk_44 (dk_at dksX10_compare_2_0 4 rfl rfl)
theorem dX10_compare_2_5 : decode cX10_compare_2 5 = .ok (.getfield 13, 3) := dk_180 0 13 (dk_at dksX10_compare_2_0 5 rfl rfl)
theorem dX10_compare_2_8 : decode cX10_compare_2 8 = .ok (.aload_n 1, 1) := dk_43 (dk_at dksX10_compare_2_0 8 rfl rfl)
theorem dX10_compare_2_9 : decode cX10_compare_2 9 = .ok (.getfield 13, 3) := dk_180 0 13 (dk_at dksX10_compare_2_0 9 rfl rfl)
theorem dX10_compare_2_12 : decode cX10_compare_2 12 = .ok (.isub, 1) := dk_100 (dk_at dksX10_compare_2_0 12 rfl rfl)
theorem dX10_compare_2_13 : decode cX10_compare_2 13 = .ok (.imul, 1) := dk_104 (dk_at dksX10_compare_2_0 13 rfl rfl)
theorem dX10_compare_2_14 : decode cX10_compare_2 14 = .ok (.ireturn, 1) := dk_172 (dk_at dksX10_compare_2_0 14 rfl rfl)
theorem q111 : (Jvm.Cond.initialized "CardLoom$ByTwist") ∈ lw_all := lw_g (lw_at lw_m1 34 rfl) rfl
theorem q387 : (Jvm.Cond.fieldLinkNest "CardLoom$ByTwist" (13 : Nat) "CardLoom$Card" "twist" "I" "CardLoom") ∈ lw_tbl := lw_at lw_m2 70 rfl
theorem q434 : (Jvm.Cond.selects "CardLoom$ByTwist" ({ cls := "java/lang/Object", name := "getClass", desc := "()Ljava/lang/Class;" } : Jvm.MethodName) ({ cls := "java/lang/Object", name := "getClass", desc := "()Ljava/lang/Class;" } : Jvm.MethodName)) ∈ lw_all := lw_g (lw_at lw_m2 117 rfl) rfl
theorem q1102 : (Jvm.Cond.instantiable "CardLoom$ByTwist" (1 : Nat)) ∈ lw_all := lw_g (lw_at lw_m5 65 rfl) rfl
theorem q1104 : (Jvm.Cond.instanceMethod ({ cls := "CardLoom$ByTwist", name := "<init>", desc := "(I)V" } : Jvm.MethodName)) ∈ lw_all := lw_g (lw_at lw_m5 67 rfl) rfl
theorem q1105 : (Jvm.Cond.code ({ cls := "CardLoom$ByTwist", name := "<init>", desc := "(I)V" } : Jvm.MethodName) prog_5_method_1_code (2 : Nat) (Option.none : Option Jvm.ClassFile.FieldType)) ∈ lw_all := lw_g (lw_at lw_m5 68 rfl) rfl
theorem q1106 : (Jvm.Cond.methodLink "CardLoom$ByTwist" (1 : Nat) ({ cls := "java/lang/Object", name := "<init>", desc := "()V" } : Jvm.MethodName)) ∈ lw_all := lw_g (lw_at lw_m5 69 rfl) rfl
theorem q1107 : (Jvm.Cond.fieldLink "CardLoom$ByTwist" (7 : Nat) "CardLoom$ByTwist" "sign" "I") ∈ lw_all := lw_g (lw_at lw_m5 70 rfl) rfl
theorem q1108 : (Jvm.Cond.laysFinal "CardLoom$ByTwist" "CardLoom$ByTwist" "sign" "I") ∈ lw_all := lw_g (lw_at lw_m5 71 rfl) rfl
theorem q1109 : (Jvm.Cond.soleField "CardLoom$ByTwist" "sign") ∈ lw_all := lw_g (lw_at lw_m5 72 rfl) rfl
theorem q1110 : (Jvm.Cond.superclass "CardLoom$ByTwist" "java/lang/Object") ∈ lw_all := lw_g (lw_at lw_m5 73 rfl) rfl
theorem q1202 : (Jvm.Cond.castable "CardLoom$ByTwist" "java/util/Comparator") ∈ lw_tbl := lw_at lw_m5 165 rfl
theorem q1203 : (Jvm.Cond.selects "CardLoom$ByTwist" ({ cls := "java/util/Comparator", name := "compare", desc := "(Ljava/lang/Object;Ljava/lang/Object;)I" } : Jvm.MethodName) ({ cls := "CardLoom$ByTwist", name := "compare", desc := "(Ljava/lang/Object;Ljava/lang/Object;)I" } : Jvm.MethodName)) ∈ lw_all := lw_g (lw_at lw_m5 166 rfl) rfl
theorem q1204 : (Jvm.Cond.unhidden "CardLoom$ByTwist" "compare" "(Ljava/lang/Object;Ljava/lang/Object;)I") ∈ lw_tbl := lw_at lw_m5 167 rfl
theorem q1205 : (Jvm.Cond.instanceMethod ({ cls := "CardLoom$ByTwist", name := "compare", desc := "(Ljava/lang/Object;Ljava/lang/Object;)I" } : Jvm.MethodName)) ∈ lw_all := lw_g (lw_at lw_m5 168 rfl) rfl
theorem q1206 : (Jvm.Cond.publicMethod ({ cls := "CardLoom$ByTwist", name := "compare", desc := "(Ljava/lang/Object;Ljava/lang/Object;)I" } : Jvm.MethodName)) ∈ lw_tbl := lw_at lw_m5 169 rfl
theorem q1207 : (Jvm.Cond.code ({ cls := "CardLoom$ByTwist", name := "compare", desc := "(Ljava/lang/Object;Ljava/lang/Object;)I" } : Jvm.MethodName) prog_5_method_3_code (3 : Nat) (Option.some Jvm.ClassFile.FieldType.int)) ∈ lw_all := lw_g (lw_at lw_m5 170 rfl) rfl
theorem q1208 : (Jvm.Cond.classLink "CardLoom$ByTwist" (14 : Nat) "CardLoom$Card") ∈ lw_all := lw_g (lw_at lw_m5 171 rfl) rfl
theorem q1209 : (Jvm.Cond.methodLink "CardLoom$ByTwist" (18 : Nat) ({ cls := "CardLoom$ByTwist", name := "compare", desc := "(LCardLoom$Card;LCardLoom$Card;)I" } : Jvm.MethodName)) ∈ lw_all := lw_g (lw_at lw_m5 172 rfl) rfl
theorem q1210 : (Jvm.Cond.instanceMethod ({ cls := "CardLoom$ByTwist", name := "compare", desc := "(LCardLoom$Card;LCardLoom$Card;)I" } : Jvm.MethodName)) ∈ lw_all := lw_g (lw_at lw_m5 173 rfl) rfl
theorem q1211 : (Jvm.Cond.selects "CardLoom$ByTwist" ({ cls := "CardLoom$ByTwist", name := "compare", desc := "(LCardLoom$Card;LCardLoom$Card;)I" } : Jvm.MethodName) ({ cls := "CardLoom$ByTwist", name := "compare", desc := "(LCardLoom$Card;LCardLoom$Card;)I" } : Jvm.MethodName)) ∈ lw_all := lw_g (lw_at lw_m5 174 rfl) rfl
theorem q1212 : (Jvm.Cond.code ({ cls := "CardLoom$ByTwist", name := "compare", desc := "(LCardLoom$Card;LCardLoom$Card;)I" } : Jvm.MethodName) prog_5_method_2_code (3 : Nat) (Option.some Jvm.ClassFile.FieldType.int)) ∈ lw_all := lw_g (lw_at lw_m5 175 rfl) rfl
theorem q2769 : (Jvm.Cond.castable "CardLoom$ByTwist" "java/lang/Object") ∈ lw_tbl := lw_at lw_m12 52 rfl
theorem in_X10 : ∀ w ∈ wsX100, w ∈ lw_all := lw_in wsX100 [1108] (by decide +kernel) (by decide +kernel)
/-! CardLoom$1 -/
set_option maxRecDepth 100000
def RX11 : String := "CardLoom$1"
def TX11 : u_T := fun k => match k with
  | 0 => ("CardLoom$1", "val$of", "LCardLoom$Card;", true)
  | 1 => ("CardLoom$1", "val$card", "I", true)
  | _ => ("CardLoom$1", "this$0", "LCardLoom;", true)
def tyX11 : Nat → FieldType := fun k => match k with
  | 0 => .object "CardLoom$Card"
  | 1 => .int
  | _ => .object "CardLoom"
abbrev wsX110 : List Cond := u_ws RX11 TX11 3
theorem nmX11 : ∀ a, a < 3 → ∀ b, b < 3 → a ≠ b → (TX11 a).2.1 ≠ (TX11 b).2.1 := by decide +kernel
theorem tyX11_ok : ∀ k, k < 3 → parseFieldDescriptor (TX11 k).2.2.1 = some (tyX11 k) := by decide +kernel
abbrev cX11_init : ByteArray := prog_2_method_1_code
def yX11_init : MethodName := ⟨RX11, "<init>", "(LCardLoom;LCardLoom$Card;I)V"⟩
def dkwX11_init_0 : List UInt8 := [42, 43, 181, 0, 3, 42, 44, 181, 0, 9, 42, 29, 181, 0, 13, 42, 183, 0, 17, 177]
abbrev dktX11_init_0 : List UInt8 := dkwX11_init_0 ++ []
theorem dksX11_init_0 : cX11_init.data.toList.drop 0 = dktX11_init_0 := by decide +kernel
theorem dX11_init_0 : decode cX11_init 0 = .ok (.aload_n 0, 1) := dk_42 (dk_at dksX11_init_0 0 rfl rfl)
theorem dX11_init_1 : decode cX11_init 1 = .ok (.aload_n 1, 1) := dk_43 (dk_at dksX11_init_0 1 rfl rfl)
theorem dX11_init_2 : decode cX11_init 2 = .ok (.putfield 3, 3) := dk_181 0 3 (dk_at dksX11_init_0 2 rfl rfl)
theorem dX11_init_5 : decode cX11_init 5 = .ok (.aload_n 0, 1) := dk_42 (dk_at dksX11_init_0 5 rfl rfl)
theorem dX11_init_6 : decode cX11_init 6 = .ok (.aload_n 2, 1) := dk_44 (dk_at dksX11_init_0 6 rfl rfl)
theorem dX11_init_7 : decode cX11_init 7 = .ok (.putfield 9, 3) := dk_181 0 9 (dk_at dksX11_init_0 7 rfl rfl)
theorem dX11_init_10 : decode cX11_init 10 = .ok (.aload_n 0, 1) := dk_42 (dk_at dksX11_init_0 10 rfl rfl)
theorem dX11_init_11 : decode cX11_init 11 = .ok (.iload_n 3, 1) := dk_29 (dk_at dksX11_init_0 11 rfl rfl)
theorem dX11_init_12 : decode cX11_init 12 = .ok (.putfield 13, 3) := dk_181 0 13 (dk_at dksX11_init_0 12 rfl rfl)
theorem dX11_init_15 : decode cX11_init 15 = .ok (.aload_n 0, 1) := dk_42 (dk_at dksX11_init_0 15 rfl rfl)
theorem dX11_init_16 : decode cX11_init 16 = .ok (.invokespecial 17, 3) := dk_183 0 17 (dk_at dksX11_init_0 16 rfl rfl)
theorem dX11_init_19 : decode cX11_init 19 = .ok (.return_, 1) := dk_177 (dk_at dksX11_init_0 19 rfl rfl)
abbrev cX11_least : ByteArray := prog_2_method_4_code
def yX11_least : MethodName := ⟨RX11, "least", "(II)I"⟩
def dkwX11_least_0 : List UInt8 := [18, 46, 42, 27, 28, 42, 27, 28, 182, 0, 57, 182, 0, 53, 184, 0, 61, 172]
abbrev dktX11_least_0 : List UInt8 := dkwX11_least_0 ++ []
theorem dksX11_least_0 : cX11_least.data.toList.drop 0 = dktX11_least_0 := by decide +kernel
theorem dX11_least_0 : decode cX11_least 0 = .ok (.ldc 46, 2) := dk_18 46 (dk_at dksX11_least_0 0 rfl rfl)
theorem dX11_least_2 : decode cX11_least 2 = .ok (.aload_n 0, 1) := dk_42 (dk_at dksX11_least_0 2 rfl rfl)
theorem dX11_least_3 : decode cX11_least 3 = .ok (.iload_n 1, 1) := dk_27 (dk_at dksX11_least_0 3 rfl rfl)
theorem dX11_least_4 : decode cX11_least 4 = .ok (.iload_n 2, 1) := dk_28 (dk_at dksX11_least_0 4 rfl rfl)
theorem dX11_least_5 : decode cX11_least 5 = .ok (.aload_n 0, 1) := dk_42 (dk_at dksX11_least_0 5 rfl rfl)
theorem dX11_least_6 : decode cX11_least 6 = .ok (.iload_n 1, 1) := dk_27 (dk_at dksX11_least_0 6 rfl rfl)
theorem dX11_least_7 : decode cX11_least 7 = .ok (.iload_n 2, 1) := dk_28 (dk_at dksX11_least_0 7 rfl rfl)
theorem dX11_least_8 : decode cX11_least 8 = .ok (.invokevirtual 57, 3) := dk_182 0 57 (dk_at dksX11_least_0 8 rfl rfl)
theorem dX11_least_11 : decode cX11_least 11 = .ok (.invokevirtual 53, 3) := dk_182 0 53 (dk_at dksX11_least_0 11 rfl rfl)
theorem dX11_least_14 : decode cX11_least 14 = .ok (.invokestatic 61, 3) := dk_184 0 61 (dk_at dksX11_least_0 14 rfl rfl)
theorem dX11_least_17 : decode cX11_least 17 = .ok (.ireturn, 1) := dk_172 (dk_at dksX11_least_0 17 rfl rfl)
abbrev cX11_best : ByteArray := prog_2_method_3_code
def yX11_best : MethodName := ⟨RX11, "best", "(II)LCardLoom$Turning;"⟩
def dkwX11_best_2 : List UInt8 := [178, 0, 42, 167, 0, 4, 45, 176]
abbrev dktX11_best_2 : List UInt8 := dkwX11_best_2 ++ []
def dkwX11_best_1 : List UInt8 := [178, 0, 50, 78, 42, 27, 28, 178, 0, 42, 182, 0, 53, 42, 27, 28, 45, 182, 0, 53, 162, 0, 9]
abbrev dktX11_best_1 : List UInt8 := dkwX11_best_1 ++ dktX11_best_2
def dkwX11_best_0 : List UInt8 := [178, 0, 47, 78, 42, 27, 28, 178, 0, 50, 182, 0, 53, 42, 27, 28, 45, 182, 0, 53, 162, 0, 7]
abbrev dktX11_best_0 : List UInt8 := dkwX11_best_0 ++ dktX11_best_1
theorem dksX11_best_0 : cX11_best.data.toList.drop 0 = dktX11_best_0 := by decide +kernel
theorem dksX11_best_1 : cX11_best.data.toList.drop 23 = dktX11_best_1 := dk_seg dksX11_best_0 23 rfl rfl
theorem dksX11_best_2 : cX11_best.data.toList.drop 46 = dktX11_best_2 := dk_seg dksX11_best_1 23 rfl rfl
theorem dX11_best_0 : decode cX11_best 0 = .ok (.getstatic 47, 3) := dk_178 0 47 (dk_at dksX11_best_0 0 rfl rfl)
theorem dX11_best_3 : decode cX11_best 3 = .ok (.astore_n 3, 1) := dk_78 (dk_at dksX11_best_0 3 rfl rfl)
theorem dX11_best_4 : decode cX11_best 4 = .ok (.aload_n 0, 1) := dk_42 (dk_at dksX11_best_0 4 rfl rfl)
theorem dX11_best_5 : decode cX11_best 5 = .ok (.iload_n 1, 1) := dk_27 (dk_at dksX11_best_0 5 rfl rfl)
theorem dX11_best_6 : decode cX11_best 6 = .ok (.iload_n 2, 1) := dk_28 (dk_at dksX11_best_0 6 rfl rfl)
theorem dX11_best_7 : decode cX11_best 7 = .ok (.getstatic 50, 3) := dk_178 0 50 (dk_at dksX11_best_0 7 rfl rfl)
theorem dX11_best_10 : decode cX11_best 10 = .ok (.invokevirtual 53, 3) := dk_182 0 53 (dk_at dksX11_best_0 10 rfl rfl)
theorem dX11_best_13 : decode cX11_best 13 = .ok (.aload_n 0, 1) := dk_42 (dk_at dksX11_best_0 13 rfl rfl)
theorem dX11_best_14 : decode cX11_best 14 = .ok (.iload_n 1, 1) := dk_27 (dk_at dksX11_best_0 14 rfl rfl)
theorem dX11_best_15 : decode cX11_best 15 = .ok (.iload_n 2, 1) := dk_28 (dk_at dksX11_best_0 15 rfl rfl)
theorem dX11_best_16 : decode cX11_best 16 = .ok (.aload_n 3, 1) := dk_45 (dk_at dksX11_best_0 16 rfl rfl)
theorem dX11_best_17 : decode cX11_best 17 = .ok (.invokevirtual 53, 3) := dk_182 0 53 (dk_at dksX11_best_0 17 rfl rfl)
theorem dX11_best_20 : decode cX11_best 20 = .ok (.if_icmp .ge 7, 3) := dk_162 0 7 (dk_at dksX11_best_0 20 rfl rfl)
theorem dX11_best_23 : decode cX11_best 23 = .ok (.getstatic 50, 3) := dk_178 0 50 (dk_at dksX11_best_1 0 rfl rfl)
theorem dX11_best_26 : decode cX11_best 26 = .ok (.astore_n 3, 1) := dk_78 (dk_at dksX11_best_1 3 rfl rfl)
theorem dX11_best_27 : decode cX11_best 27 = .ok (.aload_n 0, 1) := dk_42 (dk_at dksX11_best_1 4 rfl rfl)
theorem dX11_best_28 : decode cX11_best 28 = .ok (.iload_n 1, 1) := dk_27 (dk_at dksX11_best_1 5 rfl rfl)
theorem dX11_best_29 : decode cX11_best 29 = .ok (.iload_n 2, 1) := dk_28 (dk_at dksX11_best_1 6 rfl rfl)
theorem dX11_best_30 : decode cX11_best 30 = .ok (.getstatic 42, 3) := dk_178 0 42 (dk_at dksX11_best_1 7 rfl rfl)
theorem dX11_best_33 : decode cX11_best 33 = .ok (.invokevirtual 53, 3) := dk_182 0 53 (dk_at dksX11_best_1 10 rfl rfl)
theorem dX11_best_36 : decode cX11_best 36 = .ok (.aload_n 0, 1) := dk_42 (dk_at dksX11_best_1 13 rfl rfl)
theorem dX11_best_37 : decode cX11_best 37 = .ok (.iload_n 1, 1) := dk_27 (dk_at dksX11_best_1 14 rfl rfl)
theorem dX11_best_38 : decode cX11_best 38 = .ok (.iload_n 2, 1) := dk_28 (dk_at dksX11_best_1 15 rfl rfl)
theorem dX11_best_39 : decode cX11_best 39 = .ok (.aload_n 3, 1) := dk_45 (dk_at dksX11_best_1 16 rfl rfl)
theorem dX11_best_40 : decode cX11_best 40 = .ok (.invokevirtual 53, 3) := dk_182 0 53 (dk_at dksX11_best_1 17 rfl rfl)
theorem dX11_best_43 : decode cX11_best 43 = .ok (.if_icmp .ge 9, 3) := dk_162 0 9 (dk_at dksX11_best_1 20 rfl rfl)
theorem dX11_best_46 : decode cX11_best 46 = .ok (.getstatic 42, 3) := dk_178 0 42 (dk_at dksX11_best_2 0 rfl rfl)
theorem dX11_best_49 : decode cX11_best 49 = .ok (.goto 4, 3) := dk_167 0 4 (dk_at dksX11_best_2 3 rfl rfl)
theorem dX11_best_52 : decode cX11_best 52 = .ok (.aload_n 3, 1) := dk_45 (dk_at dksX11_best_2 6 rfl rfl)
theorem dX11_best_53 : decode cX11_best 53 = .ok (.areturn, 1) := dk_176 (dk_at dksX11_best_2 7 rfl rfl)
abbrev cX11_cost : ByteArray := prog_2_method_2_code
def yX11_cost : MethodName := ⟨RX11, "cost", "(IILCardLoom$Turning;)I"⟩
def dkwX11_cost_2 : List UInt8 := [21, 4, 46, 45, 178, 0, 42, 166, 0, 7, 3, 167, 0, 4, 4, 96, 167, 0, 5, 18, 46, 172]
abbrev dktX11_cost_2 : List UInt8 := dkwX11_cost_2 ++ []
def dkwX11_cost_1 : List UInt8 := [180, 0, 35, 27, 50, 42, 180, 0, 13, 46, 160, 0, 33, 42, 180, 0, 3, 180, 0, 39, 27, 4, 96, 50]
abbrev dktX11_cost_1 : List UInt8 := dkwX11_cost_1 ++ dktX11_cost_2
def dkwX11_cost_0 : List UInt8 := [28, 45, 182, 0, 23, 96, 7, 112, 54, 4, 42, 180, 0, 9, 180, 0, 29, 21, 4, 46, 42, 180, 0, 3]
abbrev dktX11_cost_0 : List UInt8 := dkwX11_cost_0 ++ dktX11_cost_1
theorem dksX11_cost_0 : cX11_cost.data.toList.drop 0 = dktX11_cost_0 := by decide +kernel
theorem dksX11_cost_1 : cX11_cost.data.toList.drop 24 = dktX11_cost_1 := dk_seg dksX11_cost_0 24 rfl rfl
theorem dksX11_cost_2 : cX11_cost.data.toList.drop 48 = dktX11_cost_2 := dk_seg dksX11_cost_1 24 rfl rfl
theorem dX11_cost_0 : decode cX11_cost 0 = .ok (.iload_n 2, 1) := dk_28 (dk_at dksX11_cost_0 0 rfl rfl)
theorem dX11_cost_1 : decode cX11_cost 1 = .ok (.aload_n 3, 1) := dk_45 (dk_at dksX11_cost_0 1 rfl rfl)
theorem dX11_cost_2 : decode cX11_cost 2 = .ok (.invokevirtual 23, 3) := dk_182 0 23 (dk_at dksX11_cost_0 2 rfl rfl)
theorem dX11_cost_5 : decode cX11_cost 5 = .ok (.iadd, 1) := dk_96 (dk_at dksX11_cost_0 5 rfl rfl)
theorem dX11_cost_6 : decode cX11_cost 6 = .ok (.iconst 4, 1) := dk_7 (dk_at dksX11_cost_0 6 rfl rfl)
theorem dX11_cost_7 : decode cX11_cost 7 = .ok (.irem, 1) := dk_112 (dk_at dksX11_cost_0 7 rfl rfl)
theorem dX11_cost_8 : decode cX11_cost 8 = .ok (.istore 4, 2) := dk_54 4 (dk_at dksX11_cost_0 8 rfl rfl)
theorem dX11_cost_10 : decode cX11_cost 10 = .ok (.aload_n 0, 1) := dk_42 (dk_at dksX11_cost_0 10 rfl rfl)
theorem dX11_cost_11 : decode cX11_cost 11 = .ok (.getfield 9, 3) := dk_180 0 9 (dk_at dksX11_cost_0 11 rfl rfl)
theorem dX11_cost_14 : decode cX11_cost 14 = .ok (.getfield 29, 3) := dk_180 0 29 (dk_at dksX11_cost_0 14 rfl rfl)
theorem dX11_cost_17 : decode cX11_cost 17 = .ok (.iload 4, 2) := dk_21 4 (dk_at dksX11_cost_0 17 rfl rfl)
theorem dX11_cost_19 : decode cX11_cost 19 = .ok (.iaload, 1) := dk_46 (dk_at dksX11_cost_0 19 rfl rfl)
theorem dX11_cost_20 : decode cX11_cost 20 = .ok (.aload_n 0, 1) := dk_42 (dk_at dksX11_cost_0 20 rfl rfl)
theorem dX11_cost_21 : decode cX11_cost 21 = .ok (.getfield 3, 3) := dk_180 0 3 (dk_at dksX11_cost_0 21 rfl rfl)
theorem dX11_cost_24 : decode cX11_cost 24 = .ok (.getfield 35, 3) := dk_180 0 35 (dk_at dksX11_cost_1 0 rfl rfl)
theorem dX11_cost_27 : decode cX11_cost 27 = .ok (.iload_n 1, 1) := dk_27 (dk_at dksX11_cost_1 3 rfl rfl)
theorem dX11_cost_28 : decode cX11_cost 28 = .ok (.aaload, 1) := dk_50 (dk_at dksX11_cost_1 4 rfl rfl)
theorem dX11_cost_29 : decode cX11_cost 29 = .ok (.aload_n 0, 1) := dk_42 (dk_at dksX11_cost_1 5 rfl rfl)
theorem dX11_cost_30 : decode cX11_cost 30 = .ok (.getfield 13, 3) := dk_180 0 13 (dk_at dksX11_cost_1 6 rfl rfl)
theorem dX11_cost_33 : decode cX11_cost 33 = .ok (.iaload, 1) := dk_46 (dk_at dksX11_cost_1 9 rfl rfl)
theorem dX11_cost_34 : decode cX11_cost 34 = .ok (.if_icmp .ne 33, 3) := dk_160 0 33 (dk_at dksX11_cost_1 10 rfl rfl)
theorem dX11_cost_37 : decode cX11_cost 37 = .ok (.aload_n 0, 1) := dk_42 (dk_at dksX11_cost_1 13 rfl rfl)
theorem dX11_cost_38 : decode cX11_cost 38 = .ok (.getfield 3, 3) := dk_180 0 3 (dk_at dksX11_cost_1 14 rfl rfl)
theorem dX11_cost_41 : decode cX11_cost 41 = .ok (.getfield 39, 3) := dk_180 0 39 (dk_at dksX11_cost_1 17 rfl rfl)
theorem dX11_cost_44 : decode cX11_cost 44 = .ok (.iload_n 1, 1) := dk_27 (dk_at dksX11_cost_1 20 rfl rfl)
theorem dX11_cost_45 : decode cX11_cost 45 = .ok (.iconst 1, 1) := dk_4 (dk_at dksX11_cost_1 21 rfl rfl)
theorem dX11_cost_46 : decode cX11_cost 46 = .ok (.iadd, 1) := dk_96 (dk_at dksX11_cost_1 22 rfl rfl)
theorem dX11_cost_47 : decode cX11_cost 47 = .ok (.aaload, 1) := dk_50 (dk_at dksX11_cost_1 23 rfl rfl)
theorem dX11_cost_48 : decode cX11_cost 48 = .ok (.iload 4, 2) := dk_21 4 (dk_at dksX11_cost_2 0 rfl rfl)
theorem dX11_cost_50 : decode cX11_cost 50 = .ok (.iaload, 1) := dk_46 (dk_at dksX11_cost_2 2 rfl rfl)
theorem dX11_cost_51 : decode cX11_cost 51 = .ok (.aload_n 3, 1) := dk_45 (dk_at dksX11_cost_2 3 rfl rfl)
theorem dX11_cost_52 : decode cX11_cost 52 = .ok (.getstatic 42, 3) := dk_178 0 42 (dk_at dksX11_cost_2 4 rfl rfl)
theorem dX11_cost_55 : decode cX11_cost 55 = .ok (.if_acmp .ne 7, 3) := dk_166 0 7 (dk_at dksX11_cost_2 7 rfl rfl)
theorem dX11_cost_58 : decode cX11_cost 58 = .ok (.iconst 0, 1) := dk_3 (dk_at dksX11_cost_2 10 rfl rfl)
theorem dX11_cost_59 : decode cX11_cost 59 = .ok (.goto 4, 3) := dk_167 0 4 (dk_at dksX11_cost_2 11 rfl rfl)
theorem dX11_cost_62 : decode cX11_cost 62 = .ok (.iconst 1, 1) := dk_4 (dk_at dksX11_cost_2 14 rfl rfl)
theorem dX11_cost_63 : decode cX11_cost 63 = .ok (.iadd, 1) := dk_96 (dk_at dksX11_cost_2 15 rfl rfl)
theorem dX11_cost_64 : decode cX11_cost 64 = .ok (.goto 5, 3) := dk_167 0 5 (dk_at dksX11_cost_2 16 rfl rfl)
theorem dX11_cost_67 : decode cX11_cost 67 = .ok (.ldc 46, 2) := dk_18 46 (dk_at dksX11_cost_2 19 rfl rfl)
theorem dX11_cost_69 : decode cX11_cost 69 = .ok (.ireturn, 1) := dk_172 (dk_at dksX11_cost_2 21 rfl rfl)
theorem q119 : (Jvm.Cond.initialized "CardLoom$1") ∈ lw_all := lw_g (lw_at lw_m1 42 rfl) rfl
theorem q206 : (Jvm.Cond.fieldLinkNest "CardLoom$1" (35 : Nat) "CardLoom" "picture" "[[I" "CardLoom") ∈ lw_tbl := lw_at lw_m1 129 rfl
theorem q209 : (Jvm.Cond.fieldLinkNest "CardLoom$1" (39 : Nat) "CardLoom" "fewest" "[[I" "CardLoom") ∈ lw_tbl := lw_at lw_m1 132 rfl
theorem q379 : (Jvm.Cond.fieldLinkNest "CardLoom$1" (29 : Nat) "CardLoom$Card" "holes" "[I" "CardLoom") ∈ lw_tbl := lw_at lw_m2 62 rfl
theorem q432 : (Jvm.Cond.selects "CardLoom$1" ({ cls := "java/lang/Object", name := "getClass", desc := "()Ljava/lang/Class;" } : Jvm.MethodName) ({ cls := "java/lang/Object", name := "getClass", desc := "()Ljava/lang/Class;" } : Jvm.MethodName)) ∈ lw_all := lw_g (lw_at lw_m2 115 rfl) rfl
theorem q1518 : (Jvm.Cond.instantiable "CardLoom$1" (3 : Nat)) ∈ lw_all := lw_g (lw_at lw_m7 1 rfl) rfl
theorem q1520 : (Jvm.Cond.instanceMethod ({ cls := "CardLoom$1", name := "<init>", desc := "(LCardLoom;LCardLoom$Card;I)V" } : Jvm.MethodName)) ∈ lw_all := lw_g (lw_at lw_m7 3 rfl) rfl
theorem q1521 : (Jvm.Cond.code ({ cls := "CardLoom$1", name := "<init>", desc := "(LCardLoom;LCardLoom$Card;I)V" } : Jvm.MethodName) prog_2_method_1_code (4 : Nat) (Option.none : Option Jvm.ClassFile.FieldType)) ∈ lw_all := lw_g (lw_at lw_m7 4 rfl) rfl
theorem q1522 : (Jvm.Cond.methodLink "CardLoom$1" (17 : Nat) ({ cls := "java/lang/Object", name := "<init>", desc := "()V" } : Jvm.MethodName)) ∈ lw_all := lw_g (lw_at lw_m7 5 rfl) rfl
theorem q1523 : (Jvm.Cond.fieldLink "CardLoom$1" (9 : Nat) "CardLoom$1" "val$of" "LCardLoom$Card;") ∈ lw_all := lw_g (lw_at lw_m7 6 rfl) rfl
theorem q1524 : (Jvm.Cond.fieldLink "CardLoom$1" (13 : Nat) "CardLoom$1" "val$card" "I") ∈ lw_all := lw_g (lw_at lw_m7 7 rfl) rfl
theorem q1525 : (Jvm.Cond.fieldLink "CardLoom$1" (3 : Nat) "CardLoom$1" "this$0" "LCardLoom;") ∈ lw_all := lw_g (lw_at lw_m7 8 rfl) rfl
theorem q1526 : (Jvm.Cond.laysFinal "CardLoom$1" "CardLoom$1" "val$of" "LCardLoom$Card;") ∈ lw_all := lw_g (lw_at lw_m7 9 rfl) rfl
theorem q1527 : (Jvm.Cond.soleField "CardLoom$1" "val$of") ∈ lw_all := lw_g (lw_at lw_m7 10 rfl) rfl
theorem q1528 : (Jvm.Cond.laysFinal "CardLoom$1" "CardLoom$1" "val$card" "I") ∈ lw_all := lw_g (lw_at lw_m7 11 rfl) rfl
theorem q1529 : (Jvm.Cond.soleField "CardLoom$1" "val$card") ∈ lw_all := lw_g (lw_at lw_m7 12 rfl) rfl
theorem q1530 : (Jvm.Cond.laysFinal "CardLoom$1" "CardLoom$1" "this$0" "LCardLoom;") ∈ lw_all := lw_g (lw_at lw_m7 13 rfl) rfl
theorem q1531 : (Jvm.Cond.soleField "CardLoom$1" "this$0") ∈ lw_all := lw_g (lw_at lw_m7 14 rfl) rfl
theorem q1532 : (Jvm.Cond.superclass "CardLoom$1" "java/lang/Object") ∈ lw_all := lw_g (lw_at lw_m7 15 rfl) rfl
theorem q1537 : (Jvm.Cond.castable "CardLoom$1" "CardLoom$Drafting") ∈ lw_tbl := lw_at lw_m7 20 rfl
theorem q1538 : (Jvm.Cond.selects "CardLoom$1" ({ cls := "CardLoom$Drafting", name := "least", desc := "(II)I" } : Jvm.MethodName) ({ cls := "CardLoom$1", name := "least", desc := "(II)I" } : Jvm.MethodName)) ∈ lw_all := lw_g (lw_at lw_m7 21 rfl) rfl
theorem q1539 : (Jvm.Cond.unhidden "CardLoom$1" "least" "(II)I") ∈ lw_tbl := lw_at lw_m7 22 rfl
theorem q1540 : (Jvm.Cond.instanceMethod ({ cls := "CardLoom$1", name := "least", desc := "(II)I" } : Jvm.MethodName)) ∈ lw_all := lw_g (lw_at lw_m7 23 rfl) rfl
theorem q1541 : (Jvm.Cond.publicMethod ({ cls := "CardLoom$1", name := "least", desc := "(II)I" } : Jvm.MethodName)) ∈ lw_tbl := lw_at lw_m7 24 rfl
theorem q1542 : (Jvm.Cond.code ({ cls := "CardLoom$1", name := "least", desc := "(II)I" } : Jvm.MethodName) prog_2_method_4_code (3 : Nat) (Option.some Jvm.ClassFile.FieldType.int)) ∈ lw_all := lw_g (lw_at lw_m7 25 rfl) rfl
theorem q1543 : (Jvm.Cond.constant "CardLoom$1" (46 : Nat) (1000000 : Int32)) ∈ lw_all := lw_g (lw_at lw_m7 26 rfl) rfl
theorem q1544 : (Jvm.Cond.methodLink "CardLoom$1" (57 : Nat) ({ cls := "CardLoom$1", name := "best", desc := "(II)LCardLoom$Turning;" } : Jvm.MethodName)) ∈ lw_all := lw_g (lw_at lw_m7 27 rfl) rfl
theorem q1545 : (Jvm.Cond.instanceMethod ({ cls := "CardLoom$1", name := "best", desc := "(II)LCardLoom$Turning;" } : Jvm.MethodName)) ∈ lw_all := lw_g (lw_at lw_m7 28 rfl) rfl
theorem q1546 : (Jvm.Cond.selects "CardLoom$1" ({ cls := "CardLoom$1", name := "best", desc := "(II)LCardLoom$Turning;" } : Jvm.MethodName) ({ cls := "CardLoom$1", name := "best", desc := "(II)LCardLoom$Turning;" } : Jvm.MethodName)) ∈ lw_all := lw_g (lw_at lw_m7 29 rfl) rfl
theorem q1547 : (Jvm.Cond.code ({ cls := "CardLoom$1", name := "best", desc := "(II)LCardLoom$Turning;" } : Jvm.MethodName) prog_2_method_3_code (4 : Nat) (Option.some (Jvm.ClassFile.FieldType.object "CardLoom$Turning"))) ∈ lw_all := lw_g (lw_at lw_m7 30 rfl) rfl
theorem q1548 : (Jvm.Cond.fieldLink "CardLoom$1" (47 : Nat) "CardLoom$Turning" "FORWARD" "LCardLoom$Turning;") ∈ lw_all := lw_g (lw_at lw_m7 31 rfl) rfl
theorem q1549 : (Jvm.Cond.fieldLink "CardLoom$1" (50 : Nat) "CardLoom$Turning" "BACK" "LCardLoom$Turning;") ∈ lw_all := lw_g (lw_at lw_m7 32 rfl) rfl
theorem q1550 : (Jvm.Cond.methodLink "CardLoom$1" (53 : Nat) ({ cls := "CardLoom$1", name := "cost", desc := "(IILCardLoom$Turning;)I" } : Jvm.MethodName)) ∈ lw_all := lw_g (lw_at lw_m7 33 rfl) rfl
theorem q1551 : (Jvm.Cond.privateMethod ({ cls := "CardLoom$1", name := "cost", desc := "(IILCardLoom$Turning;)I" } : Jvm.MethodName)) ∈ lw_tbl := lw_at lw_m7 34 rfl
theorem q1552 : (Jvm.Cond.instanceMethod ({ cls := "CardLoom$1", name := "cost", desc := "(IILCardLoom$Turning;)I" } : Jvm.MethodName)) ∈ lw_all := lw_g (lw_at lw_m7 35 rfl) rfl
theorem q1553 : (Jvm.Cond.code ({ cls := "CardLoom$1", name := "cost", desc := "(IILCardLoom$Turning;)I" } : Jvm.MethodName) prog_2_method_2_code (5 : Nat) (Option.some Jvm.ClassFile.FieldType.int)) ∈ lw_all := lw_g (lw_at lw_m7 36 rfl) rfl
theorem q1554 : (Jvm.Cond.methodLink "CardLoom$1" (23 : Nat) ({ cls := "CardLoom$Turning", name := "quarters", desc := "()I" } : Jvm.MethodName)) ∈ lw_all := lw_g (lw_at lw_m7 37 rfl) rfl
theorem q1555 : (Jvm.Cond.fieldLink "CardLoom$1" (42 : Nat) "CardLoom$Turning" "IDLE" "LCardLoom$Turning;") ∈ lw_all := lw_g (lw_at lw_m7 38 rfl) rfl
theorem q1556 : (Jvm.Cond.methodLink "CardLoom$1" (61 : Nat) ({ cls := "java/lang/Math", name := "min", desc := "(II)I" } : Jvm.MethodName)) ∈ lw_all := lw_g (lw_at lw_m7 39 rfl) rfl
theorem q1561 : (Jvm.Cond.selects "CardLoom$1" ({ cls := "CardLoom$Drafting", name := "best", desc := "(II)LCardLoom$Turning;" } : Jvm.MethodName) ({ cls := "CardLoom$1", name := "best", desc := "(II)LCardLoom$Turning;" } : Jvm.MethodName)) ∈ lw_all := lw_g (lw_at lw_m7 44 rfl) rfl
theorem q1562 : (Jvm.Cond.unhidden "CardLoom$1" "best" "(II)LCardLoom$Turning;") ∈ lw_tbl := lw_at lw_m7 45 rfl
theorem q1563 : (Jvm.Cond.publicMethod ({ cls := "CardLoom$1", name := "best", desc := "(II)LCardLoom$Turning;" } : Jvm.MethodName)) ∈ lw_tbl := lw_at lw_m7 46 rfl
theorem q2772 : (Jvm.Cond.castable "CardLoom$1" "java/lang/Object") ∈ lw_tbl := lw_at lw_m12 55 rfl
theorem in_X11 : ∀ w ∈ wsX110, w ∈ lw_all := lw_in wsX110 [1526, 1528, 1530] (by decide +kernel) (by decide +kernel)
/-! CardLoom$Often -/
set_option maxRecDepth 100000
def RX12 : String := "CardLoom$Often"
def TX12 : u_T := fun k => match k with
  | 0 => ("CardLoom$Often", "of", "LCardLoom$Colour;", true)
  | 1 => ("CardLoom$Often", "fronts", "I", false)
  | 2 => ("CardLoom$Often", "backs", "I", false)
  | _ => ("CardLoom$Often", "holes", "I", false)
def tyX12 : Nat → FieldType := fun k => match k with
  | 0 => .object "CardLoom$Colour"
  | 1 => .int
  | 2 => .int
  | _ => .int
abbrev wsX120 : List Cond := u_ws RX12 TX12 4
theorem nmX12 : ∀ a, a < 4 → ∀ b, b < 4 → a ≠ b → (TX12 a).2.1 ≠ (TX12 b).2.1 := by decide +kernel
theorem tyX12_ok : ∀ k, k < 4 → parseFieldDescriptor (TX12 k).2.2.1 = some (tyX12 k) := by decide +kernel
abbrev cX12_init : ByteArray := prog_10_method_1_code
def yX12_init : MethodName := ⟨RX12, "<init>", "(LCardLoom$Colour;)V"⟩
def dkwX12_init_0 : List UInt8 := [42, 183, 0, 1, 42, 43, 181, 0, 7, 177]
abbrev dktX12_init_0 : List UInt8 := dkwX12_init_0 ++ []
theorem dksX12_init_0 : cX12_init.data.toList.drop 0 = dktX12_init_0 := by decide +kernel
theorem dX12_init_0 : decode cX12_init 0 = .ok (.aload_n 0, 1) := dk_42 (dk_at dksX12_init_0 0 rfl rfl)
theorem dX12_init_1 : decode cX12_init 1 = .ok (.invokespecial 1, 3) := dk_183 0 1 (dk_at dksX12_init_0 1 rfl rfl)
theorem dX12_init_4 : decode cX12_init 4 = .ok (.aload_n 0, 1) := dk_42 (dk_at dksX12_init_0 4 rfl rfl)
theorem dX12_init_5 : decode cX12_init 5 = .ok (.aload_n 1, 1) := dk_43 (dk_at dksX12_init_0 5 rfl rfl)
theorem dX12_init_6 : decode cX12_init 6 = .ok (.putfield 7, 3) := dk_181 0 7 (dk_at dksX12_init_0 6 rfl rfl)
theorem dX12_init_9 : decode cX12_init 9 = .ok (.return_, 1) := dk_177 (dk_at dksX12_init_0 9 rfl rfl)
theorem q120 : (Jvm.Cond.initialized "CardLoom$Often") ∈ lw_all := lw_g (lw_at lw_m1 43 rfl) rfl
theorem q437 : (Jvm.Cond.selects "CardLoom$Often" ({ cls := "java/lang/Object", name := "getClass", desc := "()Ljava/lang/Class;" } : Jvm.MethodName) ({ cls := "java/lang/Object", name := "getClass", desc := "()Ljava/lang/Class;" } : Jvm.MethodName)) ∈ lw_all := lw_g (lw_at lw_m2 120 rfl) rfl
theorem q1673 : (Jvm.Cond.instantiable "CardLoom$Often" (4 : Nat)) ∈ lw_all := lw_g (lw_at lw_m7 156 rfl) rfl
theorem q1675 : (Jvm.Cond.instanceMethod ({ cls := "CardLoom$Often", name := "<init>", desc := "(LCardLoom$Colour;)V" } : Jvm.MethodName)) ∈ lw_all := lw_g (lw_at lw_m7 158 rfl) rfl
theorem q1676 : (Jvm.Cond.code ({ cls := "CardLoom$Often", name := "<init>", desc := "(LCardLoom$Colour;)V" } : Jvm.MethodName) prog_10_method_1_code (2 : Nat) (Option.none : Option Jvm.ClassFile.FieldType)) ∈ lw_all := lw_g (lw_at lw_m7 159 rfl) rfl
theorem q1677 : (Jvm.Cond.methodLink "CardLoom$Often" (1 : Nat) ({ cls := "java/lang/Object", name := "<init>", desc := "()V" } : Jvm.MethodName)) ∈ lw_all := lw_g (lw_at lw_m7 160 rfl) rfl
theorem q1678 : (Jvm.Cond.fieldLink "CardLoom$Often" (7 : Nat) "CardLoom$Often" "of" "LCardLoom$Colour;") ∈ lw_all := lw_g (lw_at lw_m7 161 rfl) rfl
theorem q1686 : (Jvm.Cond.laysFinal "CardLoom$Often" "CardLoom$Often" "of" "LCardLoom$Colour;") ∈ lw_all := lw_g (lw_at lw_m7 169 rfl) rfl
theorem q1687 : (Jvm.Cond.soleField "CardLoom$Often" "of") ∈ lw_all := lw_g (lw_at lw_m7 170 rfl) rfl
theorem q1688 : (Jvm.Cond.lays "CardLoom$Often" "CardLoom$Often" "fronts" "I") ∈ lw_all := lw_g (lw_at lw_m7 171 rfl) rfl
theorem q1689 : (Jvm.Cond.soleField "CardLoom$Often" "fronts") ∈ lw_all := lw_g (lw_at lw_m7 172 rfl) rfl
theorem q1690 : (Jvm.Cond.lays "CardLoom$Often" "CardLoom$Often" "backs" "I") ∈ lw_all := lw_g (lw_at lw_m7 173 rfl) rfl
theorem q1691 : (Jvm.Cond.soleField "CardLoom$Often" "backs") ∈ lw_all := lw_g (lw_at lw_m7 174 rfl) rfl
theorem q1692 : (Jvm.Cond.lays "CardLoom$Often" "CardLoom$Often" "holes" "I") ∈ lw_all := lw_g (lw_at lw_m7 175 rfl) rfl
theorem q1693 : (Jvm.Cond.soleField "CardLoom$Often" "holes") ∈ lw_all := lw_g (lw_at lw_m7 176 rfl) rfl
theorem q1694 : (Jvm.Cond.superclass "CardLoom$Often" "java/lang/Object") ∈ lw_all := lw_g (lw_at lw_m7 177 rfl) rfl
theorem q2774 : (Jvm.Cond.castable "CardLoom$Often" "java/lang/Object") ∈ lw_tbl := lw_at lw_m12 57 rfl
theorem in_X12 : ∀ w ∈ wsX120, w ∈ lw_all := lw_in wsX120 [1686, 1688, 1690, 1692] (by decide +kernel) (by decide +kernel)
/-! CardLoom$ByOften -/
set_option maxRecDepth 100000
def RX13 : String := "CardLoom$ByOften"
abbrev cX13_compare : ByteArray := prog_4_method_3_code
def yX13_compare : MethodName := ⟨RX13, "compare", "(Ljava/lang/Object;Ljava/lang/Object;)I"⟩
def dkwX13_compare_0 : List UInt8 := [42, 43, 192, 0, 8, 44, 192, 0, 8, 182, 0, 26, 172]
abbrev dktX13_compare_0 : List UInt8 := dkwX13_compare_0 ++ []
theorem dksX13_compare_0 : cX13_compare.data.toList.drop 0 = dktX13_compare_0 := by decide +kernel
theorem dX13_compare_0 : decode cX13_compare 0 = .ok (.aload_n 0, 1) := dk_42 (dk_at dksX13_compare_0 0 rfl rfl)
theorem dX13_compare_1 : decode cX13_compare 1 = .ok (.aload_n 1, 1) := dk_43 (dk_at dksX13_compare_0 1 rfl rfl)
theorem dX13_compare_2 : decode cX13_compare 2 = .ok (.checkcast 8, 3) := dk_192 0 8 (dk_at dksX13_compare_0 2 rfl rfl)
theorem dX13_compare_5 : decode cX13_compare 5 = .ok (.aload_n 2, 1) := dk_44 (dk_at dksX13_compare_0 5 rfl rfl)
theorem dX13_compare_6 : decode cX13_compare 6 = .ok (.checkcast 8, 3) := dk_192 0 8 (dk_at dksX13_compare_0 6 rfl rfl)
theorem dX13_compare_9 : decode cX13_compare 9 = .ok (.invokevirtual 26, 3) := dk_182 0 26 (dk_at dksX13_compare_0 9 rfl rfl)
theorem dX13_compare_12 : decode cX13_compare 12 = .ok (.ireturn, 1) := dk_172 (dk_at dksX13_compare_0 12 rfl rfl)
abbrev cX13_compare_2 : ByteArray := prog_4_method_2_code
def yX13_compare_2 : MethodName := ⟨RX13, "compare", "(LCardLoom$Often;LCardLoom$Often;)I"⟩
def dkwX13_compare_2_2 : List UInt8 := [180, 0, 16, 44, 180, 0, 16, 182, 0, 20, 172]
abbrev dktX13_compare_2_2 : List UInt8 := dkwX13_compare_2_2 ++ []
def dkwX13_compare_2_1 : List UInt8 := [180, 0, 13, 44, 180, 0, 13, 159, 0, 15, 43, 180, 0, 13, 44, 180, 0, 13, 100, 167, 0, 14, 43]
abbrev dktX13_compare_2_1 : List UInt8 := dkwX13_compare_2_1 ++ dktX13_compare_2_2
def dkwX13_compare_2_0 : List UInt8 := [43, 180, 0, 7, 44, 180, 0, 7, 159, 0, 13, 44, 180, 0, 7, 43, 180, 0, 7, 100, 172, 43]
abbrev dktX13_compare_2_0 : List UInt8 := dkwX13_compare_2_0 ++ dktX13_compare_2_1
theorem dksX13_compare_2_0 : cX13_compare_2.data.toList.drop 0 = dktX13_compare_2_0 := by decide +kernel
theorem dksX13_compare_2_1 : cX13_compare_2.data.toList.drop 22 = dktX13_compare_2_1 := dk_seg dksX13_compare_2_0 22 rfl rfl
theorem dksX13_compare_2_2 : cX13_compare_2.data.toList.drop 45 = dktX13_compare_2_2 := dk_seg dksX13_compare_2_1 23 rfl rfl
theorem dX13_compare_2_0 : decode cX13_compare_2 0 = .ok (.aload_n 1, 1) := dk_43 (dk_at dksX13_compare_2_0 0 rfl rfl)
theorem dX13_compare_2_1 : decode cX13_compare_2 1 = .ok (.getfield 7, 3) := dk_180 0 7 (dk_at dksX13_compare_2_0 1 rfl rfl)
theorem dX13_compare_2_4 : decode cX13_compare_2 4 = .ok (.aload_n 2, 1) := dk_44 (dk_at dksX13_compare_2_0 4 rfl rfl)
theorem dX13_compare_2_5 : decode cX13_compare_2 5 = .ok (.getfield 7, 3) := dk_180 0 7 (dk_at dksX13_compare_2_0 5 rfl rfl)
theorem dX13_compare_2_8 : decode cX13_compare_2 8 = .ok (.if_icmp .eq 13, 3) := dk_159 0 13 (dk_at dksX13_compare_2_0 8 rfl rfl)
theorem dX13_compare_2_11 : decode cX13_compare_2 11 = .ok (.aload_n 2, 1) := dk_44 (dk_at dksX13_compare_2_0 11 rfl rfl)
theorem dX13_compare_2_12 : decode cX13_compare_2 12 = .ok (.getfield 7, 3) := dk_180 0 7 (dk_at dksX13_compare_2_0 12 rfl rfl)
theorem dX13_compare_2_15 : decode cX13_compare_2 15 = .ok (.aload_n 1, 1) := dk_43 (dk_at dksX13_compare_2_0 15 rfl rfl)
theorem dX13_compare_2_16 : decode cX13_compare_2 16 = .ok (.getfield 7, 3) := dk_180 0 7 (dk_at dksX13_compare_2_0 16 rfl rfl)
theorem dX13_compare_2_19 : decode cX13_compare_2 19 = .ok (.isub, 1) := dk_100 (dk_at dksX13_compare_2_0 19 rfl rfl)
theorem dX13_compare_2_20 : decode cX13_compare_2 20 = .ok (.ireturn, 1) := dk_172 (dk_at dksX13_compare_2_0 20 rfl rfl)
theorem dX13_compare_2_21 : decode cX13_compare_2 21 = .ok (.aload_n 1, 1) := dk_43 (dk_at dksX13_compare_2_0 21 rfl rfl)
theorem dX13_compare_2_22 : decode cX13_compare_2 22 = .ok (.getfield 13, 3) := dk_180 0 13 (dk_at dksX13_compare_2_1 0 rfl rfl)
theorem dX13_compare_2_25 : decode cX13_compare_2 25 = .ok (.aload_n 2, 1) := dk_44 (dk_at dksX13_compare_2_1 3 rfl rfl)
theorem dX13_compare_2_26 : decode cX13_compare_2 26 = .ok (.getfield 13, 3) := dk_180 0 13 (dk_at dksX13_compare_2_1 4 rfl rfl)
theorem dX13_compare_2_29 : decode cX13_compare_2 29 = .ok (.if_icmp .eq 15, 3) := dk_159 0 15 (dk_at dksX13_compare_2_1 7 rfl rfl)
theorem dX13_compare_2_32 : decode cX13_compare_2 32 = .ok (.aload_n 1, 1) := dk_43 (dk_at dksX13_compare_2_1 10 rfl rfl)
theorem dX13_compare_2_33 : decode cX13_compare_2 33 = .ok (.getfield 13, 3) := dk_180 0 13 (dk_at dksX13_compare_2_1 11 rfl rfl)
theorem dX13_compare_2_36 : decode cX13_compare_2 36 = .ok (.aload_n 2, 1) := dk_44 (dk_at dksX13_compare_2_1 14 rfl rfl)
theorem dX13_compare_2_37 : decode cX13_compare_2 37 = .ok (.getfield 13, 3) := dk_180 0 13 (dk_at dksX13_compare_2_1 15 rfl rfl)
theorem dX13_compare_2_40 : decode cX13_compare_2 40 = .ok (.isub, 1) := dk_100 (dk_at dksX13_compare_2_1 18 rfl rfl)
theorem dX13_compare_2_41 : decode cX13_compare_2 41 = .ok (.goto 14, 3) := dk_167 0 14 (dk_at dksX13_compare_2_1 19 rfl rfl)
theorem dX13_compare_2_44 : decode cX13_compare_2 44 = .ok (.aload_n 1, 1) := dk_43 (dk_at dksX13_compare_2_1 22 rfl rfl)
theorem dX13_compare_2_45 : decode cX13_compare_2 45 = .ok (.getfield 16, 3) := dk_180 0 16 (dk_at dksX13_compare_2_2 0 rfl rfl)
theorem dX13_compare_2_48 : decode cX13_compare_2 48 = .ok (.aload_n 2, 1) := dk_44 (dk_at dksX13_compare_2_2 3 rfl rfl)
theorem dX13_compare_2_49 : decode cX13_compare_2 49 = .ok (.getfield 16, 3) := dk_180 0 16 (dk_at dksX13_compare_2_2 4 rfl rfl)
theorem dX13_compare_2_52 : decode cX13_compare_2 52 = .ok (.invokevirtual 20, 3) := dk_182 0 20 (dk_at dksX13_compare_2_2 7 rfl rfl)
theorem dX13_compare_2_55 : decode cX13_compare_2 55 = .ok (.ireturn, 1) := dk_172 (dk_at dksX13_compare_2_2 10 rfl rfl)
abbrev cX13_init : ByteArray := prog_4_method_1_code
def yX13_init : MethodName := ⟨RX13, "<init>", "()V"⟩
theorem dX13_init_0 : decode cX13_init 0 = .ok (.aload_n 0, 1) := by decide +kernel
theorem dX13_init_1 : decode cX13_init 1 = .ok (.invokespecial 1, 3) := by decide +kernel
theorem dX13_init_4 : decode cX13_init 4 = .ok (.return_, 1) := by decide +kernel
theorem q124 : (Jvm.Cond.initialized "CardLoom$ByOften") ∈ lw_all := lw_g (lw_at lw_m1 47 rfl) rfl
theorem q433 : (Jvm.Cond.selects "CardLoom$ByOften" ({ cls := "java/lang/Object", name := "getClass", desc := "()Ljava/lang/Class;" } : Jvm.MethodName) ({ cls := "java/lang/Object", name := "getClass", desc := "()Ljava/lang/Class;" } : Jvm.MethodName)) ∈ lw_all := lw_g (lw_at lw_m2 116 rfl) rfl
theorem q1187 : (Jvm.Cond.castable "CardLoom$ByOften" "java/util/Comparator") ∈ lw_tbl := lw_at lw_m5 150 rfl
theorem q1188 : (Jvm.Cond.selects "CardLoom$ByOften" ({ cls := "java/util/Comparator", name := "compare", desc := "(Ljava/lang/Object;Ljava/lang/Object;)I" } : Jvm.MethodName) ({ cls := "CardLoom$ByOften", name := "compare", desc := "(Ljava/lang/Object;Ljava/lang/Object;)I" } : Jvm.MethodName)) ∈ lw_all := lw_g (lw_at lw_m5 151 rfl) rfl
theorem q1189 : (Jvm.Cond.unhidden "CardLoom$ByOften" "compare" "(Ljava/lang/Object;Ljava/lang/Object;)I") ∈ lw_tbl := lw_at lw_m5 152 rfl
theorem q1190 : (Jvm.Cond.instanceMethod ({ cls := "CardLoom$ByOften", name := "compare", desc := "(Ljava/lang/Object;Ljava/lang/Object;)I" } : Jvm.MethodName)) ∈ lw_all := lw_g (lw_at lw_m5 153 rfl) rfl
theorem q1191 : (Jvm.Cond.publicMethod ({ cls := "CardLoom$ByOften", name := "compare", desc := "(Ljava/lang/Object;Ljava/lang/Object;)I" } : Jvm.MethodName)) ∈ lw_tbl := lw_at lw_m5 154 rfl
theorem q1192 : (Jvm.Cond.code ({ cls := "CardLoom$ByOften", name := "compare", desc := "(Ljava/lang/Object;Ljava/lang/Object;)I" } : Jvm.MethodName) prog_4_method_3_code (3 : Nat) (Option.some Jvm.ClassFile.FieldType.int)) ∈ lw_all := lw_g (lw_at lw_m5 155 rfl) rfl
theorem q1193 : (Jvm.Cond.classLink "CardLoom$ByOften" (8 : Nat) "CardLoom$Often") ∈ lw_all := lw_g (lw_at lw_m5 156 rfl) rfl
theorem q1194 : (Jvm.Cond.methodLink "CardLoom$ByOften" (26 : Nat) ({ cls := "CardLoom$ByOften", name := "compare", desc := "(LCardLoom$Often;LCardLoom$Often;)I" } : Jvm.MethodName)) ∈ lw_all := lw_g (lw_at lw_m5 157 rfl) rfl
theorem q1195 : (Jvm.Cond.instanceMethod ({ cls := "CardLoom$ByOften", name := "compare", desc := "(LCardLoom$Often;LCardLoom$Often;)I" } : Jvm.MethodName)) ∈ lw_all := lw_g (lw_at lw_m5 158 rfl) rfl
theorem q1196 : (Jvm.Cond.selects "CardLoom$ByOften" ({ cls := "CardLoom$ByOften", name := "compare", desc := "(LCardLoom$Often;LCardLoom$Often;)I" } : Jvm.MethodName) ({ cls := "CardLoom$ByOften", name := "compare", desc := "(LCardLoom$Often;LCardLoom$Often;)I" } : Jvm.MethodName)) ∈ lw_all := lw_g (lw_at lw_m5 159 rfl) rfl
theorem q1197 : (Jvm.Cond.code ({ cls := "CardLoom$ByOften", name := "compare", desc := "(LCardLoom$Often;LCardLoom$Often;)I" } : Jvm.MethodName) prog_4_method_2_code (3 : Nat) (Option.some Jvm.ClassFile.FieldType.int)) ∈ lw_all := lw_g (lw_at lw_m5 160 rfl) rfl
theorem q1198 : (Jvm.Cond.methodLink "CardLoom$ByOften" (20 : Nat) ({ cls := "CardLoom$Colour", name := "compareTo", desc := "(LCardLoom$Colour;)I" } : Jvm.MethodName)) ∈ lw_all := lw_g (lw_at lw_m5 161 rfl) rfl
theorem q1679 : (Jvm.Cond.fieldLinkNest "CardLoom$ByOften" (16 : Nat) "CardLoom$Often" "of" "LCardLoom$Colour;" "CardLoom") ∈ lw_tbl := lw_at lw_m7 162 rfl
theorem q1681 : (Jvm.Cond.fieldLinkNest "CardLoom$ByOften" (7 : Nat) "CardLoom$Often" "fronts" "I" "CardLoom") ∈ lw_tbl := lw_at lw_m7 164 rfl
theorem q1683 : (Jvm.Cond.fieldLinkNest "CardLoom$ByOften" (13 : Nat) "CardLoom$Often" "backs" "I" "CardLoom") ∈ lw_tbl := lw_at lw_m7 166 rfl
theorem q1802 : (Jvm.Cond.instantiable "CardLoom$ByOften" (0 : Nat)) ∈ lw_all := lw_g (lw_at lw_m8 45 rfl) rfl
theorem q1804 : (Jvm.Cond.instanceMethod ({ cls := "CardLoom$ByOften", name := "<init>", desc := "()V" } : Jvm.MethodName)) ∈ lw_all := lw_g (lw_at lw_m8 47 rfl) rfl
theorem q1805 : (Jvm.Cond.code ({ cls := "CardLoom$ByOften", name := "<init>", desc := "()V" } : Jvm.MethodName) prog_4_method_1_code (1 : Nat) (Option.none : Option Jvm.ClassFile.FieldType)) ∈ lw_all := lw_g (lw_at lw_m8 48 rfl) rfl
theorem q1806 : (Jvm.Cond.methodLink "CardLoom$ByOften" (1 : Nat) ({ cls := "java/lang/Object", name := "<init>", desc := "()V" } : Jvm.MethodName)) ∈ lw_all := lw_g (lw_at lw_m8 49 rfl) rfl
theorem q1807 : (Jvm.Cond.superclass "CardLoom$ByOften" "java/lang/Object") ∈ lw_all := lw_g (lw_at lw_m8 50 rfl) rfl
theorem q2777 : (Jvm.Cond.castable "CardLoom$ByOften" "java/lang/Object") ∈ lw_tbl := lw_at lw_m12 60 rfl
/-! CardLoom$Turning$1 -/
set_option maxRecDepth 100000
def RX14 : String := "CardLoom$Turning$1"
abbrev cX14_quarters : ByteArray := prog_14_method_2_code
def yX14_quarters : MethodName := ⟨RX14, "quarters", "()I"⟩
theorem dX14_quarters_0 : decode cX14_quarters 0 = .ok (.iconst 0, 1) := by decide +kernel
theorem dX14_quarters_1 : decode cX14_quarters 1 = .ok (.ireturn, 1) := by decide +kernel
abbrev cX14_lean : ByteArray := prog_14_method_3_code
def yX14_lean : MethodName := ⟨RX14, "lean", "(I)I"⟩
theorem dX14_lean_0 : decode cX14_lean 0 = .ok (.iconst 0, 1) := by decide +kernel
theorem dX14_lean_1 : decode cX14_lean 1 = .ok (.ireturn, 1) := by decide +kernel
theorem q440 : (Jvm.Cond.selects "CardLoom$Turning$1" ({ cls := "java/lang/Object", name := "getClass", desc := "()Ljava/lang/Class;" } : Jvm.MethodName) ({ cls := "java/lang/Object", name := "getClass", desc := "()Ljava/lang/Class;" } : Jvm.MethodName)) ∈ lw_all := lw_g (lw_at lw_m2 123 rfl) rfl
theorem q645 : (Jvm.Cond.selects "CardLoom$Turning$1" ({ cls := "CardLoom$Turning", name := "other", desc := "()LCardLoom$Turning;" } : Jvm.MethodName) ({ cls := "CardLoom$Turning", name := "other", desc := "()LCardLoom$Turning;" } : Jvm.MethodName)) ∈ lw_all := lw_g (lw_at lw_m3 88 rfl) rfl
theorem q916 : (Jvm.Cond.selects "CardLoom$Turning$1" ({ cls := "CardLoom$Turning", name := "twist", desc := "()I" } : Jvm.MethodName) ({ cls := "CardLoom$Turning", name := "twist", desc := "()I" } : Jvm.MethodName)) ∈ lw_all := lw_g (lw_at lw_m4 119 rfl) rfl
theorem q926 : (Jvm.Cond.selects "CardLoom$Turning$1" ({ cls := "CardLoom$Turning", name := "quarters", desc := "()I" } : Jvm.MethodName) ({ cls := "CardLoom$Turning$1", name := "quarters", desc := "()I" } : Jvm.MethodName)) ∈ lw_all := lw_g (lw_at lw_m4 129 rfl) rfl
theorem q927 : (Jvm.Cond.instanceMethod ({ cls := "CardLoom$Turning$1", name := "quarters", desc := "()I" } : Jvm.MethodName)) ∈ lw_all := lw_g (lw_at lw_m4 130 rfl) rfl
theorem q928 : (Jvm.Cond.code ({ cls := "CardLoom$Turning$1", name := "quarters", desc := "()I" } : Jvm.MethodName) prog_14_method_2_code (1 : Nat) (Option.some Jvm.ClassFile.FieldType.int)) ∈ lw_all := lw_g (lw_at lw_m4 131 rfl) rfl
theorem q965 : (Jvm.Cond.selects "CardLoom$Turning$1" ({ cls := "CardLoom$Turning", name := "lean", desc := "(I)I" } : Jvm.MethodName) ({ cls := "CardLoom$Turning$1", name := "lean", desc := "(I)I" } : Jvm.MethodName)) ∈ lw_all := lw_g (lw_at lw_m4 168 rfl) rfl
theorem q966 : (Jvm.Cond.instanceMethod ({ cls := "CardLoom$Turning$1", name := "lean", desc := "(I)I" } : Jvm.MethodName)) ∈ lw_all := lw_g (lw_at lw_m4 169 rfl) rfl
theorem q967 : (Jvm.Cond.code ({ cls := "CardLoom$Turning$1", name := "lean", desc := "(I)I" } : Jvm.MethodName) prog_14_method_3_code (2 : Nat) (Option.some Jvm.ClassFile.FieldType.int)) ∈ lw_all := lw_g (lw_at lw_m4 170 rfl) rfl
theorem q1229 : (Jvm.Cond.castable "CardLoom$Turning$1" "java/lang/Comparable") ∈ lw_tbl := lw_at lw_m5 192 rfl
theorem q1230 : (Jvm.Cond.selects "CardLoom$Turning$1" ({ cls := "java/lang/Comparable", name := "compareTo", desc := "(Ljava/lang/Object;)I" } : Jvm.MethodName) ({ cls := "java/lang/Enum", name := "compareTo", desc := "(Ljava/lang/Object;)I" } : Jvm.MethodName)) ∈ lw_all := lw_g (lw_at lw_m5 193 rfl) rfl
theorem q1231 : (Jvm.Cond.unhidden "CardLoom$Turning$1" "compareTo" "(Ljava/lang/Object;)I") ∈ lw_tbl := lw_at lw_m5 194 rfl
theorem q1239 : (Jvm.Cond.selects "CardLoom$Turning$1" ({ cls := "java/lang/Enum", name := "compareTo", desc := "(Ljava/lang/Enum;)I" } : Jvm.MethodName) ({ cls := "java/lang/Enum", name := "compareTo", desc := "(Ljava/lang/Enum;)I" } : Jvm.MethodName)) ∈ lw_all := lw_g (lw_at lw_m5 202 rfl) rfl
theorem q1248 : (Jvm.Cond.selects "CardLoom$Turning$1" ({ cls := "java/lang/Enum", name := "getDeclaringClass", desc := "()Ljava/lang/Class;" } : Jvm.MethodName) ({ cls := "java/lang/Enum", name := "getDeclaringClass", desc := "()Ljava/lang/Class;" } : Jvm.MethodName)) ∈ lw_all := lw_g (lw_at lw_m5 211 rfl) rfl
theorem q2749 : (Jvm.Cond.castable "CardLoom$Turning$1" "java/lang/Enum") ∈ lw_tbl := lw_at lw_m12 32 rfl
theorem q2757 : (Jvm.Cond.castable "CardLoom$Turning$1" "java/lang/Object") ∈ lw_tbl := lw_at lw_m12 40 rfl
theorem q2788 : (Jvm.Cond.castable "CardLoom$Turning$1" "CardLoom$Turning") ∈ lw_tbl := lw_at lw_m12 71 rfl
/-! CardLoom$Turning$4 -/
set_option maxRecDepth 100000
def RX15 : String := "CardLoom$Turning$4"
abbrev cX15_quarters : ByteArray := prog_17_method_2_code
def yX15_quarters : MethodName := ⟨RX15, "quarters", "()I"⟩
theorem dX15_quarters_0 : decode cX15_quarters 0 = .ok (.iconst 2, 1) := by decide +kernel
theorem dX15_quarters_1 : decode cX15_quarters 1 = .ok (.ireturn, 1) := by decide +kernel
abbrev cX15_lean : ByteArray := prog_17_method_3_code
def yX15_lean : MethodName := ⟨RX15, "lean", "(I)I"⟩
theorem dX15_lean_0 : decode cX15_lean 0 = .ok (.iconst 3, 1) := by decide +kernel
theorem dX15_lean_1 : decode cX15_lean 1 = .ok (.ireturn, 1) := by decide +kernel
theorem q443 : (Jvm.Cond.selects "CardLoom$Turning$4" ({ cls := "java/lang/Object", name := "getClass", desc := "()Ljava/lang/Class;" } : Jvm.MethodName) ({ cls := "java/lang/Object", name := "getClass", desc := "()Ljava/lang/Class;" } : Jvm.MethodName)) ∈ lw_all := lw_g (lw_at lw_m2 126 rfl) rfl
theorem q658 : (Jvm.Cond.selects "CardLoom$Turning$4" ({ cls := "CardLoom$Turning", name := "other", desc := "()LCardLoom$Turning;" } : Jvm.MethodName) ({ cls := "CardLoom$Turning", name := "other", desc := "()LCardLoom$Turning;" } : Jvm.MethodName)) ∈ lw_all := lw_g (lw_at lw_m3 101 rfl) rfl
theorem q921 : (Jvm.Cond.selects "CardLoom$Turning$4" ({ cls := "CardLoom$Turning", name := "twist", desc := "()I" } : Jvm.MethodName) ({ cls := "CardLoom$Turning", name := "twist", desc := "()I" } : Jvm.MethodName)) ∈ lw_all := lw_g (lw_at lw_m4 124 rfl) rfl
theorem q935 : (Jvm.Cond.selects "CardLoom$Turning$4" ({ cls := "CardLoom$Turning", name := "quarters", desc := "()I" } : Jvm.MethodName) ({ cls := "CardLoom$Turning$4", name := "quarters", desc := "()I" } : Jvm.MethodName)) ∈ lw_all := lw_g (lw_at lw_m4 138 rfl) rfl
theorem q936 : (Jvm.Cond.instanceMethod ({ cls := "CardLoom$Turning$4", name := "quarters", desc := "()I" } : Jvm.MethodName)) ∈ lw_all := lw_g (lw_at lw_m4 139 rfl) rfl
theorem q937 : (Jvm.Cond.code ({ cls := "CardLoom$Turning$4", name := "quarters", desc := "()I" } : Jvm.MethodName) prog_17_method_2_code (1 : Nat) (Option.some Jvm.ClassFile.FieldType.int)) ∈ lw_all := lw_g (lw_at lw_m4 140 rfl) rfl
theorem q974 : (Jvm.Cond.selects "CardLoom$Turning$4" ({ cls := "CardLoom$Turning", name := "lean", desc := "(I)I" } : Jvm.MethodName) ({ cls := "CardLoom$Turning$4", name := "lean", desc := "(I)I" } : Jvm.MethodName)) ∈ lw_all := lw_g (lw_at lw_m4 177 rfl) rfl
theorem q975 : (Jvm.Cond.instanceMethod ({ cls := "CardLoom$Turning$4", name := "lean", desc := "(I)I" } : Jvm.MethodName)) ∈ lw_all := lw_g (lw_at lw_m4 178 rfl) rfl
theorem q976 : (Jvm.Cond.code ({ cls := "CardLoom$Turning$4", name := "lean", desc := "(I)I" } : Jvm.MethodName) prog_17_method_3_code (2 : Nat) (Option.some Jvm.ClassFile.FieldType.int)) ∈ lw_all := lw_g (lw_at lw_m4 179 rfl) rfl
theorem q1242 : (Jvm.Cond.selects "CardLoom$Turning$4" ({ cls := "java/lang/Enum", name := "compareTo", desc := "(Ljava/lang/Enum;)I" } : Jvm.MethodName) ({ cls := "java/lang/Enum", name := "compareTo", desc := "(Ljava/lang/Enum;)I" } : Jvm.MethodName)) ∈ lw_all := lw_g (lw_at lw_m5 205 rfl) rfl
theorem q1251 : (Jvm.Cond.selects "CardLoom$Turning$4" ({ cls := "java/lang/Enum", name := "getDeclaringClass", desc := "()Ljava/lang/Class;" } : Jvm.MethodName) ({ cls := "java/lang/Enum", name := "getDeclaringClass", desc := "()Ljava/lang/Class;" } : Jvm.MethodName)) ∈ lw_all := lw_g (lw_at lw_m5 214 rfl) rfl
theorem q1259 : (Jvm.Cond.castable "CardLoom$Turning$4" "java/lang/Comparable") ∈ lw_tbl := lw_at lw_m5 222 rfl
theorem q1260 : (Jvm.Cond.selects "CardLoom$Turning$4" ({ cls := "java/lang/Comparable", name := "compareTo", desc := "(Ljava/lang/Object;)I" } : Jvm.MethodName) ({ cls := "java/lang/Enum", name := "compareTo", desc := "(Ljava/lang/Object;)I" } : Jvm.MethodName)) ∈ lw_all := lw_g (lw_at lw_m5 223 rfl) rfl
theorem q1261 : (Jvm.Cond.unhidden "CardLoom$Turning$4" "compareTo" "(Ljava/lang/Object;)I") ∈ lw_tbl := lw_at lw_m5 224 rfl
theorem q2752 : (Jvm.Cond.castable "CardLoom$Turning$4" "java/lang/Enum") ∈ lw_tbl := lw_at lw_m12 35 rfl
theorem q2764 : (Jvm.Cond.castable "CardLoom$Turning$4" "java/lang/Object") ∈ lw_tbl := lw_at lw_m12 47 rfl
theorem q2791 : (Jvm.Cond.castable "CardLoom$Turning$4" "CardLoom$Turning") ∈ lw_tbl := lw_at lw_m12 74 rfl
/-! the law's own entry -/
set_option maxRecDepth 100000
abbrev cL_law : ByteArray := code
def dkwL_law_50 : List UInt8 := [3, 172, 132, 3, 4, 167, 250, 222, 4, 172]
abbrev dktL_law_50 : List UInt8 := dkwL_law_50 ++ []
def dkwL_law_49 : List UInt8 := [43, 182, 0, 181, 44, 182, 0, 184, 159, 0, 18, 3, 172, 43, 182, 0, 185, 44, 182, 0, 188, 159, 0, 5]
abbrev dktL_law_49 : List UInt8 := dkwL_law_49 ++ dktL_law_50
def dkwL_law_48 : List UInt8 := [44, 42, 29, 4, 96, 46, 42, 29, 5, 96, 46, 42, 29, 6, 96, 46, 182, 0, 180, 159, 0, 31, 3, 172]
abbrev dktL_law_48 : List UInt8 := dkwL_law_48 ++ dktL_law_49
def dkwL_law_47 : List UInt8 := [159, 0, 74, 3, 172, 43, 42, 29, 4, 96, 46, 42, 29, 5, 96, 46, 42, 29, 6, 96, 46, 182, 0, 177]
abbrev dktL_law_47 : List UInt8 := dkwL_law_47 ++ dktL_law_48
def dkwL_law_46 : List UInt8 := [46, 182, 0, 173, 44, 42, 29, 4, 96, 46, 42, 29, 5, 96, 46, 42, 29, 6, 96, 46, 182, 0, 176]
abbrev dktL_law_46 : List UInt8 := dkwL_law_46 ++ dktL_law_47
def dkwL_law_45 : List UInt8 := [46, 182, 0, 172, 159, 0, 117, 3, 172, 43, 42, 29, 4, 96, 46, 42, 29, 5, 96, 46, 42, 29, 6, 96]
abbrev dktL_law_45 : List UInt8 := dkwL_law_45 ++ dktL_law_46
def dkwL_law_44 : List UInt8 := [43, 42, 29, 4, 96, 46, 42, 29, 5, 96, 46, 182, 0, 169, 44, 42, 29, 4, 96, 46, 42, 29, 5, 96]
abbrev dktL_law_44 : List UInt8 := dkwL_law_44 ++ dktL_law_45
def dkwL_law_43 : List UInt8 := [44, 42, 29, 4, 96, 46, 42, 29, 5, 96, 46, 42, 29, 6, 96, 46, 182, 0, 168, 159, 0, 150, 3, 172]
abbrev dktL_law_43 : List UInt8 := dkwL_law_43 ++ dktL_law_44
def dkwL_law_42 : List UInt8 := [159, 0, 193, 3, 172, 43, 42, 29, 4, 96, 46, 42, 29, 5, 96, 46, 42, 29, 6, 96, 46, 182, 0, 165]
abbrev dktL_law_42 : List UInt8 := dkwL_law_42 ++ dktL_law_43
def dkwL_law_41 : List UInt8 := [46, 42, 29, 5, 96, 46, 182, 0, 161, 44, 42, 29, 4, 96, 46, 42, 29, 5, 96, 46, 182, 0, 164]
abbrev dktL_law_41 : List UInt8 := dkwL_law_41 ++ dktL_law_42
def dkwL_law_40 : List UInt8 := [96, 46, 182, 0, 157, 44, 42, 29, 4, 96, 46, 182, 0, 160, 159, 0, 226, 3, 172, 43, 42, 29, 4, 96]
abbrev dktL_law_40 : List UInt8 := dkwL_law_40 ++ dktL_law_41
def dkwL_law_39 : List UInt8 := [4, 96, 46, 182, 0, 153, 44, 42, 29, 4, 96, 46, 182, 0, 156, 159, 0, 249, 3, 172, 43, 42, 29, 4]
abbrev dktL_law_39 : List UInt8 := dkwL_law_39 ++ dktL_law_40
def dkwL_law_38 : List UInt8 := [182, 0, 148, 159, 1, 29, 3, 172, 43, 182, 0, 149, 44, 182, 0, 152, 159, 1, 16, 3, 172, 43, 42, 29]
abbrev dktL_law_38 : List UInt8 := dkwL_law_38 ++ dktL_law_39
def dkwL_law_37 : List UInt8 := [182, 0, 144, 159, 1, 52, 3, 172, 43, 42, 29, 4, 96, 46, 182, 0, 145, 44, 42, 29, 4, 96, 46]
abbrev dktL_law_37 : List UInt8 := dkwL_law_37 ++ dktL_law_38
def dkwL_law_36 : List UInt8 := [4, 96, 46, 42, 29, 5, 96, 46, 182, 0, 141, 44, 42, 29, 4, 96, 46, 42, 29, 5, 96, 46]
abbrev dktL_law_36 : List UInt8 := dkwL_law_36 ++ dktL_law_37
def dkwL_law_35 : List UInt8 := [29, 4, 96, 46, 182, 0, 137, 44, 42, 29, 4, 96, 46, 182, 0, 140, 159, 1, 85, 3, 172, 43, 42, 29]
abbrev dktL_law_35 : List UInt8 := dkwL_law_35 ++ dktL_law_36
def dkwL_law_34 : List UInt8 := [182, 0, 133, 44, 42, 29, 4, 96, 46, 42, 29, 5, 96, 46, 182, 0, 136, 159, 1, 108, 3, 172, 43, 42]
abbrev dktL_law_34 : List UInt8 := dkwL_law_34 ++ dktL_law_35
def dkwL_law_33 : List UInt8 := [4, 96, 46, 182, 0, 132, 159, 1, 141, 3, 172, 43, 42, 29, 4, 96, 46, 42, 29, 5, 96, 46]
abbrev dktL_law_33 : List UInt8 := dkwL_law_33 ++ dktL_law_34
def dkwL_law_32 : List UInt8 := [182, 0, 125, 44, 182, 0, 128, 159, 1, 164, 3, 172, 43, 42, 29, 4, 96, 46, 182, 0, 129, 44, 42, 29]
abbrev dktL_law_32 : List UInt8 := dkwL_law_32 ++ dktL_law_33
def dkwL_law_31 : List UInt8 := [182, 0, 120, 159, 1, 190, 3, 172, 43, 182, 0, 121, 44, 182, 0, 124, 159, 1, 177, 3, 172, 43]
abbrev dktL_law_31 : List UInt8 := dkwL_law_31 ++ dktL_law_32
def dkwL_law_30 : List UInt8 := [182, 0, 116, 159, 1, 213, 3, 172, 43, 42, 29, 4, 96, 46, 182, 0, 117, 44, 42, 29, 4, 96, 46]
abbrev dktL_law_30 : List UInt8 := dkwL_law_30 ++ dktL_law_31
def dkwL_law_29 : List UInt8 := [182, 0, 109, 44, 42, 29, 4, 96, 46, 182, 0, 112, 159, 1, 226, 3, 172, 43, 182, 0, 113, 44]
abbrev dktL_law_29 : List UInt8 := dkwL_law_29 ++ dktL_law_30
def dkwL_law_28 : List UInt8 := [29, 4, 96, 46, 42, 29, 5, 96, 46, 182, 0, 108, 159, 1, 249, 3, 172, 43, 42, 29, 4, 96, 46]
abbrev dktL_law_28 : List UInt8 := dkwL_law_28 ++ dktL_law_29
def dkwL_law_27 : List UInt8 := [182, 0, 104, 159, 2, 26, 3, 172, 43, 42, 29, 4, 96, 46, 42, 29, 5, 96, 46, 182, 0, 105, 44, 42]
abbrev dktL_law_27 : List UInt8 := dkwL_law_27 ++ dktL_law_28
def dkwL_law_26 : List UInt8 := [182, 0, 100, 159, 2, 49, 3, 172, 43, 42, 29, 4, 96, 46, 182, 0, 101, 44, 42, 29, 4, 96, 46]
abbrev dktL_law_26 : List UInt8 := dkwL_law_26 ++ dktL_law_27
def dkwL_law_25 : List UInt8 := [6, 96, 46, 182, 0, 97, 44, 42, 29, 4, 96, 46, 42, 29, 5, 96, 46, 42, 29, 6, 96, 46]
abbrev dktL_law_25 : List UInt8 := dkwL_law_25 ++ dktL_law_26
def dkwL_law_24 : List UInt8 := [5, 96, 46, 182, 0, 96, 159, 2, 92, 3, 172, 43, 42, 29, 4, 96, 46, 42, 29, 5, 96, 46, 42, 29]
abbrev dktL_law_24 : List UInt8 := dkwL_law_24 ++ dktL_law_25
def dkwL_law_23 : List UInt8 := [3, 172, 43, 42, 29, 4, 96, 46, 42, 29, 5, 96, 46, 182, 0, 93, 44, 42, 29, 4, 96, 46, 42, 29]
abbrev dktL_law_23 : List UInt8 := dkwL_law_23 ++ dktL_law_24
def dkwL_law_22 : List UInt8 := [43, 182, 0, 85, 44, 182, 0, 88, 159, 2, 138, 3, 172, 43, 182, 0, 89, 44, 182, 0, 92, 159, 2, 125]
abbrev dktL_law_22 : List UInt8 := dkwL_law_22 ++ dktL_law_23
def dkwL_law_21 : List UInt8 := [5, 96, 46, 182, 0, 80, 159, 2, 164, 3, 172, 43, 182, 0, 81, 44, 182, 0, 84, 159, 2, 151, 3, 172]
abbrev dktL_law_21 : List UInt8 := dkwL_law_21 ++ dktL_law_22
def dkwL_law_20 : List UInt8 := [3, 172, 43, 42, 29, 4, 96, 46, 42, 29, 5, 96, 46, 182, 0, 77, 44, 42, 29, 4, 96, 46, 42, 29]
abbrev dktL_law_20 : List UInt8 := dkwL_law_20 ++ dktL_law_21
def dkwL_law_19 : List UInt8 := [29, 5, 96, 46, 182, 0, 73, 44, 42, 29, 4, 96, 46, 42, 29, 5, 96, 46, 182, 0, 76, 159, 2, 197]
abbrev dktL_law_19 : List UInt8 := dkwL_law_19 ++ dktL_law_20
def dkwL_law_18 : List UInt8 := [29, 4, 96, 46, 42, 29, 5, 96, 46, 182, 0, 72, 159, 2, 230, 3, 172, 43, 42, 29, 4, 96, 46, 42]
abbrev dktL_law_18 : List UInt8 := dkwL_law_18 ++ dktL_law_19
def dkwL_law_17 : List UInt8 := [182, 0, 68, 159, 3, 7, 3, 172, 43, 42, 29, 4, 96, 46, 42, 29, 5, 96, 46, 182, 0, 69, 44, 42]
abbrev dktL_law_17 : List UInt8 := dkwL_law_17 ++ dktL_law_18
def dkwL_law_16 : List UInt8 := [4, 96, 46, 42, 29, 5, 96, 46, 182, 0, 65, 44, 42, 29, 4, 96, 46, 42, 29, 5, 96, 46]
abbrev dktL_law_16 : List UInt8 := dkwL_law_16 ++ dktL_law_17
def dkwL_law_15 : List UInt8 := [29, 4, 96, 46, 182, 0, 61, 44, 42, 29, 4, 96, 46, 182, 0, 64, 159, 3, 40, 3, 172, 43, 42, 29]
abbrev dktL_law_15 : List UInt8 := dkwL_law_15 ++ dktL_law_16
def dkwL_law_14 : List UInt8 := [42, 29, 4, 96, 46, 182, 0, 57, 44, 42, 29, 4, 96, 46, 182, 0, 60, 159, 3, 63, 3, 172, 43, 42]
abbrev dktL_law_14 : List UInt8 := dkwL_law_14 ++ dktL_law_15
def dkwL_law_13 : List UInt8 := [46, 182, 0, 53, 44, 42, 29, 4, 96, 46, 42, 29, 5, 96, 46, 182, 0, 56, 159, 3, 86, 3, 172, 43]
abbrev dktL_law_13 : List UInt8 := dkwL_law_13 ++ dktL_law_14
def dkwL_law_12 : List UInt8 := [46, 42, 29, 5, 96, 46, 182, 0, 52, 159, 3, 119, 3, 172, 43, 42, 29, 4, 96, 46, 42, 29, 5, 96]
abbrev dktL_law_12 : List UInt8 := dkwL_law_12 ++ dktL_law_13
def dkwL_law_11 : List UInt8 := [159, 3, 152, 3, 172, 43, 42, 29, 4, 96, 46, 42, 29, 5, 96, 46, 182, 0, 49, 44, 42, 29, 4, 96]
abbrev dktL_law_11 : List UInt8 := dkwL_law_11 ++ dktL_law_12
def dkwL_law_10 : List UInt8 := [182, 0, 44, 44, 42, 29, 4, 96, 46, 42, 29, 5, 96, 46, 42, 29, 6, 96, 46, 182, 0, 48]
abbrev dktL_law_10 : List UInt8 := dkwL_law_10 ++ dktL_law_11
def dkwL_law_9 : List UInt8 := [182, 0, 43, 159, 3, 195, 3, 172, 43, 42, 29, 4, 96, 46, 42, 29, 5, 96, 46, 42, 29, 6, 96, 46]
abbrev dktL_law_9 : List UInt8 := dkwL_law_9 ++ dktL_law_10
def dkwL_law_8 : List UInt8 := [29, 4, 96, 46, 42, 29, 5, 96, 46, 182, 0, 40, 44, 42, 29, 4, 96, 46, 42, 29, 5, 96, 46]
abbrev dktL_law_8 : List UInt8 := dkwL_law_8 ++ dktL_law_9
def dkwL_law_7 : List UInt8 := [42, 29, 4, 96, 46, 182, 0, 36, 44, 42, 29, 4, 96, 46, 182, 0, 39, 159, 3, 228, 3, 172, 43, 42]
abbrev dktL_law_7 : List UInt8 := dkwL_law_7 ++ dktL_law_8
def dkwL_law_6 : List UInt8 := [46, 182, 0, 31, 44, 42, 29, 4, 96, 46, 42, 29, 5, 96, 46, 182, 0, 35, 159, 3, 251, 3, 172, 43]
abbrev dktL_law_6 : List UInt8 := dkwL_law_6 ++ dktL_law_7
def dkwL_law_5 : List UInt8 := [172, 43, 182, 0, 27, 44, 182, 0, 30, 159, 4, 28, 3, 172, 43, 42, 29, 4, 96, 46, 42, 29, 5, 96]
abbrev dktL_law_5 : List UInt8 := dkwL_law_5 ++ dktL_law_6
def dkwL_law_4 : List UInt8 := [182, 0, 18, 44, 182, 0, 22, 159, 4, 54, 3, 172, 43, 182, 0, 23, 44, 182, 0, 26, 159, 4, 41, 3]
abbrev dktL_law_4 : List UInt8 := dkwL_law_4 ++ dktL_law_5
def dkwL_law_3 : List UInt8 := [43, 42, 29, 4, 96, 46, 182, 0, 13, 44, 42, 29, 4, 96, 46, 182, 0, 17, 159, 4, 67, 3, 172, 43]
abbrev dktL_law_3 : List UInt8 := dkwL_law_3 ++ dktL_law_4
def dkwL_law_2 : List UInt8 := [170, 0, 0, 0, 0, 0, 5, 17, 0, 0, 0, 0, 0, 0, 0, 42, 0, 0, 0, 188, 0, 0, 0, 211, 0, 0, 0, 224, 0, 0, 0, 237, 0, 0, 0, 250, 0, 0, 1, 27, 0, 0, 1, 50, 0, 0, 1, 83, 0, 0, 1, 126, 0, 0, 1, 159, 0, 0, 1, 192, 0, 0, 1, 215, 0, 0, 1, 238, 0, 0, 2, 15, 0, 0, 2, 48, 0, 0, 2, 81, 0, 0, 2, 114, 0, 0, 2, 127, 0, 0, 2, 140, 0, 0, 2, 153, 0, 0, 2, 186, 0, 0, 2, 229, 0, 0, 2, 252, 0, 0, 3, 29, 0, 0, 3, 52, 0, 0, 3, 65, 0, 0, 3, 88, 0, 0, 3, 101, 0, 0, 3, 114, 0, 0, 3, 137, 0, 0, 3, 170, 0, 0, 3, 193, 0, 0, 3, 226, 0, 0, 3, 249, 0, 0, 4, 6, 0, 0, 4, 29, 0, 0, 4, 52, 0, 0, 4, 85, 0, 0, 4, 128, 0, 0, 4, 161, 0, 0, 4, 204, 0, 0, 4, 247, 0, 0, 5, 4]
abbrev dktL_law_2 : List UInt8 := dkwL_law_2 ++ dktL_law_3
def dkwL_law_1 : List UInt8 := [163, 5, 32, 42, 29, 46, 16, 63, 126]
abbrev dktL_law_1 : List UInt8 := dkwL_law_1 ++ dktL_law_2
def dkwL_law_0 : List UInt8 := [187, 0, 7, 89, 183, 0, 9, 76, 187, 0, 10, 89, 183, 0, 12, 77, 3, 62, 29, 42, 190, 7, 100]
abbrev dktL_law_0 : List UInt8 := dkwL_law_0 ++ dktL_law_1
theorem dksL_law_0 : cL_law.data.toList.drop 0 = dktL_law_0 := by decide +kernel
theorem dksL_law_1 : cL_law.data.toList.drop 23 = dktL_law_1 := dk_seg dksL_law_0 23 rfl rfl
theorem dksL_law_2 : cL_law.data.toList.drop 32 = dktL_law_2 := dk_seg dksL_law_1 9 rfl rfl
theorem dksL_law_3 : cL_law.data.toList.drop 220 = dktL_law_3 := dk_seg dksL_law_2 188 rfl rfl
theorem dksL_law_4 : cL_law.data.toList.drop 244 = dktL_law_4 := dk_seg dksL_law_3 24 rfl rfl
theorem dksL_law_5 : cL_law.data.toList.drop 268 = dktL_law_5 := dk_seg dksL_law_4 24 rfl rfl
theorem dksL_law_6 : cL_law.data.toList.drop 292 = dktL_law_6 := dk_seg dksL_law_5 24 rfl rfl
theorem dksL_law_7 : cL_law.data.toList.drop 316 = dktL_law_7 := dk_seg dksL_law_6 24 rfl rfl
theorem dksL_law_8 : cL_law.data.toList.drop 340 = dktL_law_8 := dk_seg dksL_law_7 24 rfl rfl
theorem dksL_law_9 : cL_law.data.toList.drop 363 = dktL_law_9 := dk_seg dksL_law_8 23 rfl rfl
theorem dksL_law_10 : cL_law.data.toList.drop 387 = dktL_law_10 := dk_seg dksL_law_9 24 rfl rfl
theorem dksL_law_11 : cL_law.data.toList.drop 409 = dktL_law_11 := dk_seg dksL_law_10 22 rfl rfl
theorem dksL_law_12 : cL_law.data.toList.drop 433 = dktL_law_12 := dk_seg dksL_law_11 24 rfl rfl
theorem dksL_law_13 : cL_law.data.toList.drop 457 = dktL_law_13 := dk_seg dksL_law_12 24 rfl rfl
theorem dksL_law_14 : cL_law.data.toList.drop 481 = dktL_law_14 := dk_seg dksL_law_13 24 rfl rfl
theorem dksL_law_15 : cL_law.data.toList.drop 505 = dktL_law_15 := dk_seg dksL_law_14 24 rfl rfl
theorem dksL_law_16 : cL_law.data.toList.drop 529 = dktL_law_16 := dk_seg dksL_law_15 24 rfl rfl
theorem dksL_law_17 : cL_law.data.toList.drop 551 = dktL_law_17 := dk_seg dksL_law_16 22 rfl rfl
theorem dksL_law_18 : cL_law.data.toList.drop 575 = dktL_law_18 := dk_seg dksL_law_17 24 rfl rfl
theorem dksL_law_19 : cL_law.data.toList.drop 599 = dktL_law_19 := dk_seg dksL_law_18 24 rfl rfl
theorem dksL_law_20 : cL_law.data.toList.drop 623 = dktL_law_20 := dk_seg dksL_law_19 24 rfl rfl
theorem dksL_law_21 : cL_law.data.toList.drop 647 = dktL_law_21 := dk_seg dksL_law_20 24 rfl rfl
theorem dksL_law_22 : cL_law.data.toList.drop 671 = dktL_law_22 := dk_seg dksL_law_21 24 rfl rfl
theorem dksL_law_23 : cL_law.data.toList.drop 695 = dktL_law_23 := dk_seg dksL_law_22 24 rfl rfl
theorem dksL_law_24 : cL_law.data.toList.drop 719 = dktL_law_24 := dk_seg dksL_law_23 24 rfl rfl
theorem dksL_law_25 : cL_law.data.toList.drop 743 = dktL_law_25 := dk_seg dksL_law_24 24 rfl rfl
theorem dksL_law_26 : cL_law.data.toList.drop 765 = dktL_law_26 := dk_seg dksL_law_25 22 rfl rfl
theorem dksL_law_27 : cL_law.data.toList.drop 788 = dktL_law_27 := dk_seg dksL_law_26 23 rfl rfl
theorem dksL_law_28 : cL_law.data.toList.drop 812 = dktL_law_28 := dk_seg dksL_law_27 24 rfl rfl
theorem dksL_law_29 : cL_law.data.toList.drop 835 = dktL_law_29 := dk_seg dksL_law_28 23 rfl rfl
theorem dksL_law_30 : cL_law.data.toList.drop 857 = dktL_law_30 := dk_seg dksL_law_29 22 rfl rfl
theorem dksL_law_31 : cL_law.data.toList.drop 880 = dktL_law_31 := dk_seg dksL_law_30 23 rfl rfl
theorem dksL_law_32 : cL_law.data.toList.drop 902 = dktL_law_32 := dk_seg dksL_law_31 22 rfl rfl
theorem dksL_law_33 : cL_law.data.toList.drop 926 = dktL_law_33 := dk_seg dksL_law_32 24 rfl rfl
theorem dksL_law_34 : cL_law.data.toList.drop 948 = dktL_law_34 := dk_seg dksL_law_33 22 rfl rfl
theorem dksL_law_35 : cL_law.data.toList.drop 972 = dktL_law_35 := dk_seg dksL_law_34 24 rfl rfl
theorem dksL_law_36 : cL_law.data.toList.drop 996 = dktL_law_36 := dk_seg dksL_law_35 24 rfl rfl
theorem dksL_law_37 : cL_law.data.toList.drop 1018 = dktL_law_37 := dk_seg dksL_law_36 22 rfl rfl
theorem dksL_law_38 : cL_law.data.toList.drop 1041 = dktL_law_38 := dk_seg dksL_law_37 23 rfl rfl
theorem dksL_law_39 : cL_law.data.toList.drop 1065 = dktL_law_39 := dk_seg dksL_law_38 24 rfl rfl
theorem dksL_law_40 : cL_law.data.toList.drop 1089 = dktL_law_40 := dk_seg dksL_law_39 24 rfl rfl
theorem dksL_law_41 : cL_law.data.toList.drop 1113 = dktL_law_41 := dk_seg dksL_law_40 24 rfl rfl
theorem dksL_law_42 : cL_law.data.toList.drop 1136 = dktL_law_42 := dk_seg dksL_law_41 23 rfl rfl
theorem dksL_law_43 : cL_law.data.toList.drop 1160 = dktL_law_43 := dk_seg dksL_law_42 24 rfl rfl
theorem dksL_law_44 : cL_law.data.toList.drop 1184 = dktL_law_44 := dk_seg dksL_law_43 24 rfl rfl
theorem dksL_law_45 : cL_law.data.toList.drop 1208 = dktL_law_45 := dk_seg dksL_law_44 24 rfl rfl
theorem dksL_law_46 : cL_law.data.toList.drop 1232 = dktL_law_46 := dk_seg dksL_law_45 24 rfl rfl
theorem dksL_law_47 : cL_law.data.toList.drop 1255 = dktL_law_47 := dk_seg dksL_law_46 23 rfl rfl
theorem dksL_law_48 : cL_law.data.toList.drop 1279 = dktL_law_48 := dk_seg dksL_law_47 24 rfl rfl
theorem dksL_law_49 : cL_law.data.toList.drop 1303 = dktL_law_49 := dk_seg dksL_law_48 24 rfl rfl
theorem dksL_law_50 : cL_law.data.toList.drop 1327 = dktL_law_50 := dk_seg dksL_law_49 24 rfl rfl
theorem dL_law_0 : decode cL_law 0 = .ok (.new 7, 3) := dk_187 0 7 (dk_at dksL_law_0 0 rfl rfl)
theorem dL_law_3 : decode cL_law 3 = .ok (.dup, 1) := dk_89 (dk_at dksL_law_0 3 rfl rfl)
theorem dL_law_4 : decode cL_law 4 = .ok (.invokespecial 9, 3) := dk_183 0 9 (dk_at dksL_law_0 4 rfl rfl)
theorem dL_law_7 : decode cL_law 7 = .ok (.astore_n 1, 1) := dk_76 (dk_at dksL_law_0 7 rfl rfl)
theorem dL_law_8 : decode cL_law 8 = .ok (.new 10, 3) := dk_187 0 10 (dk_at dksL_law_0 8 rfl rfl)
theorem dL_law_11 : decode cL_law 11 = .ok (.dup, 1) := dk_89 (dk_at dksL_law_0 11 rfl rfl)
theorem dL_law_12 : decode cL_law 12 = .ok (.invokespecial 12, 3) := dk_183 0 12 (dk_at dksL_law_0 12 rfl rfl)
theorem dL_law_15 : decode cL_law 15 = .ok (.astore_n 2, 1) := dk_77 (dk_at dksL_law_0 15 rfl rfl)
theorem dL_law_16 : decode cL_law 16 = .ok (.iconst 0, 1) := dk_3 (dk_at dksL_law_0 16 rfl rfl)
theorem dL_law_17 : decode cL_law 17 = .ok (.istore_n 3, 1) := dk_62 (dk_at dksL_law_0 17 rfl rfl)
theorem dL_law_18 : decode cL_law 18 = .ok (.iload_n 3, 1) := dk_29 (dk_at dksL_law_0 18 rfl rfl)
theorem dL_law_19 : decode cL_law 19 = .ok (.aload_n 0, 1) := dk_42 (dk_at dksL_law_0 19 rfl rfl)
theorem dL_law_20 : decode cL_law 20 = .ok (.arraylength, 1) := dk_190 (dk_at dksL_law_0 20 rfl rfl)
theorem dL_law_21 : decode cL_law 21 = .ok (.iconst 4, 1) := dk_7 (dk_at dksL_law_0 21 rfl rfl)
theorem dL_law_22 : decode cL_law 22 = .ok (.isub, 1) := dk_100 (dk_at dksL_law_0 22 rfl rfl)
theorem dL_law_23 : decode cL_law 23 = .ok (.if_icmp .gt 1312, 3) := dk_163 5 32 (dk_at dksL_law_1 0 rfl rfl)
theorem dL_law_26 : decode cL_law 26 = .ok (.aload_n 0, 1) := dk_42 (dk_at dksL_law_1 3 rfl rfl)
theorem dL_law_27 : decode cL_law 27 = .ok (.iload_n 3, 1) := dk_29 (dk_at dksL_law_1 4 rfl rfl)
theorem dL_law_28 : decode cL_law 28 = .ok (.iaload, 1) := dk_46 (dk_at dksL_law_1 5 rfl rfl)
theorem dL_law_29 : decode cL_law 29 = .ok (.bipush 63, 2) := dk_16 63 (dk_at dksL_law_1 6 rfl rfl)
theorem dL_law_31 : decode cL_law 31 = .ok (.iand, 1) := dk_126 (dk_at dksL_law_1 8 rfl rfl)
theorem dL_law_32 : decode cL_law 32 = .ok (.tableswitch 1297 0 42 #[188, 211, 224, 237, 250, 283, 306, 339, 382, 415, 448, 471, 494, 527, 560, 593, 626, 639, 652, 665, 698, 741, 764, 797, 820, 833, 856, 869, 882, 905, 938, 961, 994, 1017, 1030, 1053, 1076, 1109, 1152, 1185, 1228, 1271, 1284], 188) := by decide +kernel
theorem dL_law_220 : decode cL_law 220 = .ok (.aload_n 1, 1) := dk_43 (dk_at dksL_law_3 0 rfl rfl)
theorem dL_law_221 : decode cL_law 221 = .ok (.aload_n 0, 1) := dk_42 (dk_at dksL_law_3 1 rfl rfl)
theorem dL_law_222 : decode cL_law 222 = .ok (.iload_n 3, 1) := dk_29 (dk_at dksL_law_3 2 rfl rfl)
theorem dL_law_223 : decode cL_law 223 = .ok (.iconst 1, 1) := dk_4 (dk_at dksL_law_3 3 rfl rfl)
theorem dL_law_224 : decode cL_law 224 = .ok (.iadd, 1) := dk_96 (dk_at dksL_law_3 4 rfl rfl)
theorem dL_law_225 : decode cL_law 225 = .ok (.iaload, 1) := dk_46 (dk_at dksL_law_3 5 rfl rfl)
theorem dL_law_226 : decode cL_law 226 = .ok (.invokevirtual 13, 3) := dk_182 0 13 (dk_at dksL_law_3 6 rfl rfl)
theorem dL_law_229 : decode cL_law 229 = .ok (.aload_n 2, 1) := dk_44 (dk_at dksL_law_3 9 rfl rfl)
theorem dL_law_230 : decode cL_law 230 = .ok (.aload_n 0, 1) := dk_42 (dk_at dksL_law_3 10 rfl rfl)
theorem dL_law_231 : decode cL_law 231 = .ok (.iload_n 3, 1) := dk_29 (dk_at dksL_law_3 11 rfl rfl)
theorem dL_law_232 : decode cL_law 232 = .ok (.iconst 1, 1) := dk_4 (dk_at dksL_law_3 12 rfl rfl)
theorem dL_law_233 : decode cL_law 233 = .ok (.iadd, 1) := dk_96 (dk_at dksL_law_3 13 rfl rfl)
theorem dL_law_234 : decode cL_law 234 = .ok (.iaload, 1) := dk_46 (dk_at dksL_law_3 14 rfl rfl)
theorem dL_law_235 : decode cL_law 235 = .ok (.invokevirtual 17, 3) := dk_182 0 17 (dk_at dksL_law_3 15 rfl rfl)
theorem dL_law_238 : decode cL_law 238 = .ok (.if_icmp .eq 1091, 3) := dk_159 4 67 (dk_at dksL_law_3 18 rfl rfl)
theorem dL_law_241 : decode cL_law 241 = .ok (.iconst 0, 1) := dk_3 (dk_at dksL_law_3 21 rfl rfl)
theorem dL_law_242 : decode cL_law 242 = .ok (.ireturn, 1) := dk_172 (dk_at dksL_law_3 22 rfl rfl)
theorem dL_law_243 : decode cL_law 243 = .ok (.aload_n 1, 1) := dk_43 (dk_at dksL_law_3 23 rfl rfl)
theorem dL_law_244 : decode cL_law 244 = .ok (.invokevirtual 18, 3) := dk_182 0 18 (dk_at dksL_law_4 0 rfl rfl)
theorem dL_law_247 : decode cL_law 247 = .ok (.aload_n 2, 1) := dk_44 (dk_at dksL_law_4 3 rfl rfl)
theorem dL_law_248 : decode cL_law 248 = .ok (.invokevirtual 22, 3) := dk_182 0 22 (dk_at dksL_law_4 4 rfl rfl)
theorem dL_law_251 : decode cL_law 251 = .ok (.if_icmp .eq 1078, 3) := dk_159 4 54 (dk_at dksL_law_4 7 rfl rfl)
theorem dL_law_254 : decode cL_law 254 = .ok (.iconst 0, 1) := dk_3 (dk_at dksL_law_4 10 rfl rfl)
theorem dL_law_255 : decode cL_law 255 = .ok (.ireturn, 1) := dk_172 (dk_at dksL_law_4 11 rfl rfl)
theorem dL_law_256 : decode cL_law 256 = .ok (.aload_n 1, 1) := dk_43 (dk_at dksL_law_4 12 rfl rfl)
theorem dL_law_257 : decode cL_law 257 = .ok (.invokevirtual 23, 3) := dk_182 0 23 (dk_at dksL_law_4 13 rfl rfl)
theorem dL_law_260 : decode cL_law 260 = .ok (.aload_n 2, 1) := dk_44 (dk_at dksL_law_4 16 rfl rfl)
theorem dL_law_261 : decode cL_law 261 = .ok (.invokevirtual 26, 3) := dk_182 0 26 (dk_at dksL_law_4 17 rfl rfl)
theorem dL_law_264 : decode cL_law 264 = .ok (.if_icmp .eq 1065, 3) := dk_159 4 41 (dk_at dksL_law_4 20 rfl rfl)
theorem dL_law_267 : decode cL_law 267 = .ok (.iconst 0, 1) := dk_3 (dk_at dksL_law_4 23 rfl rfl)
theorem dL_law_268 : decode cL_law 268 = .ok (.ireturn, 1) := dk_172 (dk_at dksL_law_5 0 rfl rfl)
theorem dL_law_269 : decode cL_law 269 = .ok (.aload_n 1, 1) := dk_43 (dk_at dksL_law_5 1 rfl rfl)
theorem dL_law_270 : decode cL_law 270 = .ok (.invokevirtual 27, 3) := dk_182 0 27 (dk_at dksL_law_5 2 rfl rfl)
theorem dL_law_273 : decode cL_law 273 = .ok (.aload_n 2, 1) := dk_44 (dk_at dksL_law_5 5 rfl rfl)
theorem dL_law_274 : decode cL_law 274 = .ok (.invokevirtual 30, 3) := dk_182 0 30 (dk_at dksL_law_5 6 rfl rfl)
theorem dL_law_277 : decode cL_law 277 = .ok (.if_icmp .eq 1052, 3) := dk_159 4 28 (dk_at dksL_law_5 9 rfl rfl)
theorem dL_law_280 : decode cL_law 280 = .ok (.iconst 0, 1) := dk_3 (dk_at dksL_law_5 12 rfl rfl)
theorem dL_law_281 : decode cL_law 281 = .ok (.ireturn, 1) := dk_172 (dk_at dksL_law_5 13 rfl rfl)
theorem dL_law_282 : decode cL_law 282 = .ok (.aload_n 1, 1) := dk_43 (dk_at dksL_law_5 14 rfl rfl)
theorem dL_law_283 : decode cL_law 283 = .ok (.aload_n 0, 1) := dk_42 (dk_at dksL_law_5 15 rfl rfl)
theorem dL_law_284 : decode cL_law 284 = .ok (.iload_n 3, 1) := dk_29 (dk_at dksL_law_5 16 rfl rfl)
theorem dL_law_285 : decode cL_law 285 = .ok (.iconst 1, 1) := dk_4 (dk_at dksL_law_5 17 rfl rfl)
theorem dL_law_286 : decode cL_law 286 = .ok (.iadd, 1) := dk_96 (dk_at dksL_law_5 18 rfl rfl)
theorem dL_law_287 : decode cL_law 287 = .ok (.iaload, 1) := dk_46 (dk_at dksL_law_5 19 rfl rfl)
theorem dL_law_288 : decode cL_law 288 = .ok (.aload_n 0, 1) := dk_42 (dk_at dksL_law_5 20 rfl rfl)
theorem dL_law_289 : decode cL_law 289 = .ok (.iload_n 3, 1) := dk_29 (dk_at dksL_law_5 21 rfl rfl)
theorem dL_law_290 : decode cL_law 290 = .ok (.iconst 2, 1) := dk_5 (dk_at dksL_law_5 22 rfl rfl)
theorem dL_law_291 : decode cL_law 291 = .ok (.iadd, 1) := dk_96 (dk_at dksL_law_5 23 rfl rfl)
theorem dL_law_292 : decode cL_law 292 = .ok (.iaload, 1) := dk_46 (dk_at dksL_law_6 0 rfl rfl)
theorem dL_law_293 : decode cL_law 293 = .ok (.invokevirtual 31, 3) := dk_182 0 31 (dk_at dksL_law_6 1 rfl rfl)
theorem dL_law_296 : decode cL_law 296 = .ok (.aload_n 2, 1) := dk_44 (dk_at dksL_law_6 4 rfl rfl)
theorem dL_law_297 : decode cL_law 297 = .ok (.aload_n 0, 1) := dk_42 (dk_at dksL_law_6 5 rfl rfl)
theorem dL_law_298 : decode cL_law 298 = .ok (.iload_n 3, 1) := dk_29 (dk_at dksL_law_6 6 rfl rfl)
theorem dL_law_299 : decode cL_law 299 = .ok (.iconst 1, 1) := dk_4 (dk_at dksL_law_6 7 rfl rfl)
theorem dL_law_300 : decode cL_law 300 = .ok (.iadd, 1) := dk_96 (dk_at dksL_law_6 8 rfl rfl)
theorem dL_law_301 : decode cL_law 301 = .ok (.iaload, 1) := dk_46 (dk_at dksL_law_6 9 rfl rfl)
theorem dL_law_302 : decode cL_law 302 = .ok (.aload_n 0, 1) := dk_42 (dk_at dksL_law_6 10 rfl rfl)
theorem dL_law_303 : decode cL_law 303 = .ok (.iload_n 3, 1) := dk_29 (dk_at dksL_law_6 11 rfl rfl)
theorem dL_law_304 : decode cL_law 304 = .ok (.iconst 2, 1) := dk_5 (dk_at dksL_law_6 12 rfl rfl)
theorem dL_law_305 : decode cL_law 305 = .ok (.iadd, 1) := dk_96 (dk_at dksL_law_6 13 rfl rfl)
theorem dL_law_306 : decode cL_law 306 = .ok (.iaload, 1) := dk_46 (dk_at dksL_law_6 14 rfl rfl)
theorem dL_law_307 : decode cL_law 307 = .ok (.invokevirtual 35, 3) := dk_182 0 35 (dk_at dksL_law_6 15 rfl rfl)
theorem dL_law_310 : decode cL_law 310 = .ok (.if_icmp .eq 1019, 3) := dk_159 3 251 (dk_at dksL_law_6 18 rfl rfl)
theorem dL_law_313 : decode cL_law 313 = .ok (.iconst 0, 1) := dk_3 (dk_at dksL_law_6 21 rfl rfl)
theorem dL_law_314 : decode cL_law 314 = .ok (.ireturn, 1) := dk_172 (dk_at dksL_law_6 22 rfl rfl)
theorem dL_law_315 : decode cL_law 315 = .ok (.aload_n 1, 1) := dk_43 (dk_at dksL_law_6 23 rfl rfl)
theorem dL_law_316 : decode cL_law 316 = .ok (.aload_n 0, 1) := dk_42 (dk_at dksL_law_7 0 rfl rfl)
theorem dL_law_317 : decode cL_law 317 = .ok (.iload_n 3, 1) := dk_29 (dk_at dksL_law_7 1 rfl rfl)
theorem dL_law_318 : decode cL_law 318 = .ok (.iconst 1, 1) := dk_4 (dk_at dksL_law_7 2 rfl rfl)
theorem dL_law_319 : decode cL_law 319 = .ok (.iadd, 1) := dk_96 (dk_at dksL_law_7 3 rfl rfl)
theorem dL_law_320 : decode cL_law 320 = .ok (.iaload, 1) := dk_46 (dk_at dksL_law_7 4 rfl rfl)
theorem dL_law_321 : decode cL_law 321 = .ok (.invokevirtual 36, 3) := dk_182 0 36 (dk_at dksL_law_7 5 rfl rfl)
theorem dL_law_324 : decode cL_law 324 = .ok (.aload_n 2, 1) := dk_44 (dk_at dksL_law_7 8 rfl rfl)
theorem dL_law_325 : decode cL_law 325 = .ok (.aload_n 0, 1) := dk_42 (dk_at dksL_law_7 9 rfl rfl)
theorem dL_law_326 : decode cL_law 326 = .ok (.iload_n 3, 1) := dk_29 (dk_at dksL_law_7 10 rfl rfl)
theorem dL_law_327 : decode cL_law 327 = .ok (.iconst 1, 1) := dk_4 (dk_at dksL_law_7 11 rfl rfl)
theorem dL_law_328 : decode cL_law 328 = .ok (.iadd, 1) := dk_96 (dk_at dksL_law_7 12 rfl rfl)
theorem dL_law_329 : decode cL_law 329 = .ok (.iaload, 1) := dk_46 (dk_at dksL_law_7 13 rfl rfl)
theorem dL_law_330 : decode cL_law 330 = .ok (.invokevirtual 39, 3) := dk_182 0 39 (dk_at dksL_law_7 14 rfl rfl)
theorem dL_law_333 : decode cL_law 333 = .ok (.if_icmp .eq 996, 3) := dk_159 3 228 (dk_at dksL_law_7 17 rfl rfl)
theorem dL_law_336 : decode cL_law 336 = .ok (.iconst 0, 1) := dk_3 (dk_at dksL_law_7 20 rfl rfl)
theorem dL_law_337 : decode cL_law 337 = .ok (.ireturn, 1) := dk_172 (dk_at dksL_law_7 21 rfl rfl)
theorem dL_law_338 : decode cL_law 338 = .ok (.aload_n 1, 1) := dk_43 (dk_at dksL_law_7 22 rfl rfl)
theorem dL_law_339 : decode cL_law 339 = .ok (.aload_n 0, 1) := dk_42 (dk_at dksL_law_7 23 rfl rfl)
theorem dL_law_340 : decode cL_law 340 = .ok (.iload_n 3, 1) := dk_29 (dk_at dksL_law_8 0 rfl rfl)
theorem dL_law_341 : decode cL_law 341 = .ok (.iconst 1, 1) := dk_4 (dk_at dksL_law_8 1 rfl rfl)
theorem dL_law_342 : decode cL_law 342 = .ok (.iadd, 1) := dk_96 (dk_at dksL_law_8 2 rfl rfl)
theorem dL_law_343 : decode cL_law 343 = .ok (.iaload, 1) := dk_46 (dk_at dksL_law_8 3 rfl rfl)
theorem dL_law_344 : decode cL_law 344 = .ok (.aload_n 0, 1) := dk_42 (dk_at dksL_law_8 4 rfl rfl)
theorem dL_law_345 : decode cL_law 345 = .ok (.iload_n 3, 1) := dk_29 (dk_at dksL_law_8 5 rfl rfl)
theorem dL_law_346 : decode cL_law 346 = .ok (.iconst 2, 1) := dk_5 (dk_at dksL_law_8 6 rfl rfl)
theorem dL_law_347 : decode cL_law 347 = .ok (.iadd, 1) := dk_96 (dk_at dksL_law_8 7 rfl rfl)
theorem dL_law_348 : decode cL_law 348 = .ok (.iaload, 1) := dk_46 (dk_at dksL_law_8 8 rfl rfl)
theorem dL_law_349 : decode cL_law 349 = .ok (.invokevirtual 40, 3) := dk_182 0 40 (dk_at dksL_law_8 9 rfl rfl)
theorem dL_law_352 : decode cL_law 352 = .ok (.aload_n 2, 1) := dk_44 (dk_at dksL_law_8 12 rfl rfl)
theorem dL_law_353 : decode cL_law 353 = .ok (.aload_n 0, 1) := dk_42 (dk_at dksL_law_8 13 rfl rfl)
theorem dL_law_354 : decode cL_law 354 = .ok (.iload_n 3, 1) := dk_29 (dk_at dksL_law_8 14 rfl rfl)
theorem dL_law_355 : decode cL_law 355 = .ok (.iconst 1, 1) := dk_4 (dk_at dksL_law_8 15 rfl rfl)
theorem dL_law_356 : decode cL_law 356 = .ok (.iadd, 1) := dk_96 (dk_at dksL_law_8 16 rfl rfl)
theorem dL_law_357 : decode cL_law 357 = .ok (.iaload, 1) := dk_46 (dk_at dksL_law_8 17 rfl rfl)
theorem dL_law_358 : decode cL_law 358 = .ok (.aload_n 0, 1) := dk_42 (dk_at dksL_law_8 18 rfl rfl)
theorem dL_law_359 : decode cL_law 359 = .ok (.iload_n 3, 1) := dk_29 (dk_at dksL_law_8 19 rfl rfl)
theorem dL_law_360 : decode cL_law 360 = .ok (.iconst 2, 1) := dk_5 (dk_at dksL_law_8 20 rfl rfl)
theorem dL_law_361 : decode cL_law 361 = .ok (.iadd, 1) := dk_96 (dk_at dksL_law_8 21 rfl rfl)
theorem dL_law_362 : decode cL_law 362 = .ok (.iaload, 1) := dk_46 (dk_at dksL_law_8 22 rfl rfl)
theorem dL_law_363 : decode cL_law 363 = .ok (.invokevirtual 43, 3) := dk_182 0 43 (dk_at dksL_law_9 0 rfl rfl)
theorem dL_law_366 : decode cL_law 366 = .ok (.if_icmp .eq 963, 3) := dk_159 3 195 (dk_at dksL_law_9 3 rfl rfl)
theorem dL_law_369 : decode cL_law 369 = .ok (.iconst 0, 1) := dk_3 (dk_at dksL_law_9 6 rfl rfl)
theorem dL_law_370 : decode cL_law 370 = .ok (.ireturn, 1) := dk_172 (dk_at dksL_law_9 7 rfl rfl)
theorem dL_law_371 : decode cL_law 371 = .ok (.aload_n 1, 1) := dk_43 (dk_at dksL_law_9 8 rfl rfl)
theorem dL_law_372 : decode cL_law 372 = .ok (.aload_n 0, 1) := dk_42 (dk_at dksL_law_9 9 rfl rfl)
theorem dL_law_373 : decode cL_law 373 = .ok (.iload_n 3, 1) := dk_29 (dk_at dksL_law_9 10 rfl rfl)
theorem dL_law_374 : decode cL_law 374 = .ok (.iconst 1, 1) := dk_4 (dk_at dksL_law_9 11 rfl rfl)
theorem dL_law_375 : decode cL_law 375 = .ok (.iadd, 1) := dk_96 (dk_at dksL_law_9 12 rfl rfl)
theorem dL_law_376 : decode cL_law 376 = .ok (.iaload, 1) := dk_46 (dk_at dksL_law_9 13 rfl rfl)
theorem dL_law_377 : decode cL_law 377 = .ok (.aload_n 0, 1) := dk_42 (dk_at dksL_law_9 14 rfl rfl)
theorem dL_law_378 : decode cL_law 378 = .ok (.iload_n 3, 1) := dk_29 (dk_at dksL_law_9 15 rfl rfl)
theorem dL_law_379 : decode cL_law 379 = .ok (.iconst 2, 1) := dk_5 (dk_at dksL_law_9 16 rfl rfl)
theorem dL_law_380 : decode cL_law 380 = .ok (.iadd, 1) := dk_96 (dk_at dksL_law_9 17 rfl rfl)
theorem dL_law_381 : decode cL_law 381 = .ok (.iaload, 1) := dk_46 (dk_at dksL_law_9 18 rfl rfl)
theorem dL_law_382 : decode cL_law 382 = .ok (.aload_n 0, 1) := dk_42 (dk_at dksL_law_9 19 rfl rfl)
theorem dL_law_383 : decode cL_law 383 = .ok (.iload_n 3, 1) := dk_29 (dk_at dksL_law_9 20 rfl rfl)
theorem dL_law_384 : decode cL_law 384 = .ok (.iconst 3, 1) := dk_6 (dk_at dksL_law_9 21 rfl rfl)
theorem dL_law_385 : decode cL_law 385 = .ok (.iadd, 1) := dk_96 (dk_at dksL_law_9 22 rfl rfl)
theorem dL_law_386 : decode cL_law 386 = .ok (.iaload, 1) := dk_46 (dk_at dksL_law_9 23 rfl rfl)
theorem dL_law_387 : decode cL_law 387 = .ok (.invokevirtual 44, 3) := dk_182 0 44 (dk_at dksL_law_10 0 rfl rfl)
theorem dL_law_390 : decode cL_law 390 = .ok (.aload_n 2, 1) := dk_44 (dk_at dksL_law_10 3 rfl rfl)
theorem dL_law_391 : decode cL_law 391 = .ok (.aload_n 0, 1) := dk_42 (dk_at dksL_law_10 4 rfl rfl)
theorem dL_law_392 : decode cL_law 392 = .ok (.iload_n 3, 1) := dk_29 (dk_at dksL_law_10 5 rfl rfl)
theorem dL_law_393 : decode cL_law 393 = .ok (.iconst 1, 1) := dk_4 (dk_at dksL_law_10 6 rfl rfl)
theorem dL_law_394 : decode cL_law 394 = .ok (.iadd, 1) := dk_96 (dk_at dksL_law_10 7 rfl rfl)
theorem dL_law_395 : decode cL_law 395 = .ok (.iaload, 1) := dk_46 (dk_at dksL_law_10 8 rfl rfl)
theorem dL_law_396 : decode cL_law 396 = .ok (.aload_n 0, 1) := dk_42 (dk_at dksL_law_10 9 rfl rfl)
theorem dL_law_397 : decode cL_law 397 = .ok (.iload_n 3, 1) := dk_29 (dk_at dksL_law_10 10 rfl rfl)
theorem dL_law_398 : decode cL_law 398 = .ok (.iconst 2, 1) := dk_5 (dk_at dksL_law_10 11 rfl rfl)
theorem dL_law_399 : decode cL_law 399 = .ok (.iadd, 1) := dk_96 (dk_at dksL_law_10 12 rfl rfl)
theorem dL_law_400 : decode cL_law 400 = .ok (.iaload, 1) := dk_46 (dk_at dksL_law_10 13 rfl rfl)
theorem dL_law_401 : decode cL_law 401 = .ok (.aload_n 0, 1) := dk_42 (dk_at dksL_law_10 14 rfl rfl)
theorem dL_law_402 : decode cL_law 402 = .ok (.iload_n 3, 1) := dk_29 (dk_at dksL_law_10 15 rfl rfl)
theorem dL_law_403 : decode cL_law 403 = .ok (.iconst 3, 1) := dk_6 (dk_at dksL_law_10 16 rfl rfl)
theorem dL_law_404 : decode cL_law 404 = .ok (.iadd, 1) := dk_96 (dk_at dksL_law_10 17 rfl rfl)
theorem dL_law_405 : decode cL_law 405 = .ok (.iaload, 1) := dk_46 (dk_at dksL_law_10 18 rfl rfl)
theorem dL_law_406 : decode cL_law 406 = .ok (.invokevirtual 48, 3) := dk_182 0 48 (dk_at dksL_law_10 19 rfl rfl)
theorem dL_law_409 : decode cL_law 409 = .ok (.if_icmp .eq 920, 3) := dk_159 3 152 (dk_at dksL_law_11 0 rfl rfl)
theorem dL_law_412 : decode cL_law 412 = .ok (.iconst 0, 1) := dk_3 (dk_at dksL_law_11 3 rfl rfl)
theorem dL_law_413 : decode cL_law 413 = .ok (.ireturn, 1) := dk_172 (dk_at dksL_law_11 4 rfl rfl)
theorem dL_law_414 : decode cL_law 414 = .ok (.aload_n 1, 1) := dk_43 (dk_at dksL_law_11 5 rfl rfl)
theorem dL_law_415 : decode cL_law 415 = .ok (.aload_n 0, 1) := dk_42 (dk_at dksL_law_11 6 rfl rfl)
theorem dL_law_416 : decode cL_law 416 = .ok (.iload_n 3, 1) := dk_29 (dk_at dksL_law_11 7 rfl rfl)
theorem dL_law_417 : decode cL_law 417 = .ok (.iconst 1, 1) := dk_4 (dk_at dksL_law_11 8 rfl rfl)
theorem dL_law_418 : decode cL_law 418 = .ok (.iadd, 1) := dk_96 (dk_at dksL_law_11 9 rfl rfl)
theorem dL_law_419 : decode cL_law 419 = .ok (.iaload, 1) := dk_46 (dk_at dksL_law_11 10 rfl rfl)
theorem dL_law_420 : decode cL_law 420 = .ok (.aload_n 0, 1) := dk_42 (dk_at dksL_law_11 11 rfl rfl)
theorem dL_law_421 : decode cL_law 421 = .ok (.iload_n 3, 1) := dk_29 (dk_at dksL_law_11 12 rfl rfl)
theorem dL_law_422 : decode cL_law 422 = .ok (.iconst 2, 1) := dk_5 (dk_at dksL_law_11 13 rfl rfl)
theorem dL_law_423 : decode cL_law 423 = .ok (.iadd, 1) := dk_96 (dk_at dksL_law_11 14 rfl rfl)
theorem dL_law_424 : decode cL_law 424 = .ok (.iaload, 1) := dk_46 (dk_at dksL_law_11 15 rfl rfl)
theorem dL_law_425 : decode cL_law 425 = .ok (.invokevirtual 49, 3) := dk_182 0 49 (dk_at dksL_law_11 16 rfl rfl)
theorem dL_law_428 : decode cL_law 428 = .ok (.aload_n 2, 1) := dk_44 (dk_at dksL_law_11 19 rfl rfl)
theorem dL_law_429 : decode cL_law 429 = .ok (.aload_n 0, 1) := dk_42 (dk_at dksL_law_11 20 rfl rfl)
theorem dL_law_430 : decode cL_law 430 = .ok (.iload_n 3, 1) := dk_29 (dk_at dksL_law_11 21 rfl rfl)
theorem dL_law_431 : decode cL_law 431 = .ok (.iconst 1, 1) := dk_4 (dk_at dksL_law_11 22 rfl rfl)
theorem dL_law_432 : decode cL_law 432 = .ok (.iadd, 1) := dk_96 (dk_at dksL_law_11 23 rfl rfl)
theorem dL_law_433 : decode cL_law 433 = .ok (.iaload, 1) := dk_46 (dk_at dksL_law_12 0 rfl rfl)
theorem dL_law_434 : decode cL_law 434 = .ok (.aload_n 0, 1) := dk_42 (dk_at dksL_law_12 1 rfl rfl)
theorem dL_law_435 : decode cL_law 435 = .ok (.iload_n 3, 1) := dk_29 (dk_at dksL_law_12 2 rfl rfl)
theorem dL_law_436 : decode cL_law 436 = .ok (.iconst 2, 1) := dk_5 (dk_at dksL_law_12 3 rfl rfl)
theorem dL_law_437 : decode cL_law 437 = .ok (.iadd, 1) := dk_96 (dk_at dksL_law_12 4 rfl rfl)
theorem dL_law_438 : decode cL_law 438 = .ok (.iaload, 1) := dk_46 (dk_at dksL_law_12 5 rfl rfl)
theorem dL_law_439 : decode cL_law 439 = .ok (.invokevirtual 52, 3) := dk_182 0 52 (dk_at dksL_law_12 6 rfl rfl)
theorem dL_law_442 : decode cL_law 442 = .ok (.if_icmp .eq 887, 3) := dk_159 3 119 (dk_at dksL_law_12 9 rfl rfl)
theorem dL_law_445 : decode cL_law 445 = .ok (.iconst 0, 1) := dk_3 (dk_at dksL_law_12 12 rfl rfl)
theorem dL_law_446 : decode cL_law 446 = .ok (.ireturn, 1) := dk_172 (dk_at dksL_law_12 13 rfl rfl)
theorem dL_law_447 : decode cL_law 447 = .ok (.aload_n 1, 1) := dk_43 (dk_at dksL_law_12 14 rfl rfl)
theorem dL_law_448 : decode cL_law 448 = .ok (.aload_n 0, 1) := dk_42 (dk_at dksL_law_12 15 rfl rfl)
theorem dL_law_449 : decode cL_law 449 = .ok (.iload_n 3, 1) := dk_29 (dk_at dksL_law_12 16 rfl rfl)
theorem dL_law_450 : decode cL_law 450 = .ok (.iconst 1, 1) := dk_4 (dk_at dksL_law_12 17 rfl rfl)
theorem dL_law_451 : decode cL_law 451 = .ok (.iadd, 1) := dk_96 (dk_at dksL_law_12 18 rfl rfl)
theorem dL_law_452 : decode cL_law 452 = .ok (.iaload, 1) := dk_46 (dk_at dksL_law_12 19 rfl rfl)
theorem dL_law_453 : decode cL_law 453 = .ok (.aload_n 0, 1) := dk_42 (dk_at dksL_law_12 20 rfl rfl)
theorem dL_law_454 : decode cL_law 454 = .ok (.iload_n 3, 1) := dk_29 (dk_at dksL_law_12 21 rfl rfl)
theorem dL_law_455 : decode cL_law 455 = .ok (.iconst 2, 1) := dk_5 (dk_at dksL_law_12 22 rfl rfl)
theorem dL_law_456 : decode cL_law 456 = .ok (.iadd, 1) := dk_96 (dk_at dksL_law_12 23 rfl rfl)
theorem dL_law_457 : decode cL_law 457 = .ok (.iaload, 1) := dk_46 (dk_at dksL_law_13 0 rfl rfl)
theorem dL_law_458 : decode cL_law 458 = .ok (.invokevirtual 53, 3) := dk_182 0 53 (dk_at dksL_law_13 1 rfl rfl)
theorem dL_law_461 : decode cL_law 461 = .ok (.aload_n 2, 1) := dk_44 (dk_at dksL_law_13 4 rfl rfl)
theorem dL_law_462 : decode cL_law 462 = .ok (.aload_n 0, 1) := dk_42 (dk_at dksL_law_13 5 rfl rfl)
theorem dL_law_463 : decode cL_law 463 = .ok (.iload_n 3, 1) := dk_29 (dk_at dksL_law_13 6 rfl rfl)
theorem dL_law_464 : decode cL_law 464 = .ok (.iconst 1, 1) := dk_4 (dk_at dksL_law_13 7 rfl rfl)
theorem dL_law_465 : decode cL_law 465 = .ok (.iadd, 1) := dk_96 (dk_at dksL_law_13 8 rfl rfl)
theorem dL_law_466 : decode cL_law 466 = .ok (.iaload, 1) := dk_46 (dk_at dksL_law_13 9 rfl rfl)
theorem dL_law_467 : decode cL_law 467 = .ok (.aload_n 0, 1) := dk_42 (dk_at dksL_law_13 10 rfl rfl)
theorem dL_law_468 : decode cL_law 468 = .ok (.iload_n 3, 1) := dk_29 (dk_at dksL_law_13 11 rfl rfl)
theorem dL_law_469 : decode cL_law 469 = .ok (.iconst 2, 1) := dk_5 (dk_at dksL_law_13 12 rfl rfl)
theorem dL_law_470 : decode cL_law 470 = .ok (.iadd, 1) := dk_96 (dk_at dksL_law_13 13 rfl rfl)
theorem dL_law_471 : decode cL_law 471 = .ok (.iaload, 1) := dk_46 (dk_at dksL_law_13 14 rfl rfl)
theorem dL_law_472 : decode cL_law 472 = .ok (.invokevirtual 56, 3) := dk_182 0 56 (dk_at dksL_law_13 15 rfl rfl)
theorem dL_law_475 : decode cL_law 475 = .ok (.if_icmp .eq 854, 3) := dk_159 3 86 (dk_at dksL_law_13 18 rfl rfl)
theorem dL_law_478 : decode cL_law 478 = .ok (.iconst 0, 1) := dk_3 (dk_at dksL_law_13 21 rfl rfl)
theorem dL_law_479 : decode cL_law 479 = .ok (.ireturn, 1) := dk_172 (dk_at dksL_law_13 22 rfl rfl)
theorem dL_law_480 : decode cL_law 480 = .ok (.aload_n 1, 1) := dk_43 (dk_at dksL_law_13 23 rfl rfl)
theorem dL_law_481 : decode cL_law 481 = .ok (.aload_n 0, 1) := dk_42 (dk_at dksL_law_14 0 rfl rfl)
theorem dL_law_482 : decode cL_law 482 = .ok (.iload_n 3, 1) := dk_29 (dk_at dksL_law_14 1 rfl rfl)
theorem dL_law_483 : decode cL_law 483 = .ok (.iconst 1, 1) := dk_4 (dk_at dksL_law_14 2 rfl rfl)
theorem dL_law_484 : decode cL_law 484 = .ok (.iadd, 1) := dk_96 (dk_at dksL_law_14 3 rfl rfl)
theorem dL_law_485 : decode cL_law 485 = .ok (.iaload, 1) := dk_46 (dk_at dksL_law_14 4 rfl rfl)
theorem dL_law_486 : decode cL_law 486 = .ok (.invokevirtual 57, 3) := dk_182 0 57 (dk_at dksL_law_14 5 rfl rfl)
theorem dL_law_489 : decode cL_law 489 = .ok (.aload_n 2, 1) := dk_44 (dk_at dksL_law_14 8 rfl rfl)
theorem dL_law_490 : decode cL_law 490 = .ok (.aload_n 0, 1) := dk_42 (dk_at dksL_law_14 9 rfl rfl)
theorem dL_law_491 : decode cL_law 491 = .ok (.iload_n 3, 1) := dk_29 (dk_at dksL_law_14 10 rfl rfl)
theorem dL_law_492 : decode cL_law 492 = .ok (.iconst 1, 1) := dk_4 (dk_at dksL_law_14 11 rfl rfl)
theorem dL_law_493 : decode cL_law 493 = .ok (.iadd, 1) := dk_96 (dk_at dksL_law_14 12 rfl rfl)
theorem dL_law_494 : decode cL_law 494 = .ok (.iaload, 1) := dk_46 (dk_at dksL_law_14 13 rfl rfl)
theorem dL_law_495 : decode cL_law 495 = .ok (.invokevirtual 60, 3) := dk_182 0 60 (dk_at dksL_law_14 14 rfl rfl)
theorem dL_law_498 : decode cL_law 498 = .ok (.if_icmp .eq 831, 3) := dk_159 3 63 (dk_at dksL_law_14 17 rfl rfl)
theorem dL_law_501 : decode cL_law 501 = .ok (.iconst 0, 1) := dk_3 (dk_at dksL_law_14 20 rfl rfl)
theorem dL_law_502 : decode cL_law 502 = .ok (.ireturn, 1) := dk_172 (dk_at dksL_law_14 21 rfl rfl)
theorem dL_law_503 : decode cL_law 503 = .ok (.aload_n 1, 1) := dk_43 (dk_at dksL_law_14 22 rfl rfl)
theorem dL_law_504 : decode cL_law 504 = .ok (.aload_n 0, 1) := dk_42 (dk_at dksL_law_14 23 rfl rfl)
theorem dL_law_505 : decode cL_law 505 = .ok (.iload_n 3, 1) := dk_29 (dk_at dksL_law_15 0 rfl rfl)
theorem dL_law_506 : decode cL_law 506 = .ok (.iconst 1, 1) := dk_4 (dk_at dksL_law_15 1 rfl rfl)
theorem dL_law_507 : decode cL_law 507 = .ok (.iadd, 1) := dk_96 (dk_at dksL_law_15 2 rfl rfl)
theorem dL_law_508 : decode cL_law 508 = .ok (.iaload, 1) := dk_46 (dk_at dksL_law_15 3 rfl rfl)
theorem dL_law_509 : decode cL_law 509 = .ok (.invokevirtual 61, 3) := dk_182 0 61 (dk_at dksL_law_15 4 rfl rfl)
theorem dL_law_512 : decode cL_law 512 = .ok (.aload_n 2, 1) := dk_44 (dk_at dksL_law_15 7 rfl rfl)
theorem dL_law_513 : decode cL_law 513 = .ok (.aload_n 0, 1) := dk_42 (dk_at dksL_law_15 8 rfl rfl)
theorem dL_law_514 : decode cL_law 514 = .ok (.iload_n 3, 1) := dk_29 (dk_at dksL_law_15 9 rfl rfl)
theorem dL_law_515 : decode cL_law 515 = .ok (.iconst 1, 1) := dk_4 (dk_at dksL_law_15 10 rfl rfl)
theorem dL_law_516 : decode cL_law 516 = .ok (.iadd, 1) := dk_96 (dk_at dksL_law_15 11 rfl rfl)
theorem dL_law_517 : decode cL_law 517 = .ok (.iaload, 1) := dk_46 (dk_at dksL_law_15 12 rfl rfl)
theorem dL_law_518 : decode cL_law 518 = .ok (.invokevirtual 64, 3) := dk_182 0 64 (dk_at dksL_law_15 13 rfl rfl)
theorem dL_law_521 : decode cL_law 521 = .ok (.if_icmp .eq 808, 3) := dk_159 3 40 (dk_at dksL_law_15 16 rfl rfl)
theorem dL_law_524 : decode cL_law 524 = .ok (.iconst 0, 1) := dk_3 (dk_at dksL_law_15 19 rfl rfl)
theorem dL_law_525 : decode cL_law 525 = .ok (.ireturn, 1) := dk_172 (dk_at dksL_law_15 20 rfl rfl)
theorem dL_law_526 : decode cL_law 526 = .ok (.aload_n 1, 1) := dk_43 (dk_at dksL_law_15 21 rfl rfl)
theorem dL_law_527 : decode cL_law 527 = .ok (.aload_n 0, 1) := dk_42 (dk_at dksL_law_15 22 rfl rfl)
theorem dL_law_528 : decode cL_law 528 = .ok (.iload_n 3, 1) := dk_29 (dk_at dksL_law_15 23 rfl rfl)
theorem dL_law_529 : decode cL_law 529 = .ok (.iconst 1, 1) := dk_4 (dk_at dksL_law_16 0 rfl rfl)
theorem dL_law_530 : decode cL_law 530 = .ok (.iadd, 1) := dk_96 (dk_at dksL_law_16 1 rfl rfl)
theorem dL_law_531 : decode cL_law 531 = .ok (.iaload, 1) := dk_46 (dk_at dksL_law_16 2 rfl rfl)
theorem dL_law_532 : decode cL_law 532 = .ok (.aload_n 0, 1) := dk_42 (dk_at dksL_law_16 3 rfl rfl)
theorem dL_law_533 : decode cL_law 533 = .ok (.iload_n 3, 1) := dk_29 (dk_at dksL_law_16 4 rfl rfl)
theorem dL_law_534 : decode cL_law 534 = .ok (.iconst 2, 1) := dk_5 (dk_at dksL_law_16 5 rfl rfl)
theorem dL_law_535 : decode cL_law 535 = .ok (.iadd, 1) := dk_96 (dk_at dksL_law_16 6 rfl rfl)
theorem dL_law_536 : decode cL_law 536 = .ok (.iaload, 1) := dk_46 (dk_at dksL_law_16 7 rfl rfl)
theorem dL_law_537 : decode cL_law 537 = .ok (.invokevirtual 65, 3) := dk_182 0 65 (dk_at dksL_law_16 8 rfl rfl)
theorem dL_law_540 : decode cL_law 540 = .ok (.aload_n 2, 1) := dk_44 (dk_at dksL_law_16 11 rfl rfl)
theorem dL_law_541 : decode cL_law 541 = .ok (.aload_n 0, 1) := dk_42 (dk_at dksL_law_16 12 rfl rfl)
theorem dL_law_542 : decode cL_law 542 = .ok (.iload_n 3, 1) := dk_29 (dk_at dksL_law_16 13 rfl rfl)
theorem dL_law_543 : decode cL_law 543 = .ok (.iconst 1, 1) := dk_4 (dk_at dksL_law_16 14 rfl rfl)
theorem dL_law_544 : decode cL_law 544 = .ok (.iadd, 1) := dk_96 (dk_at dksL_law_16 15 rfl rfl)
theorem dL_law_545 : decode cL_law 545 = .ok (.iaload, 1) := dk_46 (dk_at dksL_law_16 16 rfl rfl)
theorem dL_law_546 : decode cL_law 546 = .ok (.aload_n 0, 1) := dk_42 (dk_at dksL_law_16 17 rfl rfl)
theorem dL_law_547 : decode cL_law 547 = .ok (.iload_n 3, 1) := dk_29 (dk_at dksL_law_16 18 rfl rfl)
theorem dL_law_548 : decode cL_law 548 = .ok (.iconst 2, 1) := dk_5 (dk_at dksL_law_16 19 rfl rfl)
theorem dL_law_549 : decode cL_law 549 = .ok (.iadd, 1) := dk_96 (dk_at dksL_law_16 20 rfl rfl)
theorem dL_law_550 : decode cL_law 550 = .ok (.iaload, 1) := dk_46 (dk_at dksL_law_16 21 rfl rfl)
theorem dL_law_551 : decode cL_law 551 = .ok (.invokevirtual 68, 3) := dk_182 0 68 (dk_at dksL_law_17 0 rfl rfl)
theorem dL_law_554 : decode cL_law 554 = .ok (.if_icmp .eq 775, 3) := dk_159 3 7 (dk_at dksL_law_17 3 rfl rfl)
theorem dL_law_557 : decode cL_law 557 = .ok (.iconst 0, 1) := dk_3 (dk_at dksL_law_17 6 rfl rfl)
theorem dL_law_558 : decode cL_law 558 = .ok (.ireturn, 1) := dk_172 (dk_at dksL_law_17 7 rfl rfl)
theorem dL_law_559 : decode cL_law 559 = .ok (.aload_n 1, 1) := dk_43 (dk_at dksL_law_17 8 rfl rfl)
theorem dL_law_560 : decode cL_law 560 = .ok (.aload_n 0, 1) := dk_42 (dk_at dksL_law_17 9 rfl rfl)
theorem dL_law_561 : decode cL_law 561 = .ok (.iload_n 3, 1) := dk_29 (dk_at dksL_law_17 10 rfl rfl)
theorem dL_law_562 : decode cL_law 562 = .ok (.iconst 1, 1) := dk_4 (dk_at dksL_law_17 11 rfl rfl)
theorem dL_law_563 : decode cL_law 563 = .ok (.iadd, 1) := dk_96 (dk_at dksL_law_17 12 rfl rfl)
theorem dL_law_564 : decode cL_law 564 = .ok (.iaload, 1) := dk_46 (dk_at dksL_law_17 13 rfl rfl)
theorem dL_law_565 : decode cL_law 565 = .ok (.aload_n 0, 1) := dk_42 (dk_at dksL_law_17 14 rfl rfl)
theorem dL_law_566 : decode cL_law 566 = .ok (.iload_n 3, 1) := dk_29 (dk_at dksL_law_17 15 rfl rfl)
theorem dL_law_567 : decode cL_law 567 = .ok (.iconst 2, 1) := dk_5 (dk_at dksL_law_17 16 rfl rfl)
theorem dL_law_568 : decode cL_law 568 = .ok (.iadd, 1) := dk_96 (dk_at dksL_law_17 17 rfl rfl)
theorem dL_law_569 : decode cL_law 569 = .ok (.iaload, 1) := dk_46 (dk_at dksL_law_17 18 rfl rfl)
theorem dL_law_570 : decode cL_law 570 = .ok (.invokevirtual 69, 3) := dk_182 0 69 (dk_at dksL_law_17 19 rfl rfl)
theorem dL_law_573 : decode cL_law 573 = .ok (.aload_n 2, 1) := dk_44 (dk_at dksL_law_17 22 rfl rfl)
theorem dL_law_574 : decode cL_law 574 = .ok (.aload_n 0, 1) := dk_42 (dk_at dksL_law_17 23 rfl rfl)
theorem dL_law_575 : decode cL_law 575 = .ok (.iload_n 3, 1) := dk_29 (dk_at dksL_law_18 0 rfl rfl)
theorem dL_law_576 : decode cL_law 576 = .ok (.iconst 1, 1) := dk_4 (dk_at dksL_law_18 1 rfl rfl)
theorem dL_law_577 : decode cL_law 577 = .ok (.iadd, 1) := dk_96 (dk_at dksL_law_18 2 rfl rfl)
theorem dL_law_578 : decode cL_law 578 = .ok (.iaload, 1) := dk_46 (dk_at dksL_law_18 3 rfl rfl)
theorem dL_law_579 : decode cL_law 579 = .ok (.aload_n 0, 1) := dk_42 (dk_at dksL_law_18 4 rfl rfl)
theorem dL_law_580 : decode cL_law 580 = .ok (.iload_n 3, 1) := dk_29 (dk_at dksL_law_18 5 rfl rfl)
theorem dL_law_581 : decode cL_law 581 = .ok (.iconst 2, 1) := dk_5 (dk_at dksL_law_18 6 rfl rfl)
theorem dL_law_582 : decode cL_law 582 = .ok (.iadd, 1) := dk_96 (dk_at dksL_law_18 7 rfl rfl)
theorem dL_law_583 : decode cL_law 583 = .ok (.iaload, 1) := dk_46 (dk_at dksL_law_18 8 rfl rfl)
theorem dL_law_584 : decode cL_law 584 = .ok (.invokevirtual 72, 3) := dk_182 0 72 (dk_at dksL_law_18 9 rfl rfl)
theorem dL_law_587 : decode cL_law 587 = .ok (.if_icmp .eq 742, 3) := dk_159 2 230 (dk_at dksL_law_18 12 rfl rfl)
theorem dL_law_590 : decode cL_law 590 = .ok (.iconst 0, 1) := dk_3 (dk_at dksL_law_18 15 rfl rfl)
theorem dL_law_591 : decode cL_law 591 = .ok (.ireturn, 1) := dk_172 (dk_at dksL_law_18 16 rfl rfl)
theorem dL_law_592 : decode cL_law 592 = .ok (.aload_n 1, 1) := dk_43 (dk_at dksL_law_18 17 rfl rfl)
theorem dL_law_593 : decode cL_law 593 = .ok (.aload_n 0, 1) := dk_42 (dk_at dksL_law_18 18 rfl rfl)
theorem dL_law_594 : decode cL_law 594 = .ok (.iload_n 3, 1) := dk_29 (dk_at dksL_law_18 19 rfl rfl)
theorem dL_law_595 : decode cL_law 595 = .ok (.iconst 1, 1) := dk_4 (dk_at dksL_law_18 20 rfl rfl)
theorem dL_law_596 : decode cL_law 596 = .ok (.iadd, 1) := dk_96 (dk_at dksL_law_18 21 rfl rfl)
theorem dL_law_597 : decode cL_law 597 = .ok (.iaload, 1) := dk_46 (dk_at dksL_law_18 22 rfl rfl)
theorem dL_law_598 : decode cL_law 598 = .ok (.aload_n 0, 1) := dk_42 (dk_at dksL_law_18 23 rfl rfl)
theorem dL_law_599 : decode cL_law 599 = .ok (.iload_n 3, 1) := dk_29 (dk_at dksL_law_19 0 rfl rfl)
theorem dL_law_600 : decode cL_law 600 = .ok (.iconst 2, 1) := dk_5 (dk_at dksL_law_19 1 rfl rfl)
theorem dL_law_601 : decode cL_law 601 = .ok (.iadd, 1) := dk_96 (dk_at dksL_law_19 2 rfl rfl)
theorem dL_law_602 : decode cL_law 602 = .ok (.iaload, 1) := dk_46 (dk_at dksL_law_19 3 rfl rfl)
theorem dL_law_603 : decode cL_law 603 = .ok (.invokevirtual 73, 3) := dk_182 0 73 (dk_at dksL_law_19 4 rfl rfl)
theorem dL_law_606 : decode cL_law 606 = .ok (.aload_n 2, 1) := dk_44 (dk_at dksL_law_19 7 rfl rfl)
theorem dL_law_607 : decode cL_law 607 = .ok (.aload_n 0, 1) := dk_42 (dk_at dksL_law_19 8 rfl rfl)
theorem dL_law_608 : decode cL_law 608 = .ok (.iload_n 3, 1) := dk_29 (dk_at dksL_law_19 9 rfl rfl)
theorem dL_law_609 : decode cL_law 609 = .ok (.iconst 1, 1) := dk_4 (dk_at dksL_law_19 10 rfl rfl)
theorem dL_law_610 : decode cL_law 610 = .ok (.iadd, 1) := dk_96 (dk_at dksL_law_19 11 rfl rfl)
theorem dL_law_611 : decode cL_law 611 = .ok (.iaload, 1) := dk_46 (dk_at dksL_law_19 12 rfl rfl)
theorem dL_law_612 : decode cL_law 612 = .ok (.aload_n 0, 1) := dk_42 (dk_at dksL_law_19 13 rfl rfl)
theorem dL_law_613 : decode cL_law 613 = .ok (.iload_n 3, 1) := dk_29 (dk_at dksL_law_19 14 rfl rfl)
theorem dL_law_614 : decode cL_law 614 = .ok (.iconst 2, 1) := dk_5 (dk_at dksL_law_19 15 rfl rfl)
theorem dL_law_615 : decode cL_law 615 = .ok (.iadd, 1) := dk_96 (dk_at dksL_law_19 16 rfl rfl)
theorem dL_law_616 : decode cL_law 616 = .ok (.iaload, 1) := dk_46 (dk_at dksL_law_19 17 rfl rfl)
theorem dL_law_617 : decode cL_law 617 = .ok (.invokevirtual 76, 3) := dk_182 0 76 (dk_at dksL_law_19 18 rfl rfl)
theorem dL_law_620 : decode cL_law 620 = .ok (.if_icmp .eq 709, 3) := dk_159 2 197 (dk_at dksL_law_19 21 rfl rfl)
theorem dL_law_623 : decode cL_law 623 = .ok (.iconst 0, 1) := dk_3 (dk_at dksL_law_20 0 rfl rfl)
theorem dL_law_624 : decode cL_law 624 = .ok (.ireturn, 1) := dk_172 (dk_at dksL_law_20 1 rfl rfl)
theorem dL_law_625 : decode cL_law 625 = .ok (.aload_n 1, 1) := dk_43 (dk_at dksL_law_20 2 rfl rfl)
theorem dL_law_626 : decode cL_law 626 = .ok (.aload_n 0, 1) := dk_42 (dk_at dksL_law_20 3 rfl rfl)
theorem dL_law_627 : decode cL_law 627 = .ok (.iload_n 3, 1) := dk_29 (dk_at dksL_law_20 4 rfl rfl)
theorem dL_law_628 : decode cL_law 628 = .ok (.iconst 1, 1) := dk_4 (dk_at dksL_law_20 5 rfl rfl)
theorem dL_law_629 : decode cL_law 629 = .ok (.iadd, 1) := dk_96 (dk_at dksL_law_20 6 rfl rfl)
theorem dL_law_630 : decode cL_law 630 = .ok (.iaload, 1) := dk_46 (dk_at dksL_law_20 7 rfl rfl)
theorem dL_law_631 : decode cL_law 631 = .ok (.aload_n 0, 1) := dk_42 (dk_at dksL_law_20 8 rfl rfl)
theorem dL_law_632 : decode cL_law 632 = .ok (.iload_n 3, 1) := dk_29 (dk_at dksL_law_20 9 rfl rfl)
theorem dL_law_633 : decode cL_law 633 = .ok (.iconst 2, 1) := dk_5 (dk_at dksL_law_20 10 rfl rfl)
theorem dL_law_634 : decode cL_law 634 = .ok (.iadd, 1) := dk_96 (dk_at dksL_law_20 11 rfl rfl)
theorem dL_law_635 : decode cL_law 635 = .ok (.iaload, 1) := dk_46 (dk_at dksL_law_20 12 rfl rfl)
theorem dL_law_636 : decode cL_law 636 = .ok (.invokevirtual 77, 3) := dk_182 0 77 (dk_at dksL_law_20 13 rfl rfl)
theorem dL_law_639 : decode cL_law 639 = .ok (.aload_n 2, 1) := dk_44 (dk_at dksL_law_20 16 rfl rfl)
theorem dL_law_640 : decode cL_law 640 = .ok (.aload_n 0, 1) := dk_42 (dk_at dksL_law_20 17 rfl rfl)
theorem dL_law_641 : decode cL_law 641 = .ok (.iload_n 3, 1) := dk_29 (dk_at dksL_law_20 18 rfl rfl)
theorem dL_law_642 : decode cL_law 642 = .ok (.iconst 1, 1) := dk_4 (dk_at dksL_law_20 19 rfl rfl)
theorem dL_law_643 : decode cL_law 643 = .ok (.iadd, 1) := dk_96 (dk_at dksL_law_20 20 rfl rfl)
theorem dL_law_644 : decode cL_law 644 = .ok (.iaload, 1) := dk_46 (dk_at dksL_law_20 21 rfl rfl)
theorem dL_law_645 : decode cL_law 645 = .ok (.aload_n 0, 1) := dk_42 (dk_at dksL_law_20 22 rfl rfl)
theorem dL_law_646 : decode cL_law 646 = .ok (.iload_n 3, 1) := dk_29 (dk_at dksL_law_20 23 rfl rfl)
theorem dL_law_647 : decode cL_law 647 = .ok (.iconst 2, 1) := dk_5 (dk_at dksL_law_21 0 rfl rfl)
theorem dL_law_648 : decode cL_law 648 = .ok (.iadd, 1) := dk_96 (dk_at dksL_law_21 1 rfl rfl)
theorem dL_law_649 : decode cL_law 649 = .ok (.iaload, 1) := dk_46 (dk_at dksL_law_21 2 rfl rfl)
theorem dL_law_650 : decode cL_law 650 = .ok (.invokevirtual 80, 3) := dk_182 0 80 (dk_at dksL_law_21 3 rfl rfl)
theorem dL_law_653 : decode cL_law 653 = .ok (.if_icmp .eq 676, 3) := dk_159 2 164 (dk_at dksL_law_21 6 rfl rfl)
theorem dL_law_656 : decode cL_law 656 = .ok (.iconst 0, 1) := dk_3 (dk_at dksL_law_21 9 rfl rfl)
theorem dL_law_657 : decode cL_law 657 = .ok (.ireturn, 1) := dk_172 (dk_at dksL_law_21 10 rfl rfl)
theorem dL_law_658 : decode cL_law 658 = .ok (.aload_n 1, 1) := dk_43 (dk_at dksL_law_21 11 rfl rfl)
theorem dL_law_659 : decode cL_law 659 = .ok (.invokevirtual 81, 3) := dk_182 0 81 (dk_at dksL_law_21 12 rfl rfl)
theorem dL_law_662 : decode cL_law 662 = .ok (.aload_n 2, 1) := dk_44 (dk_at dksL_law_21 15 rfl rfl)
theorem dL_law_663 : decode cL_law 663 = .ok (.invokevirtual 84, 3) := dk_182 0 84 (dk_at dksL_law_21 16 rfl rfl)
theorem dL_law_666 : decode cL_law 666 = .ok (.if_icmp .eq 663, 3) := dk_159 2 151 (dk_at dksL_law_21 19 rfl rfl)
theorem dL_law_669 : decode cL_law 669 = .ok (.iconst 0, 1) := dk_3 (dk_at dksL_law_21 22 rfl rfl)
theorem dL_law_670 : decode cL_law 670 = .ok (.ireturn, 1) := dk_172 (dk_at dksL_law_21 23 rfl rfl)
theorem dL_law_671 : decode cL_law 671 = .ok (.aload_n 1, 1) := dk_43 (dk_at dksL_law_22 0 rfl rfl)
theorem dL_law_672 : decode cL_law 672 = .ok (.invokevirtual 85, 3) := dk_182 0 85 (dk_at dksL_law_22 1 rfl rfl)
theorem dL_law_675 : decode cL_law 675 = .ok (.aload_n 2, 1) := dk_44 (dk_at dksL_law_22 4 rfl rfl)
theorem dL_law_676 : decode cL_law 676 = .ok (.invokevirtual 88, 3) := dk_182 0 88 (dk_at dksL_law_22 5 rfl rfl)
theorem dL_law_679 : decode cL_law 679 = .ok (.if_icmp .eq 650, 3) := dk_159 2 138 (dk_at dksL_law_22 8 rfl rfl)
theorem dL_law_682 : decode cL_law 682 = .ok (.iconst 0, 1) := dk_3 (dk_at dksL_law_22 11 rfl rfl)
theorem dL_law_683 : decode cL_law 683 = .ok (.ireturn, 1) := dk_172 (dk_at dksL_law_22 12 rfl rfl)
theorem dL_law_684 : decode cL_law 684 = .ok (.aload_n 1, 1) := dk_43 (dk_at dksL_law_22 13 rfl rfl)
theorem dL_law_685 : decode cL_law 685 = .ok (.invokevirtual 89, 3) := dk_182 0 89 (dk_at dksL_law_22 14 rfl rfl)
theorem dL_law_688 : decode cL_law 688 = .ok (.aload_n 2, 1) := dk_44 (dk_at dksL_law_22 17 rfl rfl)
theorem dL_law_689 : decode cL_law 689 = .ok (.invokevirtual 92, 3) := dk_182 0 92 (dk_at dksL_law_22 18 rfl rfl)
theorem dL_law_692 : decode cL_law 692 = .ok (.if_icmp .eq 637, 3) := dk_159 2 125 (dk_at dksL_law_22 21 rfl rfl)
theorem dL_law_695 : decode cL_law 695 = .ok (.iconst 0, 1) := dk_3 (dk_at dksL_law_23 0 rfl rfl)
theorem dL_law_696 : decode cL_law 696 = .ok (.ireturn, 1) := dk_172 (dk_at dksL_law_23 1 rfl rfl)
theorem dL_law_697 : decode cL_law 697 = .ok (.aload_n 1, 1) := dk_43 (dk_at dksL_law_23 2 rfl rfl)
theorem dL_law_698 : decode cL_law 698 = .ok (.aload_n 0, 1) := dk_42 (dk_at dksL_law_23 3 rfl rfl)
theorem dL_law_699 : decode cL_law 699 = .ok (.iload_n 3, 1) := dk_29 (dk_at dksL_law_23 4 rfl rfl)
theorem dL_law_700 : decode cL_law 700 = .ok (.iconst 1, 1) := dk_4 (dk_at dksL_law_23 5 rfl rfl)
theorem dL_law_701 : decode cL_law 701 = .ok (.iadd, 1) := dk_96 (dk_at dksL_law_23 6 rfl rfl)
theorem dL_law_702 : decode cL_law 702 = .ok (.iaload, 1) := dk_46 (dk_at dksL_law_23 7 rfl rfl)
theorem dL_law_703 : decode cL_law 703 = .ok (.aload_n 0, 1) := dk_42 (dk_at dksL_law_23 8 rfl rfl)
theorem dL_law_704 : decode cL_law 704 = .ok (.iload_n 3, 1) := dk_29 (dk_at dksL_law_23 9 rfl rfl)
theorem dL_law_705 : decode cL_law 705 = .ok (.iconst 2, 1) := dk_5 (dk_at dksL_law_23 10 rfl rfl)
theorem dL_law_706 : decode cL_law 706 = .ok (.iadd, 1) := dk_96 (dk_at dksL_law_23 11 rfl rfl)
theorem dL_law_707 : decode cL_law 707 = .ok (.iaload, 1) := dk_46 (dk_at dksL_law_23 12 rfl rfl)
theorem dL_law_708 : decode cL_law 708 = .ok (.invokevirtual 93, 3) := dk_182 0 93 (dk_at dksL_law_23 13 rfl rfl)
theorem dL_law_711 : decode cL_law 711 = .ok (.aload_n 2, 1) := dk_44 (dk_at dksL_law_23 16 rfl rfl)
theorem dL_law_712 : decode cL_law 712 = .ok (.aload_n 0, 1) := dk_42 (dk_at dksL_law_23 17 rfl rfl)
theorem dL_law_713 : decode cL_law 713 = .ok (.iload_n 3, 1) := dk_29 (dk_at dksL_law_23 18 rfl rfl)
theorem dL_law_714 : decode cL_law 714 = .ok (.iconst 1, 1) := dk_4 (dk_at dksL_law_23 19 rfl rfl)
theorem dL_law_715 : decode cL_law 715 = .ok (.iadd, 1) := dk_96 (dk_at dksL_law_23 20 rfl rfl)
theorem dL_law_716 : decode cL_law 716 = .ok (.iaload, 1) := dk_46 (dk_at dksL_law_23 21 rfl rfl)
theorem dL_law_717 : decode cL_law 717 = .ok (.aload_n 0, 1) := dk_42 (dk_at dksL_law_23 22 rfl rfl)
theorem dL_law_718 : decode cL_law 718 = .ok (.iload_n 3, 1) := dk_29 (dk_at dksL_law_23 23 rfl rfl)
theorem dL_law_719 : decode cL_law 719 = .ok (.iconst 2, 1) := dk_5 (dk_at dksL_law_24 0 rfl rfl)
theorem dL_law_720 : decode cL_law 720 = .ok (.iadd, 1) := dk_96 (dk_at dksL_law_24 1 rfl rfl)
theorem dL_law_721 : decode cL_law 721 = .ok (.iaload, 1) := dk_46 (dk_at dksL_law_24 2 rfl rfl)
theorem dL_law_722 : decode cL_law 722 = .ok (.invokevirtual 96, 3) := dk_182 0 96 (dk_at dksL_law_24 3 rfl rfl)
theorem dL_law_725 : decode cL_law 725 = .ok (.if_icmp .eq 604, 3) := dk_159 2 92 (dk_at dksL_law_24 6 rfl rfl)
theorem dL_law_728 : decode cL_law 728 = .ok (.iconst 0, 1) := dk_3 (dk_at dksL_law_24 9 rfl rfl)
theorem dL_law_729 : decode cL_law 729 = .ok (.ireturn, 1) := dk_172 (dk_at dksL_law_24 10 rfl rfl)
theorem dL_law_730 : decode cL_law 730 = .ok (.aload_n 1, 1) := dk_43 (dk_at dksL_law_24 11 rfl rfl)
theorem dL_law_731 : decode cL_law 731 = .ok (.aload_n 0, 1) := dk_42 (dk_at dksL_law_24 12 rfl rfl)
theorem dL_law_732 : decode cL_law 732 = .ok (.iload_n 3, 1) := dk_29 (dk_at dksL_law_24 13 rfl rfl)
theorem dL_law_733 : decode cL_law 733 = .ok (.iconst 1, 1) := dk_4 (dk_at dksL_law_24 14 rfl rfl)
theorem dL_law_734 : decode cL_law 734 = .ok (.iadd, 1) := dk_96 (dk_at dksL_law_24 15 rfl rfl)
theorem dL_law_735 : decode cL_law 735 = .ok (.iaload, 1) := dk_46 (dk_at dksL_law_24 16 rfl rfl)
theorem dL_law_736 : decode cL_law 736 = .ok (.aload_n 0, 1) := dk_42 (dk_at dksL_law_24 17 rfl rfl)
theorem dL_law_737 : decode cL_law 737 = .ok (.iload_n 3, 1) := dk_29 (dk_at dksL_law_24 18 rfl rfl)
theorem dL_law_738 : decode cL_law 738 = .ok (.iconst 2, 1) := dk_5 (dk_at dksL_law_24 19 rfl rfl)
theorem dL_law_739 : decode cL_law 739 = .ok (.iadd, 1) := dk_96 (dk_at dksL_law_24 20 rfl rfl)
theorem dL_law_740 : decode cL_law 740 = .ok (.iaload, 1) := dk_46 (dk_at dksL_law_24 21 rfl rfl)
theorem dL_law_741 : decode cL_law 741 = .ok (.aload_n 0, 1) := dk_42 (dk_at dksL_law_24 22 rfl rfl)
theorem dL_law_742 : decode cL_law 742 = .ok (.iload_n 3, 1) := dk_29 (dk_at dksL_law_24 23 rfl rfl)
theorem dL_law_743 : decode cL_law 743 = .ok (.iconst 3, 1) := dk_6 (dk_at dksL_law_25 0 rfl rfl)
theorem dL_law_744 : decode cL_law 744 = .ok (.iadd, 1) := dk_96 (dk_at dksL_law_25 1 rfl rfl)
theorem dL_law_745 : decode cL_law 745 = .ok (.iaload, 1) := dk_46 (dk_at dksL_law_25 2 rfl rfl)
theorem dL_law_746 : decode cL_law 746 = .ok (.invokevirtual 97, 3) := dk_182 0 97 (dk_at dksL_law_25 3 rfl rfl)
theorem dL_law_749 : decode cL_law 749 = .ok (.aload_n 2, 1) := dk_44 (dk_at dksL_law_25 6 rfl rfl)
theorem dL_law_750 : decode cL_law 750 = .ok (.aload_n 0, 1) := dk_42 (dk_at dksL_law_25 7 rfl rfl)
theorem dL_law_751 : decode cL_law 751 = .ok (.iload_n 3, 1) := dk_29 (dk_at dksL_law_25 8 rfl rfl)
theorem dL_law_752 : decode cL_law 752 = .ok (.iconst 1, 1) := dk_4 (dk_at dksL_law_25 9 rfl rfl)
theorem dL_law_753 : decode cL_law 753 = .ok (.iadd, 1) := dk_96 (dk_at dksL_law_25 10 rfl rfl)
theorem dL_law_754 : decode cL_law 754 = .ok (.iaload, 1) := dk_46 (dk_at dksL_law_25 11 rfl rfl)
theorem dL_law_755 : decode cL_law 755 = .ok (.aload_n 0, 1) := dk_42 (dk_at dksL_law_25 12 rfl rfl)
theorem dL_law_756 : decode cL_law 756 = .ok (.iload_n 3, 1) := dk_29 (dk_at dksL_law_25 13 rfl rfl)
theorem dL_law_757 : decode cL_law 757 = .ok (.iconst 2, 1) := dk_5 (dk_at dksL_law_25 14 rfl rfl)
theorem dL_law_758 : decode cL_law 758 = .ok (.iadd, 1) := dk_96 (dk_at dksL_law_25 15 rfl rfl)
theorem dL_law_759 : decode cL_law 759 = .ok (.iaload, 1) := dk_46 (dk_at dksL_law_25 16 rfl rfl)
theorem dL_law_760 : decode cL_law 760 = .ok (.aload_n 0, 1) := dk_42 (dk_at dksL_law_25 17 rfl rfl)
theorem dL_law_761 : decode cL_law 761 = .ok (.iload_n 3, 1) := dk_29 (dk_at dksL_law_25 18 rfl rfl)
theorem dL_law_762 : decode cL_law 762 = .ok (.iconst 3, 1) := dk_6 (dk_at dksL_law_25 19 rfl rfl)
theorem dL_law_763 : decode cL_law 763 = .ok (.iadd, 1) := dk_96 (dk_at dksL_law_25 20 rfl rfl)
theorem dL_law_764 : decode cL_law 764 = .ok (.iaload, 1) := dk_46 (dk_at dksL_law_25 21 rfl rfl)
theorem dL_law_765 : decode cL_law 765 = .ok (.invokevirtual 100, 3) := dk_182 0 100 (dk_at dksL_law_26 0 rfl rfl)
theorem dL_law_768 : decode cL_law 768 = .ok (.if_icmp .eq 561, 3) := dk_159 2 49 (dk_at dksL_law_26 3 rfl rfl)
theorem dL_law_771 : decode cL_law 771 = .ok (.iconst 0, 1) := dk_3 (dk_at dksL_law_26 6 rfl rfl)
theorem dL_law_772 : decode cL_law 772 = .ok (.ireturn, 1) := dk_172 (dk_at dksL_law_26 7 rfl rfl)
theorem dL_law_773 : decode cL_law 773 = .ok (.aload_n 1, 1) := dk_43 (dk_at dksL_law_26 8 rfl rfl)
theorem dL_law_774 : decode cL_law 774 = .ok (.aload_n 0, 1) := dk_42 (dk_at dksL_law_26 9 rfl rfl)
theorem dL_law_775 : decode cL_law 775 = .ok (.iload_n 3, 1) := dk_29 (dk_at dksL_law_26 10 rfl rfl)
theorem dL_law_776 : decode cL_law 776 = .ok (.iconst 1, 1) := dk_4 (dk_at dksL_law_26 11 rfl rfl)
theorem dL_law_777 : decode cL_law 777 = .ok (.iadd, 1) := dk_96 (dk_at dksL_law_26 12 rfl rfl)
theorem dL_law_778 : decode cL_law 778 = .ok (.iaload, 1) := dk_46 (dk_at dksL_law_26 13 rfl rfl)
theorem dL_law_779 : decode cL_law 779 = .ok (.invokevirtual 101, 3) := dk_182 0 101 (dk_at dksL_law_26 14 rfl rfl)
theorem dL_law_782 : decode cL_law 782 = .ok (.aload_n 2, 1) := dk_44 (dk_at dksL_law_26 17 rfl rfl)
theorem dL_law_783 : decode cL_law 783 = .ok (.aload_n 0, 1) := dk_42 (dk_at dksL_law_26 18 rfl rfl)
theorem dL_law_784 : decode cL_law 784 = .ok (.iload_n 3, 1) := dk_29 (dk_at dksL_law_26 19 rfl rfl)
theorem dL_law_785 : decode cL_law 785 = .ok (.iconst 1, 1) := dk_4 (dk_at dksL_law_26 20 rfl rfl)
theorem dL_law_786 : decode cL_law 786 = .ok (.iadd, 1) := dk_96 (dk_at dksL_law_26 21 rfl rfl)
theorem dL_law_787 : decode cL_law 787 = .ok (.iaload, 1) := dk_46 (dk_at dksL_law_26 22 rfl rfl)
theorem dL_law_788 : decode cL_law 788 = .ok (.invokevirtual 104, 3) := dk_182 0 104 (dk_at dksL_law_27 0 rfl rfl)
theorem dL_law_791 : decode cL_law 791 = .ok (.if_icmp .eq 538, 3) := dk_159 2 26 (dk_at dksL_law_27 3 rfl rfl)
theorem dL_law_794 : decode cL_law 794 = .ok (.iconst 0, 1) := dk_3 (dk_at dksL_law_27 6 rfl rfl)
theorem dL_law_795 : decode cL_law 795 = .ok (.ireturn, 1) := dk_172 (dk_at dksL_law_27 7 rfl rfl)
theorem dL_law_796 : decode cL_law 796 = .ok (.aload_n 1, 1) := dk_43 (dk_at dksL_law_27 8 rfl rfl)
theorem dL_law_797 : decode cL_law 797 = .ok (.aload_n 0, 1) := dk_42 (dk_at dksL_law_27 9 rfl rfl)
theorem dL_law_798 : decode cL_law 798 = .ok (.iload_n 3, 1) := dk_29 (dk_at dksL_law_27 10 rfl rfl)
theorem dL_law_799 : decode cL_law 799 = .ok (.iconst 1, 1) := dk_4 (dk_at dksL_law_27 11 rfl rfl)
theorem dL_law_800 : decode cL_law 800 = .ok (.iadd, 1) := dk_96 (dk_at dksL_law_27 12 rfl rfl)
theorem dL_law_801 : decode cL_law 801 = .ok (.iaload, 1) := dk_46 (dk_at dksL_law_27 13 rfl rfl)
theorem dL_law_802 : decode cL_law 802 = .ok (.aload_n 0, 1) := dk_42 (dk_at dksL_law_27 14 rfl rfl)
theorem dL_law_803 : decode cL_law 803 = .ok (.iload_n 3, 1) := dk_29 (dk_at dksL_law_27 15 rfl rfl)
theorem dL_law_804 : decode cL_law 804 = .ok (.iconst 2, 1) := dk_5 (dk_at dksL_law_27 16 rfl rfl)
theorem dL_law_805 : decode cL_law 805 = .ok (.iadd, 1) := dk_96 (dk_at dksL_law_27 17 rfl rfl)
theorem dL_law_806 : decode cL_law 806 = .ok (.iaload, 1) := dk_46 (dk_at dksL_law_27 18 rfl rfl)
theorem dL_law_807 : decode cL_law 807 = .ok (.invokevirtual 105, 3) := dk_182 0 105 (dk_at dksL_law_27 19 rfl rfl)
theorem dL_law_810 : decode cL_law 810 = .ok (.aload_n 2, 1) := dk_44 (dk_at dksL_law_27 22 rfl rfl)
theorem dL_law_811 : decode cL_law 811 = .ok (.aload_n 0, 1) := dk_42 (dk_at dksL_law_27 23 rfl rfl)
theorem dL_law_812 : decode cL_law 812 = .ok (.iload_n 3, 1) := dk_29 (dk_at dksL_law_28 0 rfl rfl)
theorem dL_law_813 : decode cL_law 813 = .ok (.iconst 1, 1) := dk_4 (dk_at dksL_law_28 1 rfl rfl)
theorem dL_law_814 : decode cL_law 814 = .ok (.iadd, 1) := dk_96 (dk_at dksL_law_28 2 rfl rfl)
theorem dL_law_815 : decode cL_law 815 = .ok (.iaload, 1) := dk_46 (dk_at dksL_law_28 3 rfl rfl)
theorem dL_law_816 : decode cL_law 816 = .ok (.aload_n 0, 1) := dk_42 (dk_at dksL_law_28 4 rfl rfl)
theorem dL_law_817 : decode cL_law 817 = .ok (.iload_n 3, 1) := dk_29 (dk_at dksL_law_28 5 rfl rfl)
theorem dL_law_818 : decode cL_law 818 = .ok (.iconst 2, 1) := dk_5 (dk_at dksL_law_28 6 rfl rfl)
theorem dL_law_819 : decode cL_law 819 = .ok (.iadd, 1) := dk_96 (dk_at dksL_law_28 7 rfl rfl)
theorem dL_law_820 : decode cL_law 820 = .ok (.iaload, 1) := dk_46 (dk_at dksL_law_28 8 rfl rfl)
theorem dL_law_821 : decode cL_law 821 = .ok (.invokevirtual 108, 3) := dk_182 0 108 (dk_at dksL_law_28 9 rfl rfl)
theorem dL_law_824 : decode cL_law 824 = .ok (.if_icmp .eq 505, 3) := dk_159 1 249 (dk_at dksL_law_28 12 rfl rfl)
theorem dL_law_827 : decode cL_law 827 = .ok (.iconst 0, 1) := dk_3 (dk_at dksL_law_28 15 rfl rfl)
theorem dL_law_828 : decode cL_law 828 = .ok (.ireturn, 1) := dk_172 (dk_at dksL_law_28 16 rfl rfl)
theorem dL_law_829 : decode cL_law 829 = .ok (.aload_n 1, 1) := dk_43 (dk_at dksL_law_28 17 rfl rfl)
theorem dL_law_830 : decode cL_law 830 = .ok (.aload_n 0, 1) := dk_42 (dk_at dksL_law_28 18 rfl rfl)
theorem dL_law_831 : decode cL_law 831 = .ok (.iload_n 3, 1) := dk_29 (dk_at dksL_law_28 19 rfl rfl)
theorem dL_law_832 : decode cL_law 832 = .ok (.iconst 1, 1) := dk_4 (dk_at dksL_law_28 20 rfl rfl)
theorem dL_law_833 : decode cL_law 833 = .ok (.iadd, 1) := dk_96 (dk_at dksL_law_28 21 rfl rfl)
theorem dL_law_834 : decode cL_law 834 = .ok (.iaload, 1) := dk_46 (dk_at dksL_law_28 22 rfl rfl)
theorem dL_law_835 : decode cL_law 835 = .ok (.invokevirtual 109, 3) := dk_182 0 109 (dk_at dksL_law_29 0 rfl rfl)
theorem dL_law_838 : decode cL_law 838 = .ok (.aload_n 2, 1) := dk_44 (dk_at dksL_law_29 3 rfl rfl)
theorem dL_law_839 : decode cL_law 839 = .ok (.aload_n 0, 1) := dk_42 (dk_at dksL_law_29 4 rfl rfl)
theorem dL_law_840 : decode cL_law 840 = .ok (.iload_n 3, 1) := dk_29 (dk_at dksL_law_29 5 rfl rfl)
theorem dL_law_841 : decode cL_law 841 = .ok (.iconst 1, 1) := dk_4 (dk_at dksL_law_29 6 rfl rfl)
theorem dL_law_842 : decode cL_law 842 = .ok (.iadd, 1) := dk_96 (dk_at dksL_law_29 7 rfl rfl)
theorem dL_law_843 : decode cL_law 843 = .ok (.iaload, 1) := dk_46 (dk_at dksL_law_29 8 rfl rfl)
theorem dL_law_844 : decode cL_law 844 = .ok (.invokevirtual 112, 3) := dk_182 0 112 (dk_at dksL_law_29 9 rfl rfl)
theorem dL_law_847 : decode cL_law 847 = .ok (.if_icmp .eq 482, 3) := dk_159 1 226 (dk_at dksL_law_29 12 rfl rfl)
theorem dL_law_850 : decode cL_law 850 = .ok (.iconst 0, 1) := dk_3 (dk_at dksL_law_29 15 rfl rfl)
theorem dL_law_851 : decode cL_law 851 = .ok (.ireturn, 1) := dk_172 (dk_at dksL_law_29 16 rfl rfl)
theorem dL_law_852 : decode cL_law 852 = .ok (.aload_n 1, 1) := dk_43 (dk_at dksL_law_29 17 rfl rfl)
theorem dL_law_853 : decode cL_law 853 = .ok (.invokevirtual 113, 3) := dk_182 0 113 (dk_at dksL_law_29 18 rfl rfl)
theorem dL_law_856 : decode cL_law 856 = .ok (.aload_n 2, 1) := dk_44 (dk_at dksL_law_29 21 rfl rfl)
theorem dL_law_857 : decode cL_law 857 = .ok (.invokevirtual 116, 3) := dk_182 0 116 (dk_at dksL_law_30 0 rfl rfl)
theorem dL_law_860 : decode cL_law 860 = .ok (.if_icmp .eq 469, 3) := dk_159 1 213 (dk_at dksL_law_30 3 rfl rfl)
theorem dL_law_863 : decode cL_law 863 = .ok (.iconst 0, 1) := dk_3 (dk_at dksL_law_30 6 rfl rfl)
theorem dL_law_864 : decode cL_law 864 = .ok (.ireturn, 1) := dk_172 (dk_at dksL_law_30 7 rfl rfl)
theorem dL_law_865 : decode cL_law 865 = .ok (.aload_n 1, 1) := dk_43 (dk_at dksL_law_30 8 rfl rfl)
theorem dL_law_866 : decode cL_law 866 = .ok (.aload_n 0, 1) := dk_42 (dk_at dksL_law_30 9 rfl rfl)
theorem dL_law_867 : decode cL_law 867 = .ok (.iload_n 3, 1) := dk_29 (dk_at dksL_law_30 10 rfl rfl)
theorem dL_law_868 : decode cL_law 868 = .ok (.iconst 1, 1) := dk_4 (dk_at dksL_law_30 11 rfl rfl)
theorem dL_law_869 : decode cL_law 869 = .ok (.iadd, 1) := dk_96 (dk_at dksL_law_30 12 rfl rfl)
theorem dL_law_870 : decode cL_law 870 = .ok (.iaload, 1) := dk_46 (dk_at dksL_law_30 13 rfl rfl)
theorem dL_law_871 : decode cL_law 871 = .ok (.invokevirtual 117, 3) := dk_182 0 117 (dk_at dksL_law_30 14 rfl rfl)
theorem dL_law_874 : decode cL_law 874 = .ok (.aload_n 2, 1) := dk_44 (dk_at dksL_law_30 17 rfl rfl)
theorem dL_law_875 : decode cL_law 875 = .ok (.aload_n 0, 1) := dk_42 (dk_at dksL_law_30 18 rfl rfl)
theorem dL_law_876 : decode cL_law 876 = .ok (.iload_n 3, 1) := dk_29 (dk_at dksL_law_30 19 rfl rfl)
theorem dL_law_877 : decode cL_law 877 = .ok (.iconst 1, 1) := dk_4 (dk_at dksL_law_30 20 rfl rfl)
theorem dL_law_878 : decode cL_law 878 = .ok (.iadd, 1) := dk_96 (dk_at dksL_law_30 21 rfl rfl)
theorem dL_law_879 : decode cL_law 879 = .ok (.iaload, 1) := dk_46 (dk_at dksL_law_30 22 rfl rfl)
theorem dL_law_880 : decode cL_law 880 = .ok (.invokevirtual 120, 3) := dk_182 0 120 (dk_at dksL_law_31 0 rfl rfl)
theorem dL_law_883 : decode cL_law 883 = .ok (.if_icmp .eq 446, 3) := dk_159 1 190 (dk_at dksL_law_31 3 rfl rfl)
theorem dL_law_886 : decode cL_law 886 = .ok (.iconst 0, 1) := dk_3 (dk_at dksL_law_31 6 rfl rfl)
theorem dL_law_887 : decode cL_law 887 = .ok (.ireturn, 1) := dk_172 (dk_at dksL_law_31 7 rfl rfl)
theorem dL_law_888 : decode cL_law 888 = .ok (.aload_n 1, 1) := dk_43 (dk_at dksL_law_31 8 rfl rfl)
theorem dL_law_889 : decode cL_law 889 = .ok (.invokevirtual 121, 3) := dk_182 0 121 (dk_at dksL_law_31 9 rfl rfl)
theorem dL_law_892 : decode cL_law 892 = .ok (.aload_n 2, 1) := dk_44 (dk_at dksL_law_31 12 rfl rfl)
theorem dL_law_893 : decode cL_law 893 = .ok (.invokevirtual 124, 3) := dk_182 0 124 (dk_at dksL_law_31 13 rfl rfl)
theorem dL_law_896 : decode cL_law 896 = .ok (.if_icmp .eq 433, 3) := dk_159 1 177 (dk_at dksL_law_31 16 rfl rfl)
theorem dL_law_899 : decode cL_law 899 = .ok (.iconst 0, 1) := dk_3 (dk_at dksL_law_31 19 rfl rfl)
theorem dL_law_900 : decode cL_law 900 = .ok (.ireturn, 1) := dk_172 (dk_at dksL_law_31 20 rfl rfl)
theorem dL_law_901 : decode cL_law 901 = .ok (.aload_n 1, 1) := dk_43 (dk_at dksL_law_31 21 rfl rfl)
theorem dL_law_902 : decode cL_law 902 = .ok (.invokevirtual 125, 3) := dk_182 0 125 (dk_at dksL_law_32 0 rfl rfl)
theorem dL_law_905 : decode cL_law 905 = .ok (.aload_n 2, 1) := dk_44 (dk_at dksL_law_32 3 rfl rfl)
theorem dL_law_906 : decode cL_law 906 = .ok (.invokevirtual 128, 3) := dk_182 0 128 (dk_at dksL_law_32 4 rfl rfl)
theorem dL_law_909 : decode cL_law 909 = .ok (.if_icmp .eq 420, 3) := dk_159 1 164 (dk_at dksL_law_32 7 rfl rfl)
theorem dL_law_912 : decode cL_law 912 = .ok (.iconst 0, 1) := dk_3 (dk_at dksL_law_32 10 rfl rfl)
theorem dL_law_913 : decode cL_law 913 = .ok (.ireturn, 1) := dk_172 (dk_at dksL_law_32 11 rfl rfl)
theorem dL_law_914 : decode cL_law 914 = .ok (.aload_n 1, 1) := dk_43 (dk_at dksL_law_32 12 rfl rfl)
theorem dL_law_915 : decode cL_law 915 = .ok (.aload_n 0, 1) := dk_42 (dk_at dksL_law_32 13 rfl rfl)
theorem dL_law_916 : decode cL_law 916 = .ok (.iload_n 3, 1) := dk_29 (dk_at dksL_law_32 14 rfl rfl)
theorem dL_law_917 : decode cL_law 917 = .ok (.iconst 1, 1) := dk_4 (dk_at dksL_law_32 15 rfl rfl)
theorem dL_law_918 : decode cL_law 918 = .ok (.iadd, 1) := dk_96 (dk_at dksL_law_32 16 rfl rfl)
theorem dL_law_919 : decode cL_law 919 = .ok (.iaload, 1) := dk_46 (dk_at dksL_law_32 17 rfl rfl)
theorem dL_law_920 : decode cL_law 920 = .ok (.invokevirtual 129, 3) := dk_182 0 129 (dk_at dksL_law_32 18 rfl rfl)
theorem dL_law_923 : decode cL_law 923 = .ok (.aload_n 2, 1) := dk_44 (dk_at dksL_law_32 21 rfl rfl)
theorem dL_law_924 : decode cL_law 924 = .ok (.aload_n 0, 1) := dk_42 (dk_at dksL_law_32 22 rfl rfl)
theorem dL_law_925 : decode cL_law 925 = .ok (.iload_n 3, 1) := dk_29 (dk_at dksL_law_32 23 rfl rfl)
theorem dL_law_926 : decode cL_law 926 = .ok (.iconst 1, 1) := dk_4 (dk_at dksL_law_33 0 rfl rfl)
theorem dL_law_927 : decode cL_law 927 = .ok (.iadd, 1) := dk_96 (dk_at dksL_law_33 1 rfl rfl)
theorem dL_law_928 : decode cL_law 928 = .ok (.iaload, 1) := dk_46 (dk_at dksL_law_33 2 rfl rfl)
theorem dL_law_929 : decode cL_law 929 = .ok (.invokevirtual 132, 3) := dk_182 0 132 (dk_at dksL_law_33 3 rfl rfl)
theorem dL_law_932 : decode cL_law 932 = .ok (.if_icmp .eq 397, 3) := dk_159 1 141 (dk_at dksL_law_33 6 rfl rfl)
theorem dL_law_935 : decode cL_law 935 = .ok (.iconst 0, 1) := dk_3 (dk_at dksL_law_33 9 rfl rfl)
theorem dL_law_936 : decode cL_law 936 = .ok (.ireturn, 1) := dk_172 (dk_at dksL_law_33 10 rfl rfl)
theorem dL_law_937 : decode cL_law 937 = .ok (.aload_n 1, 1) := dk_43 (dk_at dksL_law_33 11 rfl rfl)
theorem dL_law_938 : decode cL_law 938 = .ok (.aload_n 0, 1) := dk_42 (dk_at dksL_law_33 12 rfl rfl)
theorem dL_law_939 : decode cL_law 939 = .ok (.iload_n 3, 1) := dk_29 (dk_at dksL_law_33 13 rfl rfl)
theorem dL_law_940 : decode cL_law 940 = .ok (.iconst 1, 1) := dk_4 (dk_at dksL_law_33 14 rfl rfl)
theorem dL_law_941 : decode cL_law 941 = .ok (.iadd, 1) := dk_96 (dk_at dksL_law_33 15 rfl rfl)
theorem dL_law_942 : decode cL_law 942 = .ok (.iaload, 1) := dk_46 (dk_at dksL_law_33 16 rfl rfl)
theorem dL_law_943 : decode cL_law 943 = .ok (.aload_n 0, 1) := dk_42 (dk_at dksL_law_33 17 rfl rfl)
theorem dL_law_944 : decode cL_law 944 = .ok (.iload_n 3, 1) := dk_29 (dk_at dksL_law_33 18 rfl rfl)
theorem dL_law_945 : decode cL_law 945 = .ok (.iconst 2, 1) := dk_5 (dk_at dksL_law_33 19 rfl rfl)
theorem dL_law_946 : decode cL_law 946 = .ok (.iadd, 1) := dk_96 (dk_at dksL_law_33 20 rfl rfl)
theorem dL_law_947 : decode cL_law 947 = .ok (.iaload, 1) := dk_46 (dk_at dksL_law_33 21 rfl rfl)
theorem dL_law_948 : decode cL_law 948 = .ok (.invokevirtual 133, 3) := dk_182 0 133 (dk_at dksL_law_34 0 rfl rfl)
theorem dL_law_951 : decode cL_law 951 = .ok (.aload_n 2, 1) := dk_44 (dk_at dksL_law_34 3 rfl rfl)
theorem dL_law_952 : decode cL_law 952 = .ok (.aload_n 0, 1) := dk_42 (dk_at dksL_law_34 4 rfl rfl)
theorem dL_law_953 : decode cL_law 953 = .ok (.iload_n 3, 1) := dk_29 (dk_at dksL_law_34 5 rfl rfl)
theorem dL_law_954 : decode cL_law 954 = .ok (.iconst 1, 1) := dk_4 (dk_at dksL_law_34 6 rfl rfl)
theorem dL_law_955 : decode cL_law 955 = .ok (.iadd, 1) := dk_96 (dk_at dksL_law_34 7 rfl rfl)
theorem dL_law_956 : decode cL_law 956 = .ok (.iaload, 1) := dk_46 (dk_at dksL_law_34 8 rfl rfl)
theorem dL_law_957 : decode cL_law 957 = .ok (.aload_n 0, 1) := dk_42 (dk_at dksL_law_34 9 rfl rfl)
theorem dL_law_958 : decode cL_law 958 = .ok (.iload_n 3, 1) := dk_29 (dk_at dksL_law_34 10 rfl rfl)
theorem dL_law_959 : decode cL_law 959 = .ok (.iconst 2, 1) := dk_5 (dk_at dksL_law_34 11 rfl rfl)
theorem dL_law_960 : decode cL_law 960 = .ok (.iadd, 1) := dk_96 (dk_at dksL_law_34 12 rfl rfl)
theorem dL_law_961 : decode cL_law 961 = .ok (.iaload, 1) := dk_46 (dk_at dksL_law_34 13 rfl rfl)
theorem dL_law_962 : decode cL_law 962 = .ok (.invokevirtual 136, 3) := dk_182 0 136 (dk_at dksL_law_34 14 rfl rfl)
theorem dL_law_965 : decode cL_law 965 = .ok (.if_icmp .eq 364, 3) := dk_159 1 108 (dk_at dksL_law_34 17 rfl rfl)
theorem dL_law_968 : decode cL_law 968 = .ok (.iconst 0, 1) := dk_3 (dk_at dksL_law_34 20 rfl rfl)
theorem dL_law_969 : decode cL_law 969 = .ok (.ireturn, 1) := dk_172 (dk_at dksL_law_34 21 rfl rfl)
theorem dL_law_970 : decode cL_law 970 = .ok (.aload_n 1, 1) := dk_43 (dk_at dksL_law_34 22 rfl rfl)
theorem dL_law_971 : decode cL_law 971 = .ok (.aload_n 0, 1) := dk_42 (dk_at dksL_law_34 23 rfl rfl)
theorem dL_law_972 : decode cL_law 972 = .ok (.iload_n 3, 1) := dk_29 (dk_at dksL_law_35 0 rfl rfl)
theorem dL_law_973 : decode cL_law 973 = .ok (.iconst 1, 1) := dk_4 (dk_at dksL_law_35 1 rfl rfl)
theorem dL_law_974 : decode cL_law 974 = .ok (.iadd, 1) := dk_96 (dk_at dksL_law_35 2 rfl rfl)
theorem dL_law_975 : decode cL_law 975 = .ok (.iaload, 1) := dk_46 (dk_at dksL_law_35 3 rfl rfl)
theorem dL_law_976 : decode cL_law 976 = .ok (.invokevirtual 137, 3) := dk_182 0 137 (dk_at dksL_law_35 4 rfl rfl)
theorem dL_law_979 : decode cL_law 979 = .ok (.aload_n 2, 1) := dk_44 (dk_at dksL_law_35 7 rfl rfl)
theorem dL_law_980 : decode cL_law 980 = .ok (.aload_n 0, 1) := dk_42 (dk_at dksL_law_35 8 rfl rfl)
theorem dL_law_981 : decode cL_law 981 = .ok (.iload_n 3, 1) := dk_29 (dk_at dksL_law_35 9 rfl rfl)
theorem dL_law_982 : decode cL_law 982 = .ok (.iconst 1, 1) := dk_4 (dk_at dksL_law_35 10 rfl rfl)
theorem dL_law_983 : decode cL_law 983 = .ok (.iadd, 1) := dk_96 (dk_at dksL_law_35 11 rfl rfl)
theorem dL_law_984 : decode cL_law 984 = .ok (.iaload, 1) := dk_46 (dk_at dksL_law_35 12 rfl rfl)
theorem dL_law_985 : decode cL_law 985 = .ok (.invokevirtual 140, 3) := dk_182 0 140 (dk_at dksL_law_35 13 rfl rfl)
theorem dL_law_988 : decode cL_law 988 = .ok (.if_icmp .eq 341, 3) := dk_159 1 85 (dk_at dksL_law_35 16 rfl rfl)
theorem dL_law_991 : decode cL_law 991 = .ok (.iconst 0, 1) := dk_3 (dk_at dksL_law_35 19 rfl rfl)
theorem dL_law_992 : decode cL_law 992 = .ok (.ireturn, 1) := dk_172 (dk_at dksL_law_35 20 rfl rfl)
theorem dL_law_993 : decode cL_law 993 = .ok (.aload_n 1, 1) := dk_43 (dk_at dksL_law_35 21 rfl rfl)
theorem dL_law_994 : decode cL_law 994 = .ok (.aload_n 0, 1) := dk_42 (dk_at dksL_law_35 22 rfl rfl)
theorem dL_law_995 : decode cL_law 995 = .ok (.iload_n 3, 1) := dk_29 (dk_at dksL_law_35 23 rfl rfl)
theorem dL_law_996 : decode cL_law 996 = .ok (.iconst 1, 1) := dk_4 (dk_at dksL_law_36 0 rfl rfl)
theorem dL_law_997 : decode cL_law 997 = .ok (.iadd, 1) := dk_96 (dk_at dksL_law_36 1 rfl rfl)
theorem dL_law_998 : decode cL_law 998 = .ok (.iaload, 1) := dk_46 (dk_at dksL_law_36 2 rfl rfl)
theorem dL_law_999 : decode cL_law 999 = .ok (.aload_n 0, 1) := dk_42 (dk_at dksL_law_36 3 rfl rfl)
theorem dL_law_1000 : decode cL_law 1000 = .ok (.iload_n 3, 1) := dk_29 (dk_at dksL_law_36 4 rfl rfl)
theorem dL_law_1001 : decode cL_law 1001 = .ok (.iconst 2, 1) := dk_5 (dk_at dksL_law_36 5 rfl rfl)
theorem dL_law_1002 : decode cL_law 1002 = .ok (.iadd, 1) := dk_96 (dk_at dksL_law_36 6 rfl rfl)
theorem dL_law_1003 : decode cL_law 1003 = .ok (.iaload, 1) := dk_46 (dk_at dksL_law_36 7 rfl rfl)
theorem dL_law_1004 : decode cL_law 1004 = .ok (.invokevirtual 141, 3) := dk_182 0 141 (dk_at dksL_law_36 8 rfl rfl)
theorem dL_law_1007 : decode cL_law 1007 = .ok (.aload_n 2, 1) := dk_44 (dk_at dksL_law_36 11 rfl rfl)
theorem dL_law_1008 : decode cL_law 1008 = .ok (.aload_n 0, 1) := dk_42 (dk_at dksL_law_36 12 rfl rfl)
theorem dL_law_1009 : decode cL_law 1009 = .ok (.iload_n 3, 1) := dk_29 (dk_at dksL_law_36 13 rfl rfl)
theorem dL_law_1010 : decode cL_law 1010 = .ok (.iconst 1, 1) := dk_4 (dk_at dksL_law_36 14 rfl rfl)
theorem dL_law_1011 : decode cL_law 1011 = .ok (.iadd, 1) := dk_96 (dk_at dksL_law_36 15 rfl rfl)
theorem dL_law_1012 : decode cL_law 1012 = .ok (.iaload, 1) := dk_46 (dk_at dksL_law_36 16 rfl rfl)
theorem dL_law_1013 : decode cL_law 1013 = .ok (.aload_n 0, 1) := dk_42 (dk_at dksL_law_36 17 rfl rfl)
theorem dL_law_1014 : decode cL_law 1014 = .ok (.iload_n 3, 1) := dk_29 (dk_at dksL_law_36 18 rfl rfl)
theorem dL_law_1015 : decode cL_law 1015 = .ok (.iconst 2, 1) := dk_5 (dk_at dksL_law_36 19 rfl rfl)
theorem dL_law_1016 : decode cL_law 1016 = .ok (.iadd, 1) := dk_96 (dk_at dksL_law_36 20 rfl rfl)
theorem dL_law_1017 : decode cL_law 1017 = .ok (.iaload, 1) := dk_46 (dk_at dksL_law_36 21 rfl rfl)
theorem dL_law_1018 : decode cL_law 1018 = .ok (.invokevirtual 144, 3) := dk_182 0 144 (dk_at dksL_law_37 0 rfl rfl)
theorem dL_law_1021 : decode cL_law 1021 = .ok (.if_icmp .eq 308, 3) := dk_159 1 52 (dk_at dksL_law_37 3 rfl rfl)
theorem dL_law_1024 : decode cL_law 1024 = .ok (.iconst 0, 1) := dk_3 (dk_at dksL_law_37 6 rfl rfl)
theorem dL_law_1025 : decode cL_law 1025 = .ok (.ireturn, 1) := dk_172 (dk_at dksL_law_37 7 rfl rfl)
theorem dL_law_1026 : decode cL_law 1026 = .ok (.aload_n 1, 1) := dk_43 (dk_at dksL_law_37 8 rfl rfl)
theorem dL_law_1027 : decode cL_law 1027 = .ok (.aload_n 0, 1) := dk_42 (dk_at dksL_law_37 9 rfl rfl)
theorem dL_law_1028 : decode cL_law 1028 = .ok (.iload_n 3, 1) := dk_29 (dk_at dksL_law_37 10 rfl rfl)
theorem dL_law_1029 : decode cL_law 1029 = .ok (.iconst 1, 1) := dk_4 (dk_at dksL_law_37 11 rfl rfl)
theorem dL_law_1030 : decode cL_law 1030 = .ok (.iadd, 1) := dk_96 (dk_at dksL_law_37 12 rfl rfl)
theorem dL_law_1031 : decode cL_law 1031 = .ok (.iaload, 1) := dk_46 (dk_at dksL_law_37 13 rfl rfl)
theorem dL_law_1032 : decode cL_law 1032 = .ok (.invokevirtual 145, 3) := dk_182 0 145 (dk_at dksL_law_37 14 rfl rfl)
theorem dL_law_1035 : decode cL_law 1035 = .ok (.aload_n 2, 1) := dk_44 (dk_at dksL_law_37 17 rfl rfl)
theorem dL_law_1036 : decode cL_law 1036 = .ok (.aload_n 0, 1) := dk_42 (dk_at dksL_law_37 18 rfl rfl)
theorem dL_law_1037 : decode cL_law 1037 = .ok (.iload_n 3, 1) := dk_29 (dk_at dksL_law_37 19 rfl rfl)
theorem dL_law_1038 : decode cL_law 1038 = .ok (.iconst 1, 1) := dk_4 (dk_at dksL_law_37 20 rfl rfl)
theorem dL_law_1039 : decode cL_law 1039 = .ok (.iadd, 1) := dk_96 (dk_at dksL_law_37 21 rfl rfl)
theorem dL_law_1040 : decode cL_law 1040 = .ok (.iaload, 1) := dk_46 (dk_at dksL_law_37 22 rfl rfl)
theorem dL_law_1041 : decode cL_law 1041 = .ok (.invokevirtual 148, 3) := dk_182 0 148 (dk_at dksL_law_38 0 rfl rfl)
theorem dL_law_1044 : decode cL_law 1044 = .ok (.if_icmp .eq 285, 3) := dk_159 1 29 (dk_at dksL_law_38 3 rfl rfl)
theorem dL_law_1047 : decode cL_law 1047 = .ok (.iconst 0, 1) := dk_3 (dk_at dksL_law_38 6 rfl rfl)
theorem dL_law_1048 : decode cL_law 1048 = .ok (.ireturn, 1) := dk_172 (dk_at dksL_law_38 7 rfl rfl)
theorem dL_law_1049 : decode cL_law 1049 = .ok (.aload_n 1, 1) := dk_43 (dk_at dksL_law_38 8 rfl rfl)
theorem dL_law_1050 : decode cL_law 1050 = .ok (.invokevirtual 149, 3) := dk_182 0 149 (dk_at dksL_law_38 9 rfl rfl)
theorem dL_law_1053 : decode cL_law 1053 = .ok (.aload_n 2, 1) := dk_44 (dk_at dksL_law_38 12 rfl rfl)
theorem dL_law_1054 : decode cL_law 1054 = .ok (.invokevirtual 152, 3) := dk_182 0 152 (dk_at dksL_law_38 13 rfl rfl)
theorem dL_law_1057 : decode cL_law 1057 = .ok (.if_icmp .eq 272, 3) := dk_159 1 16 (dk_at dksL_law_38 16 rfl rfl)
theorem dL_law_1060 : decode cL_law 1060 = .ok (.iconst 0, 1) := dk_3 (dk_at dksL_law_38 19 rfl rfl)
theorem dL_law_1061 : decode cL_law 1061 = .ok (.ireturn, 1) := dk_172 (dk_at dksL_law_38 20 rfl rfl)
theorem dL_law_1062 : decode cL_law 1062 = .ok (.aload_n 1, 1) := dk_43 (dk_at dksL_law_38 21 rfl rfl)
theorem dL_law_1063 : decode cL_law 1063 = .ok (.aload_n 0, 1) := dk_42 (dk_at dksL_law_38 22 rfl rfl)
theorem dL_law_1064 : decode cL_law 1064 = .ok (.iload_n 3, 1) := dk_29 (dk_at dksL_law_38 23 rfl rfl)
theorem dL_law_1065 : decode cL_law 1065 = .ok (.iconst 1, 1) := dk_4 (dk_at dksL_law_39 0 rfl rfl)
theorem dL_law_1066 : decode cL_law 1066 = .ok (.iadd, 1) := dk_96 (dk_at dksL_law_39 1 rfl rfl)
theorem dL_law_1067 : decode cL_law 1067 = .ok (.iaload, 1) := dk_46 (dk_at dksL_law_39 2 rfl rfl)
theorem dL_law_1068 : decode cL_law 1068 = .ok (.invokevirtual 153, 3) := dk_182 0 153 (dk_at dksL_law_39 3 rfl rfl)
theorem dL_law_1071 : decode cL_law 1071 = .ok (.aload_n 2, 1) := dk_44 (dk_at dksL_law_39 6 rfl rfl)
theorem dL_law_1072 : decode cL_law 1072 = .ok (.aload_n 0, 1) := dk_42 (dk_at dksL_law_39 7 rfl rfl)
theorem dL_law_1073 : decode cL_law 1073 = .ok (.iload_n 3, 1) := dk_29 (dk_at dksL_law_39 8 rfl rfl)
theorem dL_law_1074 : decode cL_law 1074 = .ok (.iconst 1, 1) := dk_4 (dk_at dksL_law_39 9 rfl rfl)
theorem dL_law_1075 : decode cL_law 1075 = .ok (.iadd, 1) := dk_96 (dk_at dksL_law_39 10 rfl rfl)
theorem dL_law_1076 : decode cL_law 1076 = .ok (.iaload, 1) := dk_46 (dk_at dksL_law_39 11 rfl rfl)
theorem dL_law_1077 : decode cL_law 1077 = .ok (.invokevirtual 156, 3) := dk_182 0 156 (dk_at dksL_law_39 12 rfl rfl)
theorem dL_law_1080 : decode cL_law 1080 = .ok (.if_icmp .eq 249, 3) := dk_159 0 249 (dk_at dksL_law_39 15 rfl rfl)
theorem dL_law_1083 : decode cL_law 1083 = .ok (.iconst 0, 1) := dk_3 (dk_at dksL_law_39 18 rfl rfl)
theorem dL_law_1084 : decode cL_law 1084 = .ok (.ireturn, 1) := dk_172 (dk_at dksL_law_39 19 rfl rfl)
theorem dL_law_1085 : decode cL_law 1085 = .ok (.aload_n 1, 1) := dk_43 (dk_at dksL_law_39 20 rfl rfl)
theorem dL_law_1086 : decode cL_law 1086 = .ok (.aload_n 0, 1) := dk_42 (dk_at dksL_law_39 21 rfl rfl)
theorem dL_law_1087 : decode cL_law 1087 = .ok (.iload_n 3, 1) := dk_29 (dk_at dksL_law_39 22 rfl rfl)
theorem dL_law_1088 : decode cL_law 1088 = .ok (.iconst 1, 1) := dk_4 (dk_at dksL_law_39 23 rfl rfl)
theorem dL_law_1089 : decode cL_law 1089 = .ok (.iadd, 1) := dk_96 (dk_at dksL_law_40 0 rfl rfl)
theorem dL_law_1090 : decode cL_law 1090 = .ok (.iaload, 1) := dk_46 (dk_at dksL_law_40 1 rfl rfl)
theorem dL_law_1091 : decode cL_law 1091 = .ok (.invokevirtual 157, 3) := dk_182 0 157 (dk_at dksL_law_40 2 rfl rfl)
theorem dL_law_1094 : decode cL_law 1094 = .ok (.aload_n 2, 1) := dk_44 (dk_at dksL_law_40 5 rfl rfl)
theorem dL_law_1095 : decode cL_law 1095 = .ok (.aload_n 0, 1) := dk_42 (dk_at dksL_law_40 6 rfl rfl)
theorem dL_law_1096 : decode cL_law 1096 = .ok (.iload_n 3, 1) := dk_29 (dk_at dksL_law_40 7 rfl rfl)
theorem dL_law_1097 : decode cL_law 1097 = .ok (.iconst 1, 1) := dk_4 (dk_at dksL_law_40 8 rfl rfl)
theorem dL_law_1098 : decode cL_law 1098 = .ok (.iadd, 1) := dk_96 (dk_at dksL_law_40 9 rfl rfl)
theorem dL_law_1099 : decode cL_law 1099 = .ok (.iaload, 1) := dk_46 (dk_at dksL_law_40 10 rfl rfl)
theorem dL_law_1100 : decode cL_law 1100 = .ok (.invokevirtual 160, 3) := dk_182 0 160 (dk_at dksL_law_40 11 rfl rfl)
theorem dL_law_1103 : decode cL_law 1103 = .ok (.if_icmp .eq 226, 3) := dk_159 0 226 (dk_at dksL_law_40 14 rfl rfl)
theorem dL_law_1106 : decode cL_law 1106 = .ok (.iconst 0, 1) := dk_3 (dk_at dksL_law_40 17 rfl rfl)
theorem dL_law_1107 : decode cL_law 1107 = .ok (.ireturn, 1) := dk_172 (dk_at dksL_law_40 18 rfl rfl)
theorem dL_law_1108 : decode cL_law 1108 = .ok (.aload_n 1, 1) := dk_43 (dk_at dksL_law_40 19 rfl rfl)
theorem dL_law_1109 : decode cL_law 1109 = .ok (.aload_n 0, 1) := dk_42 (dk_at dksL_law_40 20 rfl rfl)
theorem dL_law_1110 : decode cL_law 1110 = .ok (.iload_n 3, 1) := dk_29 (dk_at dksL_law_40 21 rfl rfl)
theorem dL_law_1111 : decode cL_law 1111 = .ok (.iconst 1, 1) := dk_4 (dk_at dksL_law_40 22 rfl rfl)
theorem dL_law_1112 : decode cL_law 1112 = .ok (.iadd, 1) := dk_96 (dk_at dksL_law_40 23 rfl rfl)
theorem dL_law_1113 : decode cL_law 1113 = .ok (.iaload, 1) := dk_46 (dk_at dksL_law_41 0 rfl rfl)
theorem dL_law_1114 : decode cL_law 1114 = .ok (.aload_n 0, 1) := dk_42 (dk_at dksL_law_41 1 rfl rfl)
theorem dL_law_1115 : decode cL_law 1115 = .ok (.iload_n 3, 1) := dk_29 (dk_at dksL_law_41 2 rfl rfl)
theorem dL_law_1116 : decode cL_law 1116 = .ok (.iconst 2, 1) := dk_5 (dk_at dksL_law_41 3 rfl rfl)
theorem dL_law_1117 : decode cL_law 1117 = .ok (.iadd, 1) := dk_96 (dk_at dksL_law_41 4 rfl rfl)
theorem dL_law_1118 : decode cL_law 1118 = .ok (.iaload, 1) := dk_46 (dk_at dksL_law_41 5 rfl rfl)
theorem dL_law_1119 : decode cL_law 1119 = .ok (.invokevirtual 161, 3) := dk_182 0 161 (dk_at dksL_law_41 6 rfl rfl)
theorem dL_law_1122 : decode cL_law 1122 = .ok (.aload_n 2, 1) := dk_44 (dk_at dksL_law_41 9 rfl rfl)
theorem dL_law_1123 : decode cL_law 1123 = .ok (.aload_n 0, 1) := dk_42 (dk_at dksL_law_41 10 rfl rfl)
theorem dL_law_1124 : decode cL_law 1124 = .ok (.iload_n 3, 1) := dk_29 (dk_at dksL_law_41 11 rfl rfl)
theorem dL_law_1125 : decode cL_law 1125 = .ok (.iconst 1, 1) := dk_4 (dk_at dksL_law_41 12 rfl rfl)
theorem dL_law_1126 : decode cL_law 1126 = .ok (.iadd, 1) := dk_96 (dk_at dksL_law_41 13 rfl rfl)
theorem dL_law_1127 : decode cL_law 1127 = .ok (.iaload, 1) := dk_46 (dk_at dksL_law_41 14 rfl rfl)
theorem dL_law_1128 : decode cL_law 1128 = .ok (.aload_n 0, 1) := dk_42 (dk_at dksL_law_41 15 rfl rfl)
theorem dL_law_1129 : decode cL_law 1129 = .ok (.iload_n 3, 1) := dk_29 (dk_at dksL_law_41 16 rfl rfl)
theorem dL_law_1130 : decode cL_law 1130 = .ok (.iconst 2, 1) := dk_5 (dk_at dksL_law_41 17 rfl rfl)
theorem dL_law_1131 : decode cL_law 1131 = .ok (.iadd, 1) := dk_96 (dk_at dksL_law_41 18 rfl rfl)
theorem dL_law_1132 : decode cL_law 1132 = .ok (.iaload, 1) := dk_46 (dk_at dksL_law_41 19 rfl rfl)
theorem dL_law_1133 : decode cL_law 1133 = .ok (.invokevirtual 164, 3) := dk_182 0 164 (dk_at dksL_law_41 20 rfl rfl)
theorem dL_law_1136 : decode cL_law 1136 = .ok (.if_icmp .eq 193, 3) := dk_159 0 193 (dk_at dksL_law_42 0 rfl rfl)
theorem dL_law_1139 : decode cL_law 1139 = .ok (.iconst 0, 1) := dk_3 (dk_at dksL_law_42 3 rfl rfl)
theorem dL_law_1140 : decode cL_law 1140 = .ok (.ireturn, 1) := dk_172 (dk_at dksL_law_42 4 rfl rfl)
theorem dL_law_1141 : decode cL_law 1141 = .ok (.aload_n 1, 1) := dk_43 (dk_at dksL_law_42 5 rfl rfl)
theorem dL_law_1142 : decode cL_law 1142 = .ok (.aload_n 0, 1) := dk_42 (dk_at dksL_law_42 6 rfl rfl)
theorem dL_law_1143 : decode cL_law 1143 = .ok (.iload_n 3, 1) := dk_29 (dk_at dksL_law_42 7 rfl rfl)
theorem dL_law_1144 : decode cL_law 1144 = .ok (.iconst 1, 1) := dk_4 (dk_at dksL_law_42 8 rfl rfl)
theorem dL_law_1145 : decode cL_law 1145 = .ok (.iadd, 1) := dk_96 (dk_at dksL_law_42 9 rfl rfl)
theorem dL_law_1146 : decode cL_law 1146 = .ok (.iaload, 1) := dk_46 (dk_at dksL_law_42 10 rfl rfl)
theorem dL_law_1147 : decode cL_law 1147 = .ok (.aload_n 0, 1) := dk_42 (dk_at dksL_law_42 11 rfl rfl)
theorem dL_law_1148 : decode cL_law 1148 = .ok (.iload_n 3, 1) := dk_29 (dk_at dksL_law_42 12 rfl rfl)
theorem dL_law_1149 : decode cL_law 1149 = .ok (.iconst 2, 1) := dk_5 (dk_at dksL_law_42 13 rfl rfl)
theorem dL_law_1150 : decode cL_law 1150 = .ok (.iadd, 1) := dk_96 (dk_at dksL_law_42 14 rfl rfl)
theorem dL_law_1151 : decode cL_law 1151 = .ok (.iaload, 1) := dk_46 (dk_at dksL_law_42 15 rfl rfl)
theorem dL_law_1152 : decode cL_law 1152 = .ok (.aload_n 0, 1) := dk_42 (dk_at dksL_law_42 16 rfl rfl)
theorem dL_law_1153 : decode cL_law 1153 = .ok (.iload_n 3, 1) := dk_29 (dk_at dksL_law_42 17 rfl rfl)
theorem dL_law_1154 : decode cL_law 1154 = .ok (.iconst 3, 1) := dk_6 (dk_at dksL_law_42 18 rfl rfl)
theorem dL_law_1155 : decode cL_law 1155 = .ok (.iadd, 1) := dk_96 (dk_at dksL_law_42 19 rfl rfl)
theorem dL_law_1156 : decode cL_law 1156 = .ok (.iaload, 1) := dk_46 (dk_at dksL_law_42 20 rfl rfl)
theorem dL_law_1157 : decode cL_law 1157 = .ok (.invokevirtual 165, 3) := dk_182 0 165 (dk_at dksL_law_42 21 rfl rfl)
theorem dL_law_1160 : decode cL_law 1160 = .ok (.aload_n 2, 1) := dk_44 (dk_at dksL_law_43 0 rfl rfl)
theorem dL_law_1161 : decode cL_law 1161 = .ok (.aload_n 0, 1) := dk_42 (dk_at dksL_law_43 1 rfl rfl)
theorem dL_law_1162 : decode cL_law 1162 = .ok (.iload_n 3, 1) := dk_29 (dk_at dksL_law_43 2 rfl rfl)
theorem dL_law_1163 : decode cL_law 1163 = .ok (.iconst 1, 1) := dk_4 (dk_at dksL_law_43 3 rfl rfl)
theorem dL_law_1164 : decode cL_law 1164 = .ok (.iadd, 1) := dk_96 (dk_at dksL_law_43 4 rfl rfl)
theorem dL_law_1165 : decode cL_law 1165 = .ok (.iaload, 1) := dk_46 (dk_at dksL_law_43 5 rfl rfl)
theorem dL_law_1166 : decode cL_law 1166 = .ok (.aload_n 0, 1) := dk_42 (dk_at dksL_law_43 6 rfl rfl)
theorem dL_law_1167 : decode cL_law 1167 = .ok (.iload_n 3, 1) := dk_29 (dk_at dksL_law_43 7 rfl rfl)
theorem dL_law_1168 : decode cL_law 1168 = .ok (.iconst 2, 1) := dk_5 (dk_at dksL_law_43 8 rfl rfl)
theorem dL_law_1169 : decode cL_law 1169 = .ok (.iadd, 1) := dk_96 (dk_at dksL_law_43 9 rfl rfl)
theorem dL_law_1170 : decode cL_law 1170 = .ok (.iaload, 1) := dk_46 (dk_at dksL_law_43 10 rfl rfl)
theorem dL_law_1171 : decode cL_law 1171 = .ok (.aload_n 0, 1) := dk_42 (dk_at dksL_law_43 11 rfl rfl)
theorem dL_law_1172 : decode cL_law 1172 = .ok (.iload_n 3, 1) := dk_29 (dk_at dksL_law_43 12 rfl rfl)
theorem dL_law_1173 : decode cL_law 1173 = .ok (.iconst 3, 1) := dk_6 (dk_at dksL_law_43 13 rfl rfl)
theorem dL_law_1174 : decode cL_law 1174 = .ok (.iadd, 1) := dk_96 (dk_at dksL_law_43 14 rfl rfl)
theorem dL_law_1175 : decode cL_law 1175 = .ok (.iaload, 1) := dk_46 (dk_at dksL_law_43 15 rfl rfl)
theorem dL_law_1176 : decode cL_law 1176 = .ok (.invokevirtual 168, 3) := dk_182 0 168 (dk_at dksL_law_43 16 rfl rfl)
theorem dL_law_1179 : decode cL_law 1179 = .ok (.if_icmp .eq 150, 3) := dk_159 0 150 (dk_at dksL_law_43 19 rfl rfl)
theorem dL_law_1182 : decode cL_law 1182 = .ok (.iconst 0, 1) := dk_3 (dk_at dksL_law_43 22 rfl rfl)
theorem dL_law_1183 : decode cL_law 1183 = .ok (.ireturn, 1) := dk_172 (dk_at dksL_law_43 23 rfl rfl)
theorem dL_law_1184 : decode cL_law 1184 = .ok (.aload_n 1, 1) := dk_43 (dk_at dksL_law_44 0 rfl rfl)
theorem dL_law_1185 : decode cL_law 1185 = .ok (.aload_n 0, 1) := dk_42 (dk_at dksL_law_44 1 rfl rfl)
theorem dL_law_1186 : decode cL_law 1186 = .ok (.iload_n 3, 1) := dk_29 (dk_at dksL_law_44 2 rfl rfl)
theorem dL_law_1187 : decode cL_law 1187 = .ok (.iconst 1, 1) := dk_4 (dk_at dksL_law_44 3 rfl rfl)
theorem dL_law_1188 : decode cL_law 1188 = .ok (.iadd, 1) := dk_96 (dk_at dksL_law_44 4 rfl rfl)
theorem dL_law_1189 : decode cL_law 1189 = .ok (.iaload, 1) := dk_46 (dk_at dksL_law_44 5 rfl rfl)
theorem dL_law_1190 : decode cL_law 1190 = .ok (.aload_n 0, 1) := dk_42 (dk_at dksL_law_44 6 rfl rfl)
theorem dL_law_1191 : decode cL_law 1191 = .ok (.iload_n 3, 1) := dk_29 (dk_at dksL_law_44 7 rfl rfl)
theorem dL_law_1192 : decode cL_law 1192 = .ok (.iconst 2, 1) := dk_5 (dk_at dksL_law_44 8 rfl rfl)
theorem dL_law_1193 : decode cL_law 1193 = .ok (.iadd, 1) := dk_96 (dk_at dksL_law_44 9 rfl rfl)
theorem dL_law_1194 : decode cL_law 1194 = .ok (.iaload, 1) := dk_46 (dk_at dksL_law_44 10 rfl rfl)
theorem dL_law_1195 : decode cL_law 1195 = .ok (.invokevirtual 169, 3) := dk_182 0 169 (dk_at dksL_law_44 11 rfl rfl)
theorem dL_law_1198 : decode cL_law 1198 = .ok (.aload_n 2, 1) := dk_44 (dk_at dksL_law_44 14 rfl rfl)
theorem dL_law_1199 : decode cL_law 1199 = .ok (.aload_n 0, 1) := dk_42 (dk_at dksL_law_44 15 rfl rfl)
theorem dL_law_1200 : decode cL_law 1200 = .ok (.iload_n 3, 1) := dk_29 (dk_at dksL_law_44 16 rfl rfl)
theorem dL_law_1201 : decode cL_law 1201 = .ok (.iconst 1, 1) := dk_4 (dk_at dksL_law_44 17 rfl rfl)
theorem dL_law_1202 : decode cL_law 1202 = .ok (.iadd, 1) := dk_96 (dk_at dksL_law_44 18 rfl rfl)
theorem dL_law_1203 : decode cL_law 1203 = .ok (.iaload, 1) := dk_46 (dk_at dksL_law_44 19 rfl rfl)
theorem dL_law_1204 : decode cL_law 1204 = .ok (.aload_n 0, 1) := dk_42 (dk_at dksL_law_44 20 rfl rfl)
theorem dL_law_1205 : decode cL_law 1205 = .ok (.iload_n 3, 1) := dk_29 (dk_at dksL_law_44 21 rfl rfl)
theorem dL_law_1206 : decode cL_law 1206 = .ok (.iconst 2, 1) := dk_5 (dk_at dksL_law_44 22 rfl rfl)
theorem dL_law_1207 : decode cL_law 1207 = .ok (.iadd, 1) := dk_96 (dk_at dksL_law_44 23 rfl rfl)
theorem dL_law_1208 : decode cL_law 1208 = .ok (.iaload, 1) := dk_46 (dk_at dksL_law_45 0 rfl rfl)
theorem dL_law_1209 : decode cL_law 1209 = .ok (.invokevirtual 172, 3) := dk_182 0 172 (dk_at dksL_law_45 1 rfl rfl)
theorem dL_law_1212 : decode cL_law 1212 = .ok (.if_icmp .eq 117, 3) := dk_159 0 117 (dk_at dksL_law_45 4 rfl rfl)
theorem dL_law_1215 : decode cL_law 1215 = .ok (.iconst 0, 1) := dk_3 (dk_at dksL_law_45 7 rfl rfl)
theorem dL_law_1216 : decode cL_law 1216 = .ok (.ireturn, 1) := dk_172 (dk_at dksL_law_45 8 rfl rfl)
theorem dL_law_1217 : decode cL_law 1217 = .ok (.aload_n 1, 1) := dk_43 (dk_at dksL_law_45 9 rfl rfl)
theorem dL_law_1218 : decode cL_law 1218 = .ok (.aload_n 0, 1) := dk_42 (dk_at dksL_law_45 10 rfl rfl)
theorem dL_law_1219 : decode cL_law 1219 = .ok (.iload_n 3, 1) := dk_29 (dk_at dksL_law_45 11 rfl rfl)
theorem dL_law_1220 : decode cL_law 1220 = .ok (.iconst 1, 1) := dk_4 (dk_at dksL_law_45 12 rfl rfl)
theorem dL_law_1221 : decode cL_law 1221 = .ok (.iadd, 1) := dk_96 (dk_at dksL_law_45 13 rfl rfl)
theorem dL_law_1222 : decode cL_law 1222 = .ok (.iaload, 1) := dk_46 (dk_at dksL_law_45 14 rfl rfl)
theorem dL_law_1223 : decode cL_law 1223 = .ok (.aload_n 0, 1) := dk_42 (dk_at dksL_law_45 15 rfl rfl)
theorem dL_law_1224 : decode cL_law 1224 = .ok (.iload_n 3, 1) := dk_29 (dk_at dksL_law_45 16 rfl rfl)
theorem dL_law_1225 : decode cL_law 1225 = .ok (.iconst 2, 1) := dk_5 (dk_at dksL_law_45 17 rfl rfl)
theorem dL_law_1226 : decode cL_law 1226 = .ok (.iadd, 1) := dk_96 (dk_at dksL_law_45 18 rfl rfl)
theorem dL_law_1227 : decode cL_law 1227 = .ok (.iaload, 1) := dk_46 (dk_at dksL_law_45 19 rfl rfl)
theorem dL_law_1228 : decode cL_law 1228 = .ok (.aload_n 0, 1) := dk_42 (dk_at dksL_law_45 20 rfl rfl)
theorem dL_law_1229 : decode cL_law 1229 = .ok (.iload_n 3, 1) := dk_29 (dk_at dksL_law_45 21 rfl rfl)
theorem dL_law_1230 : decode cL_law 1230 = .ok (.iconst 3, 1) := dk_6 (dk_at dksL_law_45 22 rfl rfl)
theorem dL_law_1231 : decode cL_law 1231 = .ok (.iadd, 1) := dk_96 (dk_at dksL_law_45 23 rfl rfl)
theorem dL_law_1232 : decode cL_law 1232 = .ok (.iaload, 1) := dk_46 (dk_at dksL_law_46 0 rfl rfl)
theorem dL_law_1233 : decode cL_law 1233 = .ok (.invokevirtual 173, 3) := dk_182 0 173 (dk_at dksL_law_46 1 rfl rfl)
theorem dL_law_1236 : decode cL_law 1236 = .ok (.aload_n 2, 1) := dk_44 (dk_at dksL_law_46 4 rfl rfl)
theorem dL_law_1237 : decode cL_law 1237 = .ok (.aload_n 0, 1) := dk_42 (dk_at dksL_law_46 5 rfl rfl)
theorem dL_law_1238 : decode cL_law 1238 = .ok (.iload_n 3, 1) := dk_29 (dk_at dksL_law_46 6 rfl rfl)
theorem dL_law_1239 : decode cL_law 1239 = .ok (.iconst 1, 1) := dk_4 (dk_at dksL_law_46 7 rfl rfl)
theorem dL_law_1240 : decode cL_law 1240 = .ok (.iadd, 1) := dk_96 (dk_at dksL_law_46 8 rfl rfl)
theorem dL_law_1241 : decode cL_law 1241 = .ok (.iaload, 1) := dk_46 (dk_at dksL_law_46 9 rfl rfl)
theorem dL_law_1242 : decode cL_law 1242 = .ok (.aload_n 0, 1) := dk_42 (dk_at dksL_law_46 10 rfl rfl)
theorem dL_law_1243 : decode cL_law 1243 = .ok (.iload_n 3, 1) := dk_29 (dk_at dksL_law_46 11 rfl rfl)
theorem dL_law_1244 : decode cL_law 1244 = .ok (.iconst 2, 1) := dk_5 (dk_at dksL_law_46 12 rfl rfl)
theorem dL_law_1245 : decode cL_law 1245 = .ok (.iadd, 1) := dk_96 (dk_at dksL_law_46 13 rfl rfl)
theorem dL_law_1246 : decode cL_law 1246 = .ok (.iaload, 1) := dk_46 (dk_at dksL_law_46 14 rfl rfl)
theorem dL_law_1247 : decode cL_law 1247 = .ok (.aload_n 0, 1) := dk_42 (dk_at dksL_law_46 15 rfl rfl)
theorem dL_law_1248 : decode cL_law 1248 = .ok (.iload_n 3, 1) := dk_29 (dk_at dksL_law_46 16 rfl rfl)
theorem dL_law_1249 : decode cL_law 1249 = .ok (.iconst 3, 1) := dk_6 (dk_at dksL_law_46 17 rfl rfl)
theorem dL_law_1250 : decode cL_law 1250 = .ok (.iadd, 1) := dk_96 (dk_at dksL_law_46 18 rfl rfl)
theorem dL_law_1251 : decode cL_law 1251 = .ok (.iaload, 1) := dk_46 (dk_at dksL_law_46 19 rfl rfl)
theorem dL_law_1252 : decode cL_law 1252 = .ok (.invokevirtual 176, 3) := dk_182 0 176 (dk_at dksL_law_46 20 rfl rfl)
theorem dL_law_1255 : decode cL_law 1255 = .ok (.if_icmp .eq 74, 3) := dk_159 0 74 (dk_at dksL_law_47 0 rfl rfl)
theorem dL_law_1258 : decode cL_law 1258 = .ok (.iconst 0, 1) := dk_3 (dk_at dksL_law_47 3 rfl rfl)
theorem dL_law_1259 : decode cL_law 1259 = .ok (.ireturn, 1) := dk_172 (dk_at dksL_law_47 4 rfl rfl)
theorem dL_law_1260 : decode cL_law 1260 = .ok (.aload_n 1, 1) := dk_43 (dk_at dksL_law_47 5 rfl rfl)
theorem dL_law_1261 : decode cL_law 1261 = .ok (.aload_n 0, 1) := dk_42 (dk_at dksL_law_47 6 rfl rfl)
theorem dL_law_1262 : decode cL_law 1262 = .ok (.iload_n 3, 1) := dk_29 (dk_at dksL_law_47 7 rfl rfl)
theorem dL_law_1263 : decode cL_law 1263 = .ok (.iconst 1, 1) := dk_4 (dk_at dksL_law_47 8 rfl rfl)
theorem dL_law_1264 : decode cL_law 1264 = .ok (.iadd, 1) := dk_96 (dk_at dksL_law_47 9 rfl rfl)
theorem dL_law_1265 : decode cL_law 1265 = .ok (.iaload, 1) := dk_46 (dk_at dksL_law_47 10 rfl rfl)
theorem dL_law_1266 : decode cL_law 1266 = .ok (.aload_n 0, 1) := dk_42 (dk_at dksL_law_47 11 rfl rfl)
theorem dL_law_1267 : decode cL_law 1267 = .ok (.iload_n 3, 1) := dk_29 (dk_at dksL_law_47 12 rfl rfl)
theorem dL_law_1268 : decode cL_law 1268 = .ok (.iconst 2, 1) := dk_5 (dk_at dksL_law_47 13 rfl rfl)
theorem dL_law_1269 : decode cL_law 1269 = .ok (.iadd, 1) := dk_96 (dk_at dksL_law_47 14 rfl rfl)
theorem dL_law_1270 : decode cL_law 1270 = .ok (.iaload, 1) := dk_46 (dk_at dksL_law_47 15 rfl rfl)
theorem dL_law_1271 : decode cL_law 1271 = .ok (.aload_n 0, 1) := dk_42 (dk_at dksL_law_47 16 rfl rfl)
theorem dL_law_1272 : decode cL_law 1272 = .ok (.iload_n 3, 1) := dk_29 (dk_at dksL_law_47 17 rfl rfl)
theorem dL_law_1273 : decode cL_law 1273 = .ok (.iconst 3, 1) := dk_6 (dk_at dksL_law_47 18 rfl rfl)
theorem dL_law_1274 : decode cL_law 1274 = .ok (.iadd, 1) := dk_96 (dk_at dksL_law_47 19 rfl rfl)
theorem dL_law_1275 : decode cL_law 1275 = .ok (.iaload, 1) := dk_46 (dk_at dksL_law_47 20 rfl rfl)
theorem dL_law_1276 : decode cL_law 1276 = .ok (.invokevirtual 177, 3) := dk_182 0 177 (dk_at dksL_law_47 21 rfl rfl)
theorem dL_law_1279 : decode cL_law 1279 = .ok (.aload_n 2, 1) := dk_44 (dk_at dksL_law_48 0 rfl rfl)
theorem dL_law_1280 : decode cL_law 1280 = .ok (.aload_n 0, 1) := dk_42 (dk_at dksL_law_48 1 rfl rfl)
theorem dL_law_1281 : decode cL_law 1281 = .ok (.iload_n 3, 1) := dk_29 (dk_at dksL_law_48 2 rfl rfl)
theorem dL_law_1282 : decode cL_law 1282 = .ok (.iconst 1, 1) := dk_4 (dk_at dksL_law_48 3 rfl rfl)
theorem dL_law_1283 : decode cL_law 1283 = .ok (.iadd, 1) := dk_96 (dk_at dksL_law_48 4 rfl rfl)
theorem dL_law_1284 : decode cL_law 1284 = .ok (.iaload, 1) := dk_46 (dk_at dksL_law_48 5 rfl rfl)
theorem dL_law_1285 : decode cL_law 1285 = .ok (.aload_n 0, 1) := dk_42 (dk_at dksL_law_48 6 rfl rfl)
theorem dL_law_1286 : decode cL_law 1286 = .ok (.iload_n 3, 1) := dk_29 (dk_at dksL_law_48 7 rfl rfl)
theorem dL_law_1287 : decode cL_law 1287 = .ok (.iconst 2, 1) := dk_5 (dk_at dksL_law_48 8 rfl rfl)
theorem dL_law_1288 : decode cL_law 1288 = .ok (.iadd, 1) := dk_96 (dk_at dksL_law_48 9 rfl rfl)
theorem dL_law_1289 : decode cL_law 1289 = .ok (.iaload, 1) := dk_46 (dk_at dksL_law_48 10 rfl rfl)
theorem dL_law_1290 : decode cL_law 1290 = .ok (.aload_n 0, 1) := dk_42 (dk_at dksL_law_48 11 rfl rfl)
theorem dL_law_1291 : decode cL_law 1291 = .ok (.iload_n 3, 1) := dk_29 (dk_at dksL_law_48 12 rfl rfl)
theorem dL_law_1292 : decode cL_law 1292 = .ok (.iconst 3, 1) := dk_6 (dk_at dksL_law_48 13 rfl rfl)
theorem dL_law_1293 : decode cL_law 1293 = .ok (.iadd, 1) := dk_96 (dk_at dksL_law_48 14 rfl rfl)
theorem dL_law_1294 : decode cL_law 1294 = .ok (.iaload, 1) := dk_46 (dk_at dksL_law_48 15 rfl rfl)
theorem dL_law_1295 : decode cL_law 1295 = .ok (.invokevirtual 180, 3) := dk_182 0 180 (dk_at dksL_law_48 16 rfl rfl)
theorem dL_law_1298 : decode cL_law 1298 = .ok (.if_icmp .eq 31, 3) := dk_159 0 31 (dk_at dksL_law_48 19 rfl rfl)
theorem dL_law_1301 : decode cL_law 1301 = .ok (.iconst 0, 1) := dk_3 (dk_at dksL_law_48 22 rfl rfl)
theorem dL_law_1302 : decode cL_law 1302 = .ok (.ireturn, 1) := dk_172 (dk_at dksL_law_48 23 rfl rfl)
theorem dL_law_1303 : decode cL_law 1303 = .ok (.aload_n 1, 1) := dk_43 (dk_at dksL_law_49 0 rfl rfl)
theorem dL_law_1304 : decode cL_law 1304 = .ok (.invokevirtual 181, 3) := dk_182 0 181 (dk_at dksL_law_49 1 rfl rfl)
theorem dL_law_1307 : decode cL_law 1307 = .ok (.aload_n 2, 1) := dk_44 (dk_at dksL_law_49 4 rfl rfl)
theorem dL_law_1308 : decode cL_law 1308 = .ok (.invokevirtual 184, 3) := dk_182 0 184 (dk_at dksL_law_49 5 rfl rfl)
theorem dL_law_1311 : decode cL_law 1311 = .ok (.if_icmp .eq 18, 3) := dk_159 0 18 (dk_at dksL_law_49 8 rfl rfl)
theorem dL_law_1314 : decode cL_law 1314 = .ok (.iconst 0, 1) := dk_3 (dk_at dksL_law_49 11 rfl rfl)
theorem dL_law_1315 : decode cL_law 1315 = .ok (.ireturn, 1) := dk_172 (dk_at dksL_law_49 12 rfl rfl)
theorem dL_law_1316 : decode cL_law 1316 = .ok (.aload_n 1, 1) := dk_43 (dk_at dksL_law_49 13 rfl rfl)
theorem dL_law_1317 : decode cL_law 1317 = .ok (.invokevirtual 185, 3) := dk_182 0 185 (dk_at dksL_law_49 14 rfl rfl)
theorem dL_law_1320 : decode cL_law 1320 = .ok (.aload_n 2, 1) := dk_44 (dk_at dksL_law_49 17 rfl rfl)
theorem dL_law_1321 : decode cL_law 1321 = .ok (.invokevirtual 188, 3) := dk_182 0 188 (dk_at dksL_law_49 18 rfl rfl)
theorem dL_law_1324 : decode cL_law 1324 = .ok (.if_icmp .eq 5, 3) := dk_159 0 5 (dk_at dksL_law_49 21 rfl rfl)
theorem dL_law_1327 : decode cL_law 1327 = .ok (.iconst 0, 1) := dk_3 (dk_at dksL_law_50 0 rfl rfl)
theorem dL_law_1328 : decode cL_law 1328 = .ok (.ireturn, 1) := dk_172 (dk_at dksL_law_50 1 rfl rfl)
theorem dL_law_1329 : decode cL_law 1329 = .ok (.iinc 3 4, 3) := dk_132 3 4 (dk_at dksL_law_50 2 rfl rfl)
theorem dL_law_1332 : decode cL_law 1332 = .ok (.goto (-1314), 3) := dk_167 250 222 (dk_at dksL_law_50 5 rfl rfl)
theorem dL_law_1335 : decode cL_law 1335 = .ok (.iconst 1, 1) := dk_4 (dk_at dksL_law_50 8 rfl rfl)
theorem dL_law_1336 : decode cL_law 1336 = .ok (.ireturn, 1) := dk_172 (dk_at dksL_law_50 9 rfl rfl)
