/-! java/util/AbstractCollection -/
set_option maxRecDepth 100000
def RJ0 : String := "java/util/AbstractCollection"
abbrev cJ0_init : ByteArray := prog_48_method_1_code
def yJ0_init : MethodName := ⟨RJ0, "<init>", "()V"⟩
theorem dJ0_init_0 : decode cJ0_init 0 = .ok (.aload_n 0, 1) := by decide +kernel
theorem dJ0_init_1 : decode cJ0_init 1 = .ok (.invokespecial 1, 3) := by decide +kernel
theorem dJ0_init_4 : decode cJ0_init 4 = .ok (.return_, 1) := by decide +kernel
abbrev cJ0_isEmpty : ByteArray := prog_48_method_4_code
def yJ0_isEmpty : MethodName := ⟨RJ0, "isEmpty", "()Z"⟩
def dkwJ0_isEmpty_0 : List UInt8 := [42, 182, 0, 7, 154, 0, 7, 4, 167, 0, 4, 3, 172]
abbrev dktJ0_isEmpty_0 : List UInt8 := dkwJ0_isEmpty_0 ++ []
theorem dksJ0_isEmpty_0 : cJ0_isEmpty.data.toList.drop 0 = dktJ0_isEmpty_0 := by decide +kernel
theorem dJ0_isEmpty_0 : decode cJ0_isEmpty 0 = .ok (.aload_n 0, 1) := dk_42 (dk_at dksJ0_isEmpty_0 0 rfl rfl)
theorem dJ0_isEmpty_1 : decode cJ0_isEmpty 1 = .ok (.invokevirtual 7, 3) := dk_182 0 7 (dk_at dksJ0_isEmpty_0 1 rfl rfl)
theorem dJ0_isEmpty_4 : decode cJ0_isEmpty 4 = .ok (.ifCond .ne 7, 3) := dk_154 0 7 (dk_at dksJ0_isEmpty_0 4 rfl rfl)
theorem dJ0_isEmpty_7 : decode cJ0_isEmpty 7 = .ok (.iconst 1, 1) := dk_4 (dk_at dksJ0_isEmpty_0 7 rfl rfl)
theorem dJ0_isEmpty_8 : decode cJ0_isEmpty 8 = .ok (.goto 4, 3) := dk_167 0 4 (dk_at dksJ0_isEmpty_0 8 rfl rfl)
theorem dJ0_isEmpty_11 : decode cJ0_isEmpty 11 = .ok (.iconst 0, 1) := dk_3 (dk_at dksJ0_isEmpty_0 11 rfl rfl)
theorem dJ0_isEmpty_12 : decode cJ0_isEmpty 12 = .ok (.ireturn, 1) := dk_172 (dk_at dksJ0_isEmpty_0 12 rfl rfl)
theorem q79 : (Jvm.Cond.initialized "java/util/AbstractCollection") ∈ lw_all := lw_g (lw_at lw_m1 2 rfl) rfl
theorem q153 : (Jvm.Cond.instanceMethod ({ cls := "java/util/AbstractCollection", name := "<init>", desc := "()V" } : Jvm.MethodName)) ∈ lw_all := lw_g (lw_at lw_m1 76 rfl) rfl
theorem q154 : (Jvm.Cond.code ({ cls := "java/util/AbstractCollection", name := "<init>", desc := "()V" } : Jvm.MethodName) prog_48_method_1_code (1 : Nat) (Option.none : Option Jvm.ClassFile.FieldType)) ∈ lw_all := lw_g (lw_at lw_m1 77 rfl) rfl
theorem q155 : (Jvm.Cond.methodLink "java/util/AbstractCollection" (1 : Nat) ({ cls := "java/lang/Object", name := "<init>", desc := "()V" } : Jvm.MethodName)) ∈ lw_all := lw_g (lw_at lw_m1 78 rfl) rfl
theorem q1448 : (Jvm.Cond.declares ({ cls := "java/util/AbstractCollection", name := "isEmpty", desc := "()Z" } : Jvm.MethodName)) ∈ lw_tbl := lw_at lw_m6 171 rfl
theorem q1450 : (Jvm.Cond.instanceMethod ({ cls := "java/util/AbstractCollection", name := "isEmpty", desc := "()Z" } : Jvm.MethodName)) ∈ lw_all := lw_g (lw_at lw_m6 173 rfl) rfl
theorem q1451 : (Jvm.Cond.code ({ cls := "java/util/AbstractCollection", name := "isEmpty", desc := "()Z" } : Jvm.MethodName) prog_48_method_4_code (1 : Nat) (Option.some Jvm.ClassFile.FieldType.boolean)) ∈ lw_all := lw_g (lw_at lw_m6 174 rfl) rfl
theorem q1452 : (Jvm.Cond.methodLink "java/util/AbstractCollection" (7 : Nat) ({ cls := "java/util/AbstractCollection", name := "size", desc := "()I" } : Jvm.MethodName)) ∈ lw_all := lw_g (lw_at lw_m6 175 rfl) rfl
theorem q1453 : (Jvm.Cond.declares ({ cls := "java/util/AbstractCollection", name := "size", desc := "()I" } : Jvm.MethodName)) ∈ lw_tbl := lw_at lw_m6 176 rfl
theorem q1454 : (Jvm.Cond.sameMethod "java/util/AbstractCollection" "java/util/AbstractCollection" "size" "()I") ∈ lw_all := lw_g (lw_at lw_m6 177 rfl) rfl
/-! java/util/AbstractList -/
set_option maxRecDepth 100000
def RJ1 : String := "java/util/AbstractList"
abbrev cJ1_init : ByteArray := prog_49_method_1_code
def yJ1_init : MethodName := ⟨RJ1, "<init>", "()V"⟩
def dkwJ1_init_0 : List UInt8 := [42, 183, 0, 1, 42, 3, 181, 0, 7, 177]
abbrev dktJ1_init_0 : List UInt8 := dkwJ1_init_0 ++ []
theorem dksJ1_init_0 : cJ1_init.data.toList.drop 0 = dktJ1_init_0 := by decide +kernel
theorem dJ1_init_0 : decode cJ1_init 0 = .ok (.aload_n 0, 1) := dk_42 (dk_at dksJ1_init_0 0 rfl rfl)
theorem dJ1_init_1 : decode cJ1_init 1 = .ok (.invokespecial 1, 3) := dk_183 0 1 (dk_at dksJ1_init_0 1 rfl rfl)
theorem dJ1_init_4 : decode cJ1_init 4 = .ok (.aload_n 0, 1) := dk_42 (dk_at dksJ1_init_0 4 rfl rfl)
theorem dJ1_init_5 : decode cJ1_init 5 = .ok (.iconst 0, 1) := dk_3 (dk_at dksJ1_init_0 5 rfl rfl)
theorem dJ1_init_6 : decode cJ1_init 6 = .ok (.putfield 7, 3) := dk_181 0 7 (dk_at dksJ1_init_0 6 rfl rfl)
theorem dJ1_init_9 : decode cJ1_init 9 = .ok (.return_, 1) := dk_177 (dk_at dksJ1_init_0 9 rfl rfl)
theorem q80 : (Jvm.Cond.initialized "java/util/AbstractList") ∈ lw_all := lw_g (lw_at lw_m1 3 rfl) rfl
theorem q150 : (Jvm.Cond.instanceMethod ({ cls := "java/util/AbstractList", name := "<init>", desc := "()V" } : Jvm.MethodName)) ∈ lw_all := lw_g (lw_at lw_m1 73 rfl) rfl
theorem q151 : (Jvm.Cond.code ({ cls := "java/util/AbstractList", name := "<init>", desc := "()V" } : Jvm.MethodName) prog_49_method_1_code (1 : Nat) (Option.none : Option Jvm.ClassFile.FieldType)) ∈ lw_all := lw_g (lw_at lw_m1 74 rfl) rfl
theorem q152 : (Jvm.Cond.methodLink "java/util/AbstractList" (1 : Nat) ({ cls := "java/util/AbstractCollection", name := "<init>", desc := "()V" } : Jvm.MethodName)) ∈ lw_all := lw_g (lw_at lw_m1 75 rfl) rfl
theorem q162 : (Jvm.Cond.fieldLink "java/util/AbstractList" (7 : Nat) "java/util/AbstractList" "modCount" "I") ∈ lw_all := lw_g (lw_at lw_m1 85 rfl) rfl
theorem q171 : (Jvm.Cond.soleField "java/util/AbstractList" "modCount") ∈ lw_all := lw_g (lw_at lw_m1 94 rfl) rfl
/-! java/util/ArrayList -/
set_option maxRecDepth 100000
def RJ2 : String := "java/util/ArrayList"
def TJ2 : u_T := fun k => match k with
  | 0 => ("java/util/AbstractList", "modCount", "I", false)
  | 1 => ("java/util/ArrayList", "elementData", "[Ljava/lang/Object;", false)
  | _ => ("java/util/ArrayList", "size", "I", false)
def tyJ2 : Nat → FieldType := fun k => match k with
  | 0 => .int
  | 1 => .array (.object "java/lang/Object")
  | _ => .int
abbrev wsJ20 : List Cond := u_ws RJ2 TJ2 3
theorem nmJ2 : ∀ a, a < 3 → ∀ b, b < 3 → a ≠ b → (TJ2 a).2.1 ≠ (TJ2 b).2.1 := by decide +kernel
theorem tyJ2_ok : ∀ k, k < 3 → parseFieldDescriptor (TJ2 k).2.2.1 = some (tyJ2 k) := by decide +kernel
abbrev cJ2_init : ByteArray := prog_54_method_2_code
def yJ2_init : MethodName := ⟨RJ2, "<init>", "()V"⟩
def dkwJ2_init_0 : List UInt8 := [42, 183, 0, 1, 42, 178, 0, 39, 181, 0, 9, 177]
abbrev dktJ2_init_0 : List UInt8 := dkwJ2_init_0 ++ []
theorem dksJ2_init_0 : cJ2_init.data.toList.drop 0 = dktJ2_init_0 := by decide +kernel
theorem dJ2_init_0 : decode cJ2_init 0 = .ok (.aload_n 0, 1) := dk_42 (dk_at dksJ2_init_0 0 rfl rfl)
theorem dJ2_init_1 : decode cJ2_init 1 = .ok (.invokespecial 1, 3) := dk_183 0 1 (dk_at dksJ2_init_0 1 rfl rfl)
theorem dJ2_init_4 : decode cJ2_init 4 = .ok (.aload_n 0, 1) := dk_42 (dk_at dksJ2_init_0 4 rfl rfl)
theorem dJ2_init_5 : decode cJ2_init 5 = .ok (.getstatic 39, 3) := dk_178 0 39 (dk_at dksJ2_init_0 5 rfl rfl)
theorem dJ2_init_8 : decode cJ2_init 8 = .ok (.putfield 9, 3) := dk_181 0 9 (dk_at dksJ2_init_0 8 rfl rfl)
theorem dJ2_init_11 : decode cJ2_init 11 = .ok (.return_, 1) := dk_177 (dk_at dksJ2_init_0 11 rfl rfl)
abbrev cJ2_add : ByteArray := prog_54_method_25_code
def yJ2_add : MethodName := ⟨RJ2, "add", "(Ljava/lang/Object;)Z"⟩
def dkwJ2_add_1 : List UInt8 := [172]
abbrev dktJ2_add_1 : List UInt8 := dkwJ2_add_1 ++ []
def dkwJ2_add_0 : List UInt8 := [42, 89, 180, 0, 63, 4, 96, 181, 0, 63, 42, 43, 42, 180, 0, 9, 42, 180, 0, 48, 182, 0, 131, 4]
abbrev dktJ2_add_0 : List UInt8 := dkwJ2_add_0 ++ dktJ2_add_1
theorem dksJ2_add_0 : cJ2_add.data.toList.drop 0 = dktJ2_add_0 := by decide +kernel
theorem dksJ2_add_1 : cJ2_add.data.toList.drop 24 = dktJ2_add_1 := dk_seg dksJ2_add_0 24 rfl rfl
theorem dJ2_add_0 : decode cJ2_add 0 = .ok (.aload_n 0, 1) := dk_42 (dk_at dksJ2_add_0 0 rfl rfl)
theorem dJ2_add_1 : decode cJ2_add 1 = .ok (.dup, 1) := dk_89 (dk_at dksJ2_add_0 1 rfl rfl)
theorem dJ2_add_2 : decode cJ2_add 2 = .ok (.getfield 63, 3) := dk_180 0 63 (dk_at dksJ2_add_0 2 rfl rfl)
theorem dJ2_add_5 : decode cJ2_add 5 = .ok (.iconst 1, 1) := dk_4 (dk_at dksJ2_add_0 5 rfl rfl)
theorem dJ2_add_6 : decode cJ2_add 6 = .ok (.iadd, 1) := dk_96 (dk_at dksJ2_add_0 6 rfl rfl)
theorem dJ2_add_7 : decode cJ2_add 7 = .ok (.putfield 63, 3) := dk_181 0 63 (dk_at dksJ2_add_0 7 rfl rfl)
theorem dJ2_add_10 : decode cJ2_add 10 = .ok (.aload_n 0, 1) := dk_42 (dk_at dksJ2_add_0 10 rfl rfl)
theorem dJ2_add_11 : decode cJ2_add 11 = .ok (.aload_n 1, 1) := dk_43 (dk_at dksJ2_add_0 11 rfl rfl)
theorem dJ2_add_12 : decode cJ2_add 12 = .ok (.aload_n 0, 1) := dk_42 (dk_at dksJ2_add_0 12 rfl rfl)
theorem dJ2_add_13 : decode cJ2_add 13 = .ok (.getfield 9, 3) := dk_180 0 9 (dk_at dksJ2_add_0 13 rfl rfl)
theorem dJ2_add_16 : decode cJ2_add 16 = .ok (.aload_n 0, 1) := dk_42 (dk_at dksJ2_add_0 16 rfl rfl)
theorem dJ2_add_17 : decode cJ2_add 17 = .ok (.getfield 48, 3) := dk_180 0 48 (dk_at dksJ2_add_0 17 rfl rfl)
theorem dJ2_add_20 : decode cJ2_add 20 = .ok (.invokevirtual 131, 3) := dk_182 0 131 (dk_at dksJ2_add_0 20 rfl rfl)
theorem dJ2_add_23 : decode cJ2_add 23 = .ok (.iconst 1, 1) := dk_4 (dk_at dksJ2_add_0 23 rfl rfl)
theorem dJ2_add_24 : decode cJ2_add 24 = .ok (.ireturn, 1) := dk_172 (dk_at dksJ2_add_1 0 rfl rfl)
abbrev cJ2_add_2 : ByteArray := prog_54_method_24_code
def yJ2_add_2 : MethodName := ⟨RJ2, "add", "(Ljava/lang/Object;[Ljava/lang/Object;I)V"⟩
def dkwJ2_add_2_0 : List UInt8 := [29, 44, 190, 160, 0, 8, 42, 182, 0, 129, 77, 44, 29, 43, 83, 42, 29, 4, 96, 181, 0, 48, 177]
abbrev dktJ2_add_2_0 : List UInt8 := dkwJ2_add_2_0 ++ []
theorem dksJ2_add_2_0 : cJ2_add_2.data.toList.drop 0 = dktJ2_add_2_0 := by decide +kernel
theorem dJ2_add_2_0 : decode cJ2_add_2 0 = .ok (.iload_n 3, 1) := dk_29 (dk_at dksJ2_add_2_0 0 rfl rfl)
theorem dJ2_add_2_1 : decode cJ2_add_2 1 = .ok (.aload_n 2, 1) := dk_44 (dk_at dksJ2_add_2_0 1 rfl rfl)
theorem dJ2_add_2_2 : decode cJ2_add_2 2 = .ok (.arraylength, 1) := dk_190 (dk_at dksJ2_add_2_0 2 rfl rfl)
theorem dJ2_add_2_3 : decode cJ2_add_2 3 = .ok (.if_icmp .ne 8, 3) := dk_160 0 8 (dk_at dksJ2_add_2_0 3 rfl rfl)
theorem dJ2_add_2_6 : decode cJ2_add_2 6 = .ok (.aload_n 0, 1) := dk_42 (dk_at dksJ2_add_2_0 6 rfl rfl)
theorem dJ2_add_2_7 : decode cJ2_add_2 7 = .ok (.invokevirtual 129, 3) := dk_182 0 129 (dk_at dksJ2_add_2_0 7 rfl rfl)
theorem dJ2_add_2_10 : decode cJ2_add_2 10 = .ok (.astore_n 2, 1) := dk_77 (dk_at dksJ2_add_2_0 10 rfl rfl)
theorem dJ2_add_2_11 : decode cJ2_add_2 11 = .ok (.aload_n 2, 1) := dk_44 (dk_at dksJ2_add_2_0 11 rfl rfl)
theorem dJ2_add_2_12 : decode cJ2_add_2 12 = .ok (.iload_n 3, 1) := dk_29 (dk_at dksJ2_add_2_0 12 rfl rfl)
theorem dJ2_add_2_13 : decode cJ2_add_2 13 = .ok (.aload_n 1, 1) := dk_43 (dk_at dksJ2_add_2_0 13 rfl rfl)
theorem dJ2_add_2_14 : decode cJ2_add_2 14 = .ok (.aastore, 1) := dk_83 (dk_at dksJ2_add_2_0 14 rfl rfl)
theorem dJ2_add_2_15 : decode cJ2_add_2 15 = .ok (.aload_n 0, 1) := dk_42 (dk_at dksJ2_add_2_0 15 rfl rfl)
theorem dJ2_add_2_16 : decode cJ2_add_2 16 = .ok (.iload_n 3, 1) := dk_29 (dk_at dksJ2_add_2_0 16 rfl rfl)
theorem dJ2_add_2_17 : decode cJ2_add_2 17 = .ok (.iconst 1, 1) := dk_4 (dk_at dksJ2_add_2_0 17 rfl rfl)
theorem dJ2_add_2_18 : decode cJ2_add_2 18 = .ok (.iadd, 1) := dk_96 (dk_at dksJ2_add_2_0 18 rfl rfl)
theorem dJ2_add_2_19 : decode cJ2_add_2 19 = .ok (.putfield 48, 3) := dk_181 0 48 (dk_at dksJ2_add_2_0 19 rfl rfl)
theorem dJ2_add_2_22 : decode cJ2_add_2 22 = .ok (.return_, 1) := dk_177 (dk_at dksJ2_add_2_0 22 rfl rfl)
abbrev cJ2_grow : ByteArray := prog_54_method_7_code
def yJ2_grow : MethodName := ⟨RJ2, "grow", "()[Ljava/lang/Object;"⟩
def dkwJ2_grow_0 : List UInt8 := [42, 42, 180, 0, 48, 4, 96, 182, 0, 69, 176]
abbrev dktJ2_grow_0 : List UInt8 := dkwJ2_grow_0 ++ []
theorem dksJ2_grow_0 : cJ2_grow.data.toList.drop 0 = dktJ2_grow_0 := by decide +kernel
theorem dJ2_grow_0 : decode cJ2_grow 0 = .ok (.aload_n 0, 1) := dk_42 (dk_at dksJ2_grow_0 0 rfl rfl)
theorem dJ2_grow_1 : decode cJ2_grow 1 = .ok (.aload_n 0, 1) := dk_42 (dk_at dksJ2_grow_0 1 rfl rfl)
theorem dJ2_grow_2 : decode cJ2_grow 2 = .ok (.getfield 48, 3) := dk_180 0 48 (dk_at dksJ2_grow_0 2 rfl rfl)
theorem dJ2_grow_5 : decode cJ2_grow 5 = .ok (.iconst 1, 1) := dk_4 (dk_at dksJ2_grow_0 5 rfl rfl)
theorem dJ2_grow_6 : decode cJ2_grow 6 = .ok (.iadd, 1) := dk_96 (dk_at dksJ2_grow_0 6 rfl rfl)
theorem dJ2_grow_7 : decode cJ2_grow 7 = .ok (.invokevirtual 69, 3) := dk_182 0 69 (dk_at dksJ2_grow_0 7 rfl rfl)
theorem dJ2_grow_10 : decode cJ2_grow 10 = .ok (.areturn, 1) := dk_176 (dk_at dksJ2_grow_0 10 rfl rfl)
abbrev cJ2_grow_2 : ByteArray := prog_54_method_6_code
def yJ2_grow_2 : MethodName := ⟨RJ2, "grow", "(I)[Ljava/lang/Object;"⟩
def dkwJ2_grow_2_2 : List UInt8 := [27, 184, 0, 79, 189, 0, 7, 90, 181, 0, 9, 176]
abbrev dktJ2_grow_2_2 : List UInt8 := dkwJ2_grow_2_2 ++ []
def dkwJ2_grow_2_1 : List UInt8 := [28, 4, 122, 184, 0, 73, 62, 42, 42, 180, 0, 9, 29, 184, 0, 66, 90, 181, 0, 9, 176, 42, 16, 10]
abbrev dktJ2_grow_2_1 : List UInt8 := dkwJ2_grow_2_1 ++ dktJ2_grow_2_2
def dkwJ2_grow_2_0 : List UInt8 := [42, 180, 0, 9, 190, 61, 28, 157, 0, 13, 42, 180, 0, 9, 178, 0, 39, 165, 0, 28, 28, 27, 28, 100]
abbrev dktJ2_grow_2_0 : List UInt8 := dkwJ2_grow_2_0 ++ dktJ2_grow_2_1
theorem dksJ2_grow_2_0 : cJ2_grow_2.data.toList.drop 0 = dktJ2_grow_2_0 := by decide +kernel
theorem dksJ2_grow_2_1 : cJ2_grow_2.data.toList.drop 24 = dktJ2_grow_2_1 := dk_seg dksJ2_grow_2_0 24 rfl rfl
theorem dksJ2_grow_2_2 : cJ2_grow_2.data.toList.drop 48 = dktJ2_grow_2_2 := dk_seg dksJ2_grow_2_1 24 rfl rfl
theorem dJ2_grow_2_0 : decode cJ2_grow_2 0 = .ok (.aload_n 0, 1) := dk_42 (dk_at dksJ2_grow_2_0 0 rfl rfl)
theorem dJ2_grow_2_1 : decode cJ2_grow_2 1 = .ok (.getfield 9, 3) := dk_180 0 9 (dk_at dksJ2_grow_2_0 1 rfl rfl)
theorem dJ2_grow_2_4 : decode cJ2_grow_2 4 = .ok (.arraylength, 1) := dk_190 (dk_at dksJ2_grow_2_0 4 rfl rfl)
theorem dJ2_grow_2_5 : decode cJ2_grow_2 5 = .ok (.istore_n 2, 1) := dk_61 (dk_at dksJ2_grow_2_0 5 rfl rfl)
theorem dJ2_grow_2_6 : decode cJ2_grow_2 6 = .ok (.iload_n 2, 1) := dk_28 (dk_at dksJ2_grow_2_0 6 rfl rfl)
theorem dJ2_grow_2_7 : decode cJ2_grow_2 7 = .ok (.ifCond .gt 13, 3) := dk_157 0 13 (dk_at dksJ2_grow_2_0 7 rfl rfl)
theorem dJ2_grow_2_10 : decode cJ2_grow_2 10 = .ok (.aload_n 0, 1) := dk_42 (dk_at dksJ2_grow_2_0 10 rfl rfl)
theorem dJ2_grow_2_11 : decode cJ2_grow_2 11 = .ok (.getfield 9, 3) := dk_180 0 9 (dk_at dksJ2_grow_2_0 11 rfl rfl)
theorem dJ2_grow_2_14 : decode cJ2_grow_2 14 = .ok (.getstatic 39, 3) := dk_178 0 39 (dk_at dksJ2_grow_2_0 14 rfl rfl)
theorem dJ2_grow_2_17 : decode cJ2_grow_2 17 = .ok (.if_acmp .eq 28, 3) := dk_165 0 28 (dk_at dksJ2_grow_2_0 17 rfl rfl)
theorem dJ2_grow_2_20 : decode cJ2_grow_2 20 = .ok (.iload_n 2, 1) := dk_28 (dk_at dksJ2_grow_2_0 20 rfl rfl)
theorem dJ2_grow_2_21 : decode cJ2_grow_2 21 = .ok (.iload_n 1, 1) := dk_27 (dk_at dksJ2_grow_2_0 21 rfl rfl)
theorem dJ2_grow_2_22 : decode cJ2_grow_2 22 = .ok (.iload_n 2, 1) := dk_28 (dk_at dksJ2_grow_2_0 22 rfl rfl)
theorem dJ2_grow_2_23 : decode cJ2_grow_2 23 = .ok (.isub, 1) := dk_100 (dk_at dksJ2_grow_2_0 23 rfl rfl)
theorem dJ2_grow_2_24 : decode cJ2_grow_2 24 = .ok (.iload_n 2, 1) := dk_28 (dk_at dksJ2_grow_2_1 0 rfl rfl)
theorem dJ2_grow_2_25 : decode cJ2_grow_2 25 = .ok (.iconst 1, 1) := dk_4 (dk_at dksJ2_grow_2_1 1 rfl rfl)
theorem dJ2_grow_2_26 : decode cJ2_grow_2 26 = .ok (.ishr, 1) := dk_122 (dk_at dksJ2_grow_2_1 2 rfl rfl)
theorem dJ2_grow_2_27 : decode cJ2_grow_2 27 = .ok (.invokestatic 73, 3) := dk_184 0 73 (dk_at dksJ2_grow_2_1 3 rfl rfl)
theorem dJ2_grow_2_30 : decode cJ2_grow_2 30 = .ok (.istore_n 3, 1) := dk_62 (dk_at dksJ2_grow_2_1 6 rfl rfl)
theorem dJ2_grow_2_31 : decode cJ2_grow_2 31 = .ok (.aload_n 0, 1) := dk_42 (dk_at dksJ2_grow_2_1 7 rfl rfl)
theorem dJ2_grow_2_32 : decode cJ2_grow_2 32 = .ok (.aload_n 0, 1) := dk_42 (dk_at dksJ2_grow_2_1 8 rfl rfl)
theorem dJ2_grow_2_33 : decode cJ2_grow_2 33 = .ok (.getfield 9, 3) := dk_180 0 9 (dk_at dksJ2_grow_2_1 9 rfl rfl)
theorem dJ2_grow_2_36 : decode cJ2_grow_2 36 = .ok (.iload_n 3, 1) := dk_29 (dk_at dksJ2_grow_2_1 12 rfl rfl)
theorem dJ2_grow_2_37 : decode cJ2_grow_2 37 = .ok (.invokestatic 66, 3) := dk_184 0 66 (dk_at dksJ2_grow_2_1 13 rfl rfl)
theorem dJ2_grow_2_40 : decode cJ2_grow_2 40 = .ok (.dup_x1, 1) := dk_90 (dk_at dksJ2_grow_2_1 16 rfl rfl)
theorem dJ2_grow_2_41 : decode cJ2_grow_2 41 = .ok (.putfield 9, 3) := dk_181 0 9 (dk_at dksJ2_grow_2_1 17 rfl rfl)
theorem dJ2_grow_2_44 : decode cJ2_grow_2 44 = .ok (.areturn, 1) := dk_176 (dk_at dksJ2_grow_2_1 20 rfl rfl)
theorem dJ2_grow_2_45 : decode cJ2_grow_2 45 = .ok (.aload_n 0, 1) := dk_42 (dk_at dksJ2_grow_2_1 21 rfl rfl)
theorem dJ2_grow_2_46 : decode cJ2_grow_2 46 = .ok (.bipush 10, 2) := dk_16 10 (dk_at dksJ2_grow_2_1 22 rfl rfl)
theorem dJ2_grow_2_48 : decode cJ2_grow_2 48 = .ok (.iload_n 1, 1) := dk_27 (dk_at dksJ2_grow_2_2 0 rfl rfl)
theorem dJ2_grow_2_49 : decode cJ2_grow_2 49 = .ok (.invokestatic 79, 3) := dk_184 0 79 (dk_at dksJ2_grow_2_2 1 rfl rfl)
theorem dJ2_grow_2_52 : decode cJ2_grow_2 52 = .ok (.anewarray 7, 3) := dk_189 0 7 (dk_at dksJ2_grow_2_2 4 rfl rfl)
theorem dJ2_grow_2_55 : decode cJ2_grow_2 55 = .ok (.dup_x1, 1) := dk_90 (dk_at dksJ2_grow_2_2 7 rfl rfl)
theorem dJ2_grow_2_56 : decode cJ2_grow_2 56 = .ok (.putfield 9, 3) := dk_181 0 9 (dk_at dksJ2_grow_2_2 8 rfl rfl)
theorem dJ2_grow_2_59 : decode cJ2_grow_2 59 = .ok (.areturn, 1) := dk_176 (dk_at dksJ2_grow_2_2 11 rfl rfl)
abbrev cJ2_size : ByteArray := prog_54_method_8_code
def yJ2_size : MethodName := ⟨RJ2, "size", "()I"⟩
theorem dJ2_size_0 : decode cJ2_size 0 = .ok (.aload_n 0, 1) := by decide +kernel
theorem dJ2_size_1 : decode cJ2_size 1 = .ok (.getfield 48, 3) := by decide +kernel
theorem dJ2_size_4 : decode cJ2_size 4 = .ok (.ireturn, 1) := by decide +kernel
abbrev cJ2_get : ByteArray := prog_54_method_20_code
def yJ2_get : MethodName := ⟨RJ2, "get", "(I)Ljava/lang/Object;"⟩
def dkwJ2_get_0 : List UInt8 := [27, 42, 180, 0, 48, 184, 0, 118, 87, 42, 27, 182, 0, 123, 176]
abbrev dktJ2_get_0 : List UInt8 := dkwJ2_get_0 ++ []
theorem dksJ2_get_0 : cJ2_get.data.toList.drop 0 = dktJ2_get_0 := by decide +kernel
theorem dJ2_get_0 : decode cJ2_get 0 = .ok (.iload_n 1, 1) := dk_27 (dk_at dksJ2_get_0 0 rfl rfl)
theorem dJ2_get_1 : decode cJ2_get 1 = .ok (.aload_n 0, 1) := dk_42 (dk_at dksJ2_get_0 1 rfl rfl)
theorem dJ2_get_2 : decode cJ2_get 2 = .ok (.getfield 48, 3) := dk_180 0 48 (dk_at dksJ2_get_0 2 rfl rfl)
theorem dJ2_get_5 : decode cJ2_get 5 = .ok (.invokestatic 118, 3) := dk_184 0 118 (dk_at dksJ2_get_0 5 rfl rfl)
theorem dJ2_get_8 : decode cJ2_get 8 = .ok (.pop, 1) := dk_87 (dk_at dksJ2_get_0 8 rfl rfl)
theorem dJ2_get_9 : decode cJ2_get 9 = .ok (.aload_n 0, 1) := dk_42 (dk_at dksJ2_get_0 9 rfl rfl)
theorem dJ2_get_10 : decode cJ2_get 10 = .ok (.iload_n 1, 1) := dk_27 (dk_at dksJ2_get_0 10 rfl rfl)
theorem dJ2_get_11 : decode cJ2_get 11 = .ok (.invokevirtual 123, 3) := dk_182 0 123 (dk_at dksJ2_get_0 11 rfl rfl)
theorem dJ2_get_14 : decode cJ2_get 14 = .ok (.areturn, 1) := dk_176 (dk_at dksJ2_get_0 14 rfl rfl)
abbrev cJ2_elementData : ByteArray := prog_54_method_18_code
def yJ2_elementData : MethodName := ⟨RJ2, "elementData", "(I)Ljava/lang/Object;"⟩
def dkwJ2_elementData_0 : List UInt8 := [42, 180, 0, 9, 27, 50, 176]
abbrev dktJ2_elementData_0 : List UInt8 := dkwJ2_elementData_0 ++ []
theorem dksJ2_elementData_0 : cJ2_elementData.data.toList.drop 0 = dktJ2_elementData_0 := by decide +kernel
theorem dJ2_elementData_0 : decode cJ2_elementData 0 = .ok (.aload_n 0, 1) := dk_42 (dk_at dksJ2_elementData_0 0 rfl rfl)
theorem dJ2_elementData_1 : decode cJ2_elementData 1 = .ok (.getfield 9, 3) := dk_180 0 9 (dk_at dksJ2_elementData_0 1 rfl rfl)
theorem dJ2_elementData_4 : decode cJ2_elementData 4 = .ok (.iload_n 1, 1) := dk_27 (dk_at dksJ2_elementData_0 4 rfl rfl)
theorem dJ2_elementData_5 : decode cJ2_elementData 5 = .ok (.aaload, 1) := dk_50 (dk_at dksJ2_elementData_0 5 rfl rfl)
theorem dJ2_elementData_6 : decode cJ2_elementData 6 = .ok (.areturn, 1) := dk_176 (dk_at dksJ2_elementData_0 6 rfl rfl)
abbrev cJ2_iterator : ByteArray := prog_54_method_55_code
def yJ2_iterator : MethodName := ⟨RJ2, "iterator", "()Ljava/util/Iterator;"⟩
def dkwJ2_iterator_0 : List UInt8 := [187, 1, 11, 89, 42, 183, 1, 13, 176]
abbrev dktJ2_iterator_0 : List UInt8 := dkwJ2_iterator_0 ++ []
theorem dksJ2_iterator_0 : cJ2_iterator.data.toList.drop 0 = dktJ2_iterator_0 := by decide +kernel
theorem dJ2_iterator_0 : decode cJ2_iterator 0 = .ok (.new 267, 3) := dk_187 1 11 (dk_at dksJ2_iterator_0 0 rfl rfl)
theorem dJ2_iterator_3 : decode cJ2_iterator 3 = .ok (.dup, 1) := dk_89 (dk_at dksJ2_iterator_0 3 rfl rfl)
theorem dJ2_iterator_4 : decode cJ2_iterator 4 = .ok (.aload_n 0, 1) := dk_42 (dk_at dksJ2_iterator_0 4 rfl rfl)
theorem dJ2_iterator_5 : decode cJ2_iterator 5 = .ok (.invokespecial 269, 3) := dk_183 1 13 (dk_at dksJ2_iterator_0 5 rfl rfl)
theorem dJ2_iterator_8 : decode cJ2_iterator 8 = .ok (.areturn, 1) := dk_176 (dk_at dksJ2_iterator_0 8 rfl rfl)
abbrev cJ2_isEmpty : ByteArray := prog_54_method_9_code
def yJ2_isEmpty : MethodName := ⟨RJ2, "isEmpty", "()Z"⟩
def dkwJ2_isEmpty_0 : List UInt8 := [42, 180, 0, 48, 154, 0, 7, 4, 167, 0, 4, 3, 172]
abbrev dktJ2_isEmpty_0 : List UInt8 := dkwJ2_isEmpty_0 ++ []
theorem dksJ2_isEmpty_0 : cJ2_isEmpty.data.toList.drop 0 = dktJ2_isEmpty_0 := by decide +kernel
theorem dJ2_isEmpty_0 : decode cJ2_isEmpty 0 = .ok (.aload_n 0, 1) := dk_42 (dk_at dksJ2_isEmpty_0 0 rfl rfl)
theorem dJ2_isEmpty_1 : decode cJ2_isEmpty 1 = .ok (.getfield 48, 3) := dk_180 0 48 (dk_at dksJ2_isEmpty_0 1 rfl rfl)
theorem dJ2_isEmpty_4 : decode cJ2_isEmpty 4 = .ok (.ifCond .ne 7, 3) := dk_154 0 7 (dk_at dksJ2_isEmpty_0 4 rfl rfl)
theorem dJ2_isEmpty_7 : decode cJ2_isEmpty 7 = .ok (.iconst 1, 1) := dk_4 (dk_at dksJ2_isEmpty_0 7 rfl rfl)
theorem dJ2_isEmpty_8 : decode cJ2_isEmpty 8 = .ok (.goto 4, 3) := dk_167 0 4 (dk_at dksJ2_isEmpty_0 8 rfl rfl)
theorem dJ2_isEmpty_11 : decode cJ2_isEmpty 11 = .ok (.iconst 0, 1) := dk_3 (dk_at dksJ2_isEmpty_0 11 rfl rfl)
theorem dJ2_isEmpty_12 : decode cJ2_isEmpty 12 = .ok (.ireturn, 1) := dk_172 (dk_at dksJ2_isEmpty_0 12 rfl rfl)
abbrev cJ2_remove : ByteArray := prog_54_method_29_code
def yJ2_remove : MethodName := ⟨RJ2, "remove", "(I)Ljava/lang/Object;"⟩
def dkwJ2_remove_1 : List UInt8 := [45, 176]
abbrev dktJ2_remove_1 : List UInt8 := dkwJ2_remove_1 ++ []
def dkwJ2_remove_0 : List UInt8 := [27, 42, 180, 0, 48, 184, 0, 118, 87, 42, 180, 0, 9, 77, 44, 27, 50, 78, 42, 44, 27, 182, 0, 144]
abbrev dktJ2_remove_0 : List UInt8 := dkwJ2_remove_0 ++ dktJ2_remove_1
theorem dksJ2_remove_0 : cJ2_remove.data.toList.drop 0 = dktJ2_remove_0 := by decide +kernel
theorem dksJ2_remove_1 : cJ2_remove.data.toList.drop 24 = dktJ2_remove_1 := dk_seg dksJ2_remove_0 24 rfl rfl
theorem dJ2_remove_0 : decode cJ2_remove 0 = .ok (.iload_n 1, 1) := dk_27 (dk_at dksJ2_remove_0 0 rfl rfl)
theorem dJ2_remove_1 : decode cJ2_remove 1 = .ok (.aload_n 0, 1) := dk_42 (dk_at dksJ2_remove_0 1 rfl rfl)
theorem dJ2_remove_2 : decode cJ2_remove 2 = .ok (.getfield 48, 3) := dk_180 0 48 (dk_at dksJ2_remove_0 2 rfl rfl)
theorem dJ2_remove_5 : decode cJ2_remove 5 = .ok (.invokestatic 118, 3) := dk_184 0 118 (dk_at dksJ2_remove_0 5 rfl rfl)
theorem dJ2_remove_8 : decode cJ2_remove 8 = .ok (.pop, 1) := dk_87 (dk_at dksJ2_remove_0 8 rfl rfl)
theorem dJ2_remove_9 : decode cJ2_remove 9 = .ok (.aload_n 0, 1) := dk_42 (dk_at dksJ2_remove_0 9 rfl rfl)
theorem dJ2_remove_10 : decode cJ2_remove 10 = .ok (.getfield 9, 3) := dk_180 0 9 (dk_at dksJ2_remove_0 10 rfl rfl)
theorem dJ2_remove_13 : decode cJ2_remove 13 = .ok (.astore_n 2, 1) := dk_77 (dk_at dksJ2_remove_0 13 rfl rfl)
theorem dJ2_remove_14 : decode cJ2_remove 14 = .ok (.aload_n 2, 1) := dk_44 (dk_at dksJ2_remove_0 14 rfl rfl)
theorem dJ2_remove_15 : decode cJ2_remove 15 = .ok (.iload_n 1, 1) := dk_27 (dk_at dksJ2_remove_0 15 rfl rfl)
theorem dJ2_remove_16 : decode cJ2_remove 16 = .ok (.aaload, 1) := dk_50 (dk_at dksJ2_remove_0 16 rfl rfl)
theorem dJ2_remove_17 : decode cJ2_remove 17 = .ok (.astore_n 3, 1) := dk_78 (dk_at dksJ2_remove_0 17 rfl rfl)
theorem dJ2_remove_18 : decode cJ2_remove 18 = .ok (.aload_n 0, 1) := dk_42 (dk_at dksJ2_remove_0 18 rfl rfl)
theorem dJ2_remove_19 : decode cJ2_remove 19 = .ok (.aload_n 2, 1) := dk_44 (dk_at dksJ2_remove_0 19 rfl rfl)
theorem dJ2_remove_20 : decode cJ2_remove 20 = .ok (.iload_n 1, 1) := dk_27 (dk_at dksJ2_remove_0 20 rfl rfl)
theorem dJ2_remove_21 : decode cJ2_remove 21 = .ok (.invokevirtual 144, 3) := dk_182 0 144 (dk_at dksJ2_remove_0 21 rfl rfl)
theorem dJ2_remove_24 : decode cJ2_remove 24 = .ok (.aload_n 3, 1) := dk_45 (dk_at dksJ2_remove_1 0 rfl rfl)
theorem dJ2_remove_25 : decode cJ2_remove 25 = .ok (.areturn, 1) := dk_176 (dk_at dksJ2_remove_1 1 rfl rfl)
abbrev cJ2_fastRemove : ByteArray := prog_54_method_39_code
def yJ2_fastRemove : MethodName := ⟨RJ2, "fastRemove", "([Ljava/lang/Object;I)V"⟩
def dkwJ2_fastRemove_1 : List UInt8 := [4, 96, 43, 28, 29, 28, 100, 184, 0, 112, 43, 42, 29, 90, 181, 0, 48, 1, 83, 177]
abbrev dktJ2_fastRemove_1 : List UInt8 := dkwJ2_fastRemove_1 ++ []
def dkwJ2_fastRemove_0 : List UInt8 := [42, 89, 180, 0, 63, 4, 96, 181, 0, 63, 42, 180, 0, 48, 4, 100, 89, 62, 28, 164, 0, 15, 43, 28]
abbrev dktJ2_fastRemove_0 : List UInt8 := dkwJ2_fastRemove_0 ++ dktJ2_fastRemove_1
theorem dksJ2_fastRemove_0 : cJ2_fastRemove.data.toList.drop 0 = dktJ2_fastRemove_0 := by decide +kernel
theorem dksJ2_fastRemove_1 : cJ2_fastRemove.data.toList.drop 24 = dktJ2_fastRemove_1 := dk_seg dksJ2_fastRemove_0 24 rfl rfl
theorem dJ2_fastRemove_0 : decode cJ2_fastRemove 0 = .ok (.aload_n 0, 1) := dk_42 (dk_at dksJ2_fastRemove_0 0 rfl rfl)
theorem dJ2_fastRemove_1 : decode cJ2_fastRemove 1 = .ok (.dup, 1) := dk_89 (dk_at dksJ2_fastRemove_0 1 rfl rfl)
theorem dJ2_fastRemove_2 : decode cJ2_fastRemove 2 = .ok (.getfield 63, 3) := dk_180 0 63 (dk_at dksJ2_fastRemove_0 2 rfl rfl)
theorem dJ2_fastRemove_5 : decode cJ2_fastRemove 5 = .ok (.iconst 1, 1) := dk_4 (dk_at dksJ2_fastRemove_0 5 rfl rfl)
theorem dJ2_fastRemove_6 : decode cJ2_fastRemove 6 = .ok (.iadd, 1) := dk_96 (dk_at dksJ2_fastRemove_0 6 rfl rfl)
theorem dJ2_fastRemove_7 : decode cJ2_fastRemove 7 = .ok (.putfield 63, 3) := dk_181 0 63 (dk_at dksJ2_fastRemove_0 7 rfl rfl)
theorem dJ2_fastRemove_10 : decode cJ2_fastRemove 10 = .ok (.aload_n 0, 1) := dk_42 (dk_at dksJ2_fastRemove_0 10 rfl rfl)
theorem dJ2_fastRemove_11 : decode cJ2_fastRemove 11 = .ok (.getfield 48, 3) := dk_180 0 48 (dk_at dksJ2_fastRemove_0 11 rfl rfl)
theorem dJ2_fastRemove_14 : decode cJ2_fastRemove 14 = .ok (.iconst 1, 1) := dk_4 (dk_at dksJ2_fastRemove_0 14 rfl rfl)
theorem dJ2_fastRemove_15 : decode cJ2_fastRemove 15 = .ok (.isub, 1) := dk_100 (dk_at dksJ2_fastRemove_0 15 rfl rfl)
theorem dJ2_fastRemove_16 : decode cJ2_fastRemove 16 = .ok (.dup, 1) := dk_89 (dk_at dksJ2_fastRemove_0 16 rfl rfl)
theorem dJ2_fastRemove_17 : decode cJ2_fastRemove 17 = .ok (.istore_n 3, 1) := dk_62 (dk_at dksJ2_fastRemove_0 17 rfl rfl)
theorem dJ2_fastRemove_18 : decode cJ2_fastRemove 18 = .ok (.iload_n 2, 1) := dk_28 (dk_at dksJ2_fastRemove_0 18 rfl rfl)
theorem dJ2_fastRemove_19 : decode cJ2_fastRemove 19 = .ok (.if_icmp .le 15, 3) := dk_164 0 15 (dk_at dksJ2_fastRemove_0 19 rfl rfl)
theorem dJ2_fastRemove_22 : decode cJ2_fastRemove 22 = .ok (.aload_n 1, 1) := dk_43 (dk_at dksJ2_fastRemove_0 22 rfl rfl)
theorem dJ2_fastRemove_23 : decode cJ2_fastRemove 23 = .ok (.iload_n 2, 1) := dk_28 (dk_at dksJ2_fastRemove_0 23 rfl rfl)
theorem dJ2_fastRemove_24 : decode cJ2_fastRemove 24 = .ok (.iconst 1, 1) := dk_4 (dk_at dksJ2_fastRemove_1 0 rfl rfl)
theorem dJ2_fastRemove_25 : decode cJ2_fastRemove 25 = .ok (.iadd, 1) := dk_96 (dk_at dksJ2_fastRemove_1 1 rfl rfl)
theorem dJ2_fastRemove_26 : decode cJ2_fastRemove 26 = .ok (.aload_n 1, 1) := dk_43 (dk_at dksJ2_fastRemove_1 2 rfl rfl)
theorem dJ2_fastRemove_27 : decode cJ2_fastRemove 27 = .ok (.iload_n 2, 1) := dk_28 (dk_at dksJ2_fastRemove_1 3 rfl rfl)
theorem dJ2_fastRemove_28 : decode cJ2_fastRemove 28 = .ok (.iload_n 3, 1) := dk_29 (dk_at dksJ2_fastRemove_1 4 rfl rfl)
theorem dJ2_fastRemove_29 : decode cJ2_fastRemove 29 = .ok (.iload_n 2, 1) := dk_28 (dk_at dksJ2_fastRemove_1 5 rfl rfl)
theorem dJ2_fastRemove_30 : decode cJ2_fastRemove 30 = .ok (.isub, 1) := dk_100 (dk_at dksJ2_fastRemove_1 6 rfl rfl)
theorem dJ2_fastRemove_31 : decode cJ2_fastRemove 31 = .ok (.invokestatic 112, 3) := dk_184 0 112 (dk_at dksJ2_fastRemove_1 7 rfl rfl)
theorem dJ2_fastRemove_34 : decode cJ2_fastRemove 34 = .ok (.aload_n 1, 1) := dk_43 (dk_at dksJ2_fastRemove_1 10 rfl rfl)
theorem dJ2_fastRemove_35 : decode cJ2_fastRemove 35 = .ok (.aload_n 0, 1) := dk_42 (dk_at dksJ2_fastRemove_1 11 rfl rfl)
theorem dJ2_fastRemove_36 : decode cJ2_fastRemove 36 = .ok (.iload_n 3, 1) := dk_29 (dk_at dksJ2_fastRemove_1 12 rfl rfl)
theorem dJ2_fastRemove_37 : decode cJ2_fastRemove 37 = .ok (.dup_x1, 1) := dk_90 (dk_at dksJ2_fastRemove_1 13 rfl rfl)
theorem dJ2_fastRemove_38 : decode cJ2_fastRemove 38 = .ok (.putfield 48, 3) := dk_181 0 48 (dk_at dksJ2_fastRemove_1 14 rfl rfl)
theorem dJ2_fastRemove_41 : decode cJ2_fastRemove 41 = .ok (.aconst_null, 1) := dk_1 (dk_at dksJ2_fastRemove_1 17 rfl rfl)
theorem dJ2_fastRemove_42 : decode cJ2_fastRemove 42 = .ok (.aastore, 1) := dk_83 (dk_at dksJ2_fastRemove_1 18 rfl rfl)
theorem dJ2_fastRemove_43 : decode cJ2_fastRemove 43 = .ok (.return_, 1) := dk_177 (dk_at dksJ2_fastRemove_1 19 rfl rfl)
theorem q81 : (Jvm.Cond.initialized "java/util/ArrayList") ∈ lw_all := lw_g (lw_at lw_m1 4 rfl) rfl
theorem q145 : (Jvm.Cond.instantiable "java/util/ArrayList" (3 : Nat)) ∈ lw_all := lw_g (lw_at lw_m1 68 rfl) rfl
theorem q147 : (Jvm.Cond.instanceMethod ({ cls := "java/util/ArrayList", name := "<init>", desc := "()V" } : Jvm.MethodName)) ∈ lw_all := lw_g (lw_at lw_m1 70 rfl) rfl
theorem q148 : (Jvm.Cond.code ({ cls := "java/util/ArrayList", name := "<init>", desc := "()V" } : Jvm.MethodName) prog_54_method_2_code (1 : Nat) (Option.none : Option Jvm.ClassFile.FieldType)) ∈ lw_all := lw_g (lw_at lw_m1 71 rfl) rfl
theorem q149 : (Jvm.Cond.methodLink "java/util/ArrayList" (1 : Nat) ({ cls := "java/util/AbstractList", name := "<init>", desc := "()V" } : Jvm.MethodName)) ∈ lw_all := lw_g (lw_at lw_m1 72 rfl) rfl
theorem q156 : (Jvm.Cond.fieldLink "java/util/ArrayList" (39 : Nat) "java/util/ArrayList" "DEFAULTCAPACITY_EMPTY_ELEMENTDATA" "[Ljava/lang/Object;") ∈ lw_all := lw_g (lw_at lw_m1 79 rfl) rfl
theorem q157 : (Jvm.Cond.laysStatic "java/util/ArrayList" "DEFAULTCAPACITY_EMPTY_ELEMENTDATA" "[Ljava/lang/Object;") ∈ lw_tbl := lw_at lw_m1 80 rfl
theorem q158 : (Jvm.Cond.fieldLink "java/util/ArrayList" (9 : Nat) "java/util/ArrayList" "elementData" "[Ljava/lang/Object;") ∈ lw_all := lw_g (lw_at lw_m1 81 rfl) rfl
theorem q161 : (Jvm.Cond.fieldLink "java/util/ArrayList" (48 : Nat) "java/util/ArrayList" "size" "I") ∈ lw_all := lw_g (lw_at lw_m1 84 rfl) rfl
theorem q164 : (Jvm.Cond.sameField "java/util/ArrayList" "java/util/AbstractList" "modCount" "I") ∈ lw_all := lw_g (lw_at lw_m1 87 rfl) rfl
theorem q165 : (Jvm.Cond.fieldLink "java/util/ArrayList" (63 : Nat) "java/util/ArrayList" "modCount" "I") ∈ lw_all := lw_g (lw_at lw_m1 88 rfl) rfl
theorem q166 : (Jvm.Cond.lays "java/util/ArrayList" "java/util/ArrayList" "elementData" "[Ljava/lang/Object;") ∈ lw_all := lw_g (lw_at lw_m1 89 rfl) rfl
theorem q167 : (Jvm.Cond.soleField "java/util/ArrayList" "elementData") ∈ lw_all := lw_g (lw_at lw_m1 90 rfl) rfl
theorem q168 : (Jvm.Cond.lays "java/util/ArrayList" "java/util/ArrayList" "size" "I") ∈ lw_all := lw_g (lw_at lw_m1 91 rfl) rfl
theorem q169 : (Jvm.Cond.soleField "java/util/ArrayList" "size") ∈ lw_all := lw_g (lw_at lw_m1 92 rfl) rfl
theorem q170 : (Jvm.Cond.lays "java/util/ArrayList" "java/util/AbstractList" "modCount" "I") ∈ lw_all := lw_g (lw_at lw_m1 93 rfl) rfl
theorem q172 : (Jvm.Cond.superclass "java/util/ArrayList" "java/util/AbstractList") ∈ lw_all := lw_g (lw_at lw_m1 95 rfl) rfl
theorem q400 : (Jvm.Cond.instanceMethod ({ cls := "java/util/ArrayList", name := "add", desc := "(Ljava/lang/Object;)Z" } : Jvm.MethodName)) ∈ lw_all := lw_g (lw_at lw_m2 83 rfl) rfl
theorem q401 : (Jvm.Cond.selects "java/util/ArrayList" ({ cls := "java/util/ArrayList", name := "add", desc := "(Ljava/lang/Object;)Z" } : Jvm.MethodName) ({ cls := "java/util/ArrayList", name := "add", desc := "(Ljava/lang/Object;)Z" } : Jvm.MethodName)) ∈ lw_all := lw_g (lw_at lw_m2 84 rfl) rfl
theorem q402 : (Jvm.Cond.code ({ cls := "java/util/ArrayList", name := "add", desc := "(Ljava/lang/Object;)Z" } : Jvm.MethodName) prog_54_method_25_code (2 : Nat) (Option.some Jvm.ClassFile.FieldType.boolean)) ∈ lw_all := lw_g (lw_at lw_m2 85 rfl) rfl
theorem q403 : (Jvm.Cond.methodLink "java/util/ArrayList" (131 : Nat) ({ cls := "java/util/ArrayList", name := "add", desc := "(Ljava/lang/Object;[Ljava/lang/Object;I)V" } : Jvm.MethodName)) ∈ lw_all := lw_g (lw_at lw_m2 86 rfl) rfl
theorem q404 : (Jvm.Cond.privateMethod ({ cls := "java/util/ArrayList", name := "add", desc := "(Ljava/lang/Object;[Ljava/lang/Object;I)V" } : Jvm.MethodName)) ∈ lw_tbl := lw_at lw_m2 87 rfl
theorem q405 : (Jvm.Cond.instanceMethod ({ cls := "java/util/ArrayList", name := "add", desc := "(Ljava/lang/Object;[Ljava/lang/Object;I)V" } : Jvm.MethodName)) ∈ lw_all := lw_g (lw_at lw_m2 88 rfl) rfl
theorem q406 : (Jvm.Cond.code ({ cls := "java/util/ArrayList", name := "add", desc := "(Ljava/lang/Object;[Ljava/lang/Object;I)V" } : Jvm.MethodName) prog_54_method_24_code (4 : Nat) (Option.none : Option Jvm.ClassFile.FieldType)) ∈ lw_all := lw_g (lw_at lw_m2 89 rfl) rfl
theorem q407 : (Jvm.Cond.methodLink "java/util/ArrayList" (129 : Nat) ({ cls := "java/util/ArrayList", name := "grow", desc := "()[Ljava/lang/Object;" } : Jvm.MethodName)) ∈ lw_all := lw_g (lw_at lw_m2 90 rfl) rfl
theorem q408 : (Jvm.Cond.privateMethod ({ cls := "java/util/ArrayList", name := "grow", desc := "()[Ljava/lang/Object;" } : Jvm.MethodName)) ∈ lw_tbl := lw_at lw_m2 91 rfl
theorem q409 : (Jvm.Cond.instanceMethod ({ cls := "java/util/ArrayList", name := "grow", desc := "()[Ljava/lang/Object;" } : Jvm.MethodName)) ∈ lw_all := lw_g (lw_at lw_m2 92 rfl) rfl
theorem q410 : (Jvm.Cond.code ({ cls := "java/util/ArrayList", name := "grow", desc := "()[Ljava/lang/Object;" } : Jvm.MethodName) prog_54_method_7_code (1 : Nat) (Option.some (Jvm.ClassFile.FieldType.array (Jvm.ClassFile.FieldType.object "java/lang/Object")))) ∈ lw_all := lw_g (lw_at lw_m2 93 rfl) rfl
theorem q411 : (Jvm.Cond.methodLink "java/util/ArrayList" (69 : Nat) ({ cls := "java/util/ArrayList", name := "grow", desc := "(I)[Ljava/lang/Object;" } : Jvm.MethodName)) ∈ lw_all := lw_g (lw_at lw_m2 94 rfl) rfl
theorem q412 : (Jvm.Cond.privateMethod ({ cls := "java/util/ArrayList", name := "grow", desc := "(I)[Ljava/lang/Object;" } : Jvm.MethodName)) ∈ lw_tbl := lw_at lw_m2 95 rfl
theorem q413 : (Jvm.Cond.instanceMethod ({ cls := "java/util/ArrayList", name := "grow", desc := "(I)[Ljava/lang/Object;" } : Jvm.MethodName)) ∈ lw_all := lw_g (lw_at lw_m2 96 rfl) rfl
theorem q414 : (Jvm.Cond.code ({ cls := "java/util/ArrayList", name := "grow", desc := "(I)[Ljava/lang/Object;" } : Jvm.MethodName) prog_54_method_6_code (4 : Nat) (Option.some (Jvm.ClassFile.FieldType.array (Jvm.ClassFile.FieldType.object "java/lang/Object")))) ∈ lw_all := lw_g (lw_at lw_m2 97 rfl) rfl
theorem q415 : (Jvm.Cond.methodLink "java/util/ArrayList" (73 : Nat) ({ cls := "jdk/internal/util/ArraysSupport", name := "newLength", desc := "(III)I" } : Jvm.MethodName)) ∈ lw_all := lw_g (lw_at lw_m2 98 rfl) rfl
theorem q425 : (Jvm.Cond.methodLink "java/util/ArrayList" (66 : Nat) ({ cls := "java/util/Arrays", name := "copyOf", desc := "([Ljava/lang/Object;I)[Ljava/lang/Object;" } : Jvm.MethodName)) ∈ lw_all := lw_g (lw_at lw_m2 108 rfl) rfl
theorem q451 : (Jvm.Cond.selects "java/util/ArrayList" ({ cls := "java/lang/Object", name := "getClass", desc := "()Ljava/lang/Class;" } : Jvm.MethodName) ({ cls := "java/lang/Object", name := "getClass", desc := "()Ljava/lang/Class;" } : Jvm.MethodName)) ∈ lw_all := lw_g (lw_at lw_m2 134 rfl) rfl
theorem q477 : (Jvm.Cond.methodLink "java/util/ArrayList" (79 : Nat) ({ cls := "java/lang/Math", name := "max", desc := "(II)I" } : Jvm.MethodName)) ∈ lw_all := lw_g (lw_at lw_m2 160 rfl) rfl
theorem q478 : (Jvm.Cond.classLink "java/util/ArrayList" (7 : Nat) "java/lang/Object") ∈ lw_all := lw_g (lw_at lw_m2 161 rfl) rfl
theorem q480 : (Jvm.Cond.instanceMethod ({ cls := "java/util/ArrayList", name := "size", desc := "()I" } : Jvm.MethodName)) ∈ lw_all := lw_g (lw_at lw_m2 163 rfl) rfl
theorem q481 : (Jvm.Cond.selects "java/util/ArrayList" ({ cls := "java/util/ArrayList", name := "size", desc := "()I" } : Jvm.MethodName) ({ cls := "java/util/ArrayList", name := "size", desc := "()I" } : Jvm.MethodName)) ∈ lw_all := lw_g (lw_at lw_m2 164 rfl) rfl
theorem q482 : (Jvm.Cond.code ({ cls := "java/util/ArrayList", name := "size", desc := "()I" } : Jvm.MethodName) prog_54_method_8_code (1 : Nat) (Option.some Jvm.ClassFile.FieldType.int)) ∈ lw_all := lw_g (lw_at lw_m2 165 rfl) rfl
theorem q687 : (Jvm.Cond.instanceMethod ({ cls := "java/util/ArrayList", name := "get", desc := "(I)Ljava/lang/Object;" } : Jvm.MethodName)) ∈ lw_all := lw_g (lw_at lw_m3 130 rfl) rfl
theorem q688 : (Jvm.Cond.selects "java/util/ArrayList" ({ cls := "java/util/ArrayList", name := "get", desc := "(I)Ljava/lang/Object;" } : Jvm.MethodName) ({ cls := "java/util/ArrayList", name := "get", desc := "(I)Ljava/lang/Object;" } : Jvm.MethodName)) ∈ lw_all := lw_g (lw_at lw_m3 131 rfl) rfl
theorem q689 : (Jvm.Cond.code ({ cls := "java/util/ArrayList", name := "get", desc := "(I)Ljava/lang/Object;" } : Jvm.MethodName) prog_54_method_20_code (2 : Nat) (Option.some (Jvm.ClassFile.FieldType.object "java/lang/Object"))) ∈ lw_all := lw_g (lw_at lw_m3 132 rfl) rfl
theorem q690 : (Jvm.Cond.methodLink "java/util/ArrayList" (118 : Nat) ({ cls := "java/util/Objects", name := "checkIndex", desc := "(II)I" } : Jvm.MethodName)) ∈ lw_all := lw_g (lw_at lw_m3 133 rfl) rfl
theorem q696 : (Jvm.Cond.methodLink "java/util/ArrayList" (123 : Nat) ({ cls := "java/util/ArrayList", name := "elementData", desc := "(I)Ljava/lang/Object;" } : Jvm.MethodName)) ∈ lw_all := lw_g (lw_at lw_m3 139 rfl) rfl
theorem q697 : (Jvm.Cond.instanceMethod ({ cls := "java/util/ArrayList", name := "elementData", desc := "(I)Ljava/lang/Object;" } : Jvm.MethodName)) ∈ lw_all := lw_g (lw_at lw_m3 140 rfl) rfl
theorem q698 : (Jvm.Cond.selects "java/util/ArrayList" ({ cls := "java/util/ArrayList", name := "elementData", desc := "(I)Ljava/lang/Object;" } : Jvm.MethodName) ({ cls := "java/util/ArrayList", name := "elementData", desc := "(I)Ljava/lang/Object;" } : Jvm.MethodName)) ∈ lw_all := lw_g (lw_at lw_m3 141 rfl) rfl
theorem q699 : (Jvm.Cond.code ({ cls := "java/util/ArrayList", name := "elementData", desc := "(I)Ljava/lang/Object;" } : Jvm.MethodName) prog_54_method_18_code (2 : Nat) (Option.some (Jvm.ClassFile.FieldType.object "java/lang/Object"))) ∈ lw_all := lw_g (lw_at lw_m3 142 rfl) rfl
theorem q706 : (Jvm.Cond.instanceMethod ({ cls := "java/util/ArrayList", name := "iterator", desc := "()Ljava/util/Iterator;" } : Jvm.MethodName)) ∈ lw_all := lw_g (lw_at lw_m3 149 rfl) rfl
theorem q707 : (Jvm.Cond.selects "java/util/ArrayList" ({ cls := "java/util/ArrayList", name := "iterator", desc := "()Ljava/util/Iterator;" } : Jvm.MethodName) ({ cls := "java/util/ArrayList", name := "iterator", desc := "()Ljava/util/Iterator;" } : Jvm.MethodName)) ∈ lw_all := lw_g (lw_at lw_m3 150 rfl) rfl
theorem q708 : (Jvm.Cond.code ({ cls := "java/util/ArrayList", name := "iterator", desc := "()Ljava/util/Iterator;" } : Jvm.MethodName) prog_54_method_55_code (1 : Nat) (Option.some (Jvm.ClassFile.FieldType.object "java/util/Iterator"))) ∈ lw_all := lw_g (lw_at lw_m3 151 rfl) rfl
theorem q709 : (Jvm.Cond.classLink "java/util/ArrayList" (267 : Nat) "java/util/ArrayList$Itr") ∈ lw_all := lw_g (lw_at lw_m3 152 rfl) rfl
theorem q711 : (Jvm.Cond.methodLink "java/util/ArrayList" (269 : Nat) ({ cls := "java/util/ArrayList$Itr", name := "<init>", desc := "(Ljava/util/ArrayList;)V" } : Jvm.MethodName)) ∈ lw_all := lw_g (lw_at lw_m3 154 rfl) rfl
theorem q1012 : (Jvm.Cond.instanceMethod ({ cls := "java/util/ArrayList", name := "isEmpty", desc := "()Z" } : Jvm.MethodName)) ∈ lw_all := lw_g (lw_at lw_m4 215 rfl) rfl
theorem q1013 : (Jvm.Cond.selects "java/util/ArrayList" ({ cls := "java/util/ArrayList", name := "isEmpty", desc := "()Z" } : Jvm.MethodName) ({ cls := "java/util/ArrayList", name := "isEmpty", desc := "()Z" } : Jvm.MethodName)) ∈ lw_all := lw_g (lw_at lw_m4 216 rfl) rfl
theorem q1014 : (Jvm.Cond.code ({ cls := "java/util/ArrayList", name := "isEmpty", desc := "()Z" } : Jvm.MethodName) prog_54_method_9_code (1 : Nat) (Option.some Jvm.ClassFile.FieldType.boolean)) ∈ lw_all := lw_g (lw_at lw_m4 217 rfl) rfl
theorem q1016 : (Jvm.Cond.instanceMethod ({ cls := "java/util/ArrayList", name := "remove", desc := "(I)Ljava/lang/Object;" } : Jvm.MethodName)) ∈ lw_all := lw_g (lw_at lw_m4 219 rfl) rfl
theorem q1017 : (Jvm.Cond.selects "java/util/ArrayList" ({ cls := "java/util/ArrayList", name := "remove", desc := "(I)Ljava/lang/Object;" } : Jvm.MethodName) ({ cls := "java/util/ArrayList", name := "remove", desc := "(I)Ljava/lang/Object;" } : Jvm.MethodName)) ∈ lw_all := lw_g (lw_at lw_m4 220 rfl) rfl
theorem q1018 : (Jvm.Cond.code ({ cls := "java/util/ArrayList", name := "remove", desc := "(I)Ljava/lang/Object;" } : Jvm.MethodName) prog_54_method_29_code (4 : Nat) (Option.some (Jvm.ClassFile.FieldType.object "java/lang/Object"))) ∈ lw_all := lw_g (lw_at lw_m4 221 rfl) rfl
theorem q1019 : (Jvm.Cond.methodLink "java/util/ArrayList" (144 : Nat) ({ cls := "java/util/ArrayList", name := "fastRemove", desc := "([Ljava/lang/Object;I)V" } : Jvm.MethodName)) ∈ lw_all := lw_g (lw_at lw_m4 222 rfl) rfl
theorem q1020 : (Jvm.Cond.privateMethod ({ cls := "java/util/ArrayList", name := "fastRemove", desc := "([Ljava/lang/Object;I)V" } : Jvm.MethodName)) ∈ lw_tbl := lw_at lw_m4 223 rfl
theorem q1021 : (Jvm.Cond.instanceMethod ({ cls := "java/util/ArrayList", name := "fastRemove", desc := "([Ljava/lang/Object;I)V" } : Jvm.MethodName)) ∈ lw_all := lw_g (lw_at lw_m4 224 rfl) rfl
theorem q1022 : (Jvm.Cond.code ({ cls := "java/util/ArrayList", name := "fastRemove", desc := "([Ljava/lang/Object;I)V" } : Jvm.MethodName) prog_54_method_39_code (4 : Nat) (Option.none : Option Jvm.ClassFile.FieldType)) ∈ lw_all := lw_g (lw_at lw_m4 225 rfl) rfl
theorem q1023 : (Jvm.Cond.methodLink "java/util/ArrayList" (112 : Nat) ({ cls := "java/lang/System", name := "arraycopy", desc := "(Ljava/lang/Object;ILjava/lang/Object;II)V" } : Jvm.MethodName)) ∈ lw_all := lw_g (lw_at lw_m4 226 rfl) rfl
theorem q1455 : (Jvm.Cond.selects "java/util/ArrayList" ({ cls := "java/util/AbstractCollection", name := "size", desc := "()I" } : Jvm.MethodName) ({ cls := "java/util/ArrayList", name := "size", desc := "()I" } : Jvm.MethodName)) ∈ lw_all := lw_g (lw_at lw_m6 178 rfl) rfl
theorem q1844 : (Jvm.Cond.castable "java/util/ArrayList" "java/util/Collection") ∈ lw_tbl := lw_at lw_m8 87 rfl
theorem q1845 : (Jvm.Cond.selects "java/util/ArrayList" ({ cls := "java/util/Collection", name := "iterator", desc := "()Ljava/util/Iterator;" } : Jvm.MethodName) ({ cls := "java/util/ArrayList", name := "iterator", desc := "()Ljava/util/Iterator;" } : Jvm.MethodName)) ∈ lw_all := lw_g (lw_at lw_m8 88 rfl) rfl
theorem q1846 : (Jvm.Cond.unhidden "java/util/ArrayList" "iterator" "()Ljava/util/Iterator;") ∈ lw_tbl := lw_at lw_m8 89 rfl
theorem q1847 : (Jvm.Cond.publicMethod ({ cls := "java/util/ArrayList", name := "iterator", desc := "()Ljava/util/Iterator;" } : Jvm.MethodName)) ∈ lw_tbl := lw_at lw_m8 90 rfl
theorem q2756 : (Jvm.Cond.castable "java/util/ArrayList" "java/lang/Object") ∈ lw_tbl := lw_at lw_m12 39 rfl
theorem in_J2 : ∀ w ∈ wsJ20, w ∈ lw_all := lw_in wsJ20 [170, 166, 168] (by decide +kernel) (by decide +kernel)
/-! jdk/internal/util/ArraysSupport -/
set_option maxRecDepth 100000
def RJ6 : String := "jdk/internal/util/ArraysSupport"
abbrev cJ6_newLength : ByteArray := prog_88_method_27_code
def yJ6_newLength : MethodName := ⟨RJ6, "newLength", "(III)I"⟩
def dkwJ6_newLength_1 : List UInt8 := [184, 0, 201, 172]
abbrev dktJ6_newLength_1 : List UInt8 := dkwJ6_newLength_1 ++ []
def dkwJ6_newLength_0 : List UInt8 := [26, 27, 28, 184, 0, 194, 96, 62, 3, 29, 162, 0, 11, 29, 18, 200, 163, 0, 5, 29, 172, 26, 27]
abbrev dktJ6_newLength_0 : List UInt8 := dkwJ6_newLength_0 ++ dktJ6_newLength_1
theorem dksJ6_newLength_0 : cJ6_newLength.data.toList.drop 0 = dktJ6_newLength_0 := by decide +kernel
theorem dksJ6_newLength_1 : cJ6_newLength.data.toList.drop 23 = dktJ6_newLength_1 := dk_seg dksJ6_newLength_0 23 rfl rfl
theorem dJ6_newLength_0 : decode cJ6_newLength 0 = .ok (.iload_n 0, 1) := dk_26 (dk_at dksJ6_newLength_0 0 rfl rfl)
theorem dJ6_newLength_1 : decode cJ6_newLength 1 = .ok (.iload_n 1, 1) := dk_27 (dk_at dksJ6_newLength_0 1 rfl rfl)
theorem dJ6_newLength_2 : decode cJ6_newLength 2 = .ok (.iload_n 2, 1) := dk_28 (dk_at dksJ6_newLength_0 2 rfl rfl)
theorem dJ6_newLength_3 : decode cJ6_newLength 3 = .ok (.invokestatic 194, 3) := dk_184 0 194 (dk_at dksJ6_newLength_0 3 rfl rfl)
theorem dJ6_newLength_6 : decode cJ6_newLength 6 = .ok (.iadd, 1) := dk_96 (dk_at dksJ6_newLength_0 6 rfl rfl)
theorem dJ6_newLength_7 : decode cJ6_newLength 7 = .ok (.istore_n 3, 1) := dk_62 (dk_at dksJ6_newLength_0 7 rfl rfl)
theorem dJ6_newLength_8 : decode cJ6_newLength 8 = .ok (.iconst 0, 1) := dk_3 (dk_at dksJ6_newLength_0 8 rfl rfl)
theorem dJ6_newLength_9 : decode cJ6_newLength 9 = .ok (.iload_n 3, 1) := dk_29 (dk_at dksJ6_newLength_0 9 rfl rfl)
theorem dJ6_newLength_10 : decode cJ6_newLength 10 = .ok (.if_icmp .ge 11, 3) := dk_162 0 11 (dk_at dksJ6_newLength_0 10 rfl rfl)
theorem dJ6_newLength_13 : decode cJ6_newLength 13 = .ok (.iload_n 3, 1) := dk_29 (dk_at dksJ6_newLength_0 13 rfl rfl)
theorem dJ6_newLength_14 : decode cJ6_newLength 14 = .ok (.ldc 200, 2) := dk_18 200 (dk_at dksJ6_newLength_0 14 rfl rfl)
theorem dJ6_newLength_16 : decode cJ6_newLength 16 = .ok (.if_icmp .gt 5, 3) := dk_163 0 5 (dk_at dksJ6_newLength_0 16 rfl rfl)
theorem dJ6_newLength_19 : decode cJ6_newLength 19 = .ok (.iload_n 3, 1) := dk_29 (dk_at dksJ6_newLength_0 19 rfl rfl)
theorem dJ6_newLength_20 : decode cJ6_newLength 20 = .ok (.ireturn, 1) := dk_172 (dk_at dksJ6_newLength_0 20 rfl rfl)
theorem dJ6_newLength_21 : decode cJ6_newLength 21 = .ok (.iload_n 0, 1) := dk_26 (dk_at dksJ6_newLength_0 21 rfl rfl)
theorem dJ6_newLength_22 : decode cJ6_newLength 22 = .ok (.iload_n 1, 1) := dk_27 (dk_at dksJ6_newLength_0 22 rfl rfl)
theorem dJ6_newLength_23 : decode cJ6_newLength 23 = .ok (.invokestatic 201, 3) := dk_184 0 201 (dk_at dksJ6_newLength_1 0 rfl rfl)
theorem dJ6_newLength_26 : decode cJ6_newLength 26 = .ok (.ireturn, 1) := dk_172 (dk_at dksJ6_newLength_1 3 rfl rfl)
abbrev cJ6_hugeLength : ByteArray := prog_88_method_28_code
def yJ6_hugeLength : MethodName := ⟨RJ6, "hugeLength", "(II)I"⟩
def dkwJ6_hugeLength_2 : List UInt8 := [191, 28, 18, 200, 163, 0, 6, 18, 200, 172, 28, 172]
abbrev dktJ6_hugeLength_2 : List UInt8 := dkwJ6_hugeLength_2 ++ []
def dkwJ6_hugeLength_1 : List UInt8 := [26, 182, 0, 98, 18, 208, 182, 0, 94, 27, 182, 0, 98, 18, 210, 182, 0, 94, 182, 0, 101, 183, 0, 212]
abbrev dktJ6_hugeLength_1 : List UInt8 := dkwJ6_hugeLength_1 ++ dktJ6_hugeLength_2
def dkwJ6_hugeLength_0 : List UInt8 := [26, 27, 96, 61, 28, 156, 0, 44, 187, 0, 204, 89, 187, 0, 89, 89, 183, 0, 91, 18, 206, 182, 0, 94]
abbrev dktJ6_hugeLength_0 : List UInt8 := dkwJ6_hugeLength_0 ++ dktJ6_hugeLength_1
theorem dksJ6_hugeLength_0 : cJ6_hugeLength.data.toList.drop 0 = dktJ6_hugeLength_0 := by decide +kernel
theorem dksJ6_hugeLength_1 : cJ6_hugeLength.data.toList.drop 24 = dktJ6_hugeLength_1 := dk_seg dksJ6_hugeLength_0 24 rfl rfl
theorem dksJ6_hugeLength_2 : cJ6_hugeLength.data.toList.drop 48 = dktJ6_hugeLength_2 := dk_seg dksJ6_hugeLength_1 24 rfl rfl
theorem dJ6_hugeLength_0 : decode cJ6_hugeLength 0 = .ok (.iload_n 0, 1) := dk_26 (dk_at dksJ6_hugeLength_0 0 rfl rfl)
theorem dJ6_hugeLength_1 : decode cJ6_hugeLength 1 = .ok (.iload_n 1, 1) := dk_27 (dk_at dksJ6_hugeLength_0 1 rfl rfl)
theorem dJ6_hugeLength_2 : decode cJ6_hugeLength 2 = .ok (.iadd, 1) := dk_96 (dk_at dksJ6_hugeLength_0 2 rfl rfl)
theorem dJ6_hugeLength_3 : decode cJ6_hugeLength 3 = .ok (.istore_n 2, 1) := dk_61 (dk_at dksJ6_hugeLength_0 3 rfl rfl)
theorem dJ6_hugeLength_4 : decode cJ6_hugeLength 4 = .ok (.iload_n 2, 1) := dk_28 (dk_at dksJ6_hugeLength_0 4 rfl rfl)
theorem dJ6_hugeLength_5 : decode cJ6_hugeLength 5 = .ok (.ifCond .ge 44, 3) := dk_156 0 44 (dk_at dksJ6_hugeLength_0 5 rfl rfl)
theorem dJ6_hugeLength_8 : decode cJ6_hugeLength 8 = .ok (.new 204, 3) := dk_187 0 204 (dk_at dksJ6_hugeLength_0 8 rfl rfl)
theorem dJ6_hugeLength_11 : decode cJ6_hugeLength 11 = .ok (.dup, 1) := dk_89 (dk_at dksJ6_hugeLength_0 11 rfl rfl)
theorem dJ6_hugeLength_12 : decode cJ6_hugeLength 12 = .ok (.new 89, 3) := dk_187 0 89 (dk_at dksJ6_hugeLength_0 12 rfl rfl)
theorem dJ6_hugeLength_15 : decode cJ6_hugeLength 15 = .ok (.dup, 1) := dk_89 (dk_at dksJ6_hugeLength_0 15 rfl rfl)
theorem dJ6_hugeLength_16 : decode cJ6_hugeLength 16 = .ok (.invokespecial 91, 3) := dk_183 0 91 (dk_at dksJ6_hugeLength_0 16 rfl rfl)
theorem dJ6_hugeLength_19 : decode cJ6_hugeLength 19 = .ok (.ldc 206, 2) := dk_18 206 (dk_at dksJ6_hugeLength_0 19 rfl rfl)
theorem dJ6_hugeLength_21 : decode cJ6_hugeLength 21 = .ok (.invokevirtual 94, 3) := dk_182 0 94 (dk_at dksJ6_hugeLength_0 21 rfl rfl)
theorem dJ6_hugeLength_24 : decode cJ6_hugeLength 24 = .ok (.iload_n 0, 1) := dk_26 (dk_at dksJ6_hugeLength_1 0 rfl rfl)
theorem dJ6_hugeLength_25 : decode cJ6_hugeLength 25 = .ok (.invokevirtual 98, 3) := dk_182 0 98 (dk_at dksJ6_hugeLength_1 1 rfl rfl)
theorem dJ6_hugeLength_28 : decode cJ6_hugeLength 28 = .ok (.ldc 208, 2) := dk_18 208 (dk_at dksJ6_hugeLength_1 4 rfl rfl)
theorem dJ6_hugeLength_30 : decode cJ6_hugeLength 30 = .ok (.invokevirtual 94, 3) := dk_182 0 94 (dk_at dksJ6_hugeLength_1 6 rfl rfl)
theorem dJ6_hugeLength_33 : decode cJ6_hugeLength 33 = .ok (.iload_n 1, 1) := dk_27 (dk_at dksJ6_hugeLength_1 9 rfl rfl)
theorem dJ6_hugeLength_34 : decode cJ6_hugeLength 34 = .ok (.invokevirtual 98, 3) := dk_182 0 98 (dk_at dksJ6_hugeLength_1 10 rfl rfl)
theorem dJ6_hugeLength_37 : decode cJ6_hugeLength 37 = .ok (.ldc 210, 2) := dk_18 210 (dk_at dksJ6_hugeLength_1 13 rfl rfl)
theorem dJ6_hugeLength_39 : decode cJ6_hugeLength 39 = .ok (.invokevirtual 94, 3) := dk_182 0 94 (dk_at dksJ6_hugeLength_1 15 rfl rfl)
theorem dJ6_hugeLength_42 : decode cJ6_hugeLength 42 = .ok (.invokevirtual 101, 3) := dk_182 0 101 (dk_at dksJ6_hugeLength_1 18 rfl rfl)
theorem dJ6_hugeLength_45 : decode cJ6_hugeLength 45 = .ok (.invokespecial 212, 3) := dk_183 0 212 (dk_at dksJ6_hugeLength_1 21 rfl rfl)
theorem dJ6_hugeLength_48 : decode cJ6_hugeLength 48 = .ok (.athrow, 1) := dk_191 (dk_at dksJ6_hugeLength_2 0 rfl rfl)
theorem dJ6_hugeLength_49 : decode cJ6_hugeLength 49 = .ok (.iload_n 2, 1) := dk_28 (dk_at dksJ6_hugeLength_2 1 rfl rfl)
theorem dJ6_hugeLength_50 : decode cJ6_hugeLength 50 = .ok (.ldc 200, 2) := dk_18 200 (dk_at dksJ6_hugeLength_2 2 rfl rfl)
theorem dJ6_hugeLength_52 : decode cJ6_hugeLength 52 = .ok (.if_icmp .gt 6, 3) := dk_163 0 6 (dk_at dksJ6_hugeLength_2 4 rfl rfl)
theorem dJ6_hugeLength_55 : decode cJ6_hugeLength 55 = .ok (.ldc 200, 2) := dk_18 200 (dk_at dksJ6_hugeLength_2 7 rfl rfl)
theorem dJ6_hugeLength_57 : decode cJ6_hugeLength 57 = .ok (.ireturn, 1) := dk_172 (dk_at dksJ6_hugeLength_2 9 rfl rfl)
theorem dJ6_hugeLength_58 : decode cJ6_hugeLength 58 = .ok (.iload_n 2, 1) := dk_28 (dk_at dksJ6_hugeLength_2 10 rfl rfl)
theorem dJ6_hugeLength_59 : decode cJ6_hugeLength 59 = .ok (.ireturn, 1) := dk_172 (dk_at dksJ6_hugeLength_2 11 rfl rfl)
abbrev cJ6_mismatch : ByteArray := prog_88_method_13_code
def yJ6_mismatch : MethodName := ⟨RJ6, "mismatch", "([B[BI)I"⟩
def dkwJ6_mismatch_3 : List UInt8 := [172]
abbrev dktJ6_mismatch_3 : List UInt8 := dkwJ6_mismatch_3 ++ []
def dkwJ6_mismatch_2 : List UInt8 := [62, 29, 28, 162, 0, 20, 42, 29, 51, 43, 29, 51, 159, 0, 5, 29, 172, 132, 3, 1, 167, 255, 237, 2]
abbrev dktJ6_mismatch_2 : List UInt8 := dkwJ6_mismatch_2 ++ dktJ6_mismatch_3
def dkwJ6_mismatch_1 : List UInt8 := [43, 178, 0, 126, 133, 28, 178, 0, 129, 184, 0, 122, 62, 29, 155, 0, 5, 29, 172, 28, 29, 2, 130, 100]
abbrev dktJ6_mismatch_1 : List UInt8 := dkwJ6_mismatch_1 ++ dktJ6_mismatch_2
def dkwJ6_mismatch_0 : List UInt8 := [3, 62, 28, 16, 7, 164, 0, 44, 42, 3, 51, 43, 3, 51, 159, 0, 5, 3, 172, 42, 178, 0, 126, 133]
abbrev dktJ6_mismatch_0 : List UInt8 := dkwJ6_mismatch_0 ++ dktJ6_mismatch_1
theorem dksJ6_mismatch_0 : cJ6_mismatch.data.toList.drop 0 = dktJ6_mismatch_0 := by decide +kernel
theorem dksJ6_mismatch_1 : cJ6_mismatch.data.toList.drop 24 = dktJ6_mismatch_1 := dk_seg dksJ6_mismatch_0 24 rfl rfl
theorem dksJ6_mismatch_2 : cJ6_mismatch.data.toList.drop 48 = dktJ6_mismatch_2 := dk_seg dksJ6_mismatch_1 24 rfl rfl
theorem dksJ6_mismatch_3 : cJ6_mismatch.data.toList.drop 72 = dktJ6_mismatch_3 := dk_seg dksJ6_mismatch_2 24 rfl rfl
theorem dJ6_mismatch_0 : decode cJ6_mismatch 0 = .ok (.iconst 0, 1) := dk_3 (dk_at dksJ6_mismatch_0 0 rfl rfl)
theorem dJ6_mismatch_1 : decode cJ6_mismatch 1 = .ok (.istore_n 3, 1) := dk_62 (dk_at dksJ6_mismatch_0 1 rfl rfl)
theorem dJ6_mismatch_2 : decode cJ6_mismatch 2 = .ok (.iload_n 2, 1) := dk_28 (dk_at dksJ6_mismatch_0 2 rfl rfl)
theorem dJ6_mismatch_3 : decode cJ6_mismatch 3 = .ok (.bipush 7, 2) := dk_16 7 (dk_at dksJ6_mismatch_0 3 rfl rfl)
theorem dJ6_mismatch_5 : decode cJ6_mismatch 5 = .ok (.if_icmp .le 44, 3) := dk_164 0 44 (dk_at dksJ6_mismatch_0 5 rfl rfl)
theorem dJ6_mismatch_8 : decode cJ6_mismatch 8 = .ok (.aload_n 0, 1) := dk_42 (dk_at dksJ6_mismatch_0 8 rfl rfl)
theorem dJ6_mismatch_9 : decode cJ6_mismatch 9 = .ok (.iconst 0, 1) := dk_3 (dk_at dksJ6_mismatch_0 9 rfl rfl)
theorem dJ6_mismatch_10 : decode cJ6_mismatch 10 = .ok (.baload, 1) := dk_51 (dk_at dksJ6_mismatch_0 10 rfl rfl)
theorem dJ6_mismatch_11 : decode cJ6_mismatch 11 = .ok (.aload_n 1, 1) := dk_43 (dk_at dksJ6_mismatch_0 11 rfl rfl)
theorem dJ6_mismatch_12 : decode cJ6_mismatch 12 = .ok (.iconst 0, 1) := dk_3 (dk_at dksJ6_mismatch_0 12 rfl rfl)
theorem dJ6_mismatch_13 : decode cJ6_mismatch 13 = .ok (.baload, 1) := dk_51 (dk_at dksJ6_mismatch_0 13 rfl rfl)
theorem dJ6_mismatch_14 : decode cJ6_mismatch 14 = .ok (.if_icmp .eq 5, 3) := dk_159 0 5 (dk_at dksJ6_mismatch_0 14 rfl rfl)
theorem dJ6_mismatch_17 : decode cJ6_mismatch 17 = .ok (.iconst 0, 1) := dk_3 (dk_at dksJ6_mismatch_0 17 rfl rfl)
theorem dJ6_mismatch_18 : decode cJ6_mismatch 18 = .ok (.ireturn, 1) := dk_172 (dk_at dksJ6_mismatch_0 18 rfl rfl)
theorem dJ6_mismatch_19 : decode cJ6_mismatch 19 = .ok (.aload_n 0, 1) := dk_42 (dk_at dksJ6_mismatch_0 19 rfl rfl)
theorem dJ6_mismatch_20 : decode cJ6_mismatch 20 = .ok (.getstatic 126, 3) := dk_178 0 126 (dk_at dksJ6_mismatch_0 20 rfl rfl)
theorem dJ6_mismatch_23 : decode cJ6_mismatch 23 = .ok (.i2l, 1) := dk_133 (dk_at dksJ6_mismatch_0 23 rfl rfl)
theorem dJ6_mismatch_24 : decode cJ6_mismatch 24 = .ok (.aload_n 1, 1) := dk_43 (dk_at dksJ6_mismatch_1 0 rfl rfl)
theorem dJ6_mismatch_25 : decode cJ6_mismatch 25 = .ok (.getstatic 126, 3) := dk_178 0 126 (dk_at dksJ6_mismatch_1 1 rfl rfl)
theorem dJ6_mismatch_28 : decode cJ6_mismatch 28 = .ok (.i2l, 1) := dk_133 (dk_at dksJ6_mismatch_1 4 rfl rfl)
theorem dJ6_mismatch_29 : decode cJ6_mismatch 29 = .ok (.iload_n 2, 1) := dk_28 (dk_at dksJ6_mismatch_1 5 rfl rfl)
theorem dJ6_mismatch_30 : decode cJ6_mismatch 30 = .ok (.getstatic 129, 3) := dk_178 0 129 (dk_at dksJ6_mismatch_1 6 rfl rfl)
theorem dJ6_mismatch_33 : decode cJ6_mismatch 33 = .ok (.invokestatic 122, 3) := dk_184 0 122 (dk_at dksJ6_mismatch_1 9 rfl rfl)
theorem dJ6_mismatch_36 : decode cJ6_mismatch 36 = .ok (.istore_n 3, 1) := dk_62 (dk_at dksJ6_mismatch_1 12 rfl rfl)
theorem dJ6_mismatch_37 : decode cJ6_mismatch 37 = .ok (.iload_n 3, 1) := dk_29 (dk_at dksJ6_mismatch_1 13 rfl rfl)
theorem dJ6_mismatch_38 : decode cJ6_mismatch 38 = .ok (.ifCond .lt 5, 3) := dk_155 0 5 (dk_at dksJ6_mismatch_1 14 rfl rfl)
theorem dJ6_mismatch_41 : decode cJ6_mismatch 41 = .ok (.iload_n 3, 1) := dk_29 (dk_at dksJ6_mismatch_1 17 rfl rfl)
theorem dJ6_mismatch_42 : decode cJ6_mismatch 42 = .ok (.ireturn, 1) := dk_172 (dk_at dksJ6_mismatch_1 18 rfl rfl)
theorem dJ6_mismatch_43 : decode cJ6_mismatch 43 = .ok (.iload_n 2, 1) := dk_28 (dk_at dksJ6_mismatch_1 19 rfl rfl)
theorem dJ6_mismatch_44 : decode cJ6_mismatch 44 = .ok (.iload_n 3, 1) := dk_29 (dk_at dksJ6_mismatch_1 20 rfl rfl)
theorem dJ6_mismatch_45 : decode cJ6_mismatch 45 = .ok (.iconst (-1), 1) := dk_2 (dk_at dksJ6_mismatch_1 21 rfl rfl)
theorem dJ6_mismatch_46 : decode cJ6_mismatch 46 = .ok (.ixor, 1) := dk_130 (dk_at dksJ6_mismatch_1 22 rfl rfl)
theorem dJ6_mismatch_47 : decode cJ6_mismatch 47 = .ok (.isub, 1) := dk_100 (dk_at dksJ6_mismatch_1 23 rfl rfl)
theorem dJ6_mismatch_48 : decode cJ6_mismatch 48 = .ok (.istore_n 3, 1) := dk_62 (dk_at dksJ6_mismatch_2 0 rfl rfl)
theorem dJ6_mismatch_49 : decode cJ6_mismatch 49 = .ok (.iload_n 3, 1) := dk_29 (dk_at dksJ6_mismatch_2 1 rfl rfl)
theorem dJ6_mismatch_50 : decode cJ6_mismatch 50 = .ok (.iload_n 2, 1) := dk_28 (dk_at dksJ6_mismatch_2 2 rfl rfl)
theorem dJ6_mismatch_51 : decode cJ6_mismatch 51 = .ok (.if_icmp .ge 20, 3) := dk_162 0 20 (dk_at dksJ6_mismatch_2 3 rfl rfl)
theorem dJ6_mismatch_54 : decode cJ6_mismatch 54 = .ok (.aload_n 0, 1) := dk_42 (dk_at dksJ6_mismatch_2 6 rfl rfl)
theorem dJ6_mismatch_55 : decode cJ6_mismatch 55 = .ok (.iload_n 3, 1) := dk_29 (dk_at dksJ6_mismatch_2 7 rfl rfl)
theorem dJ6_mismatch_56 : decode cJ6_mismatch 56 = .ok (.baload, 1) := dk_51 (dk_at dksJ6_mismatch_2 8 rfl rfl)
theorem dJ6_mismatch_57 : decode cJ6_mismatch 57 = .ok (.aload_n 1, 1) := dk_43 (dk_at dksJ6_mismatch_2 9 rfl rfl)
theorem dJ6_mismatch_58 : decode cJ6_mismatch 58 = .ok (.iload_n 3, 1) := dk_29 (dk_at dksJ6_mismatch_2 10 rfl rfl)
theorem dJ6_mismatch_59 : decode cJ6_mismatch 59 = .ok (.baload, 1) := dk_51 (dk_at dksJ6_mismatch_2 11 rfl rfl)
theorem dJ6_mismatch_60 : decode cJ6_mismatch 60 = .ok (.if_icmp .eq 5, 3) := dk_159 0 5 (dk_at dksJ6_mismatch_2 12 rfl rfl)
theorem dJ6_mismatch_63 : decode cJ6_mismatch 63 = .ok (.iload_n 3, 1) := dk_29 (dk_at dksJ6_mismatch_2 15 rfl rfl)
theorem dJ6_mismatch_64 : decode cJ6_mismatch 64 = .ok (.ireturn, 1) := dk_172 (dk_at dksJ6_mismatch_2 16 rfl rfl)
theorem dJ6_mismatch_65 : decode cJ6_mismatch 65 = .ok (.iinc 3 1, 3) := dk_132 3 1 (dk_at dksJ6_mismatch_2 17 rfl rfl)
theorem dJ6_mismatch_68 : decode cJ6_mismatch 68 = .ok (.goto (-19), 3) := dk_167 255 237 (dk_at dksJ6_mismatch_2 20 rfl rfl)
theorem dJ6_mismatch_71 : decode cJ6_mismatch 71 = .ok (.iconst (-1), 1) := dk_2 (dk_at dksJ6_mismatch_2 23 rfl rfl)
theorem dJ6_mismatch_72 : decode cJ6_mismatch 72 = .ok (.ireturn, 1) := dk_172 (dk_at dksJ6_mismatch_3 0 rfl rfl)
abbrev cJ6_vectorizedMismatch : ByteArray := prog_88_method_3_code
def yJ6_vectorizedMismatch : MethodName := ⟨RJ6, "vectorizedMismatch", "(Ljava/lang/Object;JLjava/lang/Object;JII)I"⟩
def dkwJ6_vectorizedMismatch_11 : List UInt8 := [54, 10, 21, 10, 2, 130, 172, 21, 10, 2, 130, 172]
abbrev dktJ6_vectorizedMismatch_11 : List UInt8 := dkwJ6_vectorizedMismatch_11 ++ []
def dkwJ6_vectorizedMismatch_10 : List UInt8 := [178, 0, 46, 21, 7, 96, 122, 54, 17, 21, 9, 21, 8, 120, 21, 17, 96, 172, 21, 10, 21, 11, 100]
abbrev dktJ6_vectorizedMismatch_10 : List UInt8 := dkwJ6_vectorizedMismatch_10 ++ dktJ6_vectorizedMismatch_11
def dkwJ6_vectorizedMismatch_9 : List UInt8 := [153, 0, 18, 21, 16, 184, 0, 58, 178, 0, 46, 21, 7, 96, 122, 167, 0, 15, 21, 16, 184, 0, 11]
abbrev dktJ6_vectorizedMismatch_9 : List UInt8 := dkwJ6_vectorizedMismatch_9 ++ dktJ6_vectorizedMismatch_10
def dkwJ6_vectorizedMismatch_8 : List UInt8 := [182, 0, 54, 54, 15, 21, 14, 21, 15, 159, 0, 54, 21, 14, 21, 15, 130, 54, 16, 178, 0, 36]
abbrev dktJ6_vectorizedMismatch_8 : List UInt8 := dkwJ6_vectorizedMismatch_8 ++ dktJ6_vectorizedMismatch_9
def dkwJ6_vectorizedMismatch_7 : List UInt8 := [55, 12, 178, 0, 26, 42, 31, 22, 12, 97, 182, 0, 54, 54, 14, 178, 0, 26, 45, 22, 4, 22, 12, 97]
abbrev dktJ6_vectorizedMismatch_7 : List UInt8 := dkwJ6_vectorizedMismatch_7 ++ dktJ6_vectorizedMismatch_8
def dkwJ6_vectorizedMismatch_6 : List UInt8 := [4, 178, 0, 51, 21, 7, 100, 120, 54, 11, 21, 10, 21, 11, 161, 0, 104, 21, 9, 133, 178, 0, 20, 121]
abbrev dktJ6_vectorizedMismatch_6 : List UInt8 := dkwJ6_vectorizedMismatch_6 ++ dktJ6_vectorizedMismatch_7
def dkwJ6_vectorizedMismatch_5 : List UInt8 := [132, 9, 1, 167, 255, 148, 21, 6, 21, 9, 21, 8, 120, 100, 54, 10, 21, 7, 178, 0, 51, 162, 0, 126]
abbrev dktJ6_vectorizedMismatch_5 : List UInt8 := dkwJ6_vectorizedMismatch_5 ++ dktJ6_vectorizedMismatch_6
def dkwJ6_vectorizedMismatch_4 : List UInt8 := [22, 16, 184, 0, 49, 178, 0, 46, 21, 7, 96, 122, 54, 18, 21, 9, 21, 8, 120, 21, 18, 96, 172]
abbrev dktJ6_vectorizedMismatch_4 : List UInt8 := dkwJ6_vectorizedMismatch_4 ++ dktJ6_vectorizedMismatch_5
def dkwJ6_vectorizedMismatch_3 : List UInt8 := [55, 16, 178, 0, 36, 153, 0, 18, 22, 16, 184, 0, 40, 178, 0, 46, 21, 7, 96, 122, 167, 0, 15]
abbrev dktJ6_vectorizedMismatch_3 : List UInt8 := dkwJ6_vectorizedMismatch_3 ++ dktJ6_vectorizedMismatch_4
def dkwJ6_vectorizedMismatch_2 : List UInt8 := [22, 4, 22, 10, 97, 182, 0, 30, 55, 14, 22, 12, 22, 14, 148, 153, 0, 54, 22, 12, 22, 14, 131]
abbrev dktJ6_vectorizedMismatch_2 : List UInt8 := dkwJ6_vectorizedMismatch_2 ++ dktJ6_vectorizedMismatch_3
def dkwJ6_vectorizedMismatch_1 : List UInt8 := [178, 0, 20, 121, 55, 10, 178, 0, 26, 42, 31, 22, 10, 97, 182, 0, 30, 55, 12, 178, 0, 26, 45]
abbrev dktJ6_vectorizedMismatch_1 : List UInt8 := dkwJ6_vectorizedMismatch_1 ++ dktJ6_vectorizedMismatch_2
def dkwJ6_vectorizedMismatch_0 : List UInt8 := [178, 0, 20, 21, 7, 100, 54, 8, 3, 54, 9, 21, 9, 21, 6, 21, 8, 122, 162, 0, 104, 21, 9, 133]
abbrev dktJ6_vectorizedMismatch_0 : List UInt8 := dkwJ6_vectorizedMismatch_0 ++ dktJ6_vectorizedMismatch_1
theorem dksJ6_vectorizedMismatch_0 : cJ6_vectorizedMismatch.data.toList.drop 0 = dktJ6_vectorizedMismatch_0 := by decide +kernel
theorem dksJ6_vectorizedMismatch_1 : cJ6_vectorizedMismatch.data.toList.drop 24 = dktJ6_vectorizedMismatch_1 := dk_seg dksJ6_vectorizedMismatch_0 24 rfl rfl
theorem dksJ6_vectorizedMismatch_2 : cJ6_vectorizedMismatch.data.toList.drop 47 = dktJ6_vectorizedMismatch_2 := dk_seg dksJ6_vectorizedMismatch_1 23 rfl rfl
theorem dksJ6_vectorizedMismatch_3 : cJ6_vectorizedMismatch.data.toList.drop 70 = dktJ6_vectorizedMismatch_3 := dk_seg dksJ6_vectorizedMismatch_2 23 rfl rfl
theorem dksJ6_vectorizedMismatch_4 : cJ6_vectorizedMismatch.data.toList.drop 93 = dktJ6_vectorizedMismatch_4 := dk_seg dksJ6_vectorizedMismatch_3 23 rfl rfl
theorem dksJ6_vectorizedMismatch_5 : cJ6_vectorizedMismatch.data.toList.drop 116 = dktJ6_vectorizedMismatch_5 := dk_seg dksJ6_vectorizedMismatch_4 23 rfl rfl
theorem dksJ6_vectorizedMismatch_6 : cJ6_vectorizedMismatch.data.toList.drop 140 = dktJ6_vectorizedMismatch_6 := dk_seg dksJ6_vectorizedMismatch_5 24 rfl rfl
theorem dksJ6_vectorizedMismatch_7 : cJ6_vectorizedMismatch.data.toList.drop 164 = dktJ6_vectorizedMismatch_7 := dk_seg dksJ6_vectorizedMismatch_6 24 rfl rfl
theorem dksJ6_vectorizedMismatch_8 : cJ6_vectorizedMismatch.data.toList.drop 188 = dktJ6_vectorizedMismatch_8 := dk_seg dksJ6_vectorizedMismatch_7 24 rfl rfl
theorem dksJ6_vectorizedMismatch_9 : cJ6_vectorizedMismatch.data.toList.drop 210 = dktJ6_vectorizedMismatch_9 := dk_seg dksJ6_vectorizedMismatch_8 22 rfl rfl
theorem dksJ6_vectorizedMismatch_10 : cJ6_vectorizedMismatch.data.toList.drop 233 = dktJ6_vectorizedMismatch_10 := dk_seg dksJ6_vectorizedMismatch_9 23 rfl rfl
theorem dksJ6_vectorizedMismatch_11 : cJ6_vectorizedMismatch.data.toList.drop 256 = dktJ6_vectorizedMismatch_11 := dk_seg dksJ6_vectorizedMismatch_10 23 rfl rfl
theorem dJ6_vectorizedMismatch_0 : decode cJ6_vectorizedMismatch 0 = .ok (.getstatic 20, 3) := dk_178 0 20 (dk_at dksJ6_vectorizedMismatch_0 0 rfl rfl)
theorem dJ6_vectorizedMismatch_3 : decode cJ6_vectorizedMismatch 3 = .ok (.iload 7, 2) := dk_21 7 (dk_at dksJ6_vectorizedMismatch_0 3 rfl rfl)
theorem dJ6_vectorizedMismatch_5 : decode cJ6_vectorizedMismatch 5 = .ok (.isub, 1) := dk_100 (dk_at dksJ6_vectorizedMismatch_0 5 rfl rfl)
theorem dJ6_vectorizedMismatch_6 : decode cJ6_vectorizedMismatch 6 = .ok (.istore 8, 2) := dk_54 8 (dk_at dksJ6_vectorizedMismatch_0 6 rfl rfl)
theorem dJ6_vectorizedMismatch_8 : decode cJ6_vectorizedMismatch 8 = .ok (.iconst 0, 1) := dk_3 (dk_at dksJ6_vectorizedMismatch_0 8 rfl rfl)
theorem dJ6_vectorizedMismatch_9 : decode cJ6_vectorizedMismatch 9 = .ok (.istore 9, 2) := dk_54 9 (dk_at dksJ6_vectorizedMismatch_0 9 rfl rfl)
theorem dJ6_vectorizedMismatch_11 : decode cJ6_vectorizedMismatch 11 = .ok (.iload 9, 2) := dk_21 9 (dk_at dksJ6_vectorizedMismatch_0 11 rfl rfl)
theorem dJ6_vectorizedMismatch_13 : decode cJ6_vectorizedMismatch 13 = .ok (.iload 6, 2) := dk_21 6 (dk_at dksJ6_vectorizedMismatch_0 13 rfl rfl)
theorem dJ6_vectorizedMismatch_15 : decode cJ6_vectorizedMismatch 15 = .ok (.iload 8, 2) := dk_21 8 (dk_at dksJ6_vectorizedMismatch_0 15 rfl rfl)
theorem dJ6_vectorizedMismatch_17 : decode cJ6_vectorizedMismatch 17 = .ok (.ishr, 1) := dk_122 (dk_at dksJ6_vectorizedMismatch_0 17 rfl rfl)
theorem dJ6_vectorizedMismatch_18 : decode cJ6_vectorizedMismatch 18 = .ok (.if_icmp .ge 104, 3) := dk_162 0 104 (dk_at dksJ6_vectorizedMismatch_0 18 rfl rfl)
theorem dJ6_vectorizedMismatch_21 : decode cJ6_vectorizedMismatch 21 = .ok (.iload 9, 2) := dk_21 9 (dk_at dksJ6_vectorizedMismatch_0 21 rfl rfl)
theorem dJ6_vectorizedMismatch_23 : decode cJ6_vectorizedMismatch 23 = .ok (.i2l, 1) := dk_133 (dk_at dksJ6_vectorizedMismatch_0 23 rfl rfl)
theorem dJ6_vectorizedMismatch_24 : decode cJ6_vectorizedMismatch 24 = .ok (.getstatic 20, 3) := dk_178 0 20 (dk_at dksJ6_vectorizedMismatch_1 0 rfl rfl)
theorem dJ6_vectorizedMismatch_27 : decode cJ6_vectorizedMismatch 27 = .ok (.lshl, 1) := dk_121 (dk_at dksJ6_vectorizedMismatch_1 3 rfl rfl)
theorem dJ6_vectorizedMismatch_28 : decode cJ6_vectorizedMismatch 28 = .ok (.lstore 10, 2) := dk_55 10 (dk_at dksJ6_vectorizedMismatch_1 4 rfl rfl)
theorem dJ6_vectorizedMismatch_30 : decode cJ6_vectorizedMismatch 30 = .ok (.getstatic 26, 3) := dk_178 0 26 (dk_at dksJ6_vectorizedMismatch_1 6 rfl rfl)
theorem dJ6_vectorizedMismatch_33 : decode cJ6_vectorizedMismatch 33 = .ok (.aload_n 0, 1) := dk_42 (dk_at dksJ6_vectorizedMismatch_1 9 rfl rfl)
theorem dJ6_vectorizedMismatch_34 : decode cJ6_vectorizedMismatch 34 = .ok (.lload_n 1, 1) := dk_31 (dk_at dksJ6_vectorizedMismatch_1 10 rfl rfl)
theorem dJ6_vectorizedMismatch_35 : decode cJ6_vectorizedMismatch 35 = .ok (.lload 10, 2) := dk_22 10 (dk_at dksJ6_vectorizedMismatch_1 11 rfl rfl)
theorem dJ6_vectorizedMismatch_37 : decode cJ6_vectorizedMismatch 37 = .ok (.ladd, 1) := dk_97 (dk_at dksJ6_vectorizedMismatch_1 13 rfl rfl)
theorem dJ6_vectorizedMismatch_38 : decode cJ6_vectorizedMismatch 38 = .ok (.invokevirtual 30, 3) := dk_182 0 30 (dk_at dksJ6_vectorizedMismatch_1 14 rfl rfl)
theorem dJ6_vectorizedMismatch_41 : decode cJ6_vectorizedMismatch 41 = .ok (.lstore 12, 2) := dk_55 12 (dk_at dksJ6_vectorizedMismatch_1 17 rfl rfl)
theorem dJ6_vectorizedMismatch_43 : decode cJ6_vectorizedMismatch 43 = .ok (.getstatic 26, 3) := dk_178 0 26 (dk_at dksJ6_vectorizedMismatch_1 19 rfl rfl)
theorem dJ6_vectorizedMismatch_46 : decode cJ6_vectorizedMismatch 46 = .ok (.aload_n 3, 1) := dk_45 (dk_at dksJ6_vectorizedMismatch_1 22 rfl rfl)
theorem dJ6_vectorizedMismatch_47 : decode cJ6_vectorizedMismatch 47 = .ok (.lload 4, 2) := dk_22 4 (dk_at dksJ6_vectorizedMismatch_2 0 rfl rfl)
theorem dJ6_vectorizedMismatch_49 : decode cJ6_vectorizedMismatch 49 = .ok (.lload 10, 2) := dk_22 10 (dk_at dksJ6_vectorizedMismatch_2 2 rfl rfl)
theorem dJ6_vectorizedMismatch_51 : decode cJ6_vectorizedMismatch 51 = .ok (.ladd, 1) := dk_97 (dk_at dksJ6_vectorizedMismatch_2 4 rfl rfl)
theorem dJ6_vectorizedMismatch_52 : decode cJ6_vectorizedMismatch 52 = .ok (.invokevirtual 30, 3) := dk_182 0 30 (dk_at dksJ6_vectorizedMismatch_2 5 rfl rfl)
theorem dJ6_vectorizedMismatch_55 : decode cJ6_vectorizedMismatch 55 = .ok (.lstore 14, 2) := dk_55 14 (dk_at dksJ6_vectorizedMismatch_2 8 rfl rfl)
theorem dJ6_vectorizedMismatch_57 : decode cJ6_vectorizedMismatch 57 = .ok (.lload 12, 2) := dk_22 12 (dk_at dksJ6_vectorizedMismatch_2 10 rfl rfl)
theorem dJ6_vectorizedMismatch_59 : decode cJ6_vectorizedMismatch 59 = .ok (.lload 14, 2) := dk_22 14 (dk_at dksJ6_vectorizedMismatch_2 12 rfl rfl)
theorem dJ6_vectorizedMismatch_61 : decode cJ6_vectorizedMismatch 61 = .ok (.lcmp, 1) := dk_148 (dk_at dksJ6_vectorizedMismatch_2 14 rfl rfl)
theorem dJ6_vectorizedMismatch_62 : decode cJ6_vectorizedMismatch 62 = .ok (.ifCond .eq 54, 3) := dk_153 0 54 (dk_at dksJ6_vectorizedMismatch_2 15 rfl rfl)
theorem dJ6_vectorizedMismatch_65 : decode cJ6_vectorizedMismatch 65 = .ok (.lload 12, 2) := dk_22 12 (dk_at dksJ6_vectorizedMismatch_2 18 rfl rfl)
theorem dJ6_vectorizedMismatch_67 : decode cJ6_vectorizedMismatch 67 = .ok (.lload 14, 2) := dk_22 14 (dk_at dksJ6_vectorizedMismatch_2 20 rfl rfl)
theorem dJ6_vectorizedMismatch_69 : decode cJ6_vectorizedMismatch 69 = .ok (.lxor, 1) := dk_131 (dk_at dksJ6_vectorizedMismatch_2 22 rfl rfl)
theorem dJ6_vectorizedMismatch_70 : decode cJ6_vectorizedMismatch 70 = .ok (.lstore 16, 2) := dk_55 16 (dk_at dksJ6_vectorizedMismatch_3 0 rfl rfl)
theorem dJ6_vectorizedMismatch_72 : decode cJ6_vectorizedMismatch 72 = .ok (.getstatic 36, 3) := dk_178 0 36 (dk_at dksJ6_vectorizedMismatch_3 2 rfl rfl)
theorem dJ6_vectorizedMismatch_75 : decode cJ6_vectorizedMismatch 75 = .ok (.ifCond .eq 18, 3) := dk_153 0 18 (dk_at dksJ6_vectorizedMismatch_3 5 rfl rfl)
theorem dJ6_vectorizedMismatch_78 : decode cJ6_vectorizedMismatch 78 = .ok (.lload 16, 2) := dk_22 16 (dk_at dksJ6_vectorizedMismatch_3 8 rfl rfl)
theorem dJ6_vectorizedMismatch_80 : decode cJ6_vectorizedMismatch 80 = .ok (.invokestatic 40, 3) := dk_184 0 40 (dk_at dksJ6_vectorizedMismatch_3 10 rfl rfl)
theorem dJ6_vectorizedMismatch_83 : decode cJ6_vectorizedMismatch 83 = .ok (.getstatic 46, 3) := dk_178 0 46 (dk_at dksJ6_vectorizedMismatch_3 13 rfl rfl)
theorem dJ6_vectorizedMismatch_86 : decode cJ6_vectorizedMismatch 86 = .ok (.iload 7, 2) := dk_21 7 (dk_at dksJ6_vectorizedMismatch_3 16 rfl rfl)
theorem dJ6_vectorizedMismatch_88 : decode cJ6_vectorizedMismatch 88 = .ok (.iadd, 1) := dk_96 (dk_at dksJ6_vectorizedMismatch_3 18 rfl rfl)
theorem dJ6_vectorizedMismatch_89 : decode cJ6_vectorizedMismatch 89 = .ok (.ishr, 1) := dk_122 (dk_at dksJ6_vectorizedMismatch_3 19 rfl rfl)
theorem dJ6_vectorizedMismatch_90 : decode cJ6_vectorizedMismatch 90 = .ok (.goto 15, 3) := dk_167 0 15 (dk_at dksJ6_vectorizedMismatch_3 20 rfl rfl)
theorem dJ6_vectorizedMismatch_93 : decode cJ6_vectorizedMismatch 93 = .ok (.lload 16, 2) := dk_22 16 (dk_at dksJ6_vectorizedMismatch_4 0 rfl rfl)
theorem dJ6_vectorizedMismatch_95 : decode cJ6_vectorizedMismatch 95 = .ok (.invokestatic 49, 3) := dk_184 0 49 (dk_at dksJ6_vectorizedMismatch_4 2 rfl rfl)
theorem dJ6_vectorizedMismatch_98 : decode cJ6_vectorizedMismatch 98 = .ok (.getstatic 46, 3) := dk_178 0 46 (dk_at dksJ6_vectorizedMismatch_4 5 rfl rfl)
theorem dJ6_vectorizedMismatch_101 : decode cJ6_vectorizedMismatch 101 = .ok (.iload 7, 2) := dk_21 7 (dk_at dksJ6_vectorizedMismatch_4 8 rfl rfl)
theorem dJ6_vectorizedMismatch_103 : decode cJ6_vectorizedMismatch 103 = .ok (.iadd, 1) := dk_96 (dk_at dksJ6_vectorizedMismatch_4 10 rfl rfl)
theorem dJ6_vectorizedMismatch_104 : decode cJ6_vectorizedMismatch 104 = .ok (.ishr, 1) := dk_122 (dk_at dksJ6_vectorizedMismatch_4 11 rfl rfl)
theorem dJ6_vectorizedMismatch_105 : decode cJ6_vectorizedMismatch 105 = .ok (.istore 18, 2) := dk_54 18 (dk_at dksJ6_vectorizedMismatch_4 12 rfl rfl)
theorem dJ6_vectorizedMismatch_107 : decode cJ6_vectorizedMismatch 107 = .ok (.iload 9, 2) := dk_21 9 (dk_at dksJ6_vectorizedMismatch_4 14 rfl rfl)
theorem dJ6_vectorizedMismatch_109 : decode cJ6_vectorizedMismatch 109 = .ok (.iload 8, 2) := dk_21 8 (dk_at dksJ6_vectorizedMismatch_4 16 rfl rfl)
theorem dJ6_vectorizedMismatch_111 : decode cJ6_vectorizedMismatch 111 = .ok (.ishl, 1) := dk_120 (dk_at dksJ6_vectorizedMismatch_4 18 rfl rfl)
theorem dJ6_vectorizedMismatch_112 : decode cJ6_vectorizedMismatch 112 = .ok (.iload 18, 2) := dk_21 18 (dk_at dksJ6_vectorizedMismatch_4 19 rfl rfl)
theorem dJ6_vectorizedMismatch_114 : decode cJ6_vectorizedMismatch 114 = .ok (.iadd, 1) := dk_96 (dk_at dksJ6_vectorizedMismatch_4 21 rfl rfl)
theorem dJ6_vectorizedMismatch_115 : decode cJ6_vectorizedMismatch 115 = .ok (.ireturn, 1) := dk_172 (dk_at dksJ6_vectorizedMismatch_4 22 rfl rfl)
theorem dJ6_vectorizedMismatch_116 : decode cJ6_vectorizedMismatch 116 = .ok (.iinc 9 1, 3) := dk_132 9 1 (dk_at dksJ6_vectorizedMismatch_5 0 rfl rfl)
theorem dJ6_vectorizedMismatch_119 : decode cJ6_vectorizedMismatch 119 = .ok (.goto (-108), 3) := dk_167 255 148 (dk_at dksJ6_vectorizedMismatch_5 3 rfl rfl)
theorem dJ6_vectorizedMismatch_122 : decode cJ6_vectorizedMismatch 122 = .ok (.iload 6, 2) := dk_21 6 (dk_at dksJ6_vectorizedMismatch_5 6 rfl rfl)
theorem dJ6_vectorizedMismatch_124 : decode cJ6_vectorizedMismatch 124 = .ok (.iload 9, 2) := dk_21 9 (dk_at dksJ6_vectorizedMismatch_5 8 rfl rfl)
theorem dJ6_vectorizedMismatch_126 : decode cJ6_vectorizedMismatch 126 = .ok (.iload 8, 2) := dk_21 8 (dk_at dksJ6_vectorizedMismatch_5 10 rfl rfl)
theorem dJ6_vectorizedMismatch_128 : decode cJ6_vectorizedMismatch 128 = .ok (.ishl, 1) := dk_120 (dk_at dksJ6_vectorizedMismatch_5 12 rfl rfl)
theorem dJ6_vectorizedMismatch_129 : decode cJ6_vectorizedMismatch 129 = .ok (.isub, 1) := dk_100 (dk_at dksJ6_vectorizedMismatch_5 13 rfl rfl)
theorem dJ6_vectorizedMismatch_130 : decode cJ6_vectorizedMismatch 130 = .ok (.istore 10, 2) := dk_54 10 (dk_at dksJ6_vectorizedMismatch_5 14 rfl rfl)
theorem dJ6_vectorizedMismatch_132 : decode cJ6_vectorizedMismatch 132 = .ok (.iload 7, 2) := dk_21 7 (dk_at dksJ6_vectorizedMismatch_5 16 rfl rfl)
theorem dJ6_vectorizedMismatch_134 : decode cJ6_vectorizedMismatch 134 = .ok (.getstatic 51, 3) := dk_178 0 51 (dk_at dksJ6_vectorizedMismatch_5 18 rfl rfl)
theorem dJ6_vectorizedMismatch_137 : decode cJ6_vectorizedMismatch 137 = .ok (.if_icmp .ge 126, 3) := dk_162 0 126 (dk_at dksJ6_vectorizedMismatch_5 21 rfl rfl)
theorem dJ6_vectorizedMismatch_140 : decode cJ6_vectorizedMismatch 140 = .ok (.iconst 1, 1) := dk_4 (dk_at dksJ6_vectorizedMismatch_6 0 rfl rfl)
theorem dJ6_vectorizedMismatch_141 : decode cJ6_vectorizedMismatch 141 = .ok (.getstatic 51, 3) := dk_178 0 51 (dk_at dksJ6_vectorizedMismatch_6 1 rfl rfl)
theorem dJ6_vectorizedMismatch_144 : decode cJ6_vectorizedMismatch 144 = .ok (.iload 7, 2) := dk_21 7 (dk_at dksJ6_vectorizedMismatch_6 4 rfl rfl)
theorem dJ6_vectorizedMismatch_146 : decode cJ6_vectorizedMismatch 146 = .ok (.isub, 1) := dk_100 (dk_at dksJ6_vectorizedMismatch_6 6 rfl rfl)
theorem dJ6_vectorizedMismatch_147 : decode cJ6_vectorizedMismatch 147 = .ok (.ishl, 1) := dk_120 (dk_at dksJ6_vectorizedMismatch_6 7 rfl rfl)
theorem dJ6_vectorizedMismatch_148 : decode cJ6_vectorizedMismatch 148 = .ok (.istore 11, 2) := dk_54 11 (dk_at dksJ6_vectorizedMismatch_6 8 rfl rfl)
theorem dJ6_vectorizedMismatch_150 : decode cJ6_vectorizedMismatch 150 = .ok (.iload 10, 2) := dk_21 10 (dk_at dksJ6_vectorizedMismatch_6 10 rfl rfl)
theorem dJ6_vectorizedMismatch_152 : decode cJ6_vectorizedMismatch 152 = .ok (.iload 11, 2) := dk_21 11 (dk_at dksJ6_vectorizedMismatch_6 12 rfl rfl)
theorem dJ6_vectorizedMismatch_154 : decode cJ6_vectorizedMismatch 154 = .ok (.if_icmp .lt 104, 3) := dk_161 0 104 (dk_at dksJ6_vectorizedMismatch_6 14 rfl rfl)
theorem dJ6_vectorizedMismatch_157 : decode cJ6_vectorizedMismatch 157 = .ok (.iload 9, 2) := dk_21 9 (dk_at dksJ6_vectorizedMismatch_6 17 rfl rfl)
theorem dJ6_vectorizedMismatch_159 : decode cJ6_vectorizedMismatch 159 = .ok (.i2l, 1) := dk_133 (dk_at dksJ6_vectorizedMismatch_6 19 rfl rfl)
theorem dJ6_vectorizedMismatch_160 : decode cJ6_vectorizedMismatch 160 = .ok (.getstatic 20, 3) := dk_178 0 20 (dk_at dksJ6_vectorizedMismatch_6 20 rfl rfl)
theorem dJ6_vectorizedMismatch_163 : decode cJ6_vectorizedMismatch 163 = .ok (.lshl, 1) := dk_121 (dk_at dksJ6_vectorizedMismatch_6 23 rfl rfl)
theorem dJ6_vectorizedMismatch_164 : decode cJ6_vectorizedMismatch 164 = .ok (.lstore 12, 2) := dk_55 12 (dk_at dksJ6_vectorizedMismatch_7 0 rfl rfl)
theorem dJ6_vectorizedMismatch_166 : decode cJ6_vectorizedMismatch 166 = .ok (.getstatic 26, 3) := dk_178 0 26 (dk_at dksJ6_vectorizedMismatch_7 2 rfl rfl)
theorem dJ6_vectorizedMismatch_169 : decode cJ6_vectorizedMismatch 169 = .ok (.aload_n 0, 1) := dk_42 (dk_at dksJ6_vectorizedMismatch_7 5 rfl rfl)
theorem dJ6_vectorizedMismatch_170 : decode cJ6_vectorizedMismatch 170 = .ok (.lload_n 1, 1) := dk_31 (dk_at dksJ6_vectorizedMismatch_7 6 rfl rfl)
theorem dJ6_vectorizedMismatch_171 : decode cJ6_vectorizedMismatch 171 = .ok (.lload 12, 2) := dk_22 12 (dk_at dksJ6_vectorizedMismatch_7 7 rfl rfl)
theorem dJ6_vectorizedMismatch_173 : decode cJ6_vectorizedMismatch 173 = .ok (.ladd, 1) := dk_97 (dk_at dksJ6_vectorizedMismatch_7 9 rfl rfl)
theorem dJ6_vectorizedMismatch_174 : decode cJ6_vectorizedMismatch 174 = .ok (.invokevirtual 54, 3) := dk_182 0 54 (dk_at dksJ6_vectorizedMismatch_7 10 rfl rfl)
theorem dJ6_vectorizedMismatch_177 : decode cJ6_vectorizedMismatch 177 = .ok (.istore 14, 2) := dk_54 14 (dk_at dksJ6_vectorizedMismatch_7 13 rfl rfl)
theorem dJ6_vectorizedMismatch_179 : decode cJ6_vectorizedMismatch 179 = .ok (.getstatic 26, 3) := dk_178 0 26 (dk_at dksJ6_vectorizedMismatch_7 15 rfl rfl)
theorem dJ6_vectorizedMismatch_182 : decode cJ6_vectorizedMismatch 182 = .ok (.aload_n 3, 1) := dk_45 (dk_at dksJ6_vectorizedMismatch_7 18 rfl rfl)
theorem dJ6_vectorizedMismatch_183 : decode cJ6_vectorizedMismatch 183 = .ok (.lload 4, 2) := dk_22 4 (dk_at dksJ6_vectorizedMismatch_7 19 rfl rfl)
theorem dJ6_vectorizedMismatch_185 : decode cJ6_vectorizedMismatch 185 = .ok (.lload 12, 2) := dk_22 12 (dk_at dksJ6_vectorizedMismatch_7 21 rfl rfl)
theorem dJ6_vectorizedMismatch_187 : decode cJ6_vectorizedMismatch 187 = .ok (.ladd, 1) := dk_97 (dk_at dksJ6_vectorizedMismatch_7 23 rfl rfl)
theorem dJ6_vectorizedMismatch_188 : decode cJ6_vectorizedMismatch 188 = .ok (.invokevirtual 54, 3) := dk_182 0 54 (dk_at dksJ6_vectorizedMismatch_8 0 rfl rfl)
theorem dJ6_vectorizedMismatch_191 : decode cJ6_vectorizedMismatch 191 = .ok (.istore 15, 2) := dk_54 15 (dk_at dksJ6_vectorizedMismatch_8 3 rfl rfl)
theorem dJ6_vectorizedMismatch_193 : decode cJ6_vectorizedMismatch 193 = .ok (.iload 14, 2) := dk_21 14 (dk_at dksJ6_vectorizedMismatch_8 5 rfl rfl)
theorem dJ6_vectorizedMismatch_195 : decode cJ6_vectorizedMismatch 195 = .ok (.iload 15, 2) := dk_21 15 (dk_at dksJ6_vectorizedMismatch_8 7 rfl rfl)
theorem dJ6_vectorizedMismatch_197 : decode cJ6_vectorizedMismatch 197 = .ok (.if_icmp .eq 54, 3) := dk_159 0 54 (dk_at dksJ6_vectorizedMismatch_8 9 rfl rfl)
theorem dJ6_vectorizedMismatch_200 : decode cJ6_vectorizedMismatch 200 = .ok (.iload 14, 2) := dk_21 14 (dk_at dksJ6_vectorizedMismatch_8 12 rfl rfl)
theorem dJ6_vectorizedMismatch_202 : decode cJ6_vectorizedMismatch 202 = .ok (.iload 15, 2) := dk_21 15 (dk_at dksJ6_vectorizedMismatch_8 14 rfl rfl)
theorem dJ6_vectorizedMismatch_204 : decode cJ6_vectorizedMismatch 204 = .ok (.ixor, 1) := dk_130 (dk_at dksJ6_vectorizedMismatch_8 16 rfl rfl)
theorem dJ6_vectorizedMismatch_205 : decode cJ6_vectorizedMismatch 205 = .ok (.istore 16, 2) := dk_54 16 (dk_at dksJ6_vectorizedMismatch_8 17 rfl rfl)
theorem dJ6_vectorizedMismatch_207 : decode cJ6_vectorizedMismatch 207 = .ok (.getstatic 36, 3) := dk_178 0 36 (dk_at dksJ6_vectorizedMismatch_8 19 rfl rfl)
theorem dJ6_vectorizedMismatch_210 : decode cJ6_vectorizedMismatch 210 = .ok (.ifCond .eq 18, 3) := dk_153 0 18 (dk_at dksJ6_vectorizedMismatch_9 0 rfl rfl)
theorem dJ6_vectorizedMismatch_213 : decode cJ6_vectorizedMismatch 213 = .ok (.iload 16, 2) := dk_21 16 (dk_at dksJ6_vectorizedMismatch_9 3 rfl rfl)
theorem dJ6_vectorizedMismatch_215 : decode cJ6_vectorizedMismatch 215 = .ok (.invokestatic 58, 3) := dk_184 0 58 (dk_at dksJ6_vectorizedMismatch_9 5 rfl rfl)
theorem dJ6_vectorizedMismatch_218 : decode cJ6_vectorizedMismatch 218 = .ok (.getstatic 46, 3) := dk_178 0 46 (dk_at dksJ6_vectorizedMismatch_9 8 rfl rfl)
theorem dJ6_vectorizedMismatch_221 : decode cJ6_vectorizedMismatch 221 = .ok (.iload 7, 2) := dk_21 7 (dk_at dksJ6_vectorizedMismatch_9 11 rfl rfl)
theorem dJ6_vectorizedMismatch_223 : decode cJ6_vectorizedMismatch 223 = .ok (.iadd, 1) := dk_96 (dk_at dksJ6_vectorizedMismatch_9 13 rfl rfl)
theorem dJ6_vectorizedMismatch_224 : decode cJ6_vectorizedMismatch 224 = .ok (.ishr, 1) := dk_122 (dk_at dksJ6_vectorizedMismatch_9 14 rfl rfl)
theorem dJ6_vectorizedMismatch_225 : decode cJ6_vectorizedMismatch 225 = .ok (.goto 15, 3) := dk_167 0 15 (dk_at dksJ6_vectorizedMismatch_9 15 rfl rfl)
theorem dJ6_vectorizedMismatch_228 : decode cJ6_vectorizedMismatch 228 = .ok (.iload 16, 2) := dk_21 16 (dk_at dksJ6_vectorizedMismatch_9 18 rfl rfl)
theorem dJ6_vectorizedMismatch_230 : decode cJ6_vectorizedMismatch 230 = .ok (.invokestatic 11, 3) := dk_184 0 11 (dk_at dksJ6_vectorizedMismatch_9 20 rfl rfl)
theorem dJ6_vectorizedMismatch_233 : decode cJ6_vectorizedMismatch 233 = .ok (.getstatic 46, 3) := dk_178 0 46 (dk_at dksJ6_vectorizedMismatch_10 0 rfl rfl)
theorem dJ6_vectorizedMismatch_236 : decode cJ6_vectorizedMismatch 236 = .ok (.iload 7, 2) := dk_21 7 (dk_at dksJ6_vectorizedMismatch_10 3 rfl rfl)
theorem dJ6_vectorizedMismatch_238 : decode cJ6_vectorizedMismatch 238 = .ok (.iadd, 1) := dk_96 (dk_at dksJ6_vectorizedMismatch_10 5 rfl rfl)
theorem dJ6_vectorizedMismatch_239 : decode cJ6_vectorizedMismatch 239 = .ok (.ishr, 1) := dk_122 (dk_at dksJ6_vectorizedMismatch_10 6 rfl rfl)
theorem dJ6_vectorizedMismatch_240 : decode cJ6_vectorizedMismatch 240 = .ok (.istore 17, 2) := dk_54 17 (dk_at dksJ6_vectorizedMismatch_10 7 rfl rfl)
theorem dJ6_vectorizedMismatch_242 : decode cJ6_vectorizedMismatch 242 = .ok (.iload 9, 2) := dk_21 9 (dk_at dksJ6_vectorizedMismatch_10 9 rfl rfl)
theorem dJ6_vectorizedMismatch_244 : decode cJ6_vectorizedMismatch 244 = .ok (.iload 8, 2) := dk_21 8 (dk_at dksJ6_vectorizedMismatch_10 11 rfl rfl)
theorem dJ6_vectorizedMismatch_246 : decode cJ6_vectorizedMismatch 246 = .ok (.ishl, 1) := dk_120 (dk_at dksJ6_vectorizedMismatch_10 13 rfl rfl)
theorem dJ6_vectorizedMismatch_247 : decode cJ6_vectorizedMismatch 247 = .ok (.iload 17, 2) := dk_21 17 (dk_at dksJ6_vectorizedMismatch_10 14 rfl rfl)
theorem dJ6_vectorizedMismatch_249 : decode cJ6_vectorizedMismatch 249 = .ok (.iadd, 1) := dk_96 (dk_at dksJ6_vectorizedMismatch_10 16 rfl rfl)
theorem dJ6_vectorizedMismatch_250 : decode cJ6_vectorizedMismatch 250 = .ok (.ireturn, 1) := dk_172 (dk_at dksJ6_vectorizedMismatch_10 17 rfl rfl)
theorem dJ6_vectorizedMismatch_251 : decode cJ6_vectorizedMismatch 251 = .ok (.iload 10, 2) := dk_21 10 (dk_at dksJ6_vectorizedMismatch_10 18 rfl rfl)
theorem dJ6_vectorizedMismatch_253 : decode cJ6_vectorizedMismatch 253 = .ok (.iload 11, 2) := dk_21 11 (dk_at dksJ6_vectorizedMismatch_10 20 rfl rfl)
theorem dJ6_vectorizedMismatch_255 : decode cJ6_vectorizedMismatch 255 = .ok (.isub, 1) := dk_100 (dk_at dksJ6_vectorizedMismatch_10 22 rfl rfl)
theorem dJ6_vectorizedMismatch_256 : decode cJ6_vectorizedMismatch 256 = .ok (.istore 10, 2) := dk_54 10 (dk_at dksJ6_vectorizedMismatch_11 0 rfl rfl)
theorem dJ6_vectorizedMismatch_258 : decode cJ6_vectorizedMismatch 258 = .ok (.iload 10, 2) := dk_21 10 (dk_at dksJ6_vectorizedMismatch_11 2 rfl rfl)
theorem dJ6_vectorizedMismatch_260 : decode cJ6_vectorizedMismatch 260 = .ok (.iconst (-1), 1) := dk_2 (dk_at dksJ6_vectorizedMismatch_11 4 rfl rfl)
theorem dJ6_vectorizedMismatch_261 : decode cJ6_vectorizedMismatch 261 = .ok (.ixor, 1) := dk_130 (dk_at dksJ6_vectorizedMismatch_11 5 rfl rfl)
theorem dJ6_vectorizedMismatch_262 : decode cJ6_vectorizedMismatch 262 = .ok (.ireturn, 1) := dk_172 (dk_at dksJ6_vectorizedMismatch_11 6 rfl rfl)
theorem dJ6_vectorizedMismatch_263 : decode cJ6_vectorizedMismatch 263 = .ok (.iload 10, 2) := dk_21 10 (dk_at dksJ6_vectorizedMismatch_11 7 rfl rfl)
theorem dJ6_vectorizedMismatch_265 : decode cJ6_vectorizedMismatch 265 = .ok (.iconst (-1), 1) := dk_2 (dk_at dksJ6_vectorizedMismatch_11 9 rfl rfl)
theorem dJ6_vectorizedMismatch_266 : decode cJ6_vectorizedMismatch 266 = .ok (.ixor, 1) := dk_130 (dk_at dksJ6_vectorizedMismatch_11 10 rfl rfl)
theorem dJ6_vectorizedMismatch_267 : decode cJ6_vectorizedMismatch 267 = .ok (.ireturn, 1) := dk_172 (dk_at dksJ6_vectorizedMismatch_11 11 rfl rfl)
theorem q91 : (Jvm.Cond.initialized "jdk/internal/util/ArraysSupport") ∈ lw_all := lw_g (lw_at lw_m1 14 rfl) rfl
theorem q416 : (Jvm.Cond.static ({ cls := "jdk/internal/util/ArraysSupport", name := "newLength", desc := "(III)I" } : Jvm.MethodName)) ∈ lw_all := lw_g (lw_at lw_m2 99 rfl) rfl
theorem q417 : (Jvm.Cond.code ({ cls := "jdk/internal/util/ArraysSupport", name := "newLength", desc := "(III)I" } : Jvm.MethodName) prog_88_method_27_code (4 : Nat) (Option.some Jvm.ClassFile.FieldType.int)) ∈ lw_all := lw_g (lw_at lw_m2 100 rfl) rfl
theorem q418 : (Jvm.Cond.methodLink "jdk/internal/util/ArraysSupport" (194 : Nat) ({ cls := "java/lang/Math", name := "max", desc := "(II)I" } : Jvm.MethodName)) ∈ lw_all := lw_g (lw_at lw_m2 101 rfl) rfl
theorem q421 : (Jvm.Cond.constant "jdk/internal/util/ArraysSupport" (200 : Nat) (2147483639 : Int32)) ∈ lw_all := lw_g (lw_at lw_m2 104 rfl) rfl
theorem q422 : (Jvm.Cond.methodLink "jdk/internal/util/ArraysSupport" (201 : Nat) ({ cls := "jdk/internal/util/ArraysSupport", name := "hugeLength", desc := "(II)I" } : Jvm.MethodName)) ∈ lw_all := lw_g (lw_at lw_m2 105 rfl) rfl
theorem q423 : (Jvm.Cond.static ({ cls := "jdk/internal/util/ArraysSupport", name := "hugeLength", desc := "(II)I" } : Jvm.MethodName)) ∈ lw_all := lw_g (lw_at lw_m2 106 rfl) rfl
theorem q424 : (Jvm.Cond.code ({ cls := "jdk/internal/util/ArraysSupport", name := "hugeLength", desc := "(II)I" } : Jvm.MethodName) prog_88_method_28_code (3 : Nat) (Option.some Jvm.ClassFile.FieldType.int)) ∈ lw_all := lw_g (lw_at lw_m2 107 rfl) rfl
theorem q1280 : (Jvm.Cond.static ({ cls := "jdk/internal/util/ArraysSupport", name := "mismatch", desc := "([B[BI)I" } : Jvm.MethodName)) ∈ lw_all := lw_g (lw_at lw_m6 3 rfl) rfl
theorem q1281 : (Jvm.Cond.code ({ cls := "jdk/internal/util/ArraysSupport", name := "mismatch", desc := "([B[BI)I" } : Jvm.MethodName) prog_88_method_13_code (4 : Nat) (Option.some Jvm.ClassFile.FieldType.int)) ∈ lw_all := lw_g (lw_at lw_m6 4 rfl) rfl
theorem q1282 : (Jvm.Cond.fieldLink "jdk/internal/util/ArraysSupport" (126 : Nat) "jdk/internal/misc/Unsafe" "ARRAY_BYTE_BASE_OFFSET" "I") ∈ lw_all := lw_g (lw_at lw_m6 5 rfl) rfl
theorem q1284 : (Jvm.Cond.fieldLink "jdk/internal/util/ArraysSupport" (129 : Nat) "jdk/internal/util/ArraysSupport" "LOG2_ARRAY_BYTE_INDEX_SCALE" "I") ∈ lw_all := lw_g (lw_at lw_m6 7 rfl) rfl
theorem q1285 : (Jvm.Cond.laysStatic "jdk/internal/util/ArraysSupport" "LOG2_ARRAY_BYTE_INDEX_SCALE" "I") ∈ lw_tbl := lw_at lw_m6 8 rfl
theorem q1286 : (Jvm.Cond.methodLink "jdk/internal/util/ArraysSupport" (122 : Nat) ({ cls := "jdk/internal/util/ArraysSupport", name := "vectorizedMismatch", desc := "(Ljava/lang/Object;JLjava/lang/Object;JII)I" } : Jvm.MethodName)) ∈ lw_all := lw_g (lw_at lw_m6 9 rfl) rfl
theorem q1287 : (Jvm.Cond.static ({ cls := "jdk/internal/util/ArraysSupport", name := "vectorizedMismatch", desc := "(Ljava/lang/Object;JLjava/lang/Object;JII)I" } : Jvm.MethodName)) ∈ lw_all := lw_g (lw_at lw_m6 10 rfl) rfl
theorem q1288 : (Jvm.Cond.code ({ cls := "jdk/internal/util/ArraysSupport", name := "vectorizedMismatch", desc := "(Ljava/lang/Object;JLjava/lang/Object;JII)I" } : Jvm.MethodName) prog_88_method_3_code (19 : Nat) (Option.some Jvm.ClassFile.FieldType.int)) ∈ lw_all := lw_g (lw_at lw_m6 11 rfl) rfl
theorem q1289 : (Jvm.Cond.fieldLink "jdk/internal/util/ArraysSupport" (20 : Nat) "jdk/internal/util/ArraysSupport" "LOG2_ARRAY_LONG_INDEX_SCALE" "I") ∈ lw_all := lw_g (lw_at lw_m6 12 rfl) rfl
theorem q1290 : (Jvm.Cond.laysStatic "jdk/internal/util/ArraysSupport" "LOG2_ARRAY_LONG_INDEX_SCALE" "I") ∈ lw_tbl := lw_at lw_m6 13 rfl
theorem q1291 : (Jvm.Cond.fieldLink "jdk/internal/util/ArraysSupport" (26 : Nat) "jdk/internal/util/ArraysSupport" "U" "Ljdk/internal/misc/Unsafe;") ∈ lw_all := lw_g (lw_at lw_m6 14 rfl) rfl
theorem q1292 : (Jvm.Cond.laysStatic "jdk/internal/util/ArraysSupport" "U" "Ljdk/internal/misc/Unsafe;") ∈ lw_tbl := lw_at lw_m6 15 rfl
theorem q1293 : (Jvm.Cond.methodLink "jdk/internal/util/ArraysSupport" (30 : Nat) ({ cls := "jdk/internal/misc/Unsafe", name := "getLongUnaligned", desc := "(Ljava/lang/Object;J)J" } : Jvm.MethodName)) ∈ lw_all := lw_g (lw_at lw_m6 16 rfl) rfl
theorem q1345 : (Jvm.Cond.fieldLink "jdk/internal/util/ArraysSupport" (36 : Nat) "jdk/internal/util/ArraysSupport" "BIG_ENDIAN" "Z") ∈ lw_all := lw_g (lw_at lw_m6 68 rfl) rfl
theorem q1346 : (Jvm.Cond.laysStatic "jdk/internal/util/ArraysSupport" "BIG_ENDIAN" "Z") ∈ lw_tbl := lw_at lw_m6 69 rfl
theorem q1347 : (Jvm.Cond.methodLink "jdk/internal/util/ArraysSupport" (40 : Nat) ({ cls := "java/lang/Long", name := "numberOfLeadingZeros", desc := "(J)I" } : Jvm.MethodName)) ∈ lw_all := lw_g (lw_at lw_m6 70 rfl) rfl
theorem q1354 : (Jvm.Cond.fieldLink "jdk/internal/util/ArraysSupport" (46 : Nat) "jdk/internal/util/ArraysSupport" "LOG2_BYTE_BIT_SIZE" "I") ∈ lw_all := lw_g (lw_at lw_m6 77 rfl) rfl
theorem q1355 : (Jvm.Cond.laysStatic "jdk/internal/util/ArraysSupport" "LOG2_BYTE_BIT_SIZE" "I") ∈ lw_tbl := lw_at lw_m6 78 rfl
theorem q1356 : (Jvm.Cond.methodLink "jdk/internal/util/ArraysSupport" (49 : Nat) ({ cls := "java/lang/Long", name := "numberOfTrailingZeros", desc := "(J)I" } : Jvm.MethodName)) ∈ lw_all := lw_g (lw_at lw_m6 79 rfl) rfl
theorem q1362 : (Jvm.Cond.fieldLink "jdk/internal/util/ArraysSupport" (51 : Nat) "jdk/internal/util/ArraysSupport" "LOG2_ARRAY_INT_INDEX_SCALE" "I") ∈ lw_all := lw_g (lw_at lw_m6 85 rfl) rfl
theorem q1363 : (Jvm.Cond.laysStatic "jdk/internal/util/ArraysSupport" "LOG2_ARRAY_INT_INDEX_SCALE" "I") ∈ lw_tbl := lw_at lw_m6 86 rfl
theorem q1364 : (Jvm.Cond.methodLink "jdk/internal/util/ArraysSupport" (54 : Nat) ({ cls := "jdk/internal/misc/Unsafe", name := "getIntUnaligned", desc := "(Ljava/lang/Object;J)I" } : Jvm.MethodName)) ∈ lw_all := lw_g (lw_at lw_m6 87 rfl) rfl
theorem q1381 : (Jvm.Cond.methodLink "jdk/internal/util/ArraysSupport" (58 : Nat) ({ cls := "java/lang/Integer", name := "numberOfLeadingZeros", desc := "(I)I" } : Jvm.MethodName)) ∈ lw_all := lw_g (lw_at lw_m6 104 rfl) rfl
theorem q1382 : (Jvm.Cond.methodLink "jdk/internal/util/ArraysSupport" (11 : Nat) ({ cls := "java/lang/Integer", name := "numberOfTrailingZeros", desc := "(I)I" } : Jvm.MethodName)) ∈ lw_all := lw_g (lw_at lw_m6 105 rfl) rfl
/-! java/util/Arrays -/
set_option maxRecDepth 100000
def RJ8 : String := "java/util/Arrays"
abbrev cJ8_copyOf : ByteArray := prog_56_method_119_code
def yJ8_copyOf : MethodName := ⟨RJ8, "copyOf", "([Ljava/lang/Object;I)[Ljava/lang/Object;"⟩
def dkwJ8_copyOf_0 : List UInt8 := [42, 27, 42, 182, 0, 86, 184, 1, 44, 176]
abbrev dktJ8_copyOf_0 : List UInt8 := dkwJ8_copyOf_0 ++ []
theorem dksJ8_copyOf_0 : cJ8_copyOf.data.toList.drop 0 = dktJ8_copyOf_0 := by decide +kernel
theorem dJ8_copyOf_0 : decode cJ8_copyOf 0 = .ok (.aload_n 0, 1) := dk_42 (dk_at dksJ8_copyOf_0 0 rfl rfl)
theorem dJ8_copyOf_1 : decode cJ8_copyOf 1 = .ok (.iload_n 1, 1) := dk_27 (dk_at dksJ8_copyOf_0 1 rfl rfl)
theorem dJ8_copyOf_2 : decode cJ8_copyOf 2 = .ok (.aload_n 0, 1) := dk_42 (dk_at dksJ8_copyOf_0 2 rfl rfl)
theorem dJ8_copyOf_3 : decode cJ8_copyOf 3 = .ok (.invokevirtual 86, 3) := dk_182 0 86 (dk_at dksJ8_copyOf_0 3 rfl rfl)
theorem dJ8_copyOf_6 : decode cJ8_copyOf 6 = .ok (.invokestatic 300, 3) := dk_184 1 44 (dk_at dksJ8_copyOf_0 6 rfl rfl)
theorem dJ8_copyOf_9 : decode cJ8_copyOf 9 = .ok (.areturn, 1) := dk_176 (dk_at dksJ8_copyOf_0 9 rfl rfl)
abbrev cJ8_copyOf_2 : ByteArray := prog_56_method_120_code
def yJ8_copyOf_2 : MethodName := ⟨RJ8, "copyOf", "([Ljava/lang/Object;ILjava/lang/Class;)[Ljava/lang/Object;"⟩
def dkwJ8_copyOf_2_1 : List UInt8 := [78, 42, 3, 45, 3, 42, 190, 27, 184, 1, 48, 184, 0, 150, 45, 176]
abbrev dktJ8_copyOf_2_1 : List UInt8 := dkwJ8_copyOf_2_1 ++ []
def dkwJ8_copyOf_2_0 : List UInt8 := [44, 18, 110, 166, 0, 10, 27, 189, 0, 2, 167, 0, 14, 44, 182, 0, 90, 27, 184, 0, 95, 192, 0, 110]
abbrev dktJ8_copyOf_2_0 : List UInt8 := dkwJ8_copyOf_2_0 ++ dktJ8_copyOf_2_1
theorem dksJ8_copyOf_2_0 : cJ8_copyOf_2.data.toList.drop 0 = dktJ8_copyOf_2_0 := by decide +kernel
theorem dksJ8_copyOf_2_1 : cJ8_copyOf_2.data.toList.drop 24 = dktJ8_copyOf_2_1 := dk_seg dksJ8_copyOf_2_0 24 rfl rfl
theorem dJ8_copyOf_2_0 : decode cJ8_copyOf_2 0 = .ok (.aload_n 2, 1) := dk_44 (dk_at dksJ8_copyOf_2_0 0 rfl rfl)
theorem dJ8_copyOf_2_1 : decode cJ8_copyOf_2 1 = .ok (.ldc 110, 2) := dk_18 110 (dk_at dksJ8_copyOf_2_0 1 rfl rfl)
theorem dJ8_copyOf_2_3 : decode cJ8_copyOf_2 3 = .ok (.if_acmp .ne 10, 3) := dk_166 0 10 (dk_at dksJ8_copyOf_2_0 3 rfl rfl)
theorem dJ8_copyOf_2_6 : decode cJ8_copyOf_2 6 = .ok (.iload_n 1, 1) := dk_27 (dk_at dksJ8_copyOf_2_0 6 rfl rfl)
theorem dJ8_copyOf_2_7 : decode cJ8_copyOf_2 7 = .ok (.anewarray 2, 3) := dk_189 0 2 (dk_at dksJ8_copyOf_2_0 7 rfl rfl)
theorem dJ8_copyOf_2_10 : decode cJ8_copyOf_2 10 = .ok (.goto 14, 3) := dk_167 0 14 (dk_at dksJ8_copyOf_2_0 10 rfl rfl)
theorem dJ8_copyOf_2_13 : decode cJ8_copyOf_2 13 = .ok (.aload_n 2, 1) := dk_44 (dk_at dksJ8_copyOf_2_0 13 rfl rfl)
theorem dJ8_copyOf_2_14 : decode cJ8_copyOf_2 14 = .ok (.invokevirtual 90, 3) := dk_182 0 90 (dk_at dksJ8_copyOf_2_0 14 rfl rfl)
theorem dJ8_copyOf_2_17 : decode cJ8_copyOf_2 17 = .ok (.iload_n 1, 1) := dk_27 (dk_at dksJ8_copyOf_2_0 17 rfl rfl)
theorem dJ8_copyOf_2_18 : decode cJ8_copyOf_2 18 = .ok (.invokestatic 95, 3) := dk_184 0 95 (dk_at dksJ8_copyOf_2_0 18 rfl rfl)
theorem dJ8_copyOf_2_21 : decode cJ8_copyOf_2 21 = .ok (.checkcast 110, 3) := dk_192 0 110 (dk_at dksJ8_copyOf_2_0 21 rfl rfl)
theorem dJ8_copyOf_2_24 : decode cJ8_copyOf_2 24 = .ok (.astore_n 3, 1) := dk_78 (dk_at dksJ8_copyOf_2_1 0 rfl rfl)
theorem dJ8_copyOf_2_25 : decode cJ8_copyOf_2 25 = .ok (.aload_n 0, 1) := dk_42 (dk_at dksJ8_copyOf_2_1 1 rfl rfl)
theorem dJ8_copyOf_2_26 : decode cJ8_copyOf_2 26 = .ok (.iconst 0, 1) := dk_3 (dk_at dksJ8_copyOf_2_1 2 rfl rfl)
theorem dJ8_copyOf_2_27 : decode cJ8_copyOf_2 27 = .ok (.aload_n 3, 1) := dk_45 (dk_at dksJ8_copyOf_2_1 3 rfl rfl)
theorem dJ8_copyOf_2_28 : decode cJ8_copyOf_2 28 = .ok (.iconst 0, 1) := dk_3 (dk_at dksJ8_copyOf_2_1 4 rfl rfl)
theorem dJ8_copyOf_2_29 : decode cJ8_copyOf_2 29 = .ok (.aload_n 0, 1) := dk_42 (dk_at dksJ8_copyOf_2_1 5 rfl rfl)
theorem dJ8_copyOf_2_30 : decode cJ8_copyOf_2 30 = .ok (.arraylength, 1) := dk_190 (dk_at dksJ8_copyOf_2_1 6 rfl rfl)
theorem dJ8_copyOf_2_31 : decode cJ8_copyOf_2 31 = .ok (.iload_n 1, 1) := dk_27 (dk_at dksJ8_copyOf_2_1 7 rfl rfl)
theorem dJ8_copyOf_2_32 : decode cJ8_copyOf_2 32 = .ok (.invokestatic 304, 3) := dk_184 1 48 (dk_at dksJ8_copyOf_2_1 8 rfl rfl)
theorem dJ8_copyOf_2_35 : decode cJ8_copyOf_2 35 = .ok (.invokestatic 150, 3) := dk_184 0 150 (dk_at dksJ8_copyOf_2_1 11 rfl rfl)
theorem dJ8_copyOf_2_38 : decode cJ8_copyOf_2 38 = .ok (.aload_n 3, 1) := dk_45 (dk_at dksJ8_copyOf_2_1 14 rfl rfl)
theorem dJ8_copyOf_2_39 : decode cJ8_copyOf_2 39 = .ok (.areturn, 1) := dk_176 (dk_at dksJ8_copyOf_2_1 15 rfl rfl)
abbrev cJ8_copyOf_3 : ByteArray := prog_56_method_124_code
def yJ8_copyOf_3 : MethodName := ⟨RJ8, "copyOf", "([JI)[J"⟩
def dkwJ8_copyOf_3_1 : List UInt8 := [27, 184, 1, 48, 184, 0, 150, 44, 176]
abbrev dktJ8_copyOf_3_1 : List UInt8 := dkwJ8_copyOf_3_1 ++ []
def dkwJ8_copyOf_3_0 : List UInt8 := [27, 42, 190, 160, 0, 11, 42, 182, 1, 63, 192, 1, 64, 176, 27, 188, 11, 77, 42, 3, 44, 3, 42, 190]
abbrev dktJ8_copyOf_3_0 : List UInt8 := dkwJ8_copyOf_3_0 ++ dktJ8_copyOf_3_1
theorem dksJ8_copyOf_3_0 : cJ8_copyOf_3.data.toList.drop 0 = dktJ8_copyOf_3_0 := by decide +kernel
theorem dksJ8_copyOf_3_1 : cJ8_copyOf_3.data.toList.drop 24 = dktJ8_copyOf_3_1 := dk_seg dksJ8_copyOf_3_0 24 rfl rfl
theorem dJ8_copyOf_3_0 : decode cJ8_copyOf_3 0 = .ok (.iload_n 1, 1) := dk_27 (dk_at dksJ8_copyOf_3_0 0 rfl rfl)
theorem dJ8_copyOf_3_1 : decode cJ8_copyOf_3 1 = .ok (.aload_n 0, 1) := dk_42 (dk_at dksJ8_copyOf_3_0 1 rfl rfl)
theorem dJ8_copyOf_3_2 : decode cJ8_copyOf_3 2 = .ok (.arraylength, 1) := dk_190 (dk_at dksJ8_copyOf_3_0 2 rfl rfl)
theorem dJ8_copyOf_3_3 : decode cJ8_copyOf_3 3 = .ok (.if_icmp .ne 11, 3) := dk_160 0 11 (dk_at dksJ8_copyOf_3_0 3 rfl rfl)
theorem dJ8_copyOf_3_6 : decode cJ8_copyOf_3 6 = .ok (.aload_n 0, 1) := dk_42 (dk_at dksJ8_copyOf_3_0 6 rfl rfl)
theorem dJ8_copyOf_3_7 : decode cJ8_copyOf_3 7 = .ok (.invokevirtual 319, 3) := dk_182 1 63 (dk_at dksJ8_copyOf_3_0 7 rfl rfl)
theorem dJ8_copyOf_3_10 : decode cJ8_copyOf_3 10 = .ok (.checkcast 320, 3) := dk_192 1 64 (dk_at dksJ8_copyOf_3_0 10 rfl rfl)
theorem dJ8_copyOf_3_13 : decode cJ8_copyOf_3 13 = .ok (.areturn, 1) := dk_176 (dk_at dksJ8_copyOf_3_0 13 rfl rfl)
theorem dJ8_copyOf_3_14 : decode cJ8_copyOf_3 14 = .ok (.iload_n 1, 1) := dk_27 (dk_at dksJ8_copyOf_3_0 14 rfl rfl)
theorem dJ8_copyOf_3_15 : decode cJ8_copyOf_3 15 = .ok (.newarray .long, 2) := dk_188_11 (dk_at dksJ8_copyOf_3_0 15 rfl rfl)
theorem dJ8_copyOf_3_17 : decode cJ8_copyOf_3 17 = .ok (.astore_n 2, 1) := dk_77 (dk_at dksJ8_copyOf_3_0 17 rfl rfl)
theorem dJ8_copyOf_3_18 : decode cJ8_copyOf_3 18 = .ok (.aload_n 0, 1) := dk_42 (dk_at dksJ8_copyOf_3_0 18 rfl rfl)
theorem dJ8_copyOf_3_19 : decode cJ8_copyOf_3 19 = .ok (.iconst 0, 1) := dk_3 (dk_at dksJ8_copyOf_3_0 19 rfl rfl)
theorem dJ8_copyOf_3_20 : decode cJ8_copyOf_3 20 = .ok (.aload_n 2, 1) := dk_44 (dk_at dksJ8_copyOf_3_0 20 rfl rfl)
theorem dJ8_copyOf_3_21 : decode cJ8_copyOf_3 21 = .ok (.iconst 0, 1) := dk_3 (dk_at dksJ8_copyOf_3_0 21 rfl rfl)
theorem dJ8_copyOf_3_22 : decode cJ8_copyOf_3 22 = .ok (.aload_n 0, 1) := dk_42 (dk_at dksJ8_copyOf_3_0 22 rfl rfl)
theorem dJ8_copyOf_3_23 : decode cJ8_copyOf_3 23 = .ok (.arraylength, 1) := dk_190 (dk_at dksJ8_copyOf_3_0 23 rfl rfl)
theorem dJ8_copyOf_3_24 : decode cJ8_copyOf_3 24 = .ok (.iload_n 1, 1) := dk_27 (dk_at dksJ8_copyOf_3_1 0 rfl rfl)
theorem dJ8_copyOf_3_25 : decode cJ8_copyOf_3 25 = .ok (.invokestatic 304, 3) := dk_184 1 48 (dk_at dksJ8_copyOf_3_1 1 rfl rfl)
theorem dJ8_copyOf_3_28 : decode cJ8_copyOf_3 28 = .ok (.invokestatic 150, 3) := dk_184 0 150 (dk_at dksJ8_copyOf_3_1 4 rfl rfl)
theorem dJ8_copyOf_3_31 : decode cJ8_copyOf_3 31 = .ok (.aload_n 2, 1) := dk_44 (dk_at dksJ8_copyOf_3_1 7 rfl rfl)
theorem dJ8_copyOf_3_32 : decode cJ8_copyOf_3 32 = .ok (.areturn, 1) := dk_176 (dk_at dksJ8_copyOf_3_1 8 rfl rfl)
abbrev cJ8_copyOf_4 : ByteArray := prog_56_method_121_code
def yJ8_copyOf_4 : MethodName := ⟨RJ8, "copyOf", "([BI)[B"⟩
def dkwJ8_copyOf_4_1 : List UInt8 := [27, 184, 1, 48, 184, 0, 150, 44, 176]
abbrev dktJ8_copyOf_4_1 : List UInt8 := dkwJ8_copyOf_4_1 ++ []
def dkwJ8_copyOf_4_0 : List UInt8 := [27, 42, 190, 160, 0, 11, 42, 182, 1, 54, 192, 1, 55, 176, 27, 188, 8, 77, 42, 3, 44, 3, 42, 190]
abbrev dktJ8_copyOf_4_0 : List UInt8 := dkwJ8_copyOf_4_0 ++ dktJ8_copyOf_4_1
theorem dksJ8_copyOf_4_0 : cJ8_copyOf_4.data.toList.drop 0 = dktJ8_copyOf_4_0 := by decide +kernel
theorem dksJ8_copyOf_4_1 : cJ8_copyOf_4.data.toList.drop 24 = dktJ8_copyOf_4_1 := dk_seg dksJ8_copyOf_4_0 24 rfl rfl
theorem dJ8_copyOf_4_0 : decode cJ8_copyOf_4 0 = .ok (.iload_n 1, 1) := dk_27 (dk_at dksJ8_copyOf_4_0 0 rfl rfl)
theorem dJ8_copyOf_4_1 : decode cJ8_copyOf_4 1 = .ok (.aload_n 0, 1) := dk_42 (dk_at dksJ8_copyOf_4_0 1 rfl rfl)
theorem dJ8_copyOf_4_2 : decode cJ8_copyOf_4 2 = .ok (.arraylength, 1) := dk_190 (dk_at dksJ8_copyOf_4_0 2 rfl rfl)
theorem dJ8_copyOf_4_3 : decode cJ8_copyOf_4 3 = .ok (.if_icmp .ne 11, 3) := dk_160 0 11 (dk_at dksJ8_copyOf_4_0 3 rfl rfl)
theorem dJ8_copyOf_4_6 : decode cJ8_copyOf_4 6 = .ok (.aload_n 0, 1) := dk_42 (dk_at dksJ8_copyOf_4_0 6 rfl rfl)
theorem dJ8_copyOf_4_7 : decode cJ8_copyOf_4 7 = .ok (.invokevirtual 310, 3) := dk_182 1 54 (dk_at dksJ8_copyOf_4_0 7 rfl rfl)
theorem dJ8_copyOf_4_10 : decode cJ8_copyOf_4 10 = .ok (.checkcast 311, 3) := dk_192 1 55 (dk_at dksJ8_copyOf_4_0 10 rfl rfl)
theorem dJ8_copyOf_4_13 : decode cJ8_copyOf_4 13 = .ok (.areturn, 1) := dk_176 (dk_at dksJ8_copyOf_4_0 13 rfl rfl)
theorem dJ8_copyOf_4_14 : decode cJ8_copyOf_4 14 = .ok (.iload_n 1, 1) := dk_27 (dk_at dksJ8_copyOf_4_0 14 rfl rfl)
theorem dJ8_copyOf_4_15 : decode cJ8_copyOf_4 15 = .ok (.newarray .byte, 2) := dk_188_8 (dk_at dksJ8_copyOf_4_0 15 rfl rfl)
theorem dJ8_copyOf_4_17 : decode cJ8_copyOf_4 17 = .ok (.astore_n 2, 1) := dk_77 (dk_at dksJ8_copyOf_4_0 17 rfl rfl)
theorem dJ8_copyOf_4_18 : decode cJ8_copyOf_4 18 = .ok (.aload_n 0, 1) := dk_42 (dk_at dksJ8_copyOf_4_0 18 rfl rfl)
theorem dJ8_copyOf_4_19 : decode cJ8_copyOf_4 19 = .ok (.iconst 0, 1) := dk_3 (dk_at dksJ8_copyOf_4_0 19 rfl rfl)
theorem dJ8_copyOf_4_20 : decode cJ8_copyOf_4 20 = .ok (.aload_n 2, 1) := dk_44 (dk_at dksJ8_copyOf_4_0 20 rfl rfl)
theorem dJ8_copyOf_4_21 : decode cJ8_copyOf_4 21 = .ok (.iconst 0, 1) := dk_3 (dk_at dksJ8_copyOf_4_0 21 rfl rfl)
theorem dJ8_copyOf_4_22 : decode cJ8_copyOf_4 22 = .ok (.aload_n 0, 1) := dk_42 (dk_at dksJ8_copyOf_4_0 22 rfl rfl)
theorem dJ8_copyOf_4_23 : decode cJ8_copyOf_4 23 = .ok (.arraylength, 1) := dk_190 (dk_at dksJ8_copyOf_4_0 23 rfl rfl)
theorem dJ8_copyOf_4_24 : decode cJ8_copyOf_4 24 = .ok (.iload_n 1, 1) := dk_27 (dk_at dksJ8_copyOf_4_1 0 rfl rfl)
theorem dJ8_copyOf_4_25 : decode cJ8_copyOf_4 25 = .ok (.invokestatic 304, 3) := dk_184 1 48 (dk_at dksJ8_copyOf_4_1 1 rfl rfl)
theorem dJ8_copyOf_4_28 : decode cJ8_copyOf_4 28 = .ok (.invokestatic 150, 3) := dk_184 0 150 (dk_at dksJ8_copyOf_4_1 4 rfl rfl)
theorem dJ8_copyOf_4_31 : decode cJ8_copyOf_4 31 = .ok (.aload_n 2, 1) := dk_44 (dk_at dksJ8_copyOf_4_1 7 rfl rfl)
theorem dJ8_copyOf_4_32 : decode cJ8_copyOf_4 32 = .ok (.areturn, 1) := dk_176 (dk_at dksJ8_copyOf_4_1 8 rfl rfl)
abbrev cJ8_copyOfRange : ByteArray := prog_56_method_132_code
def yJ8_copyOfRange : MethodName := ⟨RJ8, "copyOfRange", "([BII)[B"⟩
def dkwJ8_copyOfRange_1 : List UInt8 := [176]
abbrev dktJ8_copyOfRange_1 : List UInt8 := dkwJ8_copyOfRange_1 ++ []
def dkwJ8_copyOfRange_0 : List UInt8 := [27, 154, 0, 9, 28, 42, 190, 159, 0, 10, 42, 27, 28, 184, 1, 83, 176, 42, 182, 1, 54, 192, 1, 55]
abbrev dktJ8_copyOfRange_0 : List UInt8 := dkwJ8_copyOfRange_0 ++ dktJ8_copyOfRange_1
theorem dksJ8_copyOfRange_0 : cJ8_copyOfRange.data.toList.drop 0 = dktJ8_copyOfRange_0 := by decide +kernel
theorem dksJ8_copyOfRange_1 : cJ8_copyOfRange.data.toList.drop 24 = dktJ8_copyOfRange_1 := dk_seg dksJ8_copyOfRange_0 24 rfl rfl
theorem dJ8_copyOfRange_0 : decode cJ8_copyOfRange 0 = .ok (.iload_n 1, 1) := dk_27 (dk_at dksJ8_copyOfRange_0 0 rfl rfl)
theorem dJ8_copyOfRange_1 : decode cJ8_copyOfRange 1 = .ok (.ifCond .ne 9, 3) := dk_154 0 9 (dk_at dksJ8_copyOfRange_0 1 rfl rfl)
theorem dJ8_copyOfRange_4 : decode cJ8_copyOfRange 4 = .ok (.iload_n 2, 1) := dk_28 (dk_at dksJ8_copyOfRange_0 4 rfl rfl)
theorem dJ8_copyOfRange_5 : decode cJ8_copyOfRange 5 = .ok (.aload_n 0, 1) := dk_42 (dk_at dksJ8_copyOfRange_0 5 rfl rfl)
theorem dJ8_copyOfRange_6 : decode cJ8_copyOfRange 6 = .ok (.arraylength, 1) := dk_190 (dk_at dksJ8_copyOfRange_0 6 rfl rfl)
theorem dJ8_copyOfRange_7 : decode cJ8_copyOfRange 7 = .ok (.if_icmp .eq 10, 3) := dk_159 0 10 (dk_at dksJ8_copyOfRange_0 7 rfl rfl)
theorem dJ8_copyOfRange_10 : decode cJ8_copyOfRange 10 = .ok (.aload_n 0, 1) := dk_42 (dk_at dksJ8_copyOfRange_0 10 rfl rfl)
theorem dJ8_copyOfRange_11 : decode cJ8_copyOfRange 11 = .ok (.iload_n 1, 1) := dk_27 (dk_at dksJ8_copyOfRange_0 11 rfl rfl)
theorem dJ8_copyOfRange_12 : decode cJ8_copyOfRange 12 = .ok (.iload_n 2, 1) := dk_28 (dk_at dksJ8_copyOfRange_0 12 rfl rfl)
theorem dJ8_copyOfRange_13 : decode cJ8_copyOfRange 13 = .ok (.invokestatic 339, 3) := dk_184 1 83 (dk_at dksJ8_copyOfRange_0 13 rfl rfl)
theorem dJ8_copyOfRange_16 : decode cJ8_copyOfRange 16 = .ok (.areturn, 1) := dk_176 (dk_at dksJ8_copyOfRange_0 16 rfl rfl)
theorem dJ8_copyOfRange_17 : decode cJ8_copyOfRange 17 = .ok (.aload_n 0, 1) := dk_42 (dk_at dksJ8_copyOfRange_0 17 rfl rfl)
theorem dJ8_copyOfRange_18 : decode cJ8_copyOfRange 18 = .ok (.invokevirtual 310, 3) := dk_182 1 54 (dk_at dksJ8_copyOfRange_0 18 rfl rfl)
theorem dJ8_copyOfRange_21 : decode cJ8_copyOfRange 21 = .ok (.checkcast 311, 3) := dk_192 1 55 (dk_at dksJ8_copyOfRange_0 21 rfl rfl)
theorem dJ8_copyOfRange_24 : decode cJ8_copyOfRange 24 = .ok (.areturn, 1) := dk_176 (dk_at dksJ8_copyOfRange_1 0 rfl rfl)
abbrev cJ8_copyOfRangeByte : ByteArray := prog_56_method_133_code
def yJ8_copyOfRangeByte : MethodName := ⟨RJ8, "copyOfRangeByte", "([BII)[B"⟩
def dkwJ8_copyOfRangeByte_1 : List UInt8 := [184, 1, 48, 184, 0, 150, 25, 4, 176]
abbrev dktJ8_copyOfRangeByte_1 : List UInt8 := dkwJ8_copyOfRangeByte_1 ++ []
def dkwJ8_copyOfRangeByte_0 : List UInt8 := [27, 28, 184, 1, 87, 28, 27, 100, 62, 29, 188, 8, 58, 4, 42, 27, 25, 4, 3, 42, 190, 27, 100, 29]
abbrev dktJ8_copyOfRangeByte_0 : List UInt8 := dkwJ8_copyOfRangeByte_0 ++ dktJ8_copyOfRangeByte_1
theorem dksJ8_copyOfRangeByte_0 : cJ8_copyOfRangeByte.data.toList.drop 0 = dktJ8_copyOfRangeByte_0 := by decide +kernel
theorem dksJ8_copyOfRangeByte_1 : cJ8_copyOfRangeByte.data.toList.drop 24 = dktJ8_copyOfRangeByte_1 := dk_seg dksJ8_copyOfRangeByte_0 24 rfl rfl
theorem dJ8_copyOfRangeByte_0 : decode cJ8_copyOfRangeByte 0 = .ok (.iload_n 1, 1) := dk_27 (dk_at dksJ8_copyOfRangeByte_0 0 rfl rfl)
theorem dJ8_copyOfRangeByte_1 : decode cJ8_copyOfRangeByte 1 = .ok (.iload_n 2, 1) := dk_28 (dk_at dksJ8_copyOfRangeByte_0 1 rfl rfl)
theorem dJ8_copyOfRangeByte_2 : decode cJ8_copyOfRangeByte 2 = .ok (.invokestatic 343, 3) := dk_184 1 87 (dk_at dksJ8_copyOfRangeByte_0 2 rfl rfl)
theorem dJ8_copyOfRangeByte_5 : decode cJ8_copyOfRangeByte 5 = .ok (.iload_n 2, 1) := dk_28 (dk_at dksJ8_copyOfRangeByte_0 5 rfl rfl)
theorem dJ8_copyOfRangeByte_6 : decode cJ8_copyOfRangeByte 6 = .ok (.iload_n 1, 1) := dk_27 (dk_at dksJ8_copyOfRangeByte_0 6 rfl rfl)
theorem dJ8_copyOfRangeByte_7 : decode cJ8_copyOfRangeByte 7 = .ok (.isub, 1) := dk_100 (dk_at dksJ8_copyOfRangeByte_0 7 rfl rfl)
theorem dJ8_copyOfRangeByte_8 : decode cJ8_copyOfRangeByte 8 = .ok (.istore_n 3, 1) := dk_62 (dk_at dksJ8_copyOfRangeByte_0 8 rfl rfl)
theorem dJ8_copyOfRangeByte_9 : decode cJ8_copyOfRangeByte 9 = .ok (.iload_n 3, 1) := dk_29 (dk_at dksJ8_copyOfRangeByte_0 9 rfl rfl)
theorem dJ8_copyOfRangeByte_10 : decode cJ8_copyOfRangeByte 10 = .ok (.newarray .byte, 2) := dk_188_8 (dk_at dksJ8_copyOfRangeByte_0 10 rfl rfl)
theorem dJ8_copyOfRangeByte_12 : decode cJ8_copyOfRangeByte 12 = .ok (.astore 4, 2) := dk_58 4 (dk_at dksJ8_copyOfRangeByte_0 12 rfl rfl)
theorem dJ8_copyOfRangeByte_14 : decode cJ8_copyOfRangeByte 14 = .ok (.aload_n 0, 1) := dk_42 (dk_at dksJ8_copyOfRangeByte_0 14 rfl rfl)
theorem dJ8_copyOfRangeByte_15 : decode cJ8_copyOfRangeByte 15 = .ok (.iload_n 1, 1) := dk_27 (dk_at dksJ8_copyOfRangeByte_0 15 rfl rfl)
theorem dJ8_copyOfRangeByte_16 : decode cJ8_copyOfRangeByte 16 = .ok (.aload 4, 2) := dk_25 4 (dk_at dksJ8_copyOfRangeByte_0 16 rfl rfl)
theorem dJ8_copyOfRangeByte_18 : decode cJ8_copyOfRangeByte 18 = .ok (.iconst 0, 1) := dk_3 (dk_at dksJ8_copyOfRangeByte_0 18 rfl rfl)
theorem dJ8_copyOfRangeByte_19 : decode cJ8_copyOfRangeByte 19 = .ok (.aload_n 0, 1) := dk_42 (dk_at dksJ8_copyOfRangeByte_0 19 rfl rfl)
theorem dJ8_copyOfRangeByte_20 : decode cJ8_copyOfRangeByte 20 = .ok (.arraylength, 1) := dk_190 (dk_at dksJ8_copyOfRangeByte_0 20 rfl rfl)
theorem dJ8_copyOfRangeByte_21 : decode cJ8_copyOfRangeByte 21 = .ok (.iload_n 1, 1) := dk_27 (dk_at dksJ8_copyOfRangeByte_0 21 rfl rfl)
theorem dJ8_copyOfRangeByte_22 : decode cJ8_copyOfRangeByte 22 = .ok (.isub, 1) := dk_100 (dk_at dksJ8_copyOfRangeByte_0 22 rfl rfl)
theorem dJ8_copyOfRangeByte_23 : decode cJ8_copyOfRangeByte 23 = .ok (.iload_n 3, 1) := dk_29 (dk_at dksJ8_copyOfRangeByte_0 23 rfl rfl)
theorem dJ8_copyOfRangeByte_24 : decode cJ8_copyOfRangeByte 24 = .ok (.invokestatic 304, 3) := dk_184 1 48 (dk_at dksJ8_copyOfRangeByte_1 0 rfl rfl)
theorem dJ8_copyOfRangeByte_27 : decode cJ8_copyOfRangeByte 27 = .ok (.invokestatic 150, 3) := dk_184 0 150 (dk_at dksJ8_copyOfRangeByte_1 3 rfl rfl)
theorem dJ8_copyOfRangeByte_30 : decode cJ8_copyOfRangeByte 30 = .ok (.aload 4, 2) := dk_25 4 (dk_at dksJ8_copyOfRangeByte_1 6 rfl rfl)
theorem dJ8_copyOfRangeByte_32 : decode cJ8_copyOfRangeByte 32 = .ok (.areturn, 1) := dk_176 (dk_at dksJ8_copyOfRangeByte_1 8 rfl rfl)
abbrev cJ8_checkLength : ByteArray := prog_56_method_131_code
def yJ8_checkLength : MethodName := ⟨RJ8, "checkLength", "(II)V"⟩
def dkwJ8_checkLength_1 : List UInt8 := [182, 0, 50, 27, 182, 0, 54, 182, 0, 61, 183, 0, 65, 191, 177]
abbrev dktJ8_checkLength_1 : List UInt8 := dkwJ8_checkLength_1 ++ []
def dkwJ8_checkLength_0 : List UInt8 := [27, 26, 162, 0, 35, 187, 0, 43, 89, 187, 0, 45, 89, 183, 0, 47, 26, 182, 0, 54, 19, 1, 81]
abbrev dktJ8_checkLength_0 : List UInt8 := dkwJ8_checkLength_0 ++ dktJ8_checkLength_1
theorem dksJ8_checkLength_0 : cJ8_checkLength.data.toList.drop 0 = dktJ8_checkLength_0 := by decide +kernel
theorem dksJ8_checkLength_1 : cJ8_checkLength.data.toList.drop 23 = dktJ8_checkLength_1 := dk_seg dksJ8_checkLength_0 23 rfl rfl
theorem dJ8_checkLength_0 : decode cJ8_checkLength 0 = .ok (.iload_n 1, 1) := dk_27 (dk_at dksJ8_checkLength_0 0 rfl rfl)
theorem dJ8_checkLength_1 : decode cJ8_checkLength 1 = .ok (.iload_n 0, 1) := dk_26 (dk_at dksJ8_checkLength_0 1 rfl rfl)
theorem dJ8_checkLength_2 : decode cJ8_checkLength 2 = .ok (.if_icmp .ge 35, 3) := dk_162 0 35 (dk_at dksJ8_checkLength_0 2 rfl rfl)
theorem dJ8_checkLength_5 : decode cJ8_checkLength 5 = .ok (.new 43, 3) := dk_187 0 43 (dk_at dksJ8_checkLength_0 5 rfl rfl)
theorem dJ8_checkLength_8 : decode cJ8_checkLength 8 = .ok (.dup, 1) := dk_89 (dk_at dksJ8_checkLength_0 8 rfl rfl)
theorem dJ8_checkLength_9 : decode cJ8_checkLength 9 = .ok (.new 45, 3) := dk_187 0 45 (dk_at dksJ8_checkLength_0 9 rfl rfl)
theorem dJ8_checkLength_12 : decode cJ8_checkLength 12 = .ok (.dup, 1) := dk_89 (dk_at dksJ8_checkLength_0 12 rfl rfl)
theorem dJ8_checkLength_13 : decode cJ8_checkLength 13 = .ok (.invokespecial 47, 3) := dk_183 0 47 (dk_at dksJ8_checkLength_0 13 rfl rfl)
theorem dJ8_checkLength_16 : decode cJ8_checkLength 16 = .ok (.iload_n 0, 1) := dk_26 (dk_at dksJ8_checkLength_0 16 rfl rfl)
theorem dJ8_checkLength_17 : decode cJ8_checkLength 17 = .ok (.invokevirtual 54, 3) := dk_182 0 54 (dk_at dksJ8_checkLength_0 17 rfl rfl)
theorem dJ8_checkLength_20 : decode cJ8_checkLength 20 = .ok (.ldc_w 337, 3) := dk_19 1 81 (dk_at dksJ8_checkLength_0 20 rfl rfl)
theorem dJ8_checkLength_23 : decode cJ8_checkLength 23 = .ok (.invokevirtual 50, 3) := dk_182 0 50 (dk_at dksJ8_checkLength_1 0 rfl rfl)
theorem dJ8_checkLength_26 : decode cJ8_checkLength 26 = .ok (.iload_n 1, 1) := dk_27 (dk_at dksJ8_checkLength_1 3 rfl rfl)
theorem dJ8_checkLength_27 : decode cJ8_checkLength 27 = .ok (.invokevirtual 54, 3) := dk_182 0 54 (dk_at dksJ8_checkLength_1 4 rfl rfl)
theorem dJ8_checkLength_30 : decode cJ8_checkLength 30 = .ok (.invokevirtual 61, 3) := dk_182 0 61 (dk_at dksJ8_checkLength_1 7 rfl rfl)
theorem dJ8_checkLength_33 : decode cJ8_checkLength 33 = .ok (.invokespecial 65, 3) := dk_183 0 65 (dk_at dksJ8_checkLength_1 10 rfl rfl)
theorem dJ8_checkLength_36 : decode cJ8_checkLength 36 = .ok (.athrow, 1) := dk_191 (dk_at dksJ8_checkLength_1 13 rfl rfl)
theorem dJ8_checkLength_37 : decode cJ8_checkLength 37 = .ok (.return_, 1) := dk_177 (dk_at dksJ8_checkLength_1 14 rfl rfl)
theorem q93 : (Jvm.Cond.initialized "java/util/Arrays") ∈ lw_all := lw_g (lw_at lw_m1 16 rfl) rfl
theorem q426 : (Jvm.Cond.static ({ cls := "java/util/Arrays", name := "copyOf", desc := "([Ljava/lang/Object;I)[Ljava/lang/Object;" } : Jvm.MethodName)) ∈ lw_all := lw_g (lw_at lw_m2 109 rfl) rfl
theorem q427 : (Jvm.Cond.code ({ cls := "java/util/Arrays", name := "copyOf", desc := "([Ljava/lang/Object;I)[Ljava/lang/Object;" } : Jvm.MethodName) prog_56_method_119_code (2 : Nat) (Option.some (Jvm.ClassFile.FieldType.array (Jvm.ClassFile.FieldType.object "java/lang/Object")))) ∈ lw_all := lw_g (lw_at lw_m2 110 rfl) rfl
theorem q428 : (Jvm.Cond.methodLink "java/util/Arrays" (86 : Nat) ({ cls := "java/lang/Object", name := "getClass", desc := "()Ljava/lang/Class;" } : Jvm.MethodName)) ∈ lw_all := lw_g (lw_at lw_m2 111 rfl) rfl
theorem q465 : (Jvm.Cond.methodLink "java/util/Arrays" (300 : Nat) ({ cls := "java/util/Arrays", name := "copyOf", desc := "([Ljava/lang/Object;ILjava/lang/Class;)[Ljava/lang/Object;" } : Jvm.MethodName)) ∈ lw_all := lw_g (lw_at lw_m2 148 rfl) rfl
theorem q466 : (Jvm.Cond.static ({ cls := "java/util/Arrays", name := "copyOf", desc := "([Ljava/lang/Object;ILjava/lang/Class;)[Ljava/lang/Object;" } : Jvm.MethodName)) ∈ lw_all := lw_g (lw_at lw_m2 149 rfl) rfl
theorem q467 : (Jvm.Cond.code ({ cls := "java/util/Arrays", name := "copyOf", desc := "([Ljava/lang/Object;ILjava/lang/Class;)[Ljava/lang/Object;" } : Jvm.MethodName) prog_56_method_120_code (4 : Nat) (Option.some (Jvm.ClassFile.FieldType.array (Jvm.ClassFile.FieldType.object "java/lang/Object")))) ∈ lw_all := lw_g (lw_at lw_m2 150 rfl) rfl
theorem q468 : (Jvm.Cond.classLink "java/util/Arrays" (110 : Nat) "[Ljava/lang/Object;") ∈ lw_all := lw_g (lw_at lw_m2 151 rfl) rfl
theorem q470 : (Jvm.Cond.classLink "java/util/Arrays" (2 : Nat) "java/lang/Object") ∈ lw_all := lw_g (lw_at lw_m2 153 rfl) rfl
theorem q471 : (Jvm.Cond.methodLink "java/util/Arrays" (304 : Nat) ({ cls := "java/lang/Math", name := "min", desc := "(II)I" } : Jvm.MethodName)) ∈ lw_all := lw_g (lw_at lw_m2 154 rfl) rfl
theorem q474 : (Jvm.Cond.methodLink "java/util/Arrays" (150 : Nat) ({ cls := "java/lang/System", name := "arraycopy", desc := "(Ljava/lang/Object;ILjava/lang/Object;II)V" } : Jvm.MethodName)) ∈ lw_all := lw_g (lw_at lw_m2 157 rfl) rfl
theorem q876 : (Jvm.Cond.static ({ cls := "java/util/Arrays", name := "copyOf", desc := "([JI)[J" } : Jvm.MethodName)) ∈ lw_all := lw_g (lw_at lw_m4 79 rfl) rfl
theorem q877 : (Jvm.Cond.code ({ cls := "java/util/Arrays", name := "copyOf", desc := "([JI)[J" } : Jvm.MethodName) prog_56_method_124_code (3 : Nat) (Option.some (Jvm.ClassFile.FieldType.array Jvm.ClassFile.FieldType.long))) ∈ lw_all := lw_g (lw_at lw_m4 80 rfl) rfl
theorem q878 : (Jvm.Cond.methodLink "java/util/Arrays" (319 : Nat) ({ cls := "[J", name := "clone", desc := "()Ljava/lang/Object;" } : Jvm.MethodName)) ∈ lw_all := lw_g (lw_at lw_m4 81 rfl) rfl
theorem q884 : (Jvm.Cond.classLink "java/util/Arrays" (320 : Nat) "[J") ∈ lw_all := lw_g (lw_at lw_m4 87 rfl) rfl
theorem q2068 : (Jvm.Cond.static ({ cls := "java/util/Arrays", name := "copyOf", desc := "([BI)[B" } : Jvm.MethodName)) ∈ lw_all := lw_g (lw_at lw_m9 71 rfl) rfl
theorem q2069 : (Jvm.Cond.code ({ cls := "java/util/Arrays", name := "copyOf", desc := "([BI)[B" } : Jvm.MethodName) prog_56_method_121_code (3 : Nat) (Option.some (Jvm.ClassFile.FieldType.array Jvm.ClassFile.FieldType.byte))) ∈ lw_all := lw_g (lw_at lw_m9 72 rfl) rfl
theorem q2070 : (Jvm.Cond.methodLink "java/util/Arrays" (310 : Nat) ({ cls := "[B", name := "clone", desc := "()Ljava/lang/Object;" } : Jvm.MethodName)) ∈ lw_all := lw_g (lw_at lw_m9 73 rfl) rfl
theorem q2074 : (Jvm.Cond.classLink "java/util/Arrays" (311 : Nat) "[B") ∈ lw_all := lw_g (lw_at lw_m9 77 rfl) rfl
theorem q2138 : (Jvm.Cond.static ({ cls := "java/util/Arrays", name := "copyOfRange", desc := "([BII)[B" } : Jvm.MethodName)) ∈ lw_all := lw_g (lw_at lw_m9 141 rfl) rfl
theorem q2139 : (Jvm.Cond.code ({ cls := "java/util/Arrays", name := "copyOfRange", desc := "([BII)[B" } : Jvm.MethodName) prog_56_method_132_code (3 : Nat) (Option.some (Jvm.ClassFile.FieldType.array Jvm.ClassFile.FieldType.byte))) ∈ lw_all := lw_g (lw_at lw_m9 142 rfl) rfl
theorem q2140 : (Jvm.Cond.methodLink "java/util/Arrays" (339 : Nat) ({ cls := "java/util/Arrays", name := "copyOfRangeByte", desc := "([BII)[B" } : Jvm.MethodName)) ∈ lw_all := lw_g (lw_at lw_m9 143 rfl) rfl
theorem q2141 : (Jvm.Cond.static ({ cls := "java/util/Arrays", name := "copyOfRangeByte", desc := "([BII)[B" } : Jvm.MethodName)) ∈ lw_all := lw_g (lw_at lw_m9 144 rfl) rfl
theorem q2142 : (Jvm.Cond.code ({ cls := "java/util/Arrays", name := "copyOfRangeByte", desc := "([BII)[B" } : Jvm.MethodName) prog_56_method_133_code (5 : Nat) (Option.some (Jvm.ClassFile.FieldType.array Jvm.ClassFile.FieldType.byte))) ∈ lw_all := lw_g (lw_at lw_m9 145 rfl) rfl
theorem q2143 : (Jvm.Cond.methodLink "java/util/Arrays" (343 : Nat) ({ cls := "java/util/Arrays", name := "checkLength", desc := "(II)V" } : Jvm.MethodName)) ∈ lw_all := lw_g (lw_at lw_m9 146 rfl) rfl
theorem q2144 : (Jvm.Cond.static ({ cls := "java/util/Arrays", name := "checkLength", desc := "(II)V" } : Jvm.MethodName)) ∈ lw_all := lw_g (lw_at lw_m9 147 rfl) rfl
theorem q2145 : (Jvm.Cond.code ({ cls := "java/util/Arrays", name := "checkLength", desc := "(II)V" } : Jvm.MethodName) prog_56_method_131_code (2 : Nat) (Option.none : Option Jvm.ClassFile.FieldType)) ∈ lw_all := lw_g (lw_at lw_m9 148 rfl) rfl
/-! jdk/internal/util/Preconditions -/
set_option maxRecDepth 100000
def RJ12 : String := "jdk/internal/util/Preconditions"
abbrev cJ12_checkFromToIndex : ByteArray := prog_89_method_12_code
def yJ12_checkFromToIndex : MethodName := ⟨RJ12, "checkFromToIndex", "(IIILjava/util/function/BiFunction;)I"⟩
def dkwJ12_checkFromToIndex_0 : List UInt8 := [26, 155, 0, 13, 26, 27, 163, 0, 8, 27, 28, 164, 0, 11, 45, 26, 27, 28, 184, 0, 99, 191, 26, 172]
abbrev dktJ12_checkFromToIndex_0 : List UInt8 := dkwJ12_checkFromToIndex_0 ++ []
theorem dksJ12_checkFromToIndex_0 : cJ12_checkFromToIndex.data.toList.drop 0 = dktJ12_checkFromToIndex_0 := by decide +kernel
theorem dJ12_checkFromToIndex_0 : decode cJ12_checkFromToIndex 0 = .ok (.iload_n 0, 1) := dk_26 (dk_at dksJ12_checkFromToIndex_0 0 rfl rfl)
theorem dJ12_checkFromToIndex_1 : decode cJ12_checkFromToIndex 1 = .ok (.ifCond .lt 13, 3) := dk_155 0 13 (dk_at dksJ12_checkFromToIndex_0 1 rfl rfl)
theorem dJ12_checkFromToIndex_4 : decode cJ12_checkFromToIndex 4 = .ok (.iload_n 0, 1) := dk_26 (dk_at dksJ12_checkFromToIndex_0 4 rfl rfl)
theorem dJ12_checkFromToIndex_5 : decode cJ12_checkFromToIndex 5 = .ok (.iload_n 1, 1) := dk_27 (dk_at dksJ12_checkFromToIndex_0 5 rfl rfl)
theorem dJ12_checkFromToIndex_6 : decode cJ12_checkFromToIndex 6 = .ok (.if_icmp .gt 8, 3) := dk_163 0 8 (dk_at dksJ12_checkFromToIndex_0 6 rfl rfl)
theorem dJ12_checkFromToIndex_9 : decode cJ12_checkFromToIndex 9 = .ok (.iload_n 1, 1) := dk_27 (dk_at dksJ12_checkFromToIndex_0 9 rfl rfl)
theorem dJ12_checkFromToIndex_10 : decode cJ12_checkFromToIndex 10 = .ok (.iload_n 2, 1) := dk_28 (dk_at dksJ12_checkFromToIndex_0 10 rfl rfl)
theorem dJ12_checkFromToIndex_11 : decode cJ12_checkFromToIndex 11 = .ok (.if_icmp .le 11, 3) := dk_164 0 11 (dk_at dksJ12_checkFromToIndex_0 11 rfl rfl)
theorem dJ12_checkFromToIndex_14 : decode cJ12_checkFromToIndex 14 = .ok (.aload_n 3, 1) := dk_45 (dk_at dksJ12_checkFromToIndex_0 14 rfl rfl)
theorem dJ12_checkFromToIndex_15 : decode cJ12_checkFromToIndex 15 = .ok (.iload_n 0, 1) := dk_26 (dk_at dksJ12_checkFromToIndex_0 15 rfl rfl)
theorem dJ12_checkFromToIndex_16 : decode cJ12_checkFromToIndex 16 = .ok (.iload_n 1, 1) := dk_27 (dk_at dksJ12_checkFromToIndex_0 16 rfl rfl)
theorem dJ12_checkFromToIndex_17 : decode cJ12_checkFromToIndex 17 = .ok (.iload_n 2, 1) := dk_28 (dk_at dksJ12_checkFromToIndex_0 17 rfl rfl)
theorem dJ12_checkFromToIndex_18 : decode cJ12_checkFromToIndex 18 = .ok (.invokestatic 99, 3) := dk_184 0 99 (dk_at dksJ12_checkFromToIndex_0 18 rfl rfl)
theorem dJ12_checkFromToIndex_21 : decode cJ12_checkFromToIndex 21 = .ok (.athrow, 1) := dk_191 (dk_at dksJ12_checkFromToIndex_0 21 rfl rfl)
theorem dJ12_checkFromToIndex_22 : decode cJ12_checkFromToIndex 22 = .ok (.iload_n 0, 1) := dk_26 (dk_at dksJ12_checkFromToIndex_0 22 rfl rfl)
theorem dJ12_checkFromToIndex_23 : decode cJ12_checkFromToIndex 23 = .ok (.ireturn, 1) := dk_172 (dk_at dksJ12_checkFromToIndex_0 23 rfl rfl)
abbrev cJ12_checkIndex : ByteArray := prog_89_method_11_code
def yJ12_checkIndex : MethodName := ⟨RJ12, "checkIndex", "(IILjava/util/function/BiFunction;)I"⟩
def dkwJ12_checkIndex_0 : List UInt8 := [26, 155, 0, 8, 26, 27, 161, 0, 10, 44, 26, 27, 184, 0, 95, 191, 26, 172]
abbrev dktJ12_checkIndex_0 : List UInt8 := dkwJ12_checkIndex_0 ++ []
theorem dksJ12_checkIndex_0 : cJ12_checkIndex.data.toList.drop 0 = dktJ12_checkIndex_0 := by decide +kernel
theorem dJ12_checkIndex_0 : decode cJ12_checkIndex 0 = .ok (.iload_n 0, 1) := dk_26 (dk_at dksJ12_checkIndex_0 0 rfl rfl)
theorem dJ12_checkIndex_1 : decode cJ12_checkIndex 1 = .ok (.ifCond .lt 8, 3) := dk_155 0 8 (dk_at dksJ12_checkIndex_0 1 rfl rfl)
theorem dJ12_checkIndex_4 : decode cJ12_checkIndex 4 = .ok (.iload_n 0, 1) := dk_26 (dk_at dksJ12_checkIndex_0 4 rfl rfl)
theorem dJ12_checkIndex_5 : decode cJ12_checkIndex 5 = .ok (.iload_n 1, 1) := dk_27 (dk_at dksJ12_checkIndex_0 5 rfl rfl)
theorem dJ12_checkIndex_6 : decode cJ12_checkIndex 6 = .ok (.if_icmp .lt 10, 3) := dk_161 0 10 (dk_at dksJ12_checkIndex_0 6 rfl rfl)
theorem dJ12_checkIndex_9 : decode cJ12_checkIndex 9 = .ok (.aload_n 2, 1) := dk_44 (dk_at dksJ12_checkIndex_0 9 rfl rfl)
theorem dJ12_checkIndex_10 : decode cJ12_checkIndex 10 = .ok (.iload_n 0, 1) := dk_26 (dk_at dksJ12_checkIndex_0 10 rfl rfl)
theorem dJ12_checkIndex_11 : decode cJ12_checkIndex 11 = .ok (.iload_n 1, 1) := dk_27 (dk_at dksJ12_checkIndex_0 11 rfl rfl)
theorem dJ12_checkIndex_12 : decode cJ12_checkIndex 12 = .ok (.invokestatic 95, 3) := dk_184 0 95 (dk_at dksJ12_checkIndex_0 12 rfl rfl)
theorem dJ12_checkIndex_15 : decode cJ12_checkIndex 15 = .ok (.athrow, 1) := dk_191 (dk_at dksJ12_checkIndex_0 15 rfl rfl)
theorem dJ12_checkIndex_16 : decode cJ12_checkIndex 16 = .ok (.iload_n 0, 1) := dk_26 (dk_at dksJ12_checkIndex_0 16 rfl rfl)
theorem dJ12_checkIndex_17 : decode cJ12_checkIndex 17 = .ok (.ireturn, 1) := dk_172 (dk_at dksJ12_checkIndex_0 17 rfl rfl)
abbrev cJ12_checkFromIndexSize : ByteArray := prog_89_method_13_code
def yJ12_checkFromIndexSize : MethodName := ⟨RJ12, "checkFromIndexSize", "(IIILjava/util/function/BiFunction;)I"⟩
def dkwJ12_checkFromIndexSize_1 : List UInt8 := [172]
abbrev dktJ12_checkFromIndexSize_1 : List UInt8 := dkwJ12_checkFromIndexSize_1 ++ []
def dkwJ12_checkFromIndexSize_0 : List UInt8 := [28, 26, 128, 27, 128, 155, 0, 10, 27, 28, 26, 100, 164, 0, 11, 45, 26, 27, 28, 184, 0, 103, 191, 26]
abbrev dktJ12_checkFromIndexSize_0 : List UInt8 := dkwJ12_checkFromIndexSize_0 ++ dktJ12_checkFromIndexSize_1
theorem dksJ12_checkFromIndexSize_0 : cJ12_checkFromIndexSize.data.toList.drop 0 = dktJ12_checkFromIndexSize_0 := by decide +kernel
theorem dksJ12_checkFromIndexSize_1 : cJ12_checkFromIndexSize.data.toList.drop 24 = dktJ12_checkFromIndexSize_1 := dk_seg dksJ12_checkFromIndexSize_0 24 rfl rfl
theorem dJ12_checkFromIndexSize_0 : decode cJ12_checkFromIndexSize 0 = .ok (.iload_n 2, 1) := dk_28 (dk_at dksJ12_checkFromIndexSize_0 0 rfl rfl)
theorem dJ12_checkFromIndexSize_1 : decode cJ12_checkFromIndexSize 1 = .ok (.iload_n 0, 1) := dk_26 (dk_at dksJ12_checkFromIndexSize_0 1 rfl rfl)
theorem dJ12_checkFromIndexSize_2 : decode cJ12_checkFromIndexSize 2 = .ok (.ior, 1) := dk_128 (dk_at dksJ12_checkFromIndexSize_0 2 rfl rfl)
theorem dJ12_checkFromIndexSize_3 : decode cJ12_checkFromIndexSize 3 = .ok (.iload_n 1, 1) := dk_27 (dk_at dksJ12_checkFromIndexSize_0 3 rfl rfl)
theorem dJ12_checkFromIndexSize_4 : decode cJ12_checkFromIndexSize 4 = .ok (.ior, 1) := dk_128 (dk_at dksJ12_checkFromIndexSize_0 4 rfl rfl)
theorem dJ12_checkFromIndexSize_5 : decode cJ12_checkFromIndexSize 5 = .ok (.ifCond .lt 10, 3) := dk_155 0 10 (dk_at dksJ12_checkFromIndexSize_0 5 rfl rfl)
theorem dJ12_checkFromIndexSize_8 : decode cJ12_checkFromIndexSize 8 = .ok (.iload_n 1, 1) := dk_27 (dk_at dksJ12_checkFromIndexSize_0 8 rfl rfl)
theorem dJ12_checkFromIndexSize_9 : decode cJ12_checkFromIndexSize 9 = .ok (.iload_n 2, 1) := dk_28 (dk_at dksJ12_checkFromIndexSize_0 9 rfl rfl)
theorem dJ12_checkFromIndexSize_10 : decode cJ12_checkFromIndexSize 10 = .ok (.iload_n 0, 1) := dk_26 (dk_at dksJ12_checkFromIndexSize_0 10 rfl rfl)
theorem dJ12_checkFromIndexSize_11 : decode cJ12_checkFromIndexSize 11 = .ok (.isub, 1) := dk_100 (dk_at dksJ12_checkFromIndexSize_0 11 rfl rfl)
theorem dJ12_checkFromIndexSize_12 : decode cJ12_checkFromIndexSize 12 = .ok (.if_icmp .le 11, 3) := dk_164 0 11 (dk_at dksJ12_checkFromIndexSize_0 12 rfl rfl)
theorem dJ12_checkFromIndexSize_15 : decode cJ12_checkFromIndexSize 15 = .ok (.aload_n 3, 1) := dk_45 (dk_at dksJ12_checkFromIndexSize_0 15 rfl rfl)
theorem dJ12_checkFromIndexSize_16 : decode cJ12_checkFromIndexSize 16 = .ok (.iload_n 0, 1) := dk_26 (dk_at dksJ12_checkFromIndexSize_0 16 rfl rfl)
theorem dJ12_checkFromIndexSize_17 : decode cJ12_checkFromIndexSize 17 = .ok (.iload_n 1, 1) := dk_27 (dk_at dksJ12_checkFromIndexSize_0 17 rfl rfl)
theorem dJ12_checkFromIndexSize_18 : decode cJ12_checkFromIndexSize 18 = .ok (.iload_n 2, 1) := dk_28 (dk_at dksJ12_checkFromIndexSize_0 18 rfl rfl)
theorem dJ12_checkFromIndexSize_19 : decode cJ12_checkFromIndexSize 19 = .ok (.invokestatic 103, 3) := dk_184 0 103 (dk_at dksJ12_checkFromIndexSize_0 19 rfl rfl)
theorem dJ12_checkFromIndexSize_22 : decode cJ12_checkFromIndexSize 22 = .ok (.athrow, 1) := dk_191 (dk_at dksJ12_checkFromIndexSize_0 22 rfl rfl)
theorem dJ12_checkFromIndexSize_23 : decode cJ12_checkFromIndexSize 23 = .ok (.iload_n 0, 1) := dk_26 (dk_at dksJ12_checkFromIndexSize_0 23 rfl rfl)
theorem dJ12_checkFromIndexSize_24 : decode cJ12_checkFromIndexSize 24 = .ok (.ireturn, 1) := dk_172 (dk_at dksJ12_checkFromIndexSize_1 0 rfl rfl)
theorem q98 : (Jvm.Cond.initialized "jdk/internal/util/Preconditions") ∈ lw_all := lw_g (lw_at lw_m1 21 rfl) rfl
theorem q553 : (Jvm.Cond.laysStatic "jdk/internal/util/Preconditions" "SIOOBE_FORMATTER" "Ljava/util/function/BiFunction;") ∈ lw_tbl := lw_at lw_m2 236 rfl
theorem q555 : (Jvm.Cond.static ({ cls := "jdk/internal/util/Preconditions", name := "checkFromToIndex", desc := "(IIILjava/util/function/BiFunction;)I" } : Jvm.MethodName)) ∈ lw_all := lw_g (lw_at lw_m2 238 rfl) rfl
theorem q556 : (Jvm.Cond.code ({ cls := "jdk/internal/util/Preconditions", name := "checkFromToIndex", desc := "(IIILjava/util/function/BiFunction;)I" } : Jvm.MethodName) prog_89_method_12_code (4 : Nat) (Option.some Jvm.ClassFile.FieldType.int)) ∈ lw_all := lw_g (lw_at lw_m2 239 rfl) rfl
theorem q694 : (Jvm.Cond.static ({ cls := "jdk/internal/util/Preconditions", name := "checkIndex", desc := "(IILjava/util/function/BiFunction;)I" } : Jvm.MethodName)) ∈ lw_all := lw_g (lw_at lw_m3 137 rfl) rfl
theorem q695 : (Jvm.Cond.code ({ cls := "jdk/internal/util/Preconditions", name := "checkIndex", desc := "(IILjava/util/function/BiFunction;)I" } : Jvm.MethodName) prog_89_method_11_code (3 : Nat) (Option.some Jvm.ClassFile.FieldType.int)) ∈ lw_all := lw_g (lw_at lw_m3 138 rfl) rfl
theorem q2095 : (Jvm.Cond.static ({ cls := "jdk/internal/util/Preconditions", name := "checkFromIndexSize", desc := "(IIILjava/util/function/BiFunction;)I" } : Jvm.MethodName)) ∈ lw_all := lw_g (lw_at lw_m9 98 rfl) rfl
theorem q2096 : (Jvm.Cond.code ({ cls := "jdk/internal/util/Preconditions", name := "checkFromIndexSize", desc := "(IIILjava/util/function/BiFunction;)I" } : Jvm.MethodName) prog_89_method_13_code (4 : Nat) (Option.some Jvm.ClassFile.FieldType.int)) ∈ lw_all := lw_g (lw_at lw_m9 99 rfl) rfl
/-! java/util/Objects -/
set_option maxRecDepth 100000
def RJ14 : String := "java/util/Objects"
abbrev cJ14_checkIndex : ByteArray := prog_66_method_17_code
def yJ14_checkIndex : MethodName := ⟨RJ14, "checkIndex", "(II)I"⟩
def dkwJ14_checkIndex_0 : List UInt8 := [26, 27, 1, 184, 0, 105, 172]
abbrev dktJ14_checkIndex_0 : List UInt8 := dkwJ14_checkIndex_0 ++ []
theorem dksJ14_checkIndex_0 : cJ14_checkIndex.data.toList.drop 0 = dktJ14_checkIndex_0 := by decide +kernel
theorem dJ14_checkIndex_0 : decode cJ14_checkIndex 0 = .ok (.iload_n 0, 1) := dk_26 (dk_at dksJ14_checkIndex_0 0 rfl rfl)
theorem dJ14_checkIndex_1 : decode cJ14_checkIndex 1 = .ok (.iload_n 1, 1) := dk_27 (dk_at dksJ14_checkIndex_0 1 rfl rfl)
theorem dJ14_checkIndex_2 : decode cJ14_checkIndex 2 = .ok (.aconst_null, 1) := dk_1 (dk_at dksJ14_checkIndex_0 2 rfl rfl)
theorem dJ14_checkIndex_3 : decode cJ14_checkIndex 3 = .ok (.invokestatic 105, 3) := dk_184 0 105 (dk_at dksJ14_checkIndex_0 3 rfl rfl)
theorem dJ14_checkIndex_6 : decode cJ14_checkIndex 6 = .ok (.ireturn, 1) := dk_172 (dk_at dksJ14_checkIndex_0 6 rfl rfl)
abbrev cJ14_requireNonNull : ByteArray := prog_66_method_10_code
def yJ14_requireNonNull : MethodName := ⟨RJ14, "requireNonNull", "(Ljava/lang/Object;)Ljava/lang/Object;"⟩
def dkwJ14_requireNonNull_0 : List UInt8 := [42, 199, 0, 11, 187, 0, 84, 89, 183, 0, 86, 191, 42, 176]
abbrev dktJ14_requireNonNull_0 : List UInt8 := dkwJ14_requireNonNull_0 ++ []
theorem dksJ14_requireNonNull_0 : cJ14_requireNonNull.data.toList.drop 0 = dktJ14_requireNonNull_0 := by decide +kernel
theorem dJ14_requireNonNull_0 : decode cJ14_requireNonNull 0 = .ok (.aload_n 0, 1) := dk_42 (dk_at dksJ14_requireNonNull_0 0 rfl rfl)
theorem dJ14_requireNonNull_1 : decode cJ14_requireNonNull 1 = .ok (.ifnonnull 11, 3) := dk_199 0 11 (dk_at dksJ14_requireNonNull_0 1 rfl rfl)
theorem dJ14_requireNonNull_4 : decode cJ14_requireNonNull 4 = .ok (.new 84, 3) := dk_187 0 84 (dk_at dksJ14_requireNonNull_0 4 rfl rfl)
theorem dJ14_requireNonNull_7 : decode cJ14_requireNonNull 7 = .ok (.dup, 1) := dk_89 (dk_at dksJ14_requireNonNull_0 7 rfl rfl)
theorem dJ14_requireNonNull_8 : decode cJ14_requireNonNull 8 = .ok (.invokespecial 86, 3) := dk_183 0 86 (dk_at dksJ14_requireNonNull_0 8 rfl rfl)
theorem dJ14_requireNonNull_11 : decode cJ14_requireNonNull 11 = .ok (.athrow, 1) := dk_191 (dk_at dksJ14_requireNonNull_0 11 rfl rfl)
theorem dJ14_requireNonNull_12 : decode cJ14_requireNonNull 12 = .ok (.aload_n 0, 1) := dk_42 (dk_at dksJ14_requireNonNull_0 12 rfl rfl)
theorem dJ14_requireNonNull_13 : decode cJ14_requireNonNull 13 = .ok (.areturn, 1) := dk_176 (dk_at dksJ14_requireNonNull_0 13 rfl rfl)
theorem q102 : (Jvm.Cond.initialized "java/util/Objects") ∈ lw_all := lw_g (lw_at lw_m1 25 rfl) rfl
theorem q691 : (Jvm.Cond.static ({ cls := "java/util/Objects", name := "checkIndex", desc := "(II)I" } : Jvm.MethodName)) ∈ lw_all := lw_g (lw_at lw_m3 134 rfl) rfl
theorem q692 : (Jvm.Cond.code ({ cls := "java/util/Objects", name := "checkIndex", desc := "(II)I" } : Jvm.MethodName) prog_66_method_17_code (2 : Nat) (Option.some Jvm.ClassFile.FieldType.int)) ∈ lw_all := lw_g (lw_at lw_m3 135 rfl) rfl
theorem q693 : (Jvm.Cond.methodLink "java/util/Objects" (105 : Nat) ({ cls := "jdk/internal/util/Preconditions", name := "checkIndex", desc := "(IILjava/util/function/BiFunction;)I" } : Jvm.MethodName)) ∈ lw_all := lw_g (lw_at lw_m3 136 rfl) rfl
theorem q1748 : (Jvm.Cond.static ({ cls := "java/util/Objects", name := "requireNonNull", desc := "(Ljava/lang/Object;)Ljava/lang/Object;" } : Jvm.MethodName)) ∈ lw_all := lw_g (lw_at lw_m7 231 rfl) rfl
theorem q1749 : (Jvm.Cond.code ({ cls := "java/util/Objects", name := "requireNonNull", desc := "(Ljava/lang/Object;)Ljava/lang/Object;" } : Jvm.MethodName) prog_66_method_10_code (1 : Nat) (Option.some (Jvm.ClassFile.FieldType.object "java/lang/Object"))) ∈ lw_all := lw_g (lw_at lw_m7 232 rfl) rfl
theorem q1750 : (Jvm.Cond.classLink "java/util/Objects" (84 : Nat) "java/lang/NullPointerException") ∈ lw_all := lw_g (lw_at lw_m7 233 rfl) rfl
theorem q1751 : (Jvm.Cond.methodLink "java/util/Objects" (86 : Nat) ({ cls := "java/lang/NullPointerException", name := "<init>", desc := "()V" } : Jvm.MethodName)) ∈ lw_all := lw_g (lw_at lw_m7 234 rfl) rfl
/-! java/util/ArrayList$Itr -/
set_option maxRecDepth 100000
def RJ15 : String := "java/util/ArrayList$Itr"
def TJ15 : u_T := fun k => match k with
  | 0 => ("java/util/ArrayList$Itr", "cursor", "I", false)
  | 1 => ("java/util/ArrayList$Itr", "lastRet", "I", false)
  | 2 => ("java/util/ArrayList$Itr", "expectedModCount", "I", false)
  | _ => ("java/util/ArrayList$Itr", "this$0", "Ljava/util/ArrayList;", true)
def tyJ15 : Nat → FieldType := fun k => match k with
  | 0 => .int
  | 1 => .int
  | 2 => .int
  | _ => .object "java/util/ArrayList"
abbrev wsJ150 : List Cond := u_ws RJ15 TJ15 4
theorem nmJ15 : ∀ a, a < 4 → ∀ b, b < 4 → a ≠ b → (TJ15 a).2.1 ≠ (TJ15 b).2.1 := by decide +kernel
theorem tyJ15_ok : ∀ k, k < 4 → parseFieldDescriptor (TJ15 k).2.2.1 = some (tyJ15 k) := by decide +kernel
abbrev cJ15_init : ByteArray := prog_55_method_1_code
def yJ15_init : MethodName := ⟨RJ15, "<init>", "(Ljava/util/ArrayList;)V"⟩
def dkwJ15_init_1 : List UInt8 := [181, 0, 22, 177]
abbrev dktJ15_init_1 : List UInt8 := dkwJ15_init_1 ++ []
def dkwJ15_init_0 : List UInt8 := [42, 43, 181, 0, 1, 42, 183, 0, 7, 42, 2, 181, 0, 13, 42, 42, 180, 0, 1, 180, 0, 17]
abbrev dktJ15_init_0 : List UInt8 := dkwJ15_init_0 ++ dktJ15_init_1
theorem dksJ15_init_0 : cJ15_init.data.toList.drop 0 = dktJ15_init_0 := by decide +kernel
theorem dksJ15_init_1 : cJ15_init.data.toList.drop 22 = dktJ15_init_1 := dk_seg dksJ15_init_0 22 rfl rfl
theorem dJ15_init_0 : decode cJ15_init 0 = .ok (.aload_n 0, 1) := dk_42 (dk_at dksJ15_init_0 0 rfl rfl)
theorem dJ15_init_1 : decode cJ15_init 1 = .ok (.aload_n 1, 1) := dk_43 (dk_at dksJ15_init_0 1 rfl rfl)
theorem dJ15_init_2 : decode cJ15_init 2 = .ok (.putfield 1, 3) := dk_181 0 1 (dk_at dksJ15_init_0 2 rfl rfl)
theorem dJ15_init_5 : decode cJ15_init 5 = .ok (.aload_n 0, 1) := dk_42 (dk_at dksJ15_init_0 5 rfl rfl)
theorem dJ15_init_6 : decode cJ15_init 6 = .ok (.invokespecial 7, 3) := dk_183 0 7 (dk_at dksJ15_init_0 6 rfl rfl)
theorem dJ15_init_9 : decode cJ15_init 9 = .ok (.aload_n 0, 1) := dk_42 (dk_at dksJ15_init_0 9 rfl rfl)
theorem dJ15_init_10 : decode cJ15_init 10 = .ok (.iconst (-1), 1) := dk_2 (dk_at dksJ15_init_0 10 rfl rfl)
theorem dJ15_init_11 : decode cJ15_init 11 = .ok (.putfield 13, 3) := dk_181 0 13 (dk_at dksJ15_init_0 11 rfl rfl)
theorem dJ15_init_14 : decode cJ15_init 14 = .ok (.aload_n 0, 1) := dk_42 (dk_at dksJ15_init_0 14 rfl rfl)
theorem dJ15_init_15 : decode cJ15_init 15 = .ok (.aload_n 0, 1) := dk_42 (dk_at dksJ15_init_0 15 rfl rfl)
theorem dJ15_init_16 : decode cJ15_init 16 = .ok (.getfield 1, 3) := dk_180 0 1 (dk_at dksJ15_init_0 16 rfl rfl)
theorem dJ15_init_19 : decode cJ15_init 19 = .ok (.getfield 17, 3) := dk_180 0 17 (dk_at dksJ15_init_0 19 rfl rfl)
theorem dJ15_init_22 : decode cJ15_init 22 = .ok (.putfield 22, 3) := dk_181 0 22 (dk_at dksJ15_init_1 0 rfl rfl)
theorem dJ15_init_25 : decode cJ15_init 25 = .ok (.return_, 1) := dk_177 (dk_at dksJ15_init_1 3 rfl rfl)
abbrev cJ15_hasNext : ByteArray := prog_55_method_2_code
def yJ15_hasNext : MethodName := ⟨RJ15, "hasNext", "()Z"⟩
def dkwJ15_hasNext_0 : List UInt8 := [42, 180, 0, 25, 42, 180, 0, 1, 180, 0, 28, 159, 0, 7, 4, 167, 0, 4, 3, 172]
abbrev dktJ15_hasNext_0 : List UInt8 := dkwJ15_hasNext_0 ++ []
theorem dksJ15_hasNext_0 : cJ15_hasNext.data.toList.drop 0 = dktJ15_hasNext_0 := by decide +kernel
theorem dJ15_hasNext_0 : decode cJ15_hasNext 0 = .ok (.aload_n 0, 1) := dk_42 (dk_at dksJ15_hasNext_0 0 rfl rfl)
theorem dJ15_hasNext_1 : decode cJ15_hasNext 1 = .ok (.getfield 25, 3) := dk_180 0 25 (dk_at dksJ15_hasNext_0 1 rfl rfl)
theorem dJ15_hasNext_4 : decode cJ15_hasNext 4 = .ok (.aload_n 0, 1) := dk_42 (dk_at dksJ15_hasNext_0 4 rfl rfl)
theorem dJ15_hasNext_5 : decode cJ15_hasNext 5 = .ok (.getfield 1, 3) := dk_180 0 1 (dk_at dksJ15_hasNext_0 5 rfl rfl)
theorem dJ15_hasNext_8 : decode cJ15_hasNext 8 = .ok (.getfield 28, 3) := dk_180 0 28 (dk_at dksJ15_hasNext_0 8 rfl rfl)
theorem dJ15_hasNext_11 : decode cJ15_hasNext 11 = .ok (.if_icmp .eq 7, 3) := dk_159 0 7 (dk_at dksJ15_hasNext_0 11 rfl rfl)
theorem dJ15_hasNext_14 : decode cJ15_hasNext 14 = .ok (.iconst 1, 1) := dk_4 (dk_at dksJ15_hasNext_0 14 rfl rfl)
theorem dJ15_hasNext_15 : decode cJ15_hasNext 15 = .ok (.goto 4, 3) := dk_167 0 4 (dk_at dksJ15_hasNext_0 15 rfl rfl)
theorem dJ15_hasNext_18 : decode cJ15_hasNext 18 = .ok (.iconst 0, 1) := dk_3 (dk_at dksJ15_hasNext_0 18 rfl rfl)
theorem dJ15_hasNext_19 : decode cJ15_hasNext 19 = .ok (.ireturn, 1) := dk_172 (dk_at dksJ15_hasNext_0 19 rfl rfl)
abbrev cJ15_next : ByteArray := prog_55_method_3_code
def yJ15_next : MethodName := ⟨RJ15, "next", "()Ljava/lang/Object;"⟩
def dkwJ15_next_2 : List UInt8 := [183, 0, 43, 191, 42, 27, 4, 96, 181, 0, 25, 44, 42, 27, 90, 181, 0, 13, 50, 176]
abbrev dktJ15_next_2 : List UInt8 := dkwJ15_next_2 ++ []
def dkwJ15_next_1 : List UInt8 := [183, 0, 36, 191, 42, 180, 0, 1, 180, 0, 37, 77, 27, 44, 190, 161, 0, 11, 187, 0, 41, 89]
abbrev dktJ15_next_1 : List UInt8 := dkwJ15_next_1 ++ dktJ15_next_2
def dkwJ15_next_0 : List UInt8 := [42, 182, 0, 31, 42, 180, 0, 25, 60, 27, 42, 180, 0, 1, 180, 0, 28, 161, 0, 11, 187, 0, 34, 89]
abbrev dktJ15_next_0 : List UInt8 := dkwJ15_next_0 ++ dktJ15_next_1
theorem dksJ15_next_0 : cJ15_next.data.toList.drop 0 = dktJ15_next_0 := by decide +kernel
theorem dksJ15_next_1 : cJ15_next.data.toList.drop 24 = dktJ15_next_1 := dk_seg dksJ15_next_0 24 rfl rfl
theorem dksJ15_next_2 : cJ15_next.data.toList.drop 46 = dktJ15_next_2 := dk_seg dksJ15_next_1 22 rfl rfl
theorem dJ15_next_0 : decode cJ15_next 0 = .ok (.aload_n 0, 1) := dk_42 (dk_at dksJ15_next_0 0 rfl rfl)
theorem dJ15_next_1 : decode cJ15_next 1 = .ok (.invokevirtual 31, 3) := dk_182 0 31 (dk_at dksJ15_next_0 1 rfl rfl)
theorem dJ15_next_4 : decode cJ15_next 4 = .ok (.aload_n 0, 1) := dk_42 (dk_at dksJ15_next_0 4 rfl rfl)
theorem dJ15_next_5 : decode cJ15_next 5 = .ok (.getfield 25, 3) := dk_180 0 25 (dk_at dksJ15_next_0 5 rfl rfl)
theorem dJ15_next_8 : decode cJ15_next 8 = .ok (.istore_n 1, 1) := dk_60 (dk_at dksJ15_next_0 8 rfl rfl)
theorem dJ15_next_9 : decode cJ15_next 9 = .ok (.iload_n 1, 1) := dk_27 (dk_at dksJ15_next_0 9 rfl rfl)
theorem dJ15_next_10 : decode cJ15_next 10 = .ok (.aload_n 0, 1) := dk_42 (dk_at dksJ15_next_0 10 rfl rfl)
theorem dJ15_next_11 : decode cJ15_next 11 = .ok (.getfield 1, 3) := dk_180 0 1 (dk_at dksJ15_next_0 11 rfl rfl)
theorem dJ15_next_14 : decode cJ15_next 14 = .ok (.getfield 28, 3) := dk_180 0 28 (dk_at dksJ15_next_0 14 rfl rfl)
theorem dJ15_next_17 : decode cJ15_next 17 = .ok (.if_icmp .lt 11, 3) := dk_161 0 11 (dk_at dksJ15_next_0 17 rfl rfl)
theorem dJ15_next_20 : decode cJ15_next 20 = .ok (.new 34, 3) := dk_187 0 34 (dk_at dksJ15_next_0 20 rfl rfl)
theorem dJ15_next_23 : decode cJ15_next 23 = .ok (.dup, 1) := dk_89 (dk_at dksJ15_next_0 23 rfl rfl)
theorem dJ15_next_24 : decode cJ15_next 24 = .ok (.invokespecial 36, 3) := dk_183 0 36 (dk_at dksJ15_next_1 0 rfl rfl)
theorem dJ15_next_27 : decode cJ15_next 27 = .ok (.athrow, 1) := dk_191 (dk_at dksJ15_next_1 3 rfl rfl)
theorem dJ15_next_28 : decode cJ15_next 28 = .ok (.aload_n 0, 1) := dk_42 (dk_at dksJ15_next_1 4 rfl rfl)
theorem dJ15_next_29 : decode cJ15_next 29 = .ok (.getfield 1, 3) := dk_180 0 1 (dk_at dksJ15_next_1 5 rfl rfl)
theorem dJ15_next_32 : decode cJ15_next 32 = .ok (.getfield 37, 3) := dk_180 0 37 (dk_at dksJ15_next_1 8 rfl rfl)
theorem dJ15_next_35 : decode cJ15_next 35 = .ok (.astore_n 2, 1) := dk_77 (dk_at dksJ15_next_1 11 rfl rfl)
theorem dJ15_next_36 : decode cJ15_next 36 = .ok (.iload_n 1, 1) := dk_27 (dk_at dksJ15_next_1 12 rfl rfl)
theorem dJ15_next_37 : decode cJ15_next 37 = .ok (.aload_n 2, 1) := dk_44 (dk_at dksJ15_next_1 13 rfl rfl)
theorem dJ15_next_38 : decode cJ15_next 38 = .ok (.arraylength, 1) := dk_190 (dk_at dksJ15_next_1 14 rfl rfl)
theorem dJ15_next_39 : decode cJ15_next 39 = .ok (.if_icmp .lt 11, 3) := dk_161 0 11 (dk_at dksJ15_next_1 15 rfl rfl)
theorem dJ15_next_42 : decode cJ15_next 42 = .ok (.new 41, 3) := dk_187 0 41 (dk_at dksJ15_next_1 18 rfl rfl)
theorem dJ15_next_45 : decode cJ15_next 45 = .ok (.dup, 1) := dk_89 (dk_at dksJ15_next_1 21 rfl rfl)
theorem dJ15_next_46 : decode cJ15_next 46 = .ok (.invokespecial 43, 3) := dk_183 0 43 (dk_at dksJ15_next_2 0 rfl rfl)
theorem dJ15_next_49 : decode cJ15_next 49 = .ok (.athrow, 1) := dk_191 (dk_at dksJ15_next_2 3 rfl rfl)
theorem dJ15_next_50 : decode cJ15_next 50 = .ok (.aload_n 0, 1) := dk_42 (dk_at dksJ15_next_2 4 rfl rfl)
theorem dJ15_next_51 : decode cJ15_next 51 = .ok (.iload_n 1, 1) := dk_27 (dk_at dksJ15_next_2 5 rfl rfl)
theorem dJ15_next_52 : decode cJ15_next 52 = .ok (.iconst 1, 1) := dk_4 (dk_at dksJ15_next_2 6 rfl rfl)
theorem dJ15_next_53 : decode cJ15_next 53 = .ok (.iadd, 1) := dk_96 (dk_at dksJ15_next_2 7 rfl rfl)
theorem dJ15_next_54 : decode cJ15_next 54 = .ok (.putfield 25, 3) := dk_181 0 25 (dk_at dksJ15_next_2 8 rfl rfl)
theorem dJ15_next_57 : decode cJ15_next 57 = .ok (.aload_n 2, 1) := dk_44 (dk_at dksJ15_next_2 11 rfl rfl)
theorem dJ15_next_58 : decode cJ15_next 58 = .ok (.aload_n 0, 1) := dk_42 (dk_at dksJ15_next_2 12 rfl rfl)
theorem dJ15_next_59 : decode cJ15_next 59 = .ok (.iload_n 1, 1) := dk_27 (dk_at dksJ15_next_2 13 rfl rfl)
theorem dJ15_next_60 : decode cJ15_next 60 = .ok (.dup_x1, 1) := dk_90 (dk_at dksJ15_next_2 14 rfl rfl)
theorem dJ15_next_61 : decode cJ15_next 61 = .ok (.putfield 13, 3) := dk_181 0 13 (dk_at dksJ15_next_2 15 rfl rfl)
theorem dJ15_next_64 : decode cJ15_next 64 = .ok (.aaload, 1) := dk_50 (dk_at dksJ15_next_2 18 rfl rfl)
theorem dJ15_next_65 : decode cJ15_next 65 = .ok (.areturn, 1) := dk_176 (dk_at dksJ15_next_2 19 rfl rfl)
abbrev cJ15_checkForComodification : ByteArray := prog_55_method_6_code
def yJ15_checkForComodification : MethodName := ⟨RJ15, "checkForComodification", "()V"⟩
def dkwJ15_checkForComodification_0 : List UInt8 := [42, 180, 0, 1, 180, 0, 17, 42, 180, 0, 22, 159, 0, 11, 187, 0, 41, 89, 183, 0, 43, 191, 177]
abbrev dktJ15_checkForComodification_0 : List UInt8 := dkwJ15_checkForComodification_0 ++ []
theorem dksJ15_checkForComodification_0 : cJ15_checkForComodification.data.toList.drop 0 = dktJ15_checkForComodification_0 := by decide +kernel
theorem dJ15_checkForComodification_0 : decode cJ15_checkForComodification 0 = .ok (.aload_n 0, 1) := dk_42 (dk_at dksJ15_checkForComodification_0 0 rfl rfl)
theorem dJ15_checkForComodification_1 : decode cJ15_checkForComodification 1 = .ok (.getfield 1, 3) := dk_180 0 1 (dk_at dksJ15_checkForComodification_0 1 rfl rfl)
theorem dJ15_checkForComodification_4 : decode cJ15_checkForComodification 4 = .ok (.getfield 17, 3) := dk_180 0 17 (dk_at dksJ15_checkForComodification_0 4 rfl rfl)
theorem dJ15_checkForComodification_7 : decode cJ15_checkForComodification 7 = .ok (.aload_n 0, 1) := dk_42 (dk_at dksJ15_checkForComodification_0 7 rfl rfl)
theorem dJ15_checkForComodification_8 : decode cJ15_checkForComodification 8 = .ok (.getfield 22, 3) := dk_180 0 22 (dk_at dksJ15_checkForComodification_0 8 rfl rfl)
theorem dJ15_checkForComodification_11 : decode cJ15_checkForComodification 11 = .ok (.if_icmp .eq 11, 3) := dk_159 0 11 (dk_at dksJ15_checkForComodification_0 11 rfl rfl)
theorem dJ15_checkForComodification_14 : decode cJ15_checkForComodification 14 = .ok (.new 41, 3) := dk_187 0 41 (dk_at dksJ15_checkForComodification_0 14 rfl rfl)
theorem dJ15_checkForComodification_17 : decode cJ15_checkForComodification 17 = .ok (.dup, 1) := dk_89 (dk_at dksJ15_checkForComodification_0 17 rfl rfl)
theorem dJ15_checkForComodification_18 : decode cJ15_checkForComodification 18 = .ok (.invokespecial 43, 3) := dk_183 0 43 (dk_at dksJ15_checkForComodification_0 18 rfl rfl)
theorem dJ15_checkForComodification_21 : decode cJ15_checkForComodification 21 = .ok (.athrow, 1) := dk_191 (dk_at dksJ15_checkForComodification_0 21 rfl rfl)
theorem dJ15_checkForComodification_22 : decode cJ15_checkForComodification 22 = .ok (.return_, 1) := dk_177 (dk_at dksJ15_checkForComodification_0 22 rfl rfl)
theorem q103 : (Jvm.Cond.initialized "java/util/ArrayList$Itr") ∈ lw_all := lw_g (lw_at lw_m1 26 rfl) rfl
theorem q159 : (Jvm.Cond.fieldLink "java/util/ArrayList$Itr" (37 : Nat) "java/util/ArrayList" "elementData" "[Ljava/lang/Object;") ∈ lw_all := lw_g (lw_at lw_m1 82 rfl) rfl
theorem q160 : (Jvm.Cond.fieldLinkNest "java/util/ArrayList$Itr" (28 : Nat) "java/util/ArrayList" "size" "I" "java/util/ArrayList") ∈ lw_tbl := lw_at lw_m1 83 rfl
theorem q163 : (Jvm.Cond.fieldLink "java/util/ArrayList$Itr" (17 : Nat) "java/util/ArrayList" "modCount" "I") ∈ lw_all := lw_g (lw_at lw_m1 86 rfl) rfl
theorem q452 : (Jvm.Cond.selects "java/util/ArrayList$Itr" ({ cls := "java/lang/Object", name := "getClass", desc := "()Ljava/lang/Class;" } : Jvm.MethodName) ({ cls := "java/lang/Object", name := "getClass", desc := "()Ljava/lang/Class;" } : Jvm.MethodName)) ∈ lw_all := lw_g (lw_at lw_m2 135 rfl) rfl
theorem q710 : (Jvm.Cond.instantiable "java/util/ArrayList$Itr" (4 : Nat)) ∈ lw_all := lw_g (lw_at lw_m3 153 rfl) rfl
theorem q712 : (Jvm.Cond.instanceMethod ({ cls := "java/util/ArrayList$Itr", name := "<init>", desc := "(Ljava/util/ArrayList;)V" } : Jvm.MethodName)) ∈ lw_all := lw_g (lw_at lw_m3 155 rfl) rfl
theorem q713 : (Jvm.Cond.code ({ cls := "java/util/ArrayList$Itr", name := "<init>", desc := "(Ljava/util/ArrayList;)V" } : Jvm.MethodName) prog_55_method_1_code (2 : Nat) (Option.none : Option Jvm.ClassFile.FieldType)) ∈ lw_all := lw_g (lw_at lw_m3 156 rfl) rfl
theorem q714 : (Jvm.Cond.methodLink "java/util/ArrayList$Itr" (7 : Nat) ({ cls := "java/lang/Object", name := "<init>", desc := "()V" } : Jvm.MethodName)) ∈ lw_all := lw_g (lw_at lw_m3 157 rfl) rfl
theorem q715 : (Jvm.Cond.fieldLink "java/util/ArrayList$Itr" (25 : Nat) "java/util/ArrayList$Itr" "cursor" "I") ∈ lw_all := lw_g (lw_at lw_m3 158 rfl) rfl
theorem q716 : (Jvm.Cond.fieldLink "java/util/ArrayList$Itr" (13 : Nat) "java/util/ArrayList$Itr" "lastRet" "I") ∈ lw_all := lw_g (lw_at lw_m3 159 rfl) rfl
theorem q717 : (Jvm.Cond.fieldLink "java/util/ArrayList$Itr" (22 : Nat) "java/util/ArrayList$Itr" "expectedModCount" "I") ∈ lw_all := lw_g (lw_at lw_m3 160 rfl) rfl
theorem q718 : (Jvm.Cond.fieldLink "java/util/ArrayList$Itr" (1 : Nat) "java/util/ArrayList$Itr" "this$0" "Ljava/util/ArrayList;") ∈ lw_all := lw_g (lw_at lw_m3 161 rfl) rfl
theorem q719 : (Jvm.Cond.lays "java/util/ArrayList$Itr" "java/util/ArrayList$Itr" "cursor" "I") ∈ lw_all := lw_g (lw_at lw_m3 162 rfl) rfl
theorem q720 : (Jvm.Cond.soleField "java/util/ArrayList$Itr" "cursor") ∈ lw_all := lw_g (lw_at lw_m3 163 rfl) rfl
theorem q721 : (Jvm.Cond.lays "java/util/ArrayList$Itr" "java/util/ArrayList$Itr" "lastRet" "I") ∈ lw_all := lw_g (lw_at lw_m3 164 rfl) rfl
theorem q722 : (Jvm.Cond.soleField "java/util/ArrayList$Itr" "lastRet") ∈ lw_all := lw_g (lw_at lw_m3 165 rfl) rfl
theorem q723 : (Jvm.Cond.lays "java/util/ArrayList$Itr" "java/util/ArrayList$Itr" "expectedModCount" "I") ∈ lw_all := lw_g (lw_at lw_m3 166 rfl) rfl
theorem q724 : (Jvm.Cond.soleField "java/util/ArrayList$Itr" "expectedModCount") ∈ lw_all := lw_g (lw_at lw_m3 167 rfl) rfl
theorem q725 : (Jvm.Cond.laysFinal "java/util/ArrayList$Itr" "java/util/ArrayList$Itr" "this$0" "Ljava/util/ArrayList;") ∈ lw_all := lw_g (lw_at lw_m3 168 rfl) rfl
theorem q726 : (Jvm.Cond.soleField "java/util/ArrayList$Itr" "this$0") ∈ lw_all := lw_g (lw_at lw_m3 169 rfl) rfl
theorem q727 : (Jvm.Cond.superclass "java/util/ArrayList$Itr" "java/lang/Object") ∈ lw_all := lw_g (lw_at lw_m3 170 rfl) rfl
theorem q732 : (Jvm.Cond.castable "java/util/ArrayList$Itr" "java/util/Iterator") ∈ lw_tbl := lw_at lw_m3 175 rfl
theorem q733 : (Jvm.Cond.selects "java/util/ArrayList$Itr" ({ cls := "java/util/Iterator", name := "hasNext", desc := "()Z" } : Jvm.MethodName) ({ cls := "java/util/ArrayList$Itr", name := "hasNext", desc := "()Z" } : Jvm.MethodName)) ∈ lw_all := lw_g (lw_at lw_m3 176 rfl) rfl
theorem q734 : (Jvm.Cond.unhidden "java/util/ArrayList$Itr" "hasNext" "()Z") ∈ lw_tbl := lw_at lw_m3 177 rfl
theorem q735 : (Jvm.Cond.instanceMethod ({ cls := "java/util/ArrayList$Itr", name := "hasNext", desc := "()Z" } : Jvm.MethodName)) ∈ lw_all := lw_g (lw_at lw_m3 178 rfl) rfl
theorem q736 : (Jvm.Cond.publicMethod ({ cls := "java/util/ArrayList$Itr", name := "hasNext", desc := "()Z" } : Jvm.MethodName)) ∈ lw_tbl := lw_at lw_m3 179 rfl
theorem q737 : (Jvm.Cond.code ({ cls := "java/util/ArrayList$Itr", name := "hasNext", desc := "()Z" } : Jvm.MethodName) prog_55_method_2_code (1 : Nat) (Option.some Jvm.ClassFile.FieldType.boolean)) ∈ lw_all := lw_g (lw_at lw_m3 180 rfl) rfl
theorem q761 : (Jvm.Cond.selects "java/util/ArrayList$Itr" ({ cls := "java/util/Iterator", name := "next", desc := "()Ljava/lang/Object;" } : Jvm.MethodName) ({ cls := "java/util/ArrayList$Itr", name := "next", desc := "()Ljava/lang/Object;" } : Jvm.MethodName)) ∈ lw_all := lw_g (lw_at lw_m3 204 rfl) rfl
theorem q762 : (Jvm.Cond.unhidden "java/util/ArrayList$Itr" "next" "()Ljava/lang/Object;") ∈ lw_tbl := lw_at lw_m3 205 rfl
theorem q763 : (Jvm.Cond.instanceMethod ({ cls := "java/util/ArrayList$Itr", name := "next", desc := "()Ljava/lang/Object;" } : Jvm.MethodName)) ∈ lw_all := lw_g (lw_at lw_m3 206 rfl) rfl
theorem q764 : (Jvm.Cond.publicMethod ({ cls := "java/util/ArrayList$Itr", name := "next", desc := "()Ljava/lang/Object;" } : Jvm.MethodName)) ∈ lw_tbl := lw_at lw_m3 207 rfl
theorem q765 : (Jvm.Cond.code ({ cls := "java/util/ArrayList$Itr", name := "next", desc := "()Ljava/lang/Object;" } : Jvm.MethodName) prog_55_method_3_code (3 : Nat) (Option.some (Jvm.ClassFile.FieldType.object "java/lang/Object"))) ∈ lw_all := lw_g (lw_at lw_m3 208 rfl) rfl
theorem q766 : (Jvm.Cond.methodLink "java/util/ArrayList$Itr" (31 : Nat) ({ cls := "java/util/ArrayList$Itr", name := "checkForComodification", desc := "()V" } : Jvm.MethodName)) ∈ lw_all := lw_g (lw_at lw_m3 209 rfl) rfl
theorem q767 : (Jvm.Cond.instanceMethod ({ cls := "java/util/ArrayList$Itr", name := "checkForComodification", desc := "()V" } : Jvm.MethodName)) ∈ lw_all := lw_g (lw_at lw_m3 210 rfl) rfl
theorem q768 : (Jvm.Cond.selects "java/util/ArrayList$Itr" ({ cls := "java/util/ArrayList$Itr", name := "checkForComodification", desc := "()V" } : Jvm.MethodName) ({ cls := "java/util/ArrayList$Itr", name := "checkForComodification", desc := "()V" } : Jvm.MethodName)) ∈ lw_all := lw_g (lw_at lw_m3 211 rfl) rfl
theorem q769 : (Jvm.Cond.code ({ cls := "java/util/ArrayList$Itr", name := "checkForComodification", desc := "()V" } : Jvm.MethodName) prog_55_method_6_code (1 : Nat) (Option.none : Option Jvm.ClassFile.FieldType)) ∈ lw_all := lw_g (lw_at lw_m3 212 rfl) rfl
theorem q2765 : (Jvm.Cond.castable "java/util/ArrayList$Itr" "java/lang/Object") ∈ lw_tbl := lw_at lw_m12 48 rfl
theorem in_J15 : ∀ w ∈ wsJ150, w ∈ lw_all := lw_in wsJ150 [719, 721, 723, 725] (by decide +kernel) (by decide +kernel)
/-! java/util/AbstractMap -/
set_option maxRecDepth 100000
def RJ17 : String := "java/util/AbstractMap"
abbrev cJ17_init : ByteArray := prog_50_method_1_code
def yJ17_init : MethodName := ⟨RJ17, "<init>", "()V"⟩
theorem dJ17_init_0 : decode cJ17_init 0 = .ok (.aload_n 0, 1) := by decide +kernel
theorem dJ17_init_1 : decode cJ17_init 1 = .ok (.invokespecial 1, 3) := by decide +kernel
theorem dJ17_init_4 : decode cJ17_init 4 = .ok (.return_, 1) := by decide +kernel
theorem q105 : (Jvm.Cond.initialized "java/util/AbstractMap") ∈ lw_all := lw_g (lw_at lw_m1 28 rfl) rfl
theorem q1642 : (Jvm.Cond.instanceMethod ({ cls := "java/util/AbstractMap", name := "<init>", desc := "()V" } : Jvm.MethodName)) ∈ lw_all := lw_g (lw_at lw_m7 125 rfl) rfl
theorem q1643 : (Jvm.Cond.code ({ cls := "java/util/AbstractMap", name := "<init>", desc := "()V" } : Jvm.MethodName) prog_50_method_1_code (1 : Nat) (Option.none : Option Jvm.ClassFile.FieldType)) ∈ lw_all := lw_g (lw_at lw_m7 126 rfl) rfl
theorem q1644 : (Jvm.Cond.methodLink "java/util/AbstractMap" (1 : Nat) ({ cls := "java/lang/Object", name := "<init>", desc := "()V" } : Jvm.MethodName)) ∈ lw_all := lw_g (lw_at lw_m7 127 rfl) rfl
theorem q1668 : (Jvm.Cond.soleField "java/util/AbstractMap" "keySet") ∈ lw_all := lw_g (lw_at lw_m7 151 rfl) rfl
theorem q1670 : (Jvm.Cond.soleField "java/util/AbstractMap" "values") ∈ lw_all := lw_g (lw_at lw_m7 153 rfl) rfl
/-! java/util/BitSet -/
set_option maxRecDepth 100000
def RJ19 : String := "java/util/BitSet"
def TJ19 : u_T := fun k => match k with
  | 0 => ("java/util/BitSet", "words", "[J", false)
  | 1 => ("java/util/BitSet", "wordsInUse", "I", false)
  | _ => ("java/util/BitSet", "sizeIsSticky", "Z", false)
def tyJ19 : Nat → FieldType := fun k => match k with
  | 0 => .array .long
  | 1 => .int
  | _ => .boolean
abbrev wsJ190 : List Cond := u_ws RJ19 TJ19 3
theorem nmJ19 : ∀ a, a < 3 → ∀ b, b < 3 → a ≠ b → (TJ19 a).2.1 ≠ (TJ19 b).2.1 := by decide +kernel
theorem tyJ19_ok : ∀ k, k < 3 → parseFieldDescriptor (TJ19 k).2.2.1 = some (tyJ19 k) := by decide +kernel
abbrev cJ19_init : ByteArray := prog_57_method_4_code
def yJ19_init : MethodName := ⟨RJ19, "<init>", "()V"⟩
def dkwJ19_init_1 : List UInt8 := [181, 0, 24, 177]
abbrev dktJ19_init_1 : List UInt8 := dkwJ19_init_1 ++ []
def dkwJ19_init_0 : List UInt8 := [42, 183, 0, 21, 42, 3, 181, 0, 7, 42, 3, 181, 0, 24, 42, 16, 64, 182, 0, 27, 42, 3]
abbrev dktJ19_init_0 : List UInt8 := dkwJ19_init_0 ++ dktJ19_init_1
theorem dksJ19_init_0 : cJ19_init.data.toList.drop 0 = dktJ19_init_0 := by decide +kernel
theorem dksJ19_init_1 : cJ19_init.data.toList.drop 22 = dktJ19_init_1 := dk_seg dksJ19_init_0 22 rfl rfl
theorem dJ19_init_0 : decode cJ19_init 0 = .ok (.aload_n 0, 1) := dk_42 (dk_at dksJ19_init_0 0 rfl rfl)
theorem dJ19_init_1 : decode cJ19_init 1 = .ok (.invokespecial 21, 3) := dk_183 0 21 (dk_at dksJ19_init_0 1 rfl rfl)
theorem dJ19_init_4 : decode cJ19_init 4 = .ok (.aload_n 0, 1) := dk_42 (dk_at dksJ19_init_0 4 rfl rfl)
theorem dJ19_init_5 : decode cJ19_init 5 = .ok (.iconst 0, 1) := dk_3 (dk_at dksJ19_init_0 5 rfl rfl)
theorem dJ19_init_6 : decode cJ19_init 6 = .ok (.putfield 7, 3) := dk_181 0 7 (dk_at dksJ19_init_0 6 rfl rfl)
theorem dJ19_init_9 : decode cJ19_init 9 = .ok (.aload_n 0, 1) := dk_42 (dk_at dksJ19_init_0 9 rfl rfl)
theorem dJ19_init_10 : decode cJ19_init 10 = .ok (.iconst 0, 1) := dk_3 (dk_at dksJ19_init_0 10 rfl rfl)
theorem dJ19_init_11 : decode cJ19_init 11 = .ok (.putfield 24, 3) := dk_181 0 24 (dk_at dksJ19_init_0 11 rfl rfl)
theorem dJ19_init_14 : decode cJ19_init 14 = .ok (.aload_n 0, 1) := dk_42 (dk_at dksJ19_init_0 14 rfl rfl)
theorem dJ19_init_15 : decode cJ19_init 15 = .ok (.bipush 64, 2) := dk_16 64 (dk_at dksJ19_init_0 15 rfl rfl)
theorem dJ19_init_17 : decode cJ19_init 17 = .ok (.invokevirtual 27, 3) := dk_182 0 27 (dk_at dksJ19_init_0 17 rfl rfl)
theorem dJ19_init_20 : decode cJ19_init 20 = .ok (.aload_n 0, 1) := dk_42 (dk_at dksJ19_init_0 20 rfl rfl)
theorem dJ19_init_21 : decode cJ19_init 21 = .ok (.iconst 0, 1) := dk_3 (dk_at dksJ19_init_0 21 rfl rfl)
theorem dJ19_init_22 : decode cJ19_init 22 = .ok (.putfield 24, 3) := dk_181 0 24 (dk_at dksJ19_init_1 0 rfl rfl)
theorem dJ19_init_25 : decode cJ19_init 25 = .ok (.return_, 1) := dk_177 (dk_at dksJ19_init_1 3 rfl rfl)
abbrev cJ19_initWords : ByteArray := prog_57_method_6_code
def yJ19_initWords : MethodName := ⟨RJ19, "initWords", "(I)V"⟩
def dkwJ19_initWords_0 : List UInt8 := [42, 27, 4, 100, 184, 0, 52, 4, 96, 188, 11, 181, 0, 11, 177]
abbrev dktJ19_initWords_0 : List UInt8 := dkwJ19_initWords_0 ++ []
theorem dksJ19_initWords_0 : cJ19_initWords.data.toList.drop 0 = dktJ19_initWords_0 := by decide +kernel
theorem dJ19_initWords_0 : decode cJ19_initWords 0 = .ok (.aload_n 0, 1) := dk_42 (dk_at dksJ19_initWords_0 0 rfl rfl)
theorem dJ19_initWords_1 : decode cJ19_initWords 1 = .ok (.iload_n 1, 1) := dk_27 (dk_at dksJ19_initWords_0 1 rfl rfl)
theorem dJ19_initWords_2 : decode cJ19_initWords 2 = .ok (.iconst 1, 1) := dk_4 (dk_at dksJ19_initWords_0 2 rfl rfl)
theorem dJ19_initWords_3 : decode cJ19_initWords 3 = .ok (.isub, 1) := dk_100 (dk_at dksJ19_initWords_0 3 rfl rfl)
theorem dJ19_initWords_4 : decode cJ19_initWords 4 = .ok (.invokestatic 52, 3) := dk_184 0 52 (dk_at dksJ19_initWords_0 4 rfl rfl)
theorem dJ19_initWords_7 : decode cJ19_initWords 7 = .ok (.iconst 1, 1) := dk_4 (dk_at dksJ19_initWords_0 7 rfl rfl)
theorem dJ19_initWords_8 : decode cJ19_initWords 8 = .ok (.iadd, 1) := dk_96 (dk_at dksJ19_initWords_0 8 rfl rfl)
theorem dJ19_initWords_9 : decode cJ19_initWords 9 = .ok (.newarray .long, 2) := dk_188_11 (dk_at dksJ19_initWords_0 9 rfl rfl)
theorem dJ19_initWords_11 : decode cJ19_initWords 11 = .ok (.putfield 11, 3) := dk_181 0 11 (dk_at dksJ19_initWords_0 11 rfl rfl)
theorem dJ19_initWords_14 : decode cJ19_initWords 14 = .ok (.return_, 1) := dk_177 (dk_at dksJ19_initWords_0 14 rfl rfl)
abbrev cJ19_wordIndex : ByteArray := prog_57_method_1_code
def yJ19_wordIndex : MethodName := ⟨RJ19, "wordIndex", "(I)I"⟩
def dkwJ19_wordIndex_0 : List UInt8 := [26, 16, 6, 122, 172]
abbrev dktJ19_wordIndex_0 : List UInt8 := dkwJ19_wordIndex_0 ++ []
theorem dksJ19_wordIndex_0 : cJ19_wordIndex.data.toList.drop 0 = dktJ19_wordIndex_0 := by decide +kernel
theorem dJ19_wordIndex_0 : decode cJ19_wordIndex 0 = .ok (.iload_n 0, 1) := dk_26 (dk_at dksJ19_wordIndex_0 0 rfl rfl)
theorem dJ19_wordIndex_1 : decode cJ19_wordIndex 1 = .ok (.bipush 6, 2) := dk_16 6 (dk_at dksJ19_wordIndex_0 1 rfl rfl)
theorem dJ19_wordIndex_3 : decode cJ19_wordIndex 3 = .ok (.ishr, 1) := dk_122 (dk_at dksJ19_wordIndex_0 3 rfl rfl)
theorem dJ19_wordIndex_4 : decode cJ19_wordIndex 4 = .ok (.ireturn, 1) := dk_172 (dk_at dksJ19_wordIndex_0 4 rfl rfl)
abbrev cJ19_set : ByteArray := prog_57_method_19_code
def yJ19_set : MethodName := ⟨RJ19, "set", "(I)V"⟩
def dkwJ19_set_2 : List UInt8 := [10, 27, 121, 129, 80, 42, 182, 0, 56, 177]
abbrev dktJ19_set_2 : List UInt8 := dkwJ19_set_2 ++ []
def dkwJ19_set_1 : List UInt8 := [182, 0, 45, 183, 0, 146, 191, 27, 184, 0, 52, 61, 42, 28, 182, 0, 155, 42, 180, 0, 11, 28, 92, 47]
abbrev dktJ19_set_1 : List UInt8 := dkwJ19_set_1 ++ dktJ19_set_2
def dkwJ19_set_0 : List UInt8 := [27, 156, 0, 30, 187, 0, 142, 89, 187, 0, 33, 89, 183, 0, 35, 18, 153, 182, 0, 38, 27, 182, 0, 42]
abbrev dktJ19_set_0 : List UInt8 := dkwJ19_set_0 ++ dktJ19_set_1
theorem dksJ19_set_0 : cJ19_set.data.toList.drop 0 = dktJ19_set_0 := by decide +kernel
theorem dksJ19_set_1 : cJ19_set.data.toList.drop 24 = dktJ19_set_1 := dk_seg dksJ19_set_0 24 rfl rfl
theorem dksJ19_set_2 : cJ19_set.data.toList.drop 48 = dktJ19_set_2 := dk_seg dksJ19_set_1 24 rfl rfl
theorem dJ19_set_0 : decode cJ19_set 0 = .ok (.iload_n 1, 1) := dk_27 (dk_at dksJ19_set_0 0 rfl rfl)
theorem dJ19_set_1 : decode cJ19_set 1 = .ok (.ifCond .ge 30, 3) := dk_156 0 30 (dk_at dksJ19_set_0 1 rfl rfl)
theorem dJ19_set_4 : decode cJ19_set 4 = .ok (.new 142, 3) := dk_187 0 142 (dk_at dksJ19_set_0 4 rfl rfl)
theorem dJ19_set_7 : decode cJ19_set 7 = .ok (.dup, 1) := dk_89 (dk_at dksJ19_set_0 7 rfl rfl)
theorem dJ19_set_8 : decode cJ19_set 8 = .ok (.new 33, 3) := dk_187 0 33 (dk_at dksJ19_set_0 8 rfl rfl)
theorem dJ19_set_11 : decode cJ19_set 11 = .ok (.dup, 1) := dk_89 (dk_at dksJ19_set_0 11 rfl rfl)
theorem dJ19_set_12 : decode cJ19_set 12 = .ok (.invokespecial 35, 3) := dk_183 0 35 (dk_at dksJ19_set_0 12 rfl rfl)
theorem dJ19_set_15 : decode cJ19_set 15 = .ok (.ldc 153, 2) := dk_18 153 (dk_at dksJ19_set_0 15 rfl rfl)
theorem dJ19_set_17 : decode cJ19_set 17 = .ok (.invokevirtual 38, 3) := dk_182 0 38 (dk_at dksJ19_set_0 17 rfl rfl)
theorem dJ19_set_20 : decode cJ19_set 20 = .ok (.iload_n 1, 1) := dk_27 (dk_at dksJ19_set_0 20 rfl rfl)
theorem dJ19_set_21 : decode cJ19_set 21 = .ok (.invokevirtual 42, 3) := dk_182 0 42 (dk_at dksJ19_set_0 21 rfl rfl)
theorem dJ19_set_24 : decode cJ19_set 24 = .ok (.invokevirtual 45, 3) := dk_182 0 45 (dk_at dksJ19_set_1 0 rfl rfl)
theorem dJ19_set_27 : decode cJ19_set 27 = .ok (.invokespecial 146, 3) := dk_183 0 146 (dk_at dksJ19_set_1 3 rfl rfl)
theorem dJ19_set_30 : decode cJ19_set 30 = .ok (.athrow, 1) := dk_191 (dk_at dksJ19_set_1 6 rfl rfl)
theorem dJ19_set_31 : decode cJ19_set 31 = .ok (.iload_n 1, 1) := dk_27 (dk_at dksJ19_set_1 7 rfl rfl)
theorem dJ19_set_32 : decode cJ19_set 32 = .ok (.invokestatic 52, 3) := dk_184 0 52 (dk_at dksJ19_set_1 8 rfl rfl)
theorem dJ19_set_35 : decode cJ19_set 35 = .ok (.istore_n 2, 1) := dk_61 (dk_at dksJ19_set_1 11 rfl rfl)
theorem dJ19_set_36 : decode cJ19_set 36 = .ok (.aload_n 0, 1) := dk_42 (dk_at dksJ19_set_1 12 rfl rfl)
theorem dJ19_set_37 : decode cJ19_set 37 = .ok (.iload_n 2, 1) := dk_28 (dk_at dksJ19_set_1 13 rfl rfl)
theorem dJ19_set_38 : decode cJ19_set 38 = .ok (.invokevirtual 155, 3) := dk_182 0 155 (dk_at dksJ19_set_1 14 rfl rfl)
theorem dJ19_set_41 : decode cJ19_set 41 = .ok (.aload_n 0, 1) := dk_42 (dk_at dksJ19_set_1 17 rfl rfl)
theorem dJ19_set_42 : decode cJ19_set 42 = .ok (.getfield 11, 3) := dk_180 0 11 (dk_at dksJ19_set_1 18 rfl rfl)
theorem dJ19_set_45 : decode cJ19_set 45 = .ok (.iload_n 2, 1) := dk_28 (dk_at dksJ19_set_1 21 rfl rfl)
theorem dJ19_set_46 : decode cJ19_set 46 = .ok (.dup2, 1) := dk_92 (dk_at dksJ19_set_1 22 rfl rfl)
theorem dJ19_set_47 : decode cJ19_set 47 = .ok (.laload, 1) := dk_47 (dk_at dksJ19_set_1 23 rfl rfl)
theorem dJ19_set_48 : decode cJ19_set 48 = .ok (.lconst 1, 1) := dk_10 (dk_at dksJ19_set_2 0 rfl rfl)
theorem dJ19_set_49 : decode cJ19_set 49 = .ok (.iload_n 1, 1) := dk_27 (dk_at dksJ19_set_2 1 rfl rfl)
theorem dJ19_set_50 : decode cJ19_set 50 = .ok (.lshl, 1) := dk_121 (dk_at dksJ19_set_2 2 rfl rfl)
theorem dJ19_set_51 : decode cJ19_set 51 = .ok (.lor, 1) := dk_129 (dk_at dksJ19_set_2 3 rfl rfl)
theorem dJ19_set_52 : decode cJ19_set 52 = .ok (.lastore, 1) := dk_80 (dk_at dksJ19_set_2 4 rfl rfl)
theorem dJ19_set_53 : decode cJ19_set 53 = .ok (.aload_n 0, 1) := dk_42 (dk_at dksJ19_set_2 5 rfl rfl)
theorem dJ19_set_54 : decode cJ19_set 54 = .ok (.invokevirtual 56, 3) := dk_182 0 56 (dk_at dksJ19_set_2 6 rfl rfl)
theorem dJ19_set_57 : decode cJ19_set 57 = .ok (.return_, 1) := dk_177 (dk_at dksJ19_set_2 9 rfl rfl)
abbrev cJ19_expandTo : ByteArray := prog_57_method_15_code
def yJ19_expandTo : MethodName := ⟨RJ19, "expandTo", "(I)V"⟩
def dkwJ19_expandTo_0 : List UInt8 := [27, 4, 96, 61, 42, 180, 0, 7, 28, 162, 0, 13, 42, 28, 182, 0, 139, 42, 28, 181, 0, 7, 177]
abbrev dktJ19_expandTo_0 : List UInt8 := dkwJ19_expandTo_0 ++ []
theorem dksJ19_expandTo_0 : cJ19_expandTo.data.toList.drop 0 = dktJ19_expandTo_0 := by decide +kernel
theorem dJ19_expandTo_0 : decode cJ19_expandTo 0 = .ok (.iload_n 1, 1) := dk_27 (dk_at dksJ19_expandTo_0 0 rfl rfl)
theorem dJ19_expandTo_1 : decode cJ19_expandTo 1 = .ok (.iconst 1, 1) := dk_4 (dk_at dksJ19_expandTo_0 1 rfl rfl)
theorem dJ19_expandTo_2 : decode cJ19_expandTo 2 = .ok (.iadd, 1) := dk_96 (dk_at dksJ19_expandTo_0 2 rfl rfl)
theorem dJ19_expandTo_3 : decode cJ19_expandTo 3 = .ok (.istore_n 2, 1) := dk_61 (dk_at dksJ19_expandTo_0 3 rfl rfl)
theorem dJ19_expandTo_4 : decode cJ19_expandTo 4 = .ok (.aload_n 0, 1) := dk_42 (dk_at dksJ19_expandTo_0 4 rfl rfl)
theorem dJ19_expandTo_5 : decode cJ19_expandTo 5 = .ok (.getfield 7, 3) := dk_180 0 7 (dk_at dksJ19_expandTo_0 5 rfl rfl)
theorem dJ19_expandTo_8 : decode cJ19_expandTo 8 = .ok (.iload_n 2, 1) := dk_28 (dk_at dksJ19_expandTo_0 8 rfl rfl)
theorem dJ19_expandTo_9 : decode cJ19_expandTo 9 = .ok (.if_icmp .ge 13, 3) := dk_162 0 13 (dk_at dksJ19_expandTo_0 9 rfl rfl)
theorem dJ19_expandTo_12 : decode cJ19_expandTo 12 = .ok (.aload_n 0, 1) := dk_42 (dk_at dksJ19_expandTo_0 12 rfl rfl)
theorem dJ19_expandTo_13 : decode cJ19_expandTo 13 = .ok (.iload_n 2, 1) := dk_28 (dk_at dksJ19_expandTo_0 13 rfl rfl)
theorem dJ19_expandTo_14 : decode cJ19_expandTo 14 = .ok (.invokevirtual 139, 3) := dk_182 0 139 (dk_at dksJ19_expandTo_0 14 rfl rfl)
theorem dJ19_expandTo_17 : decode cJ19_expandTo 17 = .ok (.aload_n 0, 1) := dk_42 (dk_at dksJ19_expandTo_0 17 rfl rfl)
theorem dJ19_expandTo_18 : decode cJ19_expandTo 18 = .ok (.iload_n 2, 1) := dk_28 (dk_at dksJ19_expandTo_0 18 rfl rfl)
theorem dJ19_expandTo_19 : decode cJ19_expandTo 19 = .ok (.putfield 7, 3) := dk_181 0 7 (dk_at dksJ19_expandTo_0 19 rfl rfl)
theorem dJ19_expandTo_22 : decode cJ19_expandTo 22 = .ok (.return_, 1) := dk_177 (dk_at dksJ19_expandTo_0 22 rfl rfl)
abbrev cJ19_ensureCapacity : ByteArray := prog_57_method_14_code
def yJ19_ensureCapacity : MethodName := ⟨RJ19, "ensureCapacity", "(I)V"⟩
def dkwJ19_ensureCapacity_1 : List UInt8 := [180, 0, 11, 28, 184, 0, 59, 181, 0, 11, 42, 3, 181, 0, 24, 177]
abbrev dktJ19_ensureCapacity_1 : List UInt8 := dkwJ19_ensureCapacity_1 ++ []
def dkwJ19_ensureCapacity_0 : List UInt8 := [42, 180, 0, 11, 190, 27, 162, 0, 32, 5, 42, 180, 0, 11, 190, 104, 27, 184, 0, 133, 61, 42, 42]
abbrev dktJ19_ensureCapacity_0 : List UInt8 := dkwJ19_ensureCapacity_0 ++ dktJ19_ensureCapacity_1
theorem dksJ19_ensureCapacity_0 : cJ19_ensureCapacity.data.toList.drop 0 = dktJ19_ensureCapacity_0 := by decide +kernel
theorem dksJ19_ensureCapacity_1 : cJ19_ensureCapacity.data.toList.drop 23 = dktJ19_ensureCapacity_1 := dk_seg dksJ19_ensureCapacity_0 23 rfl rfl
theorem dJ19_ensureCapacity_0 : decode cJ19_ensureCapacity 0 = .ok (.aload_n 0, 1) := dk_42 (dk_at dksJ19_ensureCapacity_0 0 rfl rfl)
theorem dJ19_ensureCapacity_1 : decode cJ19_ensureCapacity 1 = .ok (.getfield 11, 3) := dk_180 0 11 (dk_at dksJ19_ensureCapacity_0 1 rfl rfl)
theorem dJ19_ensureCapacity_4 : decode cJ19_ensureCapacity 4 = .ok (.arraylength, 1) := dk_190 (dk_at dksJ19_ensureCapacity_0 4 rfl rfl)
theorem dJ19_ensureCapacity_5 : decode cJ19_ensureCapacity 5 = .ok (.iload_n 1, 1) := dk_27 (dk_at dksJ19_ensureCapacity_0 5 rfl rfl)
theorem dJ19_ensureCapacity_6 : decode cJ19_ensureCapacity 6 = .ok (.if_icmp .ge 32, 3) := dk_162 0 32 (dk_at dksJ19_ensureCapacity_0 6 rfl rfl)
theorem dJ19_ensureCapacity_9 : decode cJ19_ensureCapacity 9 = .ok (.iconst 2, 1) := dk_5 (dk_at dksJ19_ensureCapacity_0 9 rfl rfl)
theorem dJ19_ensureCapacity_10 : decode cJ19_ensureCapacity 10 = .ok (.aload_n 0, 1) := dk_42 (dk_at dksJ19_ensureCapacity_0 10 rfl rfl)
theorem dJ19_ensureCapacity_11 : decode cJ19_ensureCapacity 11 = .ok (.getfield 11, 3) := dk_180 0 11 (dk_at dksJ19_ensureCapacity_0 11 rfl rfl)
theorem dJ19_ensureCapacity_14 : decode cJ19_ensureCapacity 14 = .ok (.arraylength, 1) := dk_190 (dk_at dksJ19_ensureCapacity_0 14 rfl rfl)
theorem dJ19_ensureCapacity_15 : decode cJ19_ensureCapacity 15 = .ok (.imul, 1) := dk_104 (dk_at dksJ19_ensureCapacity_0 15 rfl rfl)
theorem dJ19_ensureCapacity_16 : decode cJ19_ensureCapacity 16 = .ok (.iload_n 1, 1) := dk_27 (dk_at dksJ19_ensureCapacity_0 16 rfl rfl)
theorem dJ19_ensureCapacity_17 : decode cJ19_ensureCapacity 17 = .ok (.invokestatic 133, 3) := dk_184 0 133 (dk_at dksJ19_ensureCapacity_0 17 rfl rfl)
theorem dJ19_ensureCapacity_20 : decode cJ19_ensureCapacity 20 = .ok (.istore_n 2, 1) := dk_61 (dk_at dksJ19_ensureCapacity_0 20 rfl rfl)
theorem dJ19_ensureCapacity_21 : decode cJ19_ensureCapacity 21 = .ok (.aload_n 0, 1) := dk_42 (dk_at dksJ19_ensureCapacity_0 21 rfl rfl)
theorem dJ19_ensureCapacity_22 : decode cJ19_ensureCapacity 22 = .ok (.aload_n 0, 1) := dk_42 (dk_at dksJ19_ensureCapacity_0 22 rfl rfl)
theorem dJ19_ensureCapacity_23 : decode cJ19_ensureCapacity 23 = .ok (.getfield 11, 3) := dk_180 0 11 (dk_at dksJ19_ensureCapacity_1 0 rfl rfl)
theorem dJ19_ensureCapacity_26 : decode cJ19_ensureCapacity 26 = .ok (.iload_n 2, 1) := dk_28 (dk_at dksJ19_ensureCapacity_1 3 rfl rfl)
theorem dJ19_ensureCapacity_27 : decode cJ19_ensureCapacity 27 = .ok (.invokestatic 59, 3) := dk_184 0 59 (dk_at dksJ19_ensureCapacity_1 4 rfl rfl)
theorem dJ19_ensureCapacity_30 : decode cJ19_ensureCapacity 30 = .ok (.putfield 11, 3) := dk_181 0 11 (dk_at dksJ19_ensureCapacity_1 7 rfl rfl)
theorem dJ19_ensureCapacity_33 : decode cJ19_ensureCapacity 33 = .ok (.aload_n 0, 1) := dk_42 (dk_at dksJ19_ensureCapacity_1 10 rfl rfl)
theorem dJ19_ensureCapacity_34 : decode cJ19_ensureCapacity 34 = .ok (.iconst 0, 1) := dk_3 (dk_at dksJ19_ensureCapacity_1 11 rfl rfl)
theorem dJ19_ensureCapacity_35 : decode cJ19_ensureCapacity 35 = .ok (.putfield 24, 3) := dk_181 0 24 (dk_at dksJ19_ensureCapacity_1 12 rfl rfl)
theorem dJ19_ensureCapacity_38 : decode cJ19_ensureCapacity 38 = .ok (.return_, 1) := dk_177 (dk_at dksJ19_ensureCapacity_1 15 rfl rfl)
abbrev cJ19_checkInvariants : ByteArray := prog_57_method_2_code
def yJ19_checkInvariants : MethodName := ⟨RJ19, "checkInvariants", "()V"⟩
def dkwJ19_checkInvariants_4 : List UInt8 := [180, 0, 7, 47, 9, 148, 153, 0, 11, 187, 0, 15, 89, 183, 0, 17, 191, 177]
abbrev dktJ19_checkInvariants_4 : List UInt8 := dkwJ19_checkInvariants_4 ++ []
def dkwJ19_checkInvariants_3 : List UInt8 := [178, 0, 3, 154, 0, 37, 42, 180, 0, 7, 42, 180, 0, 11, 190, 159, 0, 25, 42, 180, 0, 11, 42]
abbrev dktJ19_checkInvariants_3 : List UInt8 := dkwJ19_checkInvariants_3 ++ dktJ19_checkInvariants_4
def dkwJ19_checkInvariants_2 : List UInt8 := [155, 0, 15, 42, 180, 0, 7, 42, 180, 0, 11, 190, 164, 0, 11, 187, 0, 15, 89, 183, 0, 17, 191]
abbrev dktJ19_checkInvariants_2 : List UInt8 := dkwJ19_checkInvariants_2 ++ dktJ19_checkInvariants_3
def dkwJ19_checkInvariants_1 : List UInt8 := [9, 148, 154, 0, 11, 187, 0, 15, 89, 183, 0, 17, 191, 178, 0, 3, 154, 0, 30, 42, 180, 0, 7]
abbrev dktJ19_checkInvariants_1 : List UInt8 := dkwJ19_checkInvariants_1 ++ dktJ19_checkInvariants_2
def dkwJ19_checkInvariants_0 : List UInt8 := [178, 0, 3, 154, 0, 34, 42, 180, 0, 7, 153, 0, 27, 42, 180, 0, 11, 42, 180, 0, 7, 4, 100, 47]
abbrev dktJ19_checkInvariants_0 : List UInt8 := dkwJ19_checkInvariants_0 ++ dktJ19_checkInvariants_1
theorem dksJ19_checkInvariants_0 : cJ19_checkInvariants.data.toList.drop 0 = dktJ19_checkInvariants_0 := by decide +kernel
theorem dksJ19_checkInvariants_1 : cJ19_checkInvariants.data.toList.drop 24 = dktJ19_checkInvariants_1 := dk_seg dksJ19_checkInvariants_0 24 rfl rfl
theorem dksJ19_checkInvariants_2 : cJ19_checkInvariants.data.toList.drop 47 = dktJ19_checkInvariants_2 := dk_seg dksJ19_checkInvariants_1 23 rfl rfl
theorem dksJ19_checkInvariants_3 : cJ19_checkInvariants.data.toList.drop 70 = dktJ19_checkInvariants_3 := dk_seg dksJ19_checkInvariants_2 23 rfl rfl
theorem dksJ19_checkInvariants_4 : cJ19_checkInvariants.data.toList.drop 93 = dktJ19_checkInvariants_4 := dk_seg dksJ19_checkInvariants_3 23 rfl rfl
theorem dJ19_checkInvariants_0 : decode cJ19_checkInvariants 0 = .ok (.getstatic 3, 3) := dk_178 0 3 (dk_at dksJ19_checkInvariants_0 0 rfl rfl)
theorem dJ19_checkInvariants_3 : decode cJ19_checkInvariants 3 = .ok (.ifCond .ne 34, 3) := dk_154 0 34 (dk_at dksJ19_checkInvariants_0 3 rfl rfl)
theorem dJ19_checkInvariants_6 : decode cJ19_checkInvariants 6 = .ok (.aload_n 0, 1) := dk_42 (dk_at dksJ19_checkInvariants_0 6 rfl rfl)
theorem dJ19_checkInvariants_7 : decode cJ19_checkInvariants 7 = .ok (.getfield 7, 3) := dk_180 0 7 (dk_at dksJ19_checkInvariants_0 7 rfl rfl)
theorem dJ19_checkInvariants_10 : decode cJ19_checkInvariants 10 = .ok (.ifCond .eq 27, 3) := dk_153 0 27 (dk_at dksJ19_checkInvariants_0 10 rfl rfl)
theorem dJ19_checkInvariants_13 : decode cJ19_checkInvariants 13 = .ok (.aload_n 0, 1) := dk_42 (dk_at dksJ19_checkInvariants_0 13 rfl rfl)
theorem dJ19_checkInvariants_14 : decode cJ19_checkInvariants 14 = .ok (.getfield 11, 3) := dk_180 0 11 (dk_at dksJ19_checkInvariants_0 14 rfl rfl)
theorem dJ19_checkInvariants_17 : decode cJ19_checkInvariants 17 = .ok (.aload_n 0, 1) := dk_42 (dk_at dksJ19_checkInvariants_0 17 rfl rfl)
theorem dJ19_checkInvariants_18 : decode cJ19_checkInvariants 18 = .ok (.getfield 7, 3) := dk_180 0 7 (dk_at dksJ19_checkInvariants_0 18 rfl rfl)
theorem dJ19_checkInvariants_21 : decode cJ19_checkInvariants 21 = .ok (.iconst 1, 1) := dk_4 (dk_at dksJ19_checkInvariants_0 21 rfl rfl)
theorem dJ19_checkInvariants_22 : decode cJ19_checkInvariants 22 = .ok (.isub, 1) := dk_100 (dk_at dksJ19_checkInvariants_0 22 rfl rfl)
theorem dJ19_checkInvariants_23 : decode cJ19_checkInvariants 23 = .ok (.laload, 1) := dk_47 (dk_at dksJ19_checkInvariants_0 23 rfl rfl)
theorem dJ19_checkInvariants_24 : decode cJ19_checkInvariants 24 = .ok (.lconst 0, 1) := dk_9 (dk_at dksJ19_checkInvariants_1 0 rfl rfl)
theorem dJ19_checkInvariants_25 : decode cJ19_checkInvariants 25 = .ok (.lcmp, 1) := dk_148 (dk_at dksJ19_checkInvariants_1 1 rfl rfl)
theorem dJ19_checkInvariants_26 : decode cJ19_checkInvariants 26 = .ok (.ifCond .ne 11, 3) := dk_154 0 11 (dk_at dksJ19_checkInvariants_1 2 rfl rfl)
theorem dJ19_checkInvariants_29 : decode cJ19_checkInvariants 29 = .ok (.new 15, 3) := dk_187 0 15 (dk_at dksJ19_checkInvariants_1 5 rfl rfl)
theorem dJ19_checkInvariants_32 : decode cJ19_checkInvariants 32 = .ok (.dup, 1) := dk_89 (dk_at dksJ19_checkInvariants_1 8 rfl rfl)
theorem dJ19_checkInvariants_33 : decode cJ19_checkInvariants 33 = .ok (.invokespecial 17, 3) := dk_183 0 17 (dk_at dksJ19_checkInvariants_1 9 rfl rfl)
theorem dJ19_checkInvariants_36 : decode cJ19_checkInvariants 36 = .ok (.athrow, 1) := dk_191 (dk_at dksJ19_checkInvariants_1 12 rfl rfl)
theorem dJ19_checkInvariants_37 : decode cJ19_checkInvariants 37 = .ok (.getstatic 3, 3) := dk_178 0 3 (dk_at dksJ19_checkInvariants_1 13 rfl rfl)
theorem dJ19_checkInvariants_40 : decode cJ19_checkInvariants 40 = .ok (.ifCond .ne 30, 3) := dk_154 0 30 (dk_at dksJ19_checkInvariants_1 16 rfl rfl)
theorem dJ19_checkInvariants_43 : decode cJ19_checkInvariants 43 = .ok (.aload_n 0, 1) := dk_42 (dk_at dksJ19_checkInvariants_1 19 rfl rfl)
theorem dJ19_checkInvariants_44 : decode cJ19_checkInvariants 44 = .ok (.getfield 7, 3) := dk_180 0 7 (dk_at dksJ19_checkInvariants_1 20 rfl rfl)
theorem dJ19_checkInvariants_47 : decode cJ19_checkInvariants 47 = .ok (.ifCond .lt 15, 3) := dk_155 0 15 (dk_at dksJ19_checkInvariants_2 0 rfl rfl)
theorem dJ19_checkInvariants_50 : decode cJ19_checkInvariants 50 = .ok (.aload_n 0, 1) := dk_42 (dk_at dksJ19_checkInvariants_2 3 rfl rfl)
theorem dJ19_checkInvariants_51 : decode cJ19_checkInvariants 51 = .ok (.getfield 7, 3) := dk_180 0 7 (dk_at dksJ19_checkInvariants_2 4 rfl rfl)
theorem dJ19_checkInvariants_54 : decode cJ19_checkInvariants 54 = .ok (.aload_n 0, 1) := dk_42 (dk_at dksJ19_checkInvariants_2 7 rfl rfl)
theorem dJ19_checkInvariants_55 : decode cJ19_checkInvariants 55 = .ok (.getfield 11, 3) := dk_180 0 11 (dk_at dksJ19_checkInvariants_2 8 rfl rfl)
theorem dJ19_checkInvariants_58 : decode cJ19_checkInvariants 58 = .ok (.arraylength, 1) := dk_190 (dk_at dksJ19_checkInvariants_2 11 rfl rfl)
theorem dJ19_checkInvariants_59 : decode cJ19_checkInvariants 59 = .ok (.if_icmp .le 11, 3) := dk_164 0 11 (dk_at dksJ19_checkInvariants_2 12 rfl rfl)
theorem dJ19_checkInvariants_62 : decode cJ19_checkInvariants 62 = .ok (.new 15, 3) := dk_187 0 15 (dk_at dksJ19_checkInvariants_2 15 rfl rfl)
theorem dJ19_checkInvariants_65 : decode cJ19_checkInvariants 65 = .ok (.dup, 1) := dk_89 (dk_at dksJ19_checkInvariants_2 18 rfl rfl)
theorem dJ19_checkInvariants_66 : decode cJ19_checkInvariants 66 = .ok (.invokespecial 17, 3) := dk_183 0 17 (dk_at dksJ19_checkInvariants_2 19 rfl rfl)
theorem dJ19_checkInvariants_69 : decode cJ19_checkInvariants 69 = .ok (.athrow, 1) := dk_191 (dk_at dksJ19_checkInvariants_2 22 rfl rfl)
theorem dJ19_checkInvariants_70 : decode cJ19_checkInvariants 70 = .ok (.getstatic 3, 3) := dk_178 0 3 (dk_at dksJ19_checkInvariants_3 0 rfl rfl)
theorem dJ19_checkInvariants_73 : decode cJ19_checkInvariants 73 = .ok (.ifCond .ne 37, 3) := dk_154 0 37 (dk_at dksJ19_checkInvariants_3 3 rfl rfl)
theorem dJ19_checkInvariants_76 : decode cJ19_checkInvariants 76 = .ok (.aload_n 0, 1) := dk_42 (dk_at dksJ19_checkInvariants_3 6 rfl rfl)
theorem dJ19_checkInvariants_77 : decode cJ19_checkInvariants 77 = .ok (.getfield 7, 3) := dk_180 0 7 (dk_at dksJ19_checkInvariants_3 7 rfl rfl)
theorem dJ19_checkInvariants_80 : decode cJ19_checkInvariants 80 = .ok (.aload_n 0, 1) := dk_42 (dk_at dksJ19_checkInvariants_3 10 rfl rfl)
theorem dJ19_checkInvariants_81 : decode cJ19_checkInvariants 81 = .ok (.getfield 11, 3) := dk_180 0 11 (dk_at dksJ19_checkInvariants_3 11 rfl rfl)
theorem dJ19_checkInvariants_84 : decode cJ19_checkInvariants 84 = .ok (.arraylength, 1) := dk_190 (dk_at dksJ19_checkInvariants_3 14 rfl rfl)
theorem dJ19_checkInvariants_85 : decode cJ19_checkInvariants 85 = .ok (.if_icmp .eq 25, 3) := dk_159 0 25 (dk_at dksJ19_checkInvariants_3 15 rfl rfl)
theorem dJ19_checkInvariants_88 : decode cJ19_checkInvariants 88 = .ok (.aload_n 0, 1) := dk_42 (dk_at dksJ19_checkInvariants_3 18 rfl rfl)
theorem dJ19_checkInvariants_89 : decode cJ19_checkInvariants 89 = .ok (.getfield 11, 3) := dk_180 0 11 (dk_at dksJ19_checkInvariants_3 19 rfl rfl)
theorem dJ19_checkInvariants_92 : decode cJ19_checkInvariants 92 = .ok (.aload_n 0, 1) := dk_42 (dk_at dksJ19_checkInvariants_3 22 rfl rfl)
theorem dJ19_checkInvariants_93 : decode cJ19_checkInvariants 93 = .ok (.getfield 7, 3) := dk_180 0 7 (dk_at dksJ19_checkInvariants_4 0 rfl rfl)
theorem dJ19_checkInvariants_96 : decode cJ19_checkInvariants 96 = .ok (.laload, 1) := dk_47 (dk_at dksJ19_checkInvariants_4 3 rfl rfl)
theorem dJ19_checkInvariants_97 : decode cJ19_checkInvariants 97 = .ok (.lconst 0, 1) := dk_9 (dk_at dksJ19_checkInvariants_4 4 rfl rfl)
theorem dJ19_checkInvariants_98 : decode cJ19_checkInvariants 98 = .ok (.lcmp, 1) := dk_148 (dk_at dksJ19_checkInvariants_4 5 rfl rfl)
theorem dJ19_checkInvariants_99 : decode cJ19_checkInvariants 99 = .ok (.ifCond .eq 11, 3) := dk_153 0 11 (dk_at dksJ19_checkInvariants_4 6 rfl rfl)
theorem dJ19_checkInvariants_102 : decode cJ19_checkInvariants 102 = .ok (.new 15, 3) := dk_187 0 15 (dk_at dksJ19_checkInvariants_4 9 rfl rfl)
theorem dJ19_checkInvariants_105 : decode cJ19_checkInvariants 105 = .ok (.dup, 1) := dk_89 (dk_at dksJ19_checkInvariants_4 12 rfl rfl)
theorem dJ19_checkInvariants_106 : decode cJ19_checkInvariants 106 = .ok (.invokespecial 17, 3) := dk_183 0 17 (dk_at dksJ19_checkInvariants_4 13 rfl rfl)
theorem dJ19_checkInvariants_109 : decode cJ19_checkInvariants 109 = .ok (.athrow, 1) := dk_191 (dk_at dksJ19_checkInvariants_4 16 rfl rfl)
theorem dJ19_checkInvariants_110 : decode cJ19_checkInvariants 110 = .ok (.return_, 1) := dk_177 (dk_at dksJ19_checkInvariants_4 17 rfl rfl)
abbrev cJ19_get : ByteArray := prog_57_method_26_code
def yJ19_get : MethodName := ⟨RJ19, "get", "(I)Z"⟩
def dkwJ19_get_2 : List UInt8 := [42, 180, 0, 11, 28, 47, 10, 27, 121, 127, 9, 148, 153, 0, 7, 4, 167, 0, 4, 3, 172]
abbrev dktJ19_get_2 : List UInt8 := dkwJ19_get_2 ++ []
def dkwJ19_get_1 : List UInt8 := [182, 0, 45, 183, 0, 146, 191, 42, 182, 0, 56, 27, 184, 0, 52, 61, 28, 42, 180, 0, 7, 162, 0, 22]
abbrev dktJ19_get_1 : List UInt8 := dkwJ19_get_1 ++ dktJ19_get_2
def dkwJ19_get_0 : List UInt8 := [27, 156, 0, 30, 187, 0, 142, 89, 187, 0, 33, 89, 183, 0, 35, 18, 153, 182, 0, 38, 27, 182, 0, 42]
abbrev dktJ19_get_0 : List UInt8 := dkwJ19_get_0 ++ dktJ19_get_1
theorem dksJ19_get_0 : cJ19_get.data.toList.drop 0 = dktJ19_get_0 := by decide +kernel
theorem dksJ19_get_1 : cJ19_get.data.toList.drop 24 = dktJ19_get_1 := dk_seg dksJ19_get_0 24 rfl rfl
theorem dksJ19_get_2 : cJ19_get.data.toList.drop 48 = dktJ19_get_2 := dk_seg dksJ19_get_1 24 rfl rfl
theorem dJ19_get_0 : decode cJ19_get 0 = .ok (.iload_n 1, 1) := dk_27 (dk_at dksJ19_get_0 0 rfl rfl)
theorem dJ19_get_1 : decode cJ19_get 1 = .ok (.ifCond .ge 30, 3) := dk_156 0 30 (dk_at dksJ19_get_0 1 rfl rfl)
theorem dJ19_get_4 : decode cJ19_get 4 = .ok (.new 142, 3) := dk_187 0 142 (dk_at dksJ19_get_0 4 rfl rfl)
theorem dJ19_get_7 : decode cJ19_get 7 = .ok (.dup, 1) := dk_89 (dk_at dksJ19_get_0 7 rfl rfl)
theorem dJ19_get_8 : decode cJ19_get 8 = .ok (.new 33, 3) := dk_187 0 33 (dk_at dksJ19_get_0 8 rfl rfl)
theorem dJ19_get_11 : decode cJ19_get 11 = .ok (.dup, 1) := dk_89 (dk_at dksJ19_get_0 11 rfl rfl)
theorem dJ19_get_12 : decode cJ19_get 12 = .ok (.invokespecial 35, 3) := dk_183 0 35 (dk_at dksJ19_get_0 12 rfl rfl)
theorem dJ19_get_15 : decode cJ19_get 15 = .ok (.ldc 153, 2) := dk_18 153 (dk_at dksJ19_get_0 15 rfl rfl)
theorem dJ19_get_17 : decode cJ19_get 17 = .ok (.invokevirtual 38, 3) := dk_182 0 38 (dk_at dksJ19_get_0 17 rfl rfl)
theorem dJ19_get_20 : decode cJ19_get 20 = .ok (.iload_n 1, 1) := dk_27 (dk_at dksJ19_get_0 20 rfl rfl)
theorem dJ19_get_21 : decode cJ19_get 21 = .ok (.invokevirtual 42, 3) := dk_182 0 42 (dk_at dksJ19_get_0 21 rfl rfl)
theorem dJ19_get_24 : decode cJ19_get 24 = .ok (.invokevirtual 45, 3) := dk_182 0 45 (dk_at dksJ19_get_1 0 rfl rfl)
theorem dJ19_get_27 : decode cJ19_get 27 = .ok (.invokespecial 146, 3) := dk_183 0 146 (dk_at dksJ19_get_1 3 rfl rfl)
theorem dJ19_get_30 : decode cJ19_get 30 = .ok (.athrow, 1) := dk_191 (dk_at dksJ19_get_1 6 rfl rfl)
theorem dJ19_get_31 : decode cJ19_get 31 = .ok (.aload_n 0, 1) := dk_42 (dk_at dksJ19_get_1 7 rfl rfl)
theorem dJ19_get_32 : decode cJ19_get 32 = .ok (.invokevirtual 56, 3) := dk_182 0 56 (dk_at dksJ19_get_1 8 rfl rfl)
theorem dJ19_get_35 : decode cJ19_get 35 = .ok (.iload_n 1, 1) := dk_27 (dk_at dksJ19_get_1 11 rfl rfl)
theorem dJ19_get_36 : decode cJ19_get 36 = .ok (.invokestatic 52, 3) := dk_184 0 52 (dk_at dksJ19_get_1 12 rfl rfl)
theorem dJ19_get_39 : decode cJ19_get 39 = .ok (.istore_n 2, 1) := dk_61 (dk_at dksJ19_get_1 15 rfl rfl)
theorem dJ19_get_40 : decode cJ19_get 40 = .ok (.iload_n 2, 1) := dk_28 (dk_at dksJ19_get_1 16 rfl rfl)
theorem dJ19_get_41 : decode cJ19_get 41 = .ok (.aload_n 0, 1) := dk_42 (dk_at dksJ19_get_1 17 rfl rfl)
theorem dJ19_get_42 : decode cJ19_get 42 = .ok (.getfield 7, 3) := dk_180 0 7 (dk_at dksJ19_get_1 18 rfl rfl)
theorem dJ19_get_45 : decode cJ19_get 45 = .ok (.if_icmp .ge 22, 3) := dk_162 0 22 (dk_at dksJ19_get_1 21 rfl rfl)
theorem dJ19_get_48 : decode cJ19_get 48 = .ok (.aload_n 0, 1) := dk_42 (dk_at dksJ19_get_2 0 rfl rfl)
theorem dJ19_get_49 : decode cJ19_get 49 = .ok (.getfield 11, 3) := dk_180 0 11 (dk_at dksJ19_get_2 1 rfl rfl)
theorem dJ19_get_52 : decode cJ19_get 52 = .ok (.iload_n 2, 1) := dk_28 (dk_at dksJ19_get_2 4 rfl rfl)
theorem dJ19_get_53 : decode cJ19_get 53 = .ok (.laload, 1) := dk_47 (dk_at dksJ19_get_2 5 rfl rfl)
theorem dJ19_get_54 : decode cJ19_get 54 = .ok (.lconst 1, 1) := dk_10 (dk_at dksJ19_get_2 6 rfl rfl)
theorem dJ19_get_55 : decode cJ19_get 55 = .ok (.iload_n 1, 1) := dk_27 (dk_at dksJ19_get_2 7 rfl rfl)
theorem dJ19_get_56 : decode cJ19_get 56 = .ok (.lshl, 1) := dk_121 (dk_at dksJ19_get_2 8 rfl rfl)
theorem dJ19_get_57 : decode cJ19_get 57 = .ok (.land, 1) := dk_127 (dk_at dksJ19_get_2 9 rfl rfl)
theorem dJ19_get_58 : decode cJ19_get 58 = .ok (.lconst 0, 1) := dk_9 (dk_at dksJ19_get_2 10 rfl rfl)
theorem dJ19_get_59 : decode cJ19_get 59 = .ok (.lcmp, 1) := dk_148 (dk_at dksJ19_get_2 11 rfl rfl)
theorem dJ19_get_60 : decode cJ19_get 60 = .ok (.ifCond .eq 7, 3) := dk_153 0 7 (dk_at dksJ19_get_2 12 rfl rfl)
theorem dJ19_get_63 : decode cJ19_get 63 = .ok (.iconst 1, 1) := dk_4 (dk_at dksJ19_get_2 15 rfl rfl)
theorem dJ19_get_64 : decode cJ19_get 64 = .ok (.goto 4, 3) := dk_167 0 4 (dk_at dksJ19_get_2 16 rfl rfl)
theorem dJ19_get_67 : decode cJ19_get 67 = .ok (.iconst 0, 1) := dk_3 (dk_at dksJ19_get_2 19 rfl rfl)
theorem dJ19_get_68 : decode cJ19_get 68 = .ok (.ireturn, 1) := dk_172 (dk_at dksJ19_get_2 20 rfl rfl)
abbrev cJ19_nextSetBit : ByteArray := prog_57_method_28_code
def yJ19_nextSetBit : MethodName := ⟨RJ19, "nextSetBit", "(I)I"⟩
def dkwJ19_nextSetBit_4 : List UInt8 := [28, 47, 66, 167, 255, 220]
abbrev dktJ19_nextSetBit_4 : List UInt8 := dkwJ19_nextSetBit_4 ++ []
def dkwJ19_nextSetBit_3 : List UInt8 := [104, 33, 184, 0, 182, 96, 172, 132, 2, 1, 28, 42, 180, 0, 7, 160, 0, 5, 2, 172, 42, 180, 0, 11]
abbrev dktJ19_nextSetBit_3 : List UInt8 := dkwJ19_nextSetBit_3 ++ dktJ19_nextSetBit_4
def dkwJ19_nextSetBit_2 : List UInt8 := [2, 172, 42, 180, 0, 11, 28, 47, 20, 0, 165, 27, 121, 127, 66, 33, 9, 148, 153, 0, 13, 28, 16, 64]
abbrev dktJ19_nextSetBit_2 : List UInt8 := dkwJ19_nextSetBit_2 ++ dktJ19_nextSetBit_3
def dkwJ19_nextSetBit_1 : List UInt8 := [182, 0, 45, 183, 0, 146, 191, 42, 182, 0, 56, 27, 184, 0, 52, 61, 28, 42, 180, 0, 7, 161, 0, 5]
abbrev dktJ19_nextSetBit_1 : List UInt8 := dkwJ19_nextSetBit_1 ++ dktJ19_nextSetBit_2
def dkwJ19_nextSetBit_0 : List UInt8 := [27, 156, 0, 30, 187, 0, 142, 89, 187, 0, 33, 89, 183, 0, 35, 18, 144, 182, 0, 38, 27, 182, 0, 42]
abbrev dktJ19_nextSetBit_0 : List UInt8 := dkwJ19_nextSetBit_0 ++ dktJ19_nextSetBit_1
theorem dksJ19_nextSetBit_0 : cJ19_nextSetBit.data.toList.drop 0 = dktJ19_nextSetBit_0 := by decide +kernel
theorem dksJ19_nextSetBit_1 : cJ19_nextSetBit.data.toList.drop 24 = dktJ19_nextSetBit_1 := dk_seg dksJ19_nextSetBit_0 24 rfl rfl
theorem dksJ19_nextSetBit_2 : cJ19_nextSetBit.data.toList.drop 48 = dktJ19_nextSetBit_2 := dk_seg dksJ19_nextSetBit_1 24 rfl rfl
theorem dksJ19_nextSetBit_3 : cJ19_nextSetBit.data.toList.drop 72 = dktJ19_nextSetBit_3 := dk_seg dksJ19_nextSetBit_2 24 rfl rfl
theorem dksJ19_nextSetBit_4 : cJ19_nextSetBit.data.toList.drop 96 = dktJ19_nextSetBit_4 := dk_seg dksJ19_nextSetBit_3 24 rfl rfl
theorem dJ19_nextSetBit_0 : decode cJ19_nextSetBit 0 = .ok (.iload_n 1, 1) := dk_27 (dk_at dksJ19_nextSetBit_0 0 rfl rfl)
theorem dJ19_nextSetBit_1 : decode cJ19_nextSetBit 1 = .ok (.ifCond .ge 30, 3) := dk_156 0 30 (dk_at dksJ19_nextSetBit_0 1 rfl rfl)
theorem dJ19_nextSetBit_4 : decode cJ19_nextSetBit 4 = .ok (.new 142, 3) := dk_187 0 142 (dk_at dksJ19_nextSetBit_0 4 rfl rfl)
theorem dJ19_nextSetBit_7 : decode cJ19_nextSetBit 7 = .ok (.dup, 1) := dk_89 (dk_at dksJ19_nextSetBit_0 7 rfl rfl)
theorem dJ19_nextSetBit_8 : decode cJ19_nextSetBit 8 = .ok (.new 33, 3) := dk_187 0 33 (dk_at dksJ19_nextSetBit_0 8 rfl rfl)
theorem dJ19_nextSetBit_11 : decode cJ19_nextSetBit 11 = .ok (.dup, 1) := dk_89 (dk_at dksJ19_nextSetBit_0 11 rfl rfl)
theorem dJ19_nextSetBit_12 : decode cJ19_nextSetBit 12 = .ok (.invokespecial 35, 3) := dk_183 0 35 (dk_at dksJ19_nextSetBit_0 12 rfl rfl)
theorem dJ19_nextSetBit_15 : decode cJ19_nextSetBit 15 = .ok (.ldc 144, 2) := dk_18 144 (dk_at dksJ19_nextSetBit_0 15 rfl rfl)
theorem dJ19_nextSetBit_17 : decode cJ19_nextSetBit 17 = .ok (.invokevirtual 38, 3) := dk_182 0 38 (dk_at dksJ19_nextSetBit_0 17 rfl rfl)
theorem dJ19_nextSetBit_20 : decode cJ19_nextSetBit 20 = .ok (.iload_n 1, 1) := dk_27 (dk_at dksJ19_nextSetBit_0 20 rfl rfl)
theorem dJ19_nextSetBit_21 : decode cJ19_nextSetBit 21 = .ok (.invokevirtual 42, 3) := dk_182 0 42 (dk_at dksJ19_nextSetBit_0 21 rfl rfl)
theorem dJ19_nextSetBit_24 : decode cJ19_nextSetBit 24 = .ok (.invokevirtual 45, 3) := dk_182 0 45 (dk_at dksJ19_nextSetBit_1 0 rfl rfl)
theorem dJ19_nextSetBit_27 : decode cJ19_nextSetBit 27 = .ok (.invokespecial 146, 3) := dk_183 0 146 (dk_at dksJ19_nextSetBit_1 3 rfl rfl)
theorem dJ19_nextSetBit_30 : decode cJ19_nextSetBit 30 = .ok (.athrow, 1) := dk_191 (dk_at dksJ19_nextSetBit_1 6 rfl rfl)
theorem dJ19_nextSetBit_31 : decode cJ19_nextSetBit 31 = .ok (.aload_n 0, 1) := dk_42 (dk_at dksJ19_nextSetBit_1 7 rfl rfl)
theorem dJ19_nextSetBit_32 : decode cJ19_nextSetBit 32 = .ok (.invokevirtual 56, 3) := dk_182 0 56 (dk_at dksJ19_nextSetBit_1 8 rfl rfl)
theorem dJ19_nextSetBit_35 : decode cJ19_nextSetBit 35 = .ok (.iload_n 1, 1) := dk_27 (dk_at dksJ19_nextSetBit_1 11 rfl rfl)
theorem dJ19_nextSetBit_36 : decode cJ19_nextSetBit 36 = .ok (.invokestatic 52, 3) := dk_184 0 52 (dk_at dksJ19_nextSetBit_1 12 rfl rfl)
theorem dJ19_nextSetBit_39 : decode cJ19_nextSetBit 39 = .ok (.istore_n 2, 1) := dk_61 (dk_at dksJ19_nextSetBit_1 15 rfl rfl)
theorem dJ19_nextSetBit_40 : decode cJ19_nextSetBit 40 = .ok (.iload_n 2, 1) := dk_28 (dk_at dksJ19_nextSetBit_1 16 rfl rfl)
theorem dJ19_nextSetBit_41 : decode cJ19_nextSetBit 41 = .ok (.aload_n 0, 1) := dk_42 (dk_at dksJ19_nextSetBit_1 17 rfl rfl)
theorem dJ19_nextSetBit_42 : decode cJ19_nextSetBit 42 = .ok (.getfield 7, 3) := dk_180 0 7 (dk_at dksJ19_nextSetBit_1 18 rfl rfl)
theorem dJ19_nextSetBit_45 : decode cJ19_nextSetBit 45 = .ok (.if_icmp .lt 5, 3) := dk_161 0 5 (dk_at dksJ19_nextSetBit_1 21 rfl rfl)
theorem dJ19_nextSetBit_48 : decode cJ19_nextSetBit 48 = .ok (.iconst (-1), 1) := dk_2 (dk_at dksJ19_nextSetBit_2 0 rfl rfl)
theorem dJ19_nextSetBit_49 : decode cJ19_nextSetBit 49 = .ok (.ireturn, 1) := dk_172 (dk_at dksJ19_nextSetBit_2 1 rfl rfl)
theorem dJ19_nextSetBit_50 : decode cJ19_nextSetBit 50 = .ok (.aload_n 0, 1) := dk_42 (dk_at dksJ19_nextSetBit_2 2 rfl rfl)
theorem dJ19_nextSetBit_51 : decode cJ19_nextSetBit 51 = .ok (.getfield 11, 3) := dk_180 0 11 (dk_at dksJ19_nextSetBit_2 3 rfl rfl)
theorem dJ19_nextSetBit_54 : decode cJ19_nextSetBit 54 = .ok (.iload_n 2, 1) := dk_28 (dk_at dksJ19_nextSetBit_2 6 rfl rfl)
theorem dJ19_nextSetBit_55 : decode cJ19_nextSetBit 55 = .ok (.laload, 1) := dk_47 (dk_at dksJ19_nextSetBit_2 7 rfl rfl)
theorem dJ19_nextSetBit_56 : decode cJ19_nextSetBit 56 = .ok (.ldc2_w 165, 3) := dk_20 0 165 (dk_at dksJ19_nextSetBit_2 8 rfl rfl)
theorem dJ19_nextSetBit_59 : decode cJ19_nextSetBit 59 = .ok (.iload_n 1, 1) := dk_27 (dk_at dksJ19_nextSetBit_2 11 rfl rfl)
theorem dJ19_nextSetBit_60 : decode cJ19_nextSetBit 60 = .ok (.lshl, 1) := dk_121 (dk_at dksJ19_nextSetBit_2 12 rfl rfl)
theorem dJ19_nextSetBit_61 : decode cJ19_nextSetBit 61 = .ok (.land, 1) := dk_127 (dk_at dksJ19_nextSetBit_2 13 rfl rfl)
theorem dJ19_nextSetBit_62 : decode cJ19_nextSetBit 62 = .ok (.lstore_n 3, 1) := dk_66 (dk_at dksJ19_nextSetBit_2 14 rfl rfl)
theorem dJ19_nextSetBit_63 : decode cJ19_nextSetBit 63 = .ok (.lload_n 3, 1) := dk_33 (dk_at dksJ19_nextSetBit_2 15 rfl rfl)
theorem dJ19_nextSetBit_64 : decode cJ19_nextSetBit 64 = .ok (.lconst 0, 1) := dk_9 (dk_at dksJ19_nextSetBit_2 16 rfl rfl)
theorem dJ19_nextSetBit_65 : decode cJ19_nextSetBit 65 = .ok (.lcmp, 1) := dk_148 (dk_at dksJ19_nextSetBit_2 17 rfl rfl)
theorem dJ19_nextSetBit_66 : decode cJ19_nextSetBit 66 = .ok (.ifCond .eq 13, 3) := dk_153 0 13 (dk_at dksJ19_nextSetBit_2 18 rfl rfl)
theorem dJ19_nextSetBit_69 : decode cJ19_nextSetBit 69 = .ok (.iload_n 2, 1) := dk_28 (dk_at dksJ19_nextSetBit_2 21 rfl rfl)
theorem dJ19_nextSetBit_70 : decode cJ19_nextSetBit 70 = .ok (.bipush 64, 2) := dk_16 64 (dk_at dksJ19_nextSetBit_2 22 rfl rfl)
theorem dJ19_nextSetBit_72 : decode cJ19_nextSetBit 72 = .ok (.imul, 1) := dk_104 (dk_at dksJ19_nextSetBit_3 0 rfl rfl)
theorem dJ19_nextSetBit_73 : decode cJ19_nextSetBit 73 = .ok (.lload_n 3, 1) := dk_33 (dk_at dksJ19_nextSetBit_3 1 rfl rfl)
theorem dJ19_nextSetBit_74 : decode cJ19_nextSetBit 74 = .ok (.invokestatic 182, 3) := dk_184 0 182 (dk_at dksJ19_nextSetBit_3 2 rfl rfl)
theorem dJ19_nextSetBit_77 : decode cJ19_nextSetBit 77 = .ok (.iadd, 1) := dk_96 (dk_at dksJ19_nextSetBit_3 5 rfl rfl)
theorem dJ19_nextSetBit_78 : decode cJ19_nextSetBit 78 = .ok (.ireturn, 1) := dk_172 (dk_at dksJ19_nextSetBit_3 6 rfl rfl)
theorem dJ19_nextSetBit_79 : decode cJ19_nextSetBit 79 = .ok (.iinc 2 1, 3) := dk_132 2 1 (dk_at dksJ19_nextSetBit_3 7 rfl rfl)
theorem dJ19_nextSetBit_82 : decode cJ19_nextSetBit 82 = .ok (.iload_n 2, 1) := dk_28 (dk_at dksJ19_nextSetBit_3 10 rfl rfl)
theorem dJ19_nextSetBit_83 : decode cJ19_nextSetBit 83 = .ok (.aload_n 0, 1) := dk_42 (dk_at dksJ19_nextSetBit_3 11 rfl rfl)
theorem dJ19_nextSetBit_84 : decode cJ19_nextSetBit 84 = .ok (.getfield 7, 3) := dk_180 0 7 (dk_at dksJ19_nextSetBit_3 12 rfl rfl)
theorem dJ19_nextSetBit_87 : decode cJ19_nextSetBit 87 = .ok (.if_icmp .ne 5, 3) := dk_160 0 5 (dk_at dksJ19_nextSetBit_3 15 rfl rfl)
theorem dJ19_nextSetBit_90 : decode cJ19_nextSetBit 90 = .ok (.iconst (-1), 1) := dk_2 (dk_at dksJ19_nextSetBit_3 18 rfl rfl)
theorem dJ19_nextSetBit_91 : decode cJ19_nextSetBit 91 = .ok (.ireturn, 1) := dk_172 (dk_at dksJ19_nextSetBit_3 19 rfl rfl)
theorem dJ19_nextSetBit_92 : decode cJ19_nextSetBit 92 = .ok (.aload_n 0, 1) := dk_42 (dk_at dksJ19_nextSetBit_3 20 rfl rfl)
theorem dJ19_nextSetBit_93 : decode cJ19_nextSetBit 93 = .ok (.getfield 11, 3) := dk_180 0 11 (dk_at dksJ19_nextSetBit_3 21 rfl rfl)
theorem dJ19_nextSetBit_96 : decode cJ19_nextSetBit 96 = .ok (.iload_n 2, 1) := dk_28 (dk_at dksJ19_nextSetBit_4 0 rfl rfl)
theorem dJ19_nextSetBit_97 : decode cJ19_nextSetBit 97 = .ok (.laload, 1) := dk_47 (dk_at dksJ19_nextSetBit_4 1 rfl rfl)
theorem dJ19_nextSetBit_98 : decode cJ19_nextSetBit 98 = .ok (.lstore_n 3, 1) := dk_66 (dk_at dksJ19_nextSetBit_4 2 rfl rfl)
theorem dJ19_nextSetBit_99 : decode cJ19_nextSetBit 99 = .ok (.goto (-36), 3) := dk_167 255 220 (dk_at dksJ19_nextSetBit_4 3 rfl rfl)
theorem q107 : (Jvm.Cond.initialized "java/util/BitSet") ∈ lw_all := lw_g (lw_at lw_m1 30 rfl) rfl
theorem q453 : (Jvm.Cond.selects "java/util/BitSet" ({ cls := "java/lang/Object", name := "getClass", desc := "()Ljava/lang/Class;" } : Jvm.MethodName) ({ cls := "java/lang/Object", name := "getClass", desc := "()Ljava/lang/Class;" } : Jvm.MethodName)) ∈ lw_all := lw_g (lw_at lw_m2 136 rfl) rfl
theorem q839 : (Jvm.Cond.instantiable "java/util/BitSet" (3 : Nat)) ∈ lw_all := lw_g (lw_at lw_m4 42 rfl) rfl
theorem q841 : (Jvm.Cond.instanceMethod ({ cls := "java/util/BitSet", name := "<init>", desc := "()V" } : Jvm.MethodName)) ∈ lw_all := lw_g (lw_at lw_m4 44 rfl) rfl
theorem q842 : (Jvm.Cond.code ({ cls := "java/util/BitSet", name := "<init>", desc := "()V" } : Jvm.MethodName) prog_57_method_4_code (1 : Nat) (Option.none : Option Jvm.ClassFile.FieldType)) ∈ lw_all := lw_g (lw_at lw_m4 45 rfl) rfl
theorem q843 : (Jvm.Cond.methodLink "java/util/BitSet" (21 : Nat) ({ cls := "java/lang/Object", name := "<init>", desc := "()V" } : Jvm.MethodName)) ∈ lw_all := lw_g (lw_at lw_m4 46 rfl) rfl
theorem q844 : (Jvm.Cond.methodLink "java/util/BitSet" (27 : Nat) ({ cls := "java/util/BitSet", name := "initWords", desc := "(I)V" } : Jvm.MethodName)) ∈ lw_all := lw_g (lw_at lw_m4 47 rfl) rfl
theorem q845 : (Jvm.Cond.privateMethod ({ cls := "java/util/BitSet", name := "initWords", desc := "(I)V" } : Jvm.MethodName)) ∈ lw_tbl := lw_at lw_m4 48 rfl
theorem q846 : (Jvm.Cond.instanceMethod ({ cls := "java/util/BitSet", name := "initWords", desc := "(I)V" } : Jvm.MethodName)) ∈ lw_all := lw_g (lw_at lw_m4 49 rfl) rfl
theorem q847 : (Jvm.Cond.code ({ cls := "java/util/BitSet", name := "initWords", desc := "(I)V" } : Jvm.MethodName) prog_57_method_6_code (2 : Nat) (Option.none : Option Jvm.ClassFile.FieldType)) ∈ lw_all := lw_g (lw_at lw_m4 50 rfl) rfl
theorem q848 : (Jvm.Cond.methodLink "java/util/BitSet" (52 : Nat) ({ cls := "java/util/BitSet", name := "wordIndex", desc := "(I)I" } : Jvm.MethodName)) ∈ lw_all := lw_g (lw_at lw_m4 51 rfl) rfl
theorem q849 : (Jvm.Cond.static ({ cls := "java/util/BitSet", name := "wordIndex", desc := "(I)I" } : Jvm.MethodName)) ∈ lw_all := lw_g (lw_at lw_m4 52 rfl) rfl
theorem q850 : (Jvm.Cond.code ({ cls := "java/util/BitSet", name := "wordIndex", desc := "(I)I" } : Jvm.MethodName) prog_57_method_1_code (1 : Nat) (Option.some Jvm.ClassFile.FieldType.int)) ∈ lw_all := lw_g (lw_at lw_m4 53 rfl) rfl
theorem q851 : (Jvm.Cond.fieldLink "java/util/BitSet" (11 : Nat) "java/util/BitSet" "words" "[J") ∈ lw_all := lw_g (lw_at lw_m4 54 rfl) rfl
theorem q852 : (Jvm.Cond.fieldLink "java/util/BitSet" (7 : Nat) "java/util/BitSet" "wordsInUse" "I") ∈ lw_all := lw_g (lw_at lw_m4 55 rfl) rfl
theorem q853 : (Jvm.Cond.fieldLink "java/util/BitSet" (24 : Nat) "java/util/BitSet" "sizeIsSticky" "Z") ∈ lw_all := lw_g (lw_at lw_m4 56 rfl) rfl
theorem q854 : (Jvm.Cond.lays "java/util/BitSet" "java/util/BitSet" "words" "[J") ∈ lw_all := lw_g (lw_at lw_m4 57 rfl) rfl
theorem q855 : (Jvm.Cond.soleField "java/util/BitSet" "words") ∈ lw_all := lw_g (lw_at lw_m4 58 rfl) rfl
theorem q856 : (Jvm.Cond.lays "java/util/BitSet" "java/util/BitSet" "wordsInUse" "I") ∈ lw_all := lw_g (lw_at lw_m4 59 rfl) rfl
theorem q857 : (Jvm.Cond.soleField "java/util/BitSet" "wordsInUse") ∈ lw_all := lw_g (lw_at lw_m4 60 rfl) rfl
theorem q858 : (Jvm.Cond.lays "java/util/BitSet" "java/util/BitSet" "sizeIsSticky" "Z") ∈ lw_all := lw_g (lw_at lw_m4 61 rfl) rfl
theorem q859 : (Jvm.Cond.soleField "java/util/BitSet" "sizeIsSticky") ∈ lw_all := lw_g (lw_at lw_m4 62 rfl) rfl
theorem q860 : (Jvm.Cond.superclass "java/util/BitSet" "java/lang/Object") ∈ lw_all := lw_g (lw_at lw_m4 63 rfl) rfl
theorem q863 : (Jvm.Cond.instanceMethod ({ cls := "java/util/BitSet", name := "set", desc := "(I)V" } : Jvm.MethodName)) ∈ lw_all := lw_g (lw_at lw_m4 66 rfl) rfl
theorem q864 : (Jvm.Cond.selects "java/util/BitSet" ({ cls := "java/util/BitSet", name := "set", desc := "(I)V" } : Jvm.MethodName) ({ cls := "java/util/BitSet", name := "set", desc := "(I)V" } : Jvm.MethodName)) ∈ lw_all := lw_g (lw_at lw_m4 67 rfl) rfl
theorem q865 : (Jvm.Cond.code ({ cls := "java/util/BitSet", name := "set", desc := "(I)V" } : Jvm.MethodName) prog_57_method_19_code (3 : Nat) (Option.none : Option Jvm.ClassFile.FieldType)) ∈ lw_all := lw_g (lw_at lw_m4 68 rfl) rfl
theorem q866 : (Jvm.Cond.methodLink "java/util/BitSet" (155 : Nat) ({ cls := "java/util/BitSet", name := "expandTo", desc := "(I)V" } : Jvm.MethodName)) ∈ lw_all := lw_g (lw_at lw_m4 69 rfl) rfl
theorem q867 : (Jvm.Cond.privateMethod ({ cls := "java/util/BitSet", name := "expandTo", desc := "(I)V" } : Jvm.MethodName)) ∈ lw_tbl := lw_at lw_m4 70 rfl
theorem q868 : (Jvm.Cond.instanceMethod ({ cls := "java/util/BitSet", name := "expandTo", desc := "(I)V" } : Jvm.MethodName)) ∈ lw_all := lw_g (lw_at lw_m4 71 rfl) rfl
theorem q869 : (Jvm.Cond.code ({ cls := "java/util/BitSet", name := "expandTo", desc := "(I)V" } : Jvm.MethodName) prog_57_method_15_code (3 : Nat) (Option.none : Option Jvm.ClassFile.FieldType)) ∈ lw_all := lw_g (lw_at lw_m4 72 rfl) rfl
theorem q870 : (Jvm.Cond.methodLink "java/util/BitSet" (139 : Nat) ({ cls := "java/util/BitSet", name := "ensureCapacity", desc := "(I)V" } : Jvm.MethodName)) ∈ lw_all := lw_g (lw_at lw_m4 73 rfl) rfl
theorem q871 : (Jvm.Cond.privateMethod ({ cls := "java/util/BitSet", name := "ensureCapacity", desc := "(I)V" } : Jvm.MethodName)) ∈ lw_tbl := lw_at lw_m4 74 rfl
theorem q872 : (Jvm.Cond.instanceMethod ({ cls := "java/util/BitSet", name := "ensureCapacity", desc := "(I)V" } : Jvm.MethodName)) ∈ lw_all := lw_g (lw_at lw_m4 75 rfl) rfl
theorem q873 : (Jvm.Cond.code ({ cls := "java/util/BitSet", name := "ensureCapacity", desc := "(I)V" } : Jvm.MethodName) prog_57_method_14_code (3 : Nat) (Option.none : Option Jvm.ClassFile.FieldType)) ∈ lw_all := lw_g (lw_at lw_m4 76 rfl) rfl
theorem q874 : (Jvm.Cond.methodLink "java/util/BitSet" (133 : Nat) ({ cls := "java/lang/Math", name := "max", desc := "(II)I" } : Jvm.MethodName)) ∈ lw_all := lw_g (lw_at lw_m4 77 rfl) rfl
theorem q875 : (Jvm.Cond.methodLink "java/util/BitSet" (59 : Nat) ({ cls := "java/util/Arrays", name := "copyOf", desc := "([JI)[J" } : Jvm.MethodName)) ∈ lw_all := lw_g (lw_at lw_m4 78 rfl) rfl
theorem q885 : (Jvm.Cond.methodLink "java/util/BitSet" (56 : Nat) ({ cls := "java/util/BitSet", name := "checkInvariants", desc := "()V" } : Jvm.MethodName)) ∈ lw_all := lw_g (lw_at lw_m4 88 rfl) rfl
theorem q886 : (Jvm.Cond.privateMethod ({ cls := "java/util/BitSet", name := "checkInvariants", desc := "()V" } : Jvm.MethodName)) ∈ lw_tbl := lw_at lw_m4 89 rfl
theorem q887 : (Jvm.Cond.instanceMethod ({ cls := "java/util/BitSet", name := "checkInvariants", desc := "()V" } : Jvm.MethodName)) ∈ lw_all := lw_g (lw_at lw_m4 90 rfl) rfl
theorem q888 : (Jvm.Cond.code ({ cls := "java/util/BitSet", name := "checkInvariants", desc := "()V" } : Jvm.MethodName) prog_57_method_2_code (1 : Nat) (Option.none : Option Jvm.ClassFile.FieldType)) ∈ lw_all := lw_g (lw_at lw_m4 91 rfl) rfl
theorem q889 : (Jvm.Cond.fieldLink "java/util/BitSet" (3 : Nat) "java/util/BitSet" "$assertionsDisabled" "Z") ∈ lw_all := lw_g (lw_at lw_m4 92 rfl) rfl
theorem q890 : (Jvm.Cond.laysStatic "java/util/BitSet" "$assertionsDisabled" "Z") ∈ lw_tbl := lw_at lw_m4 93 rfl
theorem q899 : (Jvm.Cond.instanceMethod ({ cls := "java/util/BitSet", name := "get", desc := "(I)Z" } : Jvm.MethodName)) ∈ lw_all := lw_g (lw_at lw_m4 102 rfl) rfl
theorem q900 : (Jvm.Cond.selects "java/util/BitSet" ({ cls := "java/util/BitSet", name := "get", desc := "(I)Z" } : Jvm.MethodName) ({ cls := "java/util/BitSet", name := "get", desc := "(I)Z" } : Jvm.MethodName)) ∈ lw_all := lw_g (lw_at lw_m4 103 rfl) rfl
theorem q901 : (Jvm.Cond.code ({ cls := "java/util/BitSet", name := "get", desc := "(I)Z" } : Jvm.MethodName) prog_57_method_26_code (3 : Nat) (Option.some Jvm.ClassFile.FieldType.boolean)) ∈ lw_all := lw_g (lw_at lw_m4 104 rfl) rfl
theorem q1492 : (Jvm.Cond.instanceMethod ({ cls := "java/util/BitSet", name := "nextSetBit", desc := "(I)I" } : Jvm.MethodName)) ∈ lw_all := lw_g (lw_at lw_m6 215 rfl) rfl
theorem q1493 : (Jvm.Cond.selects "java/util/BitSet" ({ cls := "java/util/BitSet", name := "nextSetBit", desc := "(I)I" } : Jvm.MethodName) ({ cls := "java/util/BitSet", name := "nextSetBit", desc := "(I)I" } : Jvm.MethodName)) ∈ lw_all := lw_g (lw_at lw_m6 216 rfl) rfl
theorem q1494 : (Jvm.Cond.code ({ cls := "java/util/BitSet", name := "nextSetBit", desc := "(I)I" } : Jvm.MethodName) prog_57_method_28_code (5 : Nat) (Option.some Jvm.ClassFile.FieldType.int)) ∈ lw_all := lw_g (lw_at lw_m6 217 rfl) rfl
theorem q1495 : (Jvm.Cond.constantLong "java/util/BitSet" (165 : Nat) (-1 : Int64)) ∈ lw_all := lw_g (lw_at lw_m6 218 rfl) rfl
theorem q1496 : (Jvm.Cond.methodLink "java/util/BitSet" (182 : Nat) ({ cls := "java/lang/Long", name := "numberOfTrailingZeros", desc := "(J)I" } : Jvm.MethodName)) ∈ lw_all := lw_g (lw_at lw_m6 219 rfl) rfl
theorem q2766 : (Jvm.Cond.castable "java/util/BitSet" "java/lang/Object") ∈ lw_tbl := lw_at lw_m12 49 rfl
theorem in_J19 : ∀ w ∈ wsJ190, w ∈ lw_all := lw_in wsJ190 [854, 856, 858] (by decide +kernel) (by decide +kernel)
/-! java/util/AbstractQueue -/
set_option maxRecDepth 100000
def RJ20 : String := "java/util/AbstractQueue"
abbrev cJ20_init : ByteArray := prog_51_method_1_code
def yJ20_init : MethodName := ⟨RJ20, "<init>", "()V"⟩
theorem dJ20_init_0 : decode cJ20_init 0 = .ok (.aload_n 0, 1) := by decide +kernel
theorem dJ20_init_1 : decode cJ20_init 1 = .ok (.invokespecial 1, 3) := by decide +kernel
theorem dJ20_init_4 : decode cJ20_init 4 = .ok (.return_, 1) := by decide +kernel
theorem q109 : (Jvm.Cond.initialized "java/util/AbstractQueue") ∈ lw_all := lw_g (lw_at lw_m1 32 rfl) rfl
theorem q1115 : (Jvm.Cond.instanceMethod ({ cls := "java/util/AbstractQueue", name := "<init>", desc := "()V" } : Jvm.MethodName)) ∈ lw_all := lw_g (lw_at lw_m5 78 rfl) rfl
theorem q1116 : (Jvm.Cond.code ({ cls := "java/util/AbstractQueue", name := "<init>", desc := "()V" } : Jvm.MethodName) prog_51_method_1_code (1 : Nat) (Option.none : Option Jvm.ClassFile.FieldType)) ∈ lw_all := lw_g (lw_at lw_m5 79 rfl) rfl
theorem q1117 : (Jvm.Cond.methodLink "java/util/AbstractQueue" (1 : Nat) ({ cls := "java/util/AbstractCollection", name := "<init>", desc := "()V" } : Jvm.MethodName)) ∈ lw_all := lw_g (lw_at lw_m5 80 rfl) rfl
/-! java/util/PriorityQueue -/
set_option maxRecDepth 100000
def RJ21 : String := "java/util/PriorityQueue"
def TJ21 : u_T := fun k => match k with
  | 0 => ("java/util/PriorityQueue", "queue", "[Ljava/lang/Object;", false)
  | 1 => ("java/util/PriorityQueue", "size", "I", false)
  | 2 => ("java/util/PriorityQueue", "comparator", "Ljava/util/Comparator;", true)
  | _ => ("java/util/PriorityQueue", "modCount", "I", false)
def tyJ21 : Nat → FieldType := fun k => match k with
  | 0 => .array (.object "java/lang/Object")
  | 1 => .int
  | 2 => .object "java/util/Comparator"
  | _ => .int
abbrev wsJ210 : List Cond := u_ws RJ21 TJ21 4
theorem nmJ21 : ∀ a, a < 4 → ∀ b, b < 4 → a ≠ b → (TJ21 a).2.1 ≠ (TJ21 b).2.1 := by decide +kernel
theorem tyJ21_ok : ∀ k, k < 4 → parseFieldDescriptor (TJ21 k).2.2.1 = some (tyJ21 k) := by decide +kernel
abbrev cJ21_init : ByteArray := prog_67_method_4_code
def yJ21_init : MethodName := ⟨RJ21, "<init>", "(ILjava/util/Comparator;)V"⟩
def dkwJ21_init_1 : List UInt8 := [181, 0, 17, 42, 44, 181, 0, 21, 177]
abbrev dktJ21_init_1 : List UInt8 := dkwJ21_init_1 ++ []
def dkwJ21_init_0 : List UInt8 := [42, 183, 0, 7, 27, 4, 162, 0, 11, 187, 0, 12, 89, 183, 0, 14, 191, 42, 27, 189, 0, 15]
abbrev dktJ21_init_0 : List UInt8 := dkwJ21_init_0 ++ dktJ21_init_1
theorem dksJ21_init_0 : cJ21_init.data.toList.drop 0 = dktJ21_init_0 := by decide +kernel
theorem dksJ21_init_1 : cJ21_init.data.toList.drop 22 = dktJ21_init_1 := dk_seg dksJ21_init_0 22 rfl rfl
theorem dJ21_init_0 : decode cJ21_init 0 = .ok (.aload_n 0, 1) := dk_42 (dk_at dksJ21_init_0 0 rfl rfl)
theorem dJ21_init_1 : decode cJ21_init 1 = .ok (.invokespecial 7, 3) := dk_183 0 7 (dk_at dksJ21_init_0 1 rfl rfl)
theorem dJ21_init_4 : decode cJ21_init 4 = .ok (.iload_n 1, 1) := dk_27 (dk_at dksJ21_init_0 4 rfl rfl)
theorem dJ21_init_5 : decode cJ21_init 5 = .ok (.iconst 1, 1) := dk_4 (dk_at dksJ21_init_0 5 rfl rfl)
theorem dJ21_init_6 : decode cJ21_init 6 = .ok (.if_icmp .ge 11, 3) := dk_162 0 11 (dk_at dksJ21_init_0 6 rfl rfl)
theorem dJ21_init_9 : decode cJ21_init 9 = .ok (.new 12, 3) := dk_187 0 12 (dk_at dksJ21_init_0 9 rfl rfl)
theorem dJ21_init_12 : decode cJ21_init 12 = .ok (.dup, 1) := dk_89 (dk_at dksJ21_init_0 12 rfl rfl)
theorem dJ21_init_13 : decode cJ21_init 13 = .ok (.invokespecial 14, 3) := dk_183 0 14 (dk_at dksJ21_init_0 13 rfl rfl)
theorem dJ21_init_16 : decode cJ21_init 16 = .ok (.athrow, 1) := dk_191 (dk_at dksJ21_init_0 16 rfl rfl)
theorem dJ21_init_17 : decode cJ21_init 17 = .ok (.aload_n 0, 1) := dk_42 (dk_at dksJ21_init_0 17 rfl rfl)
theorem dJ21_init_18 : decode cJ21_init 18 = .ok (.iload_n 1, 1) := dk_27 (dk_at dksJ21_init_0 18 rfl rfl)
theorem dJ21_init_19 : decode cJ21_init 19 = .ok (.anewarray 15, 3) := dk_189 0 15 (dk_at dksJ21_init_0 19 rfl rfl)
theorem dJ21_init_22 : decode cJ21_init 22 = .ok (.putfield 17, 3) := dk_181 0 17 (dk_at dksJ21_init_1 0 rfl rfl)
theorem dJ21_init_25 : decode cJ21_init 25 = .ok (.aload_n 0, 1) := dk_42 (dk_at dksJ21_init_1 3 rfl rfl)
theorem dJ21_init_26 : decode cJ21_init 26 = .ok (.aload_n 2, 1) := dk_44 (dk_at dksJ21_init_1 4 rfl rfl)
theorem dJ21_init_27 : decode cJ21_init 27 = .ok (.putfield 21, 3) := dk_181 0 21 (dk_at dksJ21_init_1 5 rfl rfl)
theorem dJ21_init_30 : decode cJ21_init 30 = .ok (.return_, 1) := dk_177 (dk_at dksJ21_init_1 8 rfl rfl)
abbrev cJ21_add : ByteArray := prog_67_method_13_code
def yJ21_add : MethodName := ⟨RJ21, "add", "(Ljava/lang/Object;)Z"⟩
def dkwJ21_add_0 : List UInt8 := [42, 43, 182, 0, 89, 172]
abbrev dktJ21_add_0 : List UInt8 := dkwJ21_add_0 ++ []
theorem dksJ21_add_0 : cJ21_add.data.toList.drop 0 = dktJ21_add_0 := by decide +kernel
theorem dJ21_add_0 : decode cJ21_add 0 = .ok (.aload_n 0, 1) := dk_42 (dk_at dksJ21_add_0 0 rfl rfl)
theorem dJ21_add_1 : decode cJ21_add 1 = .ok (.aload_n 1, 1) := dk_43 (dk_at dksJ21_add_0 1 rfl rfl)
theorem dJ21_add_2 : decode cJ21_add 2 = .ok (.invokevirtual 89, 3) := dk_182 0 89 (dk_at dksJ21_add_0 2 rfl rfl)
theorem dJ21_add_5 : decode cJ21_add 5 = .ok (.ireturn, 1) := dk_172 (dk_at dksJ21_add_0 5 rfl rfl)
abbrev cJ21_offer : ByteArray := prog_67_method_14_code
def yJ21_offer : MethodName := ⟨RJ21, "offer", "(Ljava/lang/Object;)Z"⟩
def dkwJ21_offer_2 : List UInt8 := [182, 0, 100, 42, 28, 4, 96, 181, 0, 58, 4, 172]
abbrev dktJ21_offer_2 : List UInt8 := dkwJ21_offer_2 ++ []
def dkwJ21_offer_1 : List UInt8 := [180, 0, 58, 61, 28, 42, 180, 0, 17, 190, 161, 0, 10, 42, 28, 4, 96, 182, 0, 96, 42, 28, 43]
abbrev dktJ21_offer_1 : List UInt8 := dkwJ21_offer_1 ++ dktJ21_offer_2
def dkwJ21_offer_0 : List UInt8 := [43, 199, 0, 11, 187, 0, 74, 89, 183, 0, 76, 191, 42, 89, 180, 0, 93, 4, 96, 181, 0, 93, 42]
abbrev dktJ21_offer_0 : List UInt8 := dkwJ21_offer_0 ++ dktJ21_offer_1
theorem dksJ21_offer_0 : cJ21_offer.data.toList.drop 0 = dktJ21_offer_0 := by decide +kernel
theorem dksJ21_offer_1 : cJ21_offer.data.toList.drop 23 = dktJ21_offer_1 := dk_seg dksJ21_offer_0 23 rfl rfl
theorem dksJ21_offer_2 : cJ21_offer.data.toList.drop 46 = dktJ21_offer_2 := dk_seg dksJ21_offer_1 23 rfl rfl
theorem dJ21_offer_0 : decode cJ21_offer 0 = .ok (.aload_n 1, 1) := dk_43 (dk_at dksJ21_offer_0 0 rfl rfl)
theorem dJ21_offer_1 : decode cJ21_offer 1 = .ok (.ifnonnull 11, 3) := dk_199 0 11 (dk_at dksJ21_offer_0 1 rfl rfl)
theorem dJ21_offer_4 : decode cJ21_offer 4 = .ok (.new 74, 3) := dk_187 0 74 (dk_at dksJ21_offer_0 4 rfl rfl)
theorem dJ21_offer_7 : decode cJ21_offer 7 = .ok (.dup, 1) := dk_89 (dk_at dksJ21_offer_0 7 rfl rfl)
theorem dJ21_offer_8 : decode cJ21_offer 8 = .ok (.invokespecial 76, 3) := dk_183 0 76 (dk_at dksJ21_offer_0 8 rfl rfl)
theorem dJ21_offer_11 : decode cJ21_offer 11 = .ok (.athrow, 1) := dk_191 (dk_at dksJ21_offer_0 11 rfl rfl)
theorem dJ21_offer_12 : decode cJ21_offer 12 = .ok (.aload_n 0, 1) := dk_42 (dk_at dksJ21_offer_0 12 rfl rfl)
theorem dJ21_offer_13 : decode cJ21_offer 13 = .ok (.dup, 1) := dk_89 (dk_at dksJ21_offer_0 13 rfl rfl)
theorem dJ21_offer_14 : decode cJ21_offer 14 = .ok (.getfield 93, 3) := dk_180 0 93 (dk_at dksJ21_offer_0 14 rfl rfl)
theorem dJ21_offer_17 : decode cJ21_offer 17 = .ok (.iconst 1, 1) := dk_4 (dk_at dksJ21_offer_0 17 rfl rfl)
theorem dJ21_offer_18 : decode cJ21_offer 18 = .ok (.iadd, 1) := dk_96 (dk_at dksJ21_offer_0 18 rfl rfl)
theorem dJ21_offer_19 : decode cJ21_offer 19 = .ok (.putfield 93, 3) := dk_181 0 93 (dk_at dksJ21_offer_0 19 rfl rfl)
theorem dJ21_offer_22 : decode cJ21_offer 22 = .ok (.aload_n 0, 1) := dk_42 (dk_at dksJ21_offer_0 22 rfl rfl)
theorem dJ21_offer_23 : decode cJ21_offer 23 = .ok (.getfield 58, 3) := dk_180 0 58 (dk_at dksJ21_offer_1 0 rfl rfl)
theorem dJ21_offer_26 : decode cJ21_offer 26 = .ok (.istore_n 2, 1) := dk_61 (dk_at dksJ21_offer_1 3 rfl rfl)
theorem dJ21_offer_27 : decode cJ21_offer 27 = .ok (.iload_n 2, 1) := dk_28 (dk_at dksJ21_offer_1 4 rfl rfl)
theorem dJ21_offer_28 : decode cJ21_offer 28 = .ok (.aload_n 0, 1) := dk_42 (dk_at dksJ21_offer_1 5 rfl rfl)
theorem dJ21_offer_29 : decode cJ21_offer 29 = .ok (.getfield 17, 3) := dk_180 0 17 (dk_at dksJ21_offer_1 6 rfl rfl)
theorem dJ21_offer_32 : decode cJ21_offer 32 = .ok (.arraylength, 1) := dk_190 (dk_at dksJ21_offer_1 9 rfl rfl)
theorem dJ21_offer_33 : decode cJ21_offer 33 = .ok (.if_icmp .lt 10, 3) := dk_161 0 10 (dk_at dksJ21_offer_1 10 rfl rfl)
theorem dJ21_offer_36 : decode cJ21_offer 36 = .ok (.aload_n 0, 1) := dk_42 (dk_at dksJ21_offer_1 13 rfl rfl)
theorem dJ21_offer_37 : decode cJ21_offer 37 = .ok (.iload_n 2, 1) := dk_28 (dk_at dksJ21_offer_1 14 rfl rfl)
theorem dJ21_offer_38 : decode cJ21_offer 38 = .ok (.iconst 1, 1) := dk_4 (dk_at dksJ21_offer_1 15 rfl rfl)
theorem dJ21_offer_39 : decode cJ21_offer 39 = .ok (.iadd, 1) := dk_96 (dk_at dksJ21_offer_1 16 rfl rfl)
theorem dJ21_offer_40 : decode cJ21_offer 40 = .ok (.invokevirtual 96, 3) := dk_182 0 96 (dk_at dksJ21_offer_1 17 rfl rfl)
theorem dJ21_offer_43 : decode cJ21_offer 43 = .ok (.aload_n 0, 1) := dk_42 (dk_at dksJ21_offer_1 20 rfl rfl)
theorem dJ21_offer_44 : decode cJ21_offer 44 = .ok (.iload_n 2, 1) := dk_28 (dk_at dksJ21_offer_1 21 rfl rfl)
theorem dJ21_offer_45 : decode cJ21_offer 45 = .ok (.aload_n 1, 1) := dk_43 (dk_at dksJ21_offer_1 22 rfl rfl)
theorem dJ21_offer_46 : decode cJ21_offer 46 = .ok (.invokevirtual 100, 3) := dk_182 0 100 (dk_at dksJ21_offer_2 0 rfl rfl)
theorem dJ21_offer_49 : decode cJ21_offer 49 = .ok (.aload_n 0, 1) := dk_42 (dk_at dksJ21_offer_2 3 rfl rfl)
theorem dJ21_offer_50 : decode cJ21_offer 50 = .ok (.iload_n 2, 1) := dk_28 (dk_at dksJ21_offer_2 4 rfl rfl)
theorem dJ21_offer_51 : decode cJ21_offer 51 = .ok (.iconst 1, 1) := dk_4 (dk_at dksJ21_offer_2 5 rfl rfl)
theorem dJ21_offer_52 : decode cJ21_offer 52 = .ok (.iadd, 1) := dk_96 (dk_at dksJ21_offer_2 6 rfl rfl)
theorem dJ21_offer_53 : decode cJ21_offer 53 = .ok (.putfield 58, 3) := dk_181 0 58 (dk_at dksJ21_offer_2 7 rfl rfl)
theorem dJ21_offer_56 : decode cJ21_offer 56 = .ok (.iconst 1, 1) := dk_4 (dk_at dksJ21_offer_2 10 rfl rfl)
theorem dJ21_offer_57 : decode cJ21_offer 57 = .ok (.ireturn, 1) := dk_172 (dk_at dksJ21_offer_2 11 rfl rfl)
abbrev cJ21_grow : ByteArray := prog_67_method_12_code
def yJ21_grow : MethodName := ⟨RJ21, "grow", "(I)V"⟩
def dkwJ21_grow_1 : List UInt8 := [122, 184, 0, 80, 62, 42, 42, 180, 0, 17, 29, 184, 0, 86, 181, 0, 17, 177]
abbrev dktJ21_grow_1 : List UInt8 := dkwJ21_grow_1 ++ []
def dkwJ21_grow_0 : List UInt8 := [42, 180, 0, 17, 190, 61, 28, 27, 28, 100, 28, 16, 64, 162, 0, 9, 28, 5, 96, 167, 0, 6, 28, 4]
abbrev dktJ21_grow_0 : List UInt8 := dkwJ21_grow_0 ++ dktJ21_grow_1
theorem dksJ21_grow_0 : cJ21_grow.data.toList.drop 0 = dktJ21_grow_0 := by decide +kernel
theorem dksJ21_grow_1 : cJ21_grow.data.toList.drop 24 = dktJ21_grow_1 := dk_seg dksJ21_grow_0 24 rfl rfl
theorem dJ21_grow_0 : decode cJ21_grow 0 = .ok (.aload_n 0, 1) := dk_42 (dk_at dksJ21_grow_0 0 rfl rfl)
theorem dJ21_grow_1 : decode cJ21_grow 1 = .ok (.getfield 17, 3) := dk_180 0 17 (dk_at dksJ21_grow_0 1 rfl rfl)
theorem dJ21_grow_4 : decode cJ21_grow 4 = .ok (.arraylength, 1) := dk_190 (dk_at dksJ21_grow_0 4 rfl rfl)
theorem dJ21_grow_5 : decode cJ21_grow 5 = .ok (.istore_n 2, 1) := dk_61 (dk_at dksJ21_grow_0 5 rfl rfl)
theorem dJ21_grow_6 : decode cJ21_grow 6 = .ok (.iload_n 2, 1) := dk_28 (dk_at dksJ21_grow_0 6 rfl rfl)
theorem dJ21_grow_7 : decode cJ21_grow 7 = .ok (.iload_n 1, 1) := dk_27 (dk_at dksJ21_grow_0 7 rfl rfl)
theorem dJ21_grow_8 : decode cJ21_grow 8 = .ok (.iload_n 2, 1) := dk_28 (dk_at dksJ21_grow_0 8 rfl rfl)
theorem dJ21_grow_9 : decode cJ21_grow 9 = .ok (.isub, 1) := dk_100 (dk_at dksJ21_grow_0 9 rfl rfl)
theorem dJ21_grow_10 : decode cJ21_grow 10 = .ok (.iload_n 2, 1) := dk_28 (dk_at dksJ21_grow_0 10 rfl rfl)
theorem dJ21_grow_11 : decode cJ21_grow 11 = .ok (.bipush 64, 2) := dk_16 64 (dk_at dksJ21_grow_0 11 rfl rfl)
theorem dJ21_grow_13 : decode cJ21_grow 13 = .ok (.if_icmp .ge 9, 3) := dk_162 0 9 (dk_at dksJ21_grow_0 13 rfl rfl)
theorem dJ21_grow_16 : decode cJ21_grow 16 = .ok (.iload_n 2, 1) := dk_28 (dk_at dksJ21_grow_0 16 rfl rfl)
theorem dJ21_grow_17 : decode cJ21_grow 17 = .ok (.iconst 2, 1) := dk_5 (dk_at dksJ21_grow_0 17 rfl rfl)
theorem dJ21_grow_18 : decode cJ21_grow 18 = .ok (.iadd, 1) := dk_96 (dk_at dksJ21_grow_0 18 rfl rfl)
theorem dJ21_grow_19 : decode cJ21_grow 19 = .ok (.goto 6, 3) := dk_167 0 6 (dk_at dksJ21_grow_0 19 rfl rfl)
theorem dJ21_grow_22 : decode cJ21_grow 22 = .ok (.iload_n 2, 1) := dk_28 (dk_at dksJ21_grow_0 22 rfl rfl)
theorem dJ21_grow_23 : decode cJ21_grow 23 = .ok (.iconst 1, 1) := dk_4 (dk_at dksJ21_grow_0 23 rfl rfl)
theorem dJ21_grow_24 : decode cJ21_grow 24 = .ok (.ishr, 1) := dk_122 (dk_at dksJ21_grow_1 0 rfl rfl)
theorem dJ21_grow_25 : decode cJ21_grow 25 = .ok (.invokestatic 80, 3) := dk_184 0 80 (dk_at dksJ21_grow_1 1 rfl rfl)
theorem dJ21_grow_28 : decode cJ21_grow 28 = .ok (.istore_n 3, 1) := dk_62 (dk_at dksJ21_grow_1 4 rfl rfl)
theorem dJ21_grow_29 : decode cJ21_grow 29 = .ok (.aload_n 0, 1) := dk_42 (dk_at dksJ21_grow_1 5 rfl rfl)
theorem dJ21_grow_30 : decode cJ21_grow 30 = .ok (.aload_n 0, 1) := dk_42 (dk_at dksJ21_grow_1 6 rfl rfl)
theorem dJ21_grow_31 : decode cJ21_grow 31 = .ok (.getfield 17, 3) := dk_180 0 17 (dk_at dksJ21_grow_1 7 rfl rfl)
theorem dJ21_grow_34 : decode cJ21_grow 34 = .ok (.iload_n 3, 1) := dk_29 (dk_at dksJ21_grow_1 10 rfl rfl)
theorem dJ21_grow_35 : decode cJ21_grow 35 = .ok (.invokestatic 86, 3) := dk_184 0 86 (dk_at dksJ21_grow_1 11 rfl rfl)
theorem dJ21_grow_38 : decode cJ21_grow 38 = .ok (.putfield 17, 3) := dk_181 0 17 (dk_at dksJ21_grow_1 14 rfl rfl)
theorem dJ21_grow_41 : decode cJ21_grow 41 = .ok (.return_, 1) := dk_177 (dk_at dksJ21_grow_1 17 rfl rfl)
abbrev cJ21_siftUp : ByteArray := prog_67_method_27_code
def yJ21_siftUp : MethodName := ⟨RJ21, "siftUp", "(ILjava/lang/Object;)V"⟩
def dkwJ21_siftUp_1 : List UInt8 := [44, 42, 180, 0, 17, 184, 0, 140, 177]
abbrev dktJ21_siftUp_1 : List UInt8 := dkwJ21_siftUp_1 ++ []
def dkwJ21_siftUp_0 : List UInt8 := [42, 180, 0, 21, 198, 0, 19, 27, 44, 42, 180, 0, 17, 42, 180, 0, 21, 184, 0, 136, 167, 0, 12, 27]
abbrev dktJ21_siftUp_0 : List UInt8 := dkwJ21_siftUp_0 ++ dktJ21_siftUp_1
theorem dksJ21_siftUp_0 : cJ21_siftUp.data.toList.drop 0 = dktJ21_siftUp_0 := by decide +kernel
theorem dksJ21_siftUp_1 : cJ21_siftUp.data.toList.drop 24 = dktJ21_siftUp_1 := dk_seg dksJ21_siftUp_0 24 rfl rfl
theorem dJ21_siftUp_0 : decode cJ21_siftUp 0 = .ok (.aload_n 0, 1) := dk_42 (dk_at dksJ21_siftUp_0 0 rfl rfl)
theorem dJ21_siftUp_1 : decode cJ21_siftUp 1 = .ok (.getfield 21, 3) := dk_180 0 21 (dk_at dksJ21_siftUp_0 1 rfl rfl)
theorem dJ21_siftUp_4 : decode cJ21_siftUp 4 = .ok (.ifnull 19, 3) := dk_198 0 19 (dk_at dksJ21_siftUp_0 4 rfl rfl)
theorem dJ21_siftUp_7 : decode cJ21_siftUp 7 = .ok (.iload_n 1, 1) := dk_27 (dk_at dksJ21_siftUp_0 7 rfl rfl)
theorem dJ21_siftUp_8 : decode cJ21_siftUp 8 = .ok (.aload_n 2, 1) := dk_44 (dk_at dksJ21_siftUp_0 8 rfl rfl)
theorem dJ21_siftUp_9 : decode cJ21_siftUp 9 = .ok (.aload_n 0, 1) := dk_42 (dk_at dksJ21_siftUp_0 9 rfl rfl)
theorem dJ21_siftUp_10 : decode cJ21_siftUp 10 = .ok (.getfield 17, 3) := dk_180 0 17 (dk_at dksJ21_siftUp_0 10 rfl rfl)
theorem dJ21_siftUp_13 : decode cJ21_siftUp 13 = .ok (.aload_n 0, 1) := dk_42 (dk_at dksJ21_siftUp_0 13 rfl rfl)
theorem dJ21_siftUp_14 : decode cJ21_siftUp 14 = .ok (.getfield 21, 3) := dk_180 0 21 (dk_at dksJ21_siftUp_0 14 rfl rfl)
theorem dJ21_siftUp_17 : decode cJ21_siftUp 17 = .ok (.invokestatic 136, 3) := dk_184 0 136 (dk_at dksJ21_siftUp_0 17 rfl rfl)
theorem dJ21_siftUp_20 : decode cJ21_siftUp 20 = .ok (.goto 12, 3) := dk_167 0 12 (dk_at dksJ21_siftUp_0 20 rfl rfl)
theorem dJ21_siftUp_23 : decode cJ21_siftUp 23 = .ok (.iload_n 1, 1) := dk_27 (dk_at dksJ21_siftUp_0 23 rfl rfl)
theorem dJ21_siftUp_24 : decode cJ21_siftUp 24 = .ok (.aload_n 2, 1) := dk_44 (dk_at dksJ21_siftUp_1 0 rfl rfl)
theorem dJ21_siftUp_25 : decode cJ21_siftUp 25 = .ok (.aload_n 0, 1) := dk_42 (dk_at dksJ21_siftUp_1 1 rfl rfl)
theorem dJ21_siftUp_26 : decode cJ21_siftUp 26 = .ok (.getfield 17, 3) := dk_180 0 17 (dk_at dksJ21_siftUp_1 2 rfl rfl)
theorem dJ21_siftUp_29 : decode cJ21_siftUp 29 = .ok (.invokestatic 140, 3) := dk_184 0 140 (dk_at dksJ21_siftUp_1 5 rfl rfl)
theorem dJ21_siftUp_32 : decode cJ21_siftUp 32 = .ok (.return_, 1) := dk_177 (dk_at dksJ21_siftUp_1 8 rfl rfl)
abbrev cJ21_siftUpUsingComparator : ByteArray := prog_67_method_29_code
def yJ21_siftUpUsingComparator : MethodName := ⟨RJ21, "siftUpUsingComparator", "(ILjava/lang/Object;[Ljava/lang/Object;Ljava/util/Comparator;)V"⟩
def dkwJ21_siftUpUsingComparator_2 : List UInt8 := [43, 83, 177]
abbrev dktJ21_siftUpUsingComparator_2 : List UInt8 := dkwJ21_siftUpUsingComparator_2 ++ []
def dkwJ21_siftUpUsingComparator_1 : List UInt8 := [185, 0, 149, 3, 0, 155, 0, 6, 167, 0, 14, 44, 26, 25, 5, 83, 21, 4, 59, 167, 255, 216, 44, 26]
abbrev dktJ21_siftUpUsingComparator_1 : List UInt8 := dkwJ21_siftUpUsingComparator_1 ++ dktJ21_siftUpUsingComparator_2
def dkwJ21_siftUpUsingComparator_0 : List UInt8 := [26, 158, 0, 42, 26, 4, 100, 4, 124, 54, 4, 44, 21, 4, 50, 58, 5, 45, 43, 25, 5]
abbrev dktJ21_siftUpUsingComparator_0 : List UInt8 := dkwJ21_siftUpUsingComparator_0 ++ dktJ21_siftUpUsingComparator_1
theorem dksJ21_siftUpUsingComparator_0 : cJ21_siftUpUsingComparator.data.toList.drop 0 = dktJ21_siftUpUsingComparator_0 := by decide +kernel
theorem dksJ21_siftUpUsingComparator_1 : cJ21_siftUpUsingComparator.data.toList.drop 21 = dktJ21_siftUpUsingComparator_1 := dk_seg dksJ21_siftUpUsingComparator_0 21 rfl rfl
theorem dksJ21_siftUpUsingComparator_2 : cJ21_siftUpUsingComparator.data.toList.drop 45 = dktJ21_siftUpUsingComparator_2 := dk_seg dksJ21_siftUpUsingComparator_1 24 rfl rfl
theorem dJ21_siftUpUsingComparator_0 : decode cJ21_siftUpUsingComparator 0 = .ok (.iload_n 0, 1) := dk_26 (dk_at dksJ21_siftUpUsingComparator_0 0 rfl rfl)
theorem dJ21_siftUpUsingComparator_1 : decode cJ21_siftUpUsingComparator 1 = .ok (.ifCond .le 42, 3) := dk_158 0 42 (dk_at dksJ21_siftUpUsingComparator_0 1 rfl rfl)
theorem dJ21_siftUpUsingComparator_4 : decode cJ21_siftUpUsingComparator 4 = .ok (.iload_n 0, 1) := dk_26 (dk_at dksJ21_siftUpUsingComparator_0 4 rfl rfl)
theorem dJ21_siftUpUsingComparator_5 : decode cJ21_siftUpUsingComparator 5 = .ok (.iconst 1, 1) := dk_4 (dk_at dksJ21_siftUpUsingComparator_0 5 rfl rfl)
theorem dJ21_siftUpUsingComparator_6 : decode cJ21_siftUpUsingComparator 6 = .ok (.isub, 1) := dk_100 (dk_at dksJ21_siftUpUsingComparator_0 6 rfl rfl)
theorem dJ21_siftUpUsingComparator_7 : decode cJ21_siftUpUsingComparator 7 = .ok (.iconst 1, 1) := dk_4 (dk_at dksJ21_siftUpUsingComparator_0 7 rfl rfl)
theorem dJ21_siftUpUsingComparator_8 : decode cJ21_siftUpUsingComparator 8 = .ok (.iushr, 1) := dk_124 (dk_at dksJ21_siftUpUsingComparator_0 8 rfl rfl)
theorem dJ21_siftUpUsingComparator_9 : decode cJ21_siftUpUsingComparator 9 = .ok (.istore 4, 2) := dk_54 4 (dk_at dksJ21_siftUpUsingComparator_0 9 rfl rfl)
theorem dJ21_siftUpUsingComparator_11 : decode cJ21_siftUpUsingComparator 11 = .ok (.aload_n 2, 1) := dk_44 (dk_at dksJ21_siftUpUsingComparator_0 11 rfl rfl)
theorem dJ21_siftUpUsingComparator_12 : decode cJ21_siftUpUsingComparator 12 = .ok (.iload 4, 2) := dk_21 4 (dk_at dksJ21_siftUpUsingComparator_0 12 rfl rfl)
theorem dJ21_siftUpUsingComparator_14 : decode cJ21_siftUpUsingComparator 14 = .ok (.aaload, 1) := dk_50 (dk_at dksJ21_siftUpUsingComparator_0 14 rfl rfl)
theorem dJ21_siftUpUsingComparator_15 : decode cJ21_siftUpUsingComparator 15 = .ok (.astore 5, 2) := dk_58 5 (dk_at dksJ21_siftUpUsingComparator_0 15 rfl rfl)
theorem dJ21_siftUpUsingComparator_17 : decode cJ21_siftUpUsingComparator 17 = .ok (.aload_n 3, 1) := dk_45 (dk_at dksJ21_siftUpUsingComparator_0 17 rfl rfl)
theorem dJ21_siftUpUsingComparator_18 : decode cJ21_siftUpUsingComparator 18 = .ok (.aload_n 1, 1) := dk_43 (dk_at dksJ21_siftUpUsingComparator_0 18 rfl rfl)
theorem dJ21_siftUpUsingComparator_19 : decode cJ21_siftUpUsingComparator 19 = .ok (.aload 5, 2) := dk_25 5 (dk_at dksJ21_siftUpUsingComparator_0 19 rfl rfl)
theorem dJ21_siftUpUsingComparator_21 : decode cJ21_siftUpUsingComparator 21 = .ok (.invokeinterface 149 3, 5) := by decide +kernel
theorem dJ21_siftUpUsingComparator_26 : decode cJ21_siftUpUsingComparator 26 = .ok (.ifCond .lt 6, 3) := dk_155 0 6 (dk_at dksJ21_siftUpUsingComparator_1 5 rfl rfl)
theorem dJ21_siftUpUsingComparator_29 : decode cJ21_siftUpUsingComparator 29 = .ok (.goto 14, 3) := dk_167 0 14 (dk_at dksJ21_siftUpUsingComparator_1 8 rfl rfl)
theorem dJ21_siftUpUsingComparator_32 : decode cJ21_siftUpUsingComparator 32 = .ok (.aload_n 2, 1) := dk_44 (dk_at dksJ21_siftUpUsingComparator_1 11 rfl rfl)
theorem dJ21_siftUpUsingComparator_33 : decode cJ21_siftUpUsingComparator 33 = .ok (.iload_n 0, 1) := dk_26 (dk_at dksJ21_siftUpUsingComparator_1 12 rfl rfl)
theorem dJ21_siftUpUsingComparator_34 : decode cJ21_siftUpUsingComparator 34 = .ok (.aload 5, 2) := dk_25 5 (dk_at dksJ21_siftUpUsingComparator_1 13 rfl rfl)
theorem dJ21_siftUpUsingComparator_36 : decode cJ21_siftUpUsingComparator 36 = .ok (.aastore, 1) := dk_83 (dk_at dksJ21_siftUpUsingComparator_1 15 rfl rfl)
theorem dJ21_siftUpUsingComparator_37 : decode cJ21_siftUpUsingComparator 37 = .ok (.iload 4, 2) := dk_21 4 (dk_at dksJ21_siftUpUsingComparator_1 16 rfl rfl)
theorem dJ21_siftUpUsingComparator_39 : decode cJ21_siftUpUsingComparator 39 = .ok (.istore_n 0, 1) := dk_59 (dk_at dksJ21_siftUpUsingComparator_1 18 rfl rfl)
theorem dJ21_siftUpUsingComparator_40 : decode cJ21_siftUpUsingComparator 40 = .ok (.goto (-40), 3) := dk_167 255 216 (dk_at dksJ21_siftUpUsingComparator_1 19 rfl rfl)
theorem dJ21_siftUpUsingComparator_43 : decode cJ21_siftUpUsingComparator 43 = .ok (.aload_n 2, 1) := dk_44 (dk_at dksJ21_siftUpUsingComparator_1 22 rfl rfl)
theorem dJ21_siftUpUsingComparator_44 : decode cJ21_siftUpUsingComparator 44 = .ok (.iload_n 0, 1) := dk_26 (dk_at dksJ21_siftUpUsingComparator_1 23 rfl rfl)
theorem dJ21_siftUpUsingComparator_45 : decode cJ21_siftUpUsingComparator 45 = .ok (.aload_n 1, 1) := dk_43 (dk_at dksJ21_siftUpUsingComparator_2 0 rfl rfl)
theorem dJ21_siftUpUsingComparator_46 : decode cJ21_siftUpUsingComparator 46 = .ok (.aastore, 1) := dk_83 (dk_at dksJ21_siftUpUsingComparator_2 1 rfl rfl)
theorem dJ21_siftUpUsingComparator_47 : decode cJ21_siftUpUsingComparator 47 = .ok (.return_, 1) := dk_177 (dk_at dksJ21_siftUpUsingComparator_2 2 rfl rfl)
abbrev cJ21_siftUpComparable : ByteArray := prog_67_method_28_code
def yJ21_siftUpComparable : MethodName := ⟨RJ21, "siftUpComparable", "(ILjava/lang/Object;[Ljava/lang/Object;)V"⟩
def dkwJ21_siftUpComparable_2 : List UInt8 := [44, 26, 45, 83, 177]
abbrev dktJ21_siftUpComparable_2 : List UInt8 := dkwJ21_siftUpComparable_2 ++ []
def dkwJ21_siftUpComparable_1 : List UInt8 := [25, 5, 185, 0, 146, 2, 0, 155, 0, 6, 167, 0, 14, 44, 26, 25, 5, 83, 21, 4, 59, 167, 255, 217]
abbrev dktJ21_siftUpComparable_1 : List UInt8 := dkwJ21_siftUpComparable_1 ++ dktJ21_siftUpComparable_2
def dkwJ21_siftUpComparable_0 : List UInt8 := [43, 192, 0, 144, 78, 26, 158, 0, 41, 26, 4, 100, 4, 124, 54, 4, 44, 21, 4, 50, 58, 5, 45]
abbrev dktJ21_siftUpComparable_0 : List UInt8 := dkwJ21_siftUpComparable_0 ++ dktJ21_siftUpComparable_1
theorem dksJ21_siftUpComparable_0 : cJ21_siftUpComparable.data.toList.drop 0 = dktJ21_siftUpComparable_0 := by decide +kernel
theorem dksJ21_siftUpComparable_1 : cJ21_siftUpComparable.data.toList.drop 23 = dktJ21_siftUpComparable_1 := dk_seg dksJ21_siftUpComparable_0 23 rfl rfl
theorem dksJ21_siftUpComparable_2 : cJ21_siftUpComparable.data.toList.drop 47 = dktJ21_siftUpComparable_2 := dk_seg dksJ21_siftUpComparable_1 24 rfl rfl
theorem dJ21_siftUpComparable_0 : decode cJ21_siftUpComparable 0 = .ok (.aload_n 1, 1) := dk_43 (dk_at dksJ21_siftUpComparable_0 0 rfl rfl)
theorem dJ21_siftUpComparable_1 : decode cJ21_siftUpComparable 1 = .ok (.checkcast 144, 3) := dk_192 0 144 (dk_at dksJ21_siftUpComparable_0 1 rfl rfl)
theorem dJ21_siftUpComparable_4 : decode cJ21_siftUpComparable 4 = .ok (.astore_n 3, 1) := dk_78 (dk_at dksJ21_siftUpComparable_0 4 rfl rfl)
theorem dJ21_siftUpComparable_5 : decode cJ21_siftUpComparable 5 = .ok (.iload_n 0, 1) := dk_26 (dk_at dksJ21_siftUpComparable_0 5 rfl rfl)
theorem dJ21_siftUpComparable_6 : decode cJ21_siftUpComparable 6 = .ok (.ifCond .le 41, 3) := dk_158 0 41 (dk_at dksJ21_siftUpComparable_0 6 rfl rfl)
theorem dJ21_siftUpComparable_9 : decode cJ21_siftUpComparable 9 = .ok (.iload_n 0, 1) := dk_26 (dk_at dksJ21_siftUpComparable_0 9 rfl rfl)
theorem dJ21_siftUpComparable_10 : decode cJ21_siftUpComparable 10 = .ok (.iconst 1, 1) := dk_4 (dk_at dksJ21_siftUpComparable_0 10 rfl rfl)
theorem dJ21_siftUpComparable_11 : decode cJ21_siftUpComparable 11 = .ok (.isub, 1) := dk_100 (dk_at dksJ21_siftUpComparable_0 11 rfl rfl)
theorem dJ21_siftUpComparable_12 : decode cJ21_siftUpComparable 12 = .ok (.iconst 1, 1) := dk_4 (dk_at dksJ21_siftUpComparable_0 12 rfl rfl)
theorem dJ21_siftUpComparable_13 : decode cJ21_siftUpComparable 13 = .ok (.iushr, 1) := dk_124 (dk_at dksJ21_siftUpComparable_0 13 rfl rfl)
theorem dJ21_siftUpComparable_14 : decode cJ21_siftUpComparable 14 = .ok (.istore 4, 2) := dk_54 4 (dk_at dksJ21_siftUpComparable_0 14 rfl rfl)
theorem dJ21_siftUpComparable_16 : decode cJ21_siftUpComparable 16 = .ok (.aload_n 2, 1) := dk_44 (dk_at dksJ21_siftUpComparable_0 16 rfl rfl)
theorem dJ21_siftUpComparable_17 : decode cJ21_siftUpComparable 17 = .ok (.iload 4, 2) := dk_21 4 (dk_at dksJ21_siftUpComparable_0 17 rfl rfl)
theorem dJ21_siftUpComparable_19 : decode cJ21_siftUpComparable 19 = .ok (.aaload, 1) := dk_50 (dk_at dksJ21_siftUpComparable_0 19 rfl rfl)
theorem dJ21_siftUpComparable_20 : decode cJ21_siftUpComparable 20 = .ok (.astore 5, 2) := dk_58 5 (dk_at dksJ21_siftUpComparable_0 20 rfl rfl)
theorem dJ21_siftUpComparable_22 : decode cJ21_siftUpComparable 22 = .ok (.aload_n 3, 1) := dk_45 (dk_at dksJ21_siftUpComparable_0 22 rfl rfl)
theorem dJ21_siftUpComparable_23 : decode cJ21_siftUpComparable 23 = .ok (.aload 5, 2) := dk_25 5 (dk_at dksJ21_siftUpComparable_1 0 rfl rfl)
theorem dJ21_siftUpComparable_25 : decode cJ21_siftUpComparable 25 = .ok (.invokeinterface 146 2, 5) := by decide +kernel
theorem dJ21_siftUpComparable_30 : decode cJ21_siftUpComparable 30 = .ok (.ifCond .lt 6, 3) := dk_155 0 6 (dk_at dksJ21_siftUpComparable_1 7 rfl rfl)
theorem dJ21_siftUpComparable_33 : decode cJ21_siftUpComparable 33 = .ok (.goto 14, 3) := dk_167 0 14 (dk_at dksJ21_siftUpComparable_1 10 rfl rfl)
theorem dJ21_siftUpComparable_36 : decode cJ21_siftUpComparable 36 = .ok (.aload_n 2, 1) := dk_44 (dk_at dksJ21_siftUpComparable_1 13 rfl rfl)
theorem dJ21_siftUpComparable_37 : decode cJ21_siftUpComparable 37 = .ok (.iload_n 0, 1) := dk_26 (dk_at dksJ21_siftUpComparable_1 14 rfl rfl)
theorem dJ21_siftUpComparable_38 : decode cJ21_siftUpComparable 38 = .ok (.aload 5, 2) := dk_25 5 (dk_at dksJ21_siftUpComparable_1 15 rfl rfl)
theorem dJ21_siftUpComparable_40 : decode cJ21_siftUpComparable 40 = .ok (.aastore, 1) := dk_83 (dk_at dksJ21_siftUpComparable_1 17 rfl rfl)
theorem dJ21_siftUpComparable_41 : decode cJ21_siftUpComparable 41 = .ok (.iload 4, 2) := dk_21 4 (dk_at dksJ21_siftUpComparable_1 18 rfl rfl)
theorem dJ21_siftUpComparable_43 : decode cJ21_siftUpComparable 43 = .ok (.istore_n 0, 1) := dk_59 (dk_at dksJ21_siftUpComparable_1 20 rfl rfl)
theorem dJ21_siftUpComparable_44 : decode cJ21_siftUpComparable 44 = .ok (.goto (-39), 3) := dk_167 255 217 (dk_at dksJ21_siftUpComparable_1 21 rfl rfl)
theorem dJ21_siftUpComparable_47 : decode cJ21_siftUpComparable 47 = .ok (.aload_n 2, 1) := dk_44 (dk_at dksJ21_siftUpComparable_2 0 rfl rfl)
theorem dJ21_siftUpComparable_48 : decode cJ21_siftUpComparable 48 = .ok (.iload_n 0, 1) := dk_26 (dk_at dksJ21_siftUpComparable_2 1 rfl rfl)
theorem dJ21_siftUpComparable_49 : decode cJ21_siftUpComparable 49 = .ok (.aload_n 3, 1) := dk_45 (dk_at dksJ21_siftUpComparable_2 2 rfl rfl)
theorem dJ21_siftUpComparable_50 : decode cJ21_siftUpComparable 50 = .ok (.aastore, 1) := dk_83 (dk_at dksJ21_siftUpComparable_2 3 rfl rfl)
theorem dJ21_siftUpComparable_51 : decode cJ21_siftUpComparable 51 = .ok (.return_, 1) := dk_177 (dk_at dksJ21_siftUpComparable_2 4 rfl rfl)
abbrev cJ21_size : ByteArray := prog_67_method_23_code
def yJ21_size : MethodName := ⟨RJ21, "size", "()I"⟩
theorem dJ21_size_0 : decode cJ21_size 0 = .ok (.aload_n 0, 1) := by decide +kernel
theorem dJ21_size_1 : decode cJ21_size 1 = .ok (.getfield 58, 3) := by decide +kernel
theorem dJ21_size_4 : decode cJ21_size 4 = .ok (.ireturn, 1) := by decide +kernel
abbrev cJ21_peek : ByteArray := prog_67_method_15_code
def yJ21_peek : MethodName := ⟨RJ21, "peek", "()Ljava/lang/Object;"⟩
def dkwJ21_peek_0 : List UInt8 := [42, 180, 0, 17, 3, 50, 176]
abbrev dktJ21_peek_0 : List UInt8 := dkwJ21_peek_0 ++ []
theorem dksJ21_peek_0 : cJ21_peek.data.toList.drop 0 = dktJ21_peek_0 := by decide +kernel
theorem dJ21_peek_0 : decode cJ21_peek 0 = .ok (.aload_n 0, 1) := dk_42 (dk_at dksJ21_peek_0 0 rfl rfl)
theorem dJ21_peek_1 : decode cJ21_peek 1 = .ok (.getfield 17, 3) := dk_180 0 17 (dk_at dksJ21_peek_0 1 rfl rfl)
theorem dJ21_peek_4 : decode cJ21_peek 4 = .ok (.iconst 0, 1) := dk_3 (dk_at dksJ21_peek_0 4 rfl rfl)
theorem dJ21_peek_5 : decode cJ21_peek 5 = .ok (.aaload, 1) := dk_50 (dk_at dksJ21_peek_0 5 rfl rfl)
theorem dJ21_peek_6 : decode cJ21_peek 6 = .ok (.areturn, 1) := dk_176 (dk_at dksJ21_peek_0 6 rfl rfl)
abbrev cJ21_iterator : ByteArray := prog_67_method_22_code
def yJ21_iterator : MethodName := ⟨RJ21, "iterator", "()Ljava/util/Iterator;"⟩
def dkwJ21_iterator_0 : List UInt8 := [187, 0, 121, 89, 42, 183, 0, 123, 176]
abbrev dktJ21_iterator_0 : List UInt8 := dkwJ21_iterator_0 ++ []
theorem dksJ21_iterator_0 : cJ21_iterator.data.toList.drop 0 = dktJ21_iterator_0 := by decide +kernel
theorem dJ21_iterator_0 : decode cJ21_iterator 0 = .ok (.new 121, 3) := dk_187 0 121 (dk_at dksJ21_iterator_0 0 rfl rfl)
theorem dJ21_iterator_3 : decode cJ21_iterator 3 = .ok (.dup, 1) := dk_89 (dk_at dksJ21_iterator_0 3 rfl rfl)
theorem dJ21_iterator_4 : decode cJ21_iterator 4 = .ok (.aload_n 0, 1) := dk_42 (dk_at dksJ21_iterator_0 4 rfl rfl)
theorem dJ21_iterator_5 : decode cJ21_iterator 5 = .ok (.invokespecial 123, 3) := dk_183 0 123 (dk_at dksJ21_iterator_0 5 rfl rfl)
theorem dJ21_iterator_8 : decode cJ21_iterator 8 = .ok (.areturn, 1) := dk_176 (dk_at dksJ21_iterator_0 8 rfl rfl)
theorem q110 : (Jvm.Cond.initialized "java/util/PriorityQueue") ∈ lw_all := lw_g (lw_at lw_m1 33 rfl) rfl
theorem q454 : (Jvm.Cond.selects "java/util/PriorityQueue" ({ cls := "java/lang/Object", name := "getClass", desc := "()Ljava/lang/Class;" } : Jvm.MethodName) ({ cls := "java/lang/Object", name := "getClass", desc := "()Ljava/lang/Class;" } : Jvm.MethodName)) ∈ lw_all := lw_g (lw_at lw_m2 137 rfl) rfl
theorem q1100 : (Jvm.Cond.instantiable "java/util/PriorityQueue" (4 : Nat)) ∈ lw_all := lw_g (lw_at lw_m5 63 rfl) rfl
theorem q1112 : (Jvm.Cond.instanceMethod ({ cls := "java/util/PriorityQueue", name := "<init>", desc := "(ILjava/util/Comparator;)V" } : Jvm.MethodName)) ∈ lw_all := lw_g (lw_at lw_m5 75 rfl) rfl
theorem q1113 : (Jvm.Cond.code ({ cls := "java/util/PriorityQueue", name := "<init>", desc := "(ILjava/util/Comparator;)V" } : Jvm.MethodName) prog_67_method_4_code (3 : Nat) (Option.none : Option Jvm.ClassFile.FieldType)) ∈ lw_all := lw_g (lw_at lw_m5 76 rfl) rfl
theorem q1114 : (Jvm.Cond.methodLink "java/util/PriorityQueue" (7 : Nat) ({ cls := "java/util/AbstractQueue", name := "<init>", desc := "()V" } : Jvm.MethodName)) ∈ lw_all := lw_g (lw_at lw_m5 77 rfl) rfl
theorem q1118 : (Jvm.Cond.classLink "java/util/PriorityQueue" (15 : Nat) "java/lang/Object") ∈ lw_all := lw_g (lw_at lw_m5 81 rfl) rfl
theorem q1120 : (Jvm.Cond.fieldLink "java/util/PriorityQueue" (17 : Nat) "java/util/PriorityQueue" "queue" "[Ljava/lang/Object;") ∈ lw_all := lw_g (lw_at lw_m5 83 rfl) rfl
theorem q1122 : (Jvm.Cond.fieldLink "java/util/PriorityQueue" (58 : Nat) "java/util/PriorityQueue" "size" "I") ∈ lw_all := lw_g (lw_at lw_m5 85 rfl) rfl
theorem q1123 : (Jvm.Cond.fieldLink "java/util/PriorityQueue" (21 : Nat) "java/util/PriorityQueue" "comparator" "Ljava/util/Comparator;") ∈ lw_all := lw_g (lw_at lw_m5 86 rfl) rfl
theorem q1125 : (Jvm.Cond.fieldLink "java/util/PriorityQueue" (93 : Nat) "java/util/PriorityQueue" "modCount" "I") ∈ lw_all := lw_g (lw_at lw_m5 88 rfl) rfl
theorem q1126 : (Jvm.Cond.lays "java/util/PriorityQueue" "java/util/PriorityQueue" "queue" "[Ljava/lang/Object;") ∈ lw_all := lw_g (lw_at lw_m5 89 rfl) rfl
theorem q1127 : (Jvm.Cond.soleField "java/util/PriorityQueue" "queue") ∈ lw_all := lw_g (lw_at lw_m5 90 rfl) rfl
theorem q1128 : (Jvm.Cond.lays "java/util/PriorityQueue" "java/util/PriorityQueue" "size" "I") ∈ lw_all := lw_g (lw_at lw_m5 91 rfl) rfl
theorem q1129 : (Jvm.Cond.soleField "java/util/PriorityQueue" "size") ∈ lw_all := lw_g (lw_at lw_m5 92 rfl) rfl
theorem q1130 : (Jvm.Cond.laysFinal "java/util/PriorityQueue" "java/util/PriorityQueue" "comparator" "Ljava/util/Comparator;") ∈ lw_all := lw_g (lw_at lw_m5 93 rfl) rfl
theorem q1131 : (Jvm.Cond.soleField "java/util/PriorityQueue" "comparator") ∈ lw_all := lw_g (lw_at lw_m5 94 rfl) rfl
theorem q1132 : (Jvm.Cond.lays "java/util/PriorityQueue" "java/util/PriorityQueue" "modCount" "I") ∈ lw_all := lw_g (lw_at lw_m5 95 rfl) rfl
theorem q1133 : (Jvm.Cond.soleField "java/util/PriorityQueue" "modCount") ∈ lw_all := lw_g (lw_at lw_m5 96 rfl) rfl
theorem q1134 : (Jvm.Cond.superclass "java/util/PriorityQueue" "java/util/AbstractQueue") ∈ lw_all := lw_g (lw_at lw_m5 97 rfl) rfl
theorem q1136 : (Jvm.Cond.instanceMethod ({ cls := "java/util/PriorityQueue", name := "add", desc := "(Ljava/lang/Object;)Z" } : Jvm.MethodName)) ∈ lw_all := lw_g (lw_at lw_m5 99 rfl) rfl
theorem q1137 : (Jvm.Cond.selects "java/util/PriorityQueue" ({ cls := "java/util/PriorityQueue", name := "add", desc := "(Ljava/lang/Object;)Z" } : Jvm.MethodName) ({ cls := "java/util/PriorityQueue", name := "add", desc := "(Ljava/lang/Object;)Z" } : Jvm.MethodName)) ∈ lw_all := lw_g (lw_at lw_m5 100 rfl) rfl
theorem q1138 : (Jvm.Cond.code ({ cls := "java/util/PriorityQueue", name := "add", desc := "(Ljava/lang/Object;)Z" } : Jvm.MethodName) prog_67_method_13_code (2 : Nat) (Option.some Jvm.ClassFile.FieldType.boolean)) ∈ lw_all := lw_g (lw_at lw_m5 101 rfl) rfl
theorem q1139 : (Jvm.Cond.methodLink "java/util/PriorityQueue" (89 : Nat) ({ cls := "java/util/PriorityQueue", name := "offer", desc := "(Ljava/lang/Object;)Z" } : Jvm.MethodName)) ∈ lw_all := lw_g (lw_at lw_m5 102 rfl) rfl
theorem q1140 : (Jvm.Cond.instanceMethod ({ cls := "java/util/PriorityQueue", name := "offer", desc := "(Ljava/lang/Object;)Z" } : Jvm.MethodName)) ∈ lw_all := lw_g (lw_at lw_m5 103 rfl) rfl
theorem q1141 : (Jvm.Cond.selects "java/util/PriorityQueue" ({ cls := "java/util/PriorityQueue", name := "offer", desc := "(Ljava/lang/Object;)Z" } : Jvm.MethodName) ({ cls := "java/util/PriorityQueue", name := "offer", desc := "(Ljava/lang/Object;)Z" } : Jvm.MethodName)) ∈ lw_all := lw_g (lw_at lw_m5 104 rfl) rfl
theorem q1142 : (Jvm.Cond.code ({ cls := "java/util/PriorityQueue", name := "offer", desc := "(Ljava/lang/Object;)Z" } : Jvm.MethodName) prog_67_method_14_code (3 : Nat) (Option.some Jvm.ClassFile.FieldType.boolean)) ∈ lw_all := lw_g (lw_at lw_m5 105 rfl) rfl
theorem q1143 : (Jvm.Cond.classLink "java/util/PriorityQueue" (74 : Nat) "java/lang/NullPointerException") ∈ lw_all := lw_g (lw_at lw_m5 106 rfl) rfl
theorem q1153 : (Jvm.Cond.methodLink "java/util/PriorityQueue" (76 : Nat) ({ cls := "java/lang/NullPointerException", name := "<init>", desc := "()V" } : Jvm.MethodName)) ∈ lw_all := lw_g (lw_at lw_m5 116 rfl) rfl
theorem q1170 : (Jvm.Cond.methodLink "java/util/PriorityQueue" (96 : Nat) ({ cls := "java/util/PriorityQueue", name := "grow", desc := "(I)V" } : Jvm.MethodName)) ∈ lw_all := lw_g (lw_at lw_m5 133 rfl) rfl
theorem q1171 : (Jvm.Cond.privateMethod ({ cls := "java/util/PriorityQueue", name := "grow", desc := "(I)V" } : Jvm.MethodName)) ∈ lw_tbl := lw_at lw_m5 134 rfl
theorem q1172 : (Jvm.Cond.instanceMethod ({ cls := "java/util/PriorityQueue", name := "grow", desc := "(I)V" } : Jvm.MethodName)) ∈ lw_all := lw_g (lw_at lw_m5 135 rfl) rfl
theorem q1173 : (Jvm.Cond.code ({ cls := "java/util/PriorityQueue", name := "grow", desc := "(I)V" } : Jvm.MethodName) prog_67_method_12_code (4 : Nat) (Option.none : Option Jvm.ClassFile.FieldType)) ∈ lw_all := lw_g (lw_at lw_m5 136 rfl) rfl
theorem q1174 : (Jvm.Cond.methodLink "java/util/PriorityQueue" (80 : Nat) ({ cls := "jdk/internal/util/ArraysSupport", name := "newLength", desc := "(III)I" } : Jvm.MethodName)) ∈ lw_all := lw_g (lw_at lw_m5 137 rfl) rfl
theorem q1175 : (Jvm.Cond.methodLink "java/util/PriorityQueue" (86 : Nat) ({ cls := "java/util/Arrays", name := "copyOf", desc := "([Ljava/lang/Object;I)[Ljava/lang/Object;" } : Jvm.MethodName)) ∈ lw_all := lw_g (lw_at lw_m5 138 rfl) rfl
theorem q1176 : (Jvm.Cond.methodLink "java/util/PriorityQueue" (100 : Nat) ({ cls := "java/util/PriorityQueue", name := "siftUp", desc := "(ILjava/lang/Object;)V" } : Jvm.MethodName)) ∈ lw_all := lw_g (lw_at lw_m5 139 rfl) rfl
theorem q1177 : (Jvm.Cond.privateMethod ({ cls := "java/util/PriorityQueue", name := "siftUp", desc := "(ILjava/lang/Object;)V" } : Jvm.MethodName)) ∈ lw_tbl := lw_at lw_m5 140 rfl
theorem q1178 : (Jvm.Cond.instanceMethod ({ cls := "java/util/PriorityQueue", name := "siftUp", desc := "(ILjava/lang/Object;)V" } : Jvm.MethodName)) ∈ lw_all := lw_g (lw_at lw_m5 141 rfl) rfl
theorem q1179 : (Jvm.Cond.code ({ cls := "java/util/PriorityQueue", name := "siftUp", desc := "(ILjava/lang/Object;)V" } : Jvm.MethodName) prog_67_method_27_code (3 : Nat) (Option.none : Option Jvm.ClassFile.FieldType)) ∈ lw_all := lw_g (lw_at lw_m5 142 rfl) rfl
theorem q1180 : (Jvm.Cond.methodLink "java/util/PriorityQueue" (136 : Nat) ({ cls := "java/util/PriorityQueue", name := "siftUpUsingComparator", desc := "(ILjava/lang/Object;[Ljava/lang/Object;Ljava/util/Comparator;)V" } : Jvm.MethodName)) ∈ lw_all := lw_g (lw_at lw_m5 143 rfl) rfl
theorem q1181 : (Jvm.Cond.static ({ cls := "java/util/PriorityQueue", name := "siftUpUsingComparator", desc := "(ILjava/lang/Object;[Ljava/lang/Object;Ljava/util/Comparator;)V" } : Jvm.MethodName)) ∈ lw_all := lw_g (lw_at lw_m5 144 rfl) rfl
theorem q1182 : (Jvm.Cond.code ({ cls := "java/util/PriorityQueue", name := "siftUpUsingComparator", desc := "(ILjava/lang/Object;[Ljava/lang/Object;Ljava/util/Comparator;)V" } : Jvm.MethodName) prog_67_method_29_code (6 : Nat) (Option.none : Option Jvm.ClassFile.FieldType)) ∈ lw_all := lw_g (lw_at lw_m5 145 rfl) rfl
theorem q1183 : (Jvm.Cond.interfaceEntry "java/util/PriorityQueue" (149 : Nat)) ∈ lw_tbl := lw_at lw_m5 146 rfl
theorem q1184 : (Jvm.Cond.methodLink "java/util/PriorityQueue" (149 : Nat) ({ cls := "java/util/Comparator", name := "compare", desc := "(Ljava/lang/Object;Ljava/lang/Object;)I" } : Jvm.MethodName)) ∈ lw_all := lw_g (lw_at lw_m5 147 rfl) rfl
theorem q1213 : (Jvm.Cond.methodLink "java/util/PriorityQueue" (140 : Nat) ({ cls := "java/util/PriorityQueue", name := "siftUpComparable", desc := "(ILjava/lang/Object;[Ljava/lang/Object;)V" } : Jvm.MethodName)) ∈ lw_all := lw_g (lw_at lw_m5 176 rfl) rfl
theorem q1214 : (Jvm.Cond.static ({ cls := "java/util/PriorityQueue", name := "siftUpComparable", desc := "(ILjava/lang/Object;[Ljava/lang/Object;)V" } : Jvm.MethodName)) ∈ lw_all := lw_g (lw_at lw_m5 177 rfl) rfl
theorem q1215 : (Jvm.Cond.code ({ cls := "java/util/PriorityQueue", name := "siftUpComparable", desc := "(ILjava/lang/Object;[Ljava/lang/Object;)V" } : Jvm.MethodName) prog_67_method_28_code (6 : Nat) (Option.none : Option Jvm.ClassFile.FieldType)) ∈ lw_all := lw_g (lw_at lw_m5 178 rfl) rfl
theorem q1216 : (Jvm.Cond.classLink "java/util/PriorityQueue" (144 : Nat) "java/lang/Comparable") ∈ lw_all := lw_g (lw_at lw_m5 179 rfl) rfl
theorem q1217 : (Jvm.Cond.interfaceEntry "java/util/PriorityQueue" (146 : Nat)) ∈ lw_tbl := lw_at lw_m5 180 rfl
theorem q1218 : (Jvm.Cond.methodLink "java/util/PriorityQueue" (146 : Nat) ({ cls := "java/lang/Comparable", name := "compareTo", desc := "(Ljava/lang/Object;)I" } : Jvm.MethodName)) ∈ lw_all := lw_g (lw_at lw_m5 181 rfl) rfl
theorem q1447 : (Jvm.Cond.sameMethod "java/util/PriorityQueue" "java/util/AbstractCollection" "isEmpty" "()Z") ∈ lw_all := lw_g (lw_at lw_m6 170 rfl) rfl
theorem q1449 : (Jvm.Cond.selects "java/util/PriorityQueue" ({ cls := "java/util/PriorityQueue", name := "isEmpty", desc := "()Z" } : Jvm.MethodName) ({ cls := "java/util/AbstractCollection", name := "isEmpty", desc := "()Z" } : Jvm.MethodName)) ∈ lw_all := lw_g (lw_at lw_m6 172 rfl) rfl
theorem q1456 : (Jvm.Cond.selects "java/util/PriorityQueue" ({ cls := "java/util/AbstractCollection", name := "size", desc := "()I" } : Jvm.MethodName) ({ cls := "java/util/PriorityQueue", name := "size", desc := "()I" } : Jvm.MethodName)) ∈ lw_all := lw_g (lw_at lw_m6 179 rfl) rfl
theorem q1457 : (Jvm.Cond.instanceMethod ({ cls := "java/util/PriorityQueue", name := "size", desc := "()I" } : Jvm.MethodName)) ∈ lw_all := lw_g (lw_at lw_m6 180 rfl) rfl
theorem q1458 : (Jvm.Cond.code ({ cls := "java/util/PriorityQueue", name := "size", desc := "()I" } : Jvm.MethodName) prog_67_method_23_code (1 : Nat) (Option.some Jvm.ClassFile.FieldType.int)) ∈ lw_all := lw_g (lw_at lw_m6 181 rfl) rfl
theorem q1479 : (Jvm.Cond.instanceMethod ({ cls := "java/util/PriorityQueue", name := "peek", desc := "()Ljava/lang/Object;" } : Jvm.MethodName)) ∈ lw_all := lw_g (lw_at lw_m6 202 rfl) rfl
theorem q1480 : (Jvm.Cond.selects "java/util/PriorityQueue" ({ cls := "java/util/PriorityQueue", name := "peek", desc := "()Ljava/lang/Object;" } : Jvm.MethodName) ({ cls := "java/util/PriorityQueue", name := "peek", desc := "()Ljava/lang/Object;" } : Jvm.MethodName)) ∈ lw_all := lw_g (lw_at lw_m6 203 rfl) rfl
theorem q1481 : (Jvm.Cond.code ({ cls := "java/util/PriorityQueue", name := "peek", desc := "()Ljava/lang/Object;" } : Jvm.MethodName) prog_67_method_15_code (1 : Nat) (Option.some (Jvm.ClassFile.FieldType.object "java/lang/Object"))) ∈ lw_all := lw_g (lw_at lw_m6 204 rfl) rfl
theorem q1848 : (Jvm.Cond.castable "java/util/PriorityQueue" "java/util/Collection") ∈ lw_tbl := lw_at lw_m8 91 rfl
theorem q1849 : (Jvm.Cond.selects "java/util/PriorityQueue" ({ cls := "java/util/Collection", name := "iterator", desc := "()Ljava/util/Iterator;" } : Jvm.MethodName) ({ cls := "java/util/PriorityQueue", name := "iterator", desc := "()Ljava/util/Iterator;" } : Jvm.MethodName)) ∈ lw_all := lw_g (lw_at lw_m8 92 rfl) rfl
theorem q1850 : (Jvm.Cond.unhidden "java/util/PriorityQueue" "iterator" "()Ljava/util/Iterator;") ∈ lw_tbl := lw_at lw_m8 93 rfl
theorem q1851 : (Jvm.Cond.instanceMethod ({ cls := "java/util/PriorityQueue", name := "iterator", desc := "()Ljava/util/Iterator;" } : Jvm.MethodName)) ∈ lw_all := lw_g (lw_at lw_m8 94 rfl) rfl
theorem q1852 : (Jvm.Cond.publicMethod ({ cls := "java/util/PriorityQueue", name := "iterator", desc := "()Ljava/util/Iterator;" } : Jvm.MethodName)) ∈ lw_tbl := lw_at lw_m8 95 rfl
theorem q1853 : (Jvm.Cond.code ({ cls := "java/util/PriorityQueue", name := "iterator", desc := "()Ljava/util/Iterator;" } : Jvm.MethodName) prog_67_method_22_code (1 : Nat) (Option.some (Jvm.ClassFile.FieldType.object "java/util/Iterator"))) ∈ lw_all := lw_g (lw_at lw_m8 96 rfl) rfl
theorem q1854 : (Jvm.Cond.classLink "java/util/PriorityQueue" (121 : Nat) "java/util/PriorityQueue$Itr") ∈ lw_all := lw_g (lw_at lw_m8 97 rfl) rfl
theorem q1856 : (Jvm.Cond.methodLink "java/util/PriorityQueue" (123 : Nat) ({ cls := "java/util/PriorityQueue$Itr", name := "<init>", desc := "(Ljava/util/PriorityQueue;)V" } : Jvm.MethodName)) ∈ lw_all := lw_g (lw_at lw_m8 99 rfl) rfl
theorem q2768 : (Jvm.Cond.castable "java/util/PriorityQueue" "java/lang/Object") ∈ lw_tbl := lw_at lw_m12 51 rfl
theorem in_J21 : ∀ w ∈ wsJ210, w ∈ lw_all := lw_in wsJ210 [1126, 1128, 1130, 1132] (by decide +kernel) (by decide +kernel)
/-! java/lang/Long -/
set_option maxRecDepth 100000
def RJ25 : String := "java/lang/Long"
abbrev cJ25_numberOfLeadingZeros : ByteArray := prog_34_method_48_code
def yJ25_numberOfLeadingZeros : MethodName := ⟨RJ25, "numberOfLeadingZeros", "(J)I"⟩
def dkwJ25_numberOfLeadingZeros_1 : List UInt8 := [184, 1, 52, 172]
abbrev dktJ25_numberOfLeadingZeros_1 : List UInt8 := dkwJ25_numberOfLeadingZeros_1 ++ []
def dkwJ25_numberOfLeadingZeros_0 : List UInt8 := [30, 16, 32, 125, 136, 61, 28, 154, 0, 14, 16, 32, 30, 136, 184, 1, 52, 96, 167, 0, 7, 28]
abbrev dktJ25_numberOfLeadingZeros_0 : List UInt8 := dkwJ25_numberOfLeadingZeros_0 ++ dktJ25_numberOfLeadingZeros_1
theorem dksJ25_numberOfLeadingZeros_0 : cJ25_numberOfLeadingZeros.data.toList.drop 0 = dktJ25_numberOfLeadingZeros_0 := by decide +kernel
theorem dksJ25_numberOfLeadingZeros_1 : cJ25_numberOfLeadingZeros.data.toList.drop 22 = dktJ25_numberOfLeadingZeros_1 := dk_seg dksJ25_numberOfLeadingZeros_0 22 rfl rfl
theorem dJ25_numberOfLeadingZeros_0 : decode cJ25_numberOfLeadingZeros 0 = .ok (.lload_n 0, 1) := dk_30 (dk_at dksJ25_numberOfLeadingZeros_0 0 rfl rfl)
theorem dJ25_numberOfLeadingZeros_1 : decode cJ25_numberOfLeadingZeros 1 = .ok (.bipush 32, 2) := dk_16 32 (dk_at dksJ25_numberOfLeadingZeros_0 1 rfl rfl)
theorem dJ25_numberOfLeadingZeros_3 : decode cJ25_numberOfLeadingZeros 3 = .ok (.lushr, 1) := dk_125 (dk_at dksJ25_numberOfLeadingZeros_0 3 rfl rfl)
theorem dJ25_numberOfLeadingZeros_4 : decode cJ25_numberOfLeadingZeros 4 = .ok (.l2i, 1) := dk_136 (dk_at dksJ25_numberOfLeadingZeros_0 4 rfl rfl)
theorem dJ25_numberOfLeadingZeros_5 : decode cJ25_numberOfLeadingZeros 5 = .ok (.istore_n 2, 1) := dk_61 (dk_at dksJ25_numberOfLeadingZeros_0 5 rfl rfl)
theorem dJ25_numberOfLeadingZeros_6 : decode cJ25_numberOfLeadingZeros 6 = .ok (.iload_n 2, 1) := dk_28 (dk_at dksJ25_numberOfLeadingZeros_0 6 rfl rfl)
theorem dJ25_numberOfLeadingZeros_7 : decode cJ25_numberOfLeadingZeros 7 = .ok (.ifCond .ne 14, 3) := dk_154 0 14 (dk_at dksJ25_numberOfLeadingZeros_0 7 rfl rfl)
theorem dJ25_numberOfLeadingZeros_10 : decode cJ25_numberOfLeadingZeros 10 = .ok (.bipush 32, 2) := dk_16 32 (dk_at dksJ25_numberOfLeadingZeros_0 10 rfl rfl)
theorem dJ25_numberOfLeadingZeros_12 : decode cJ25_numberOfLeadingZeros 12 = .ok (.lload_n 0, 1) := dk_30 (dk_at dksJ25_numberOfLeadingZeros_0 12 rfl rfl)
theorem dJ25_numberOfLeadingZeros_13 : decode cJ25_numberOfLeadingZeros 13 = .ok (.l2i, 1) := dk_136 (dk_at dksJ25_numberOfLeadingZeros_0 13 rfl rfl)
theorem dJ25_numberOfLeadingZeros_14 : decode cJ25_numberOfLeadingZeros 14 = .ok (.invokestatic 308, 3) := dk_184 1 52 (dk_at dksJ25_numberOfLeadingZeros_0 14 rfl rfl)
theorem dJ25_numberOfLeadingZeros_17 : decode cJ25_numberOfLeadingZeros 17 = .ok (.iadd, 1) := dk_96 (dk_at dksJ25_numberOfLeadingZeros_0 17 rfl rfl)
theorem dJ25_numberOfLeadingZeros_18 : decode cJ25_numberOfLeadingZeros 18 = .ok (.goto 7, 3) := dk_167 0 7 (dk_at dksJ25_numberOfLeadingZeros_0 18 rfl rfl)
theorem dJ25_numberOfLeadingZeros_21 : decode cJ25_numberOfLeadingZeros 21 = .ok (.iload_n 2, 1) := dk_28 (dk_at dksJ25_numberOfLeadingZeros_0 21 rfl rfl)
theorem dJ25_numberOfLeadingZeros_22 : decode cJ25_numberOfLeadingZeros 22 = .ok (.invokestatic 308, 3) := dk_184 1 52 (dk_at dksJ25_numberOfLeadingZeros_1 0 rfl rfl)
theorem dJ25_numberOfLeadingZeros_25 : decode cJ25_numberOfLeadingZeros 25 = .ok (.ireturn, 1) := dk_172 (dk_at dksJ25_numberOfLeadingZeros_1 3 rfl rfl)
abbrev cJ25_numberOfTrailingZeros : ByteArray := prog_34_method_49_code
def yJ25_numberOfTrailingZeros : MethodName := ⟨RJ25, "numberOfTrailingZeros", "(J)I"⟩
def dkwJ25_numberOfTrailingZeros_1 : List UInt8 := [184, 1, 55, 172]
abbrev dktJ25_numberOfTrailingZeros_1 : List UInt8 := dkwJ25_numberOfTrailingZeros_1 ++ []
def dkwJ25_numberOfTrailingZeros_0 : List UInt8 := [30, 136, 61, 28, 154, 0, 17, 16, 32, 30, 16, 32, 125, 136, 184, 1, 55, 96, 167, 0, 7, 28]
abbrev dktJ25_numberOfTrailingZeros_0 : List UInt8 := dkwJ25_numberOfTrailingZeros_0 ++ dktJ25_numberOfTrailingZeros_1
theorem dksJ25_numberOfTrailingZeros_0 : cJ25_numberOfTrailingZeros.data.toList.drop 0 = dktJ25_numberOfTrailingZeros_0 := by decide +kernel
theorem dksJ25_numberOfTrailingZeros_1 : cJ25_numberOfTrailingZeros.data.toList.drop 22 = dktJ25_numberOfTrailingZeros_1 := dk_seg dksJ25_numberOfTrailingZeros_0 22 rfl rfl
theorem dJ25_numberOfTrailingZeros_0 : decode cJ25_numberOfTrailingZeros 0 = .ok (.lload_n 0, 1) := dk_30 (dk_at dksJ25_numberOfTrailingZeros_0 0 rfl rfl)
theorem dJ25_numberOfTrailingZeros_1 : decode cJ25_numberOfTrailingZeros 1 = .ok (.l2i, 1) := dk_136 (dk_at dksJ25_numberOfTrailingZeros_0 1 rfl rfl)
theorem dJ25_numberOfTrailingZeros_2 : decode cJ25_numberOfTrailingZeros 2 = .ok (.istore_n 2, 1) := dk_61 (dk_at dksJ25_numberOfTrailingZeros_0 2 rfl rfl)
theorem dJ25_numberOfTrailingZeros_3 : decode cJ25_numberOfTrailingZeros 3 = .ok (.iload_n 2, 1) := dk_28 (dk_at dksJ25_numberOfTrailingZeros_0 3 rfl rfl)
theorem dJ25_numberOfTrailingZeros_4 : decode cJ25_numberOfTrailingZeros 4 = .ok (.ifCond .ne 17, 3) := dk_154 0 17 (dk_at dksJ25_numberOfTrailingZeros_0 4 rfl rfl)
theorem dJ25_numberOfTrailingZeros_7 : decode cJ25_numberOfTrailingZeros 7 = .ok (.bipush 32, 2) := dk_16 32 (dk_at dksJ25_numberOfTrailingZeros_0 7 rfl rfl)
theorem dJ25_numberOfTrailingZeros_9 : decode cJ25_numberOfTrailingZeros 9 = .ok (.lload_n 0, 1) := dk_30 (dk_at dksJ25_numberOfTrailingZeros_0 9 rfl rfl)
theorem dJ25_numberOfTrailingZeros_10 : decode cJ25_numberOfTrailingZeros 10 = .ok (.bipush 32, 2) := dk_16 32 (dk_at dksJ25_numberOfTrailingZeros_0 10 rfl rfl)
theorem dJ25_numberOfTrailingZeros_12 : decode cJ25_numberOfTrailingZeros 12 = .ok (.lushr, 1) := dk_125 (dk_at dksJ25_numberOfTrailingZeros_0 12 rfl rfl)
theorem dJ25_numberOfTrailingZeros_13 : decode cJ25_numberOfTrailingZeros 13 = .ok (.l2i, 1) := dk_136 (dk_at dksJ25_numberOfTrailingZeros_0 13 rfl rfl)
theorem dJ25_numberOfTrailingZeros_14 : decode cJ25_numberOfTrailingZeros 14 = .ok (.invokestatic 311, 3) := dk_184 1 55 (dk_at dksJ25_numberOfTrailingZeros_0 14 rfl rfl)
theorem dJ25_numberOfTrailingZeros_17 : decode cJ25_numberOfTrailingZeros 17 = .ok (.iadd, 1) := dk_96 (dk_at dksJ25_numberOfTrailingZeros_0 17 rfl rfl)
theorem dJ25_numberOfTrailingZeros_18 : decode cJ25_numberOfTrailingZeros 18 = .ok (.goto 7, 3) := dk_167 0 7 (dk_at dksJ25_numberOfTrailingZeros_0 18 rfl rfl)
theorem dJ25_numberOfTrailingZeros_21 : decode cJ25_numberOfTrailingZeros 21 = .ok (.iload_n 2, 1) := dk_28 (dk_at dksJ25_numberOfTrailingZeros_0 21 rfl rfl)
theorem dJ25_numberOfTrailingZeros_22 : decode cJ25_numberOfTrailingZeros 22 = .ok (.invokestatic 311, 3) := dk_184 1 55 (dk_at dksJ25_numberOfTrailingZeros_1 0 rfl rfl)
theorem dJ25_numberOfTrailingZeros_25 : decode cJ25_numberOfTrailingZeros 25 = .ok (.ireturn, 1) := dk_172 (dk_at dksJ25_numberOfTrailingZeros_1 3 rfl rfl)
theorem q117 : (Jvm.Cond.initialized "java/lang/Long") ∈ lw_all := lw_g (lw_at lw_m1 40 rfl) rfl
theorem q1348 : (Jvm.Cond.static ({ cls := "java/lang/Long", name := "numberOfLeadingZeros", desc := "(J)I" } : Jvm.MethodName)) ∈ lw_all := lw_g (lw_at lw_m6 71 rfl) rfl
theorem q1349 : (Jvm.Cond.code ({ cls := "java/lang/Long", name := "numberOfLeadingZeros", desc := "(J)I" } : Jvm.MethodName) prog_34_method_48_code (3 : Nat) (Option.some Jvm.ClassFile.FieldType.int)) ∈ lw_all := lw_g (lw_at lw_m6 72 rfl) rfl
theorem q1350 : (Jvm.Cond.methodLink "java/lang/Long" (308 : Nat) ({ cls := "java/lang/Integer", name := "numberOfLeadingZeros", desc := "(I)I" } : Jvm.MethodName)) ∈ lw_all := lw_g (lw_at lw_m6 73 rfl) rfl
theorem q1357 : (Jvm.Cond.static ({ cls := "java/lang/Long", name := "numberOfTrailingZeros", desc := "(J)I" } : Jvm.MethodName)) ∈ lw_all := lw_g (lw_at lw_m6 80 rfl) rfl
theorem q1358 : (Jvm.Cond.code ({ cls := "java/lang/Long", name := "numberOfTrailingZeros", desc := "(J)I" } : Jvm.MethodName) prog_34_method_49_code (3 : Nat) (Option.some Jvm.ClassFile.FieldType.int)) ∈ lw_all := lw_g (lw_at lw_m6 81 rfl) rfl
theorem q1359 : (Jvm.Cond.methodLink "java/lang/Long" (311 : Nat) ({ cls := "java/lang/Integer", name := "numberOfTrailingZeros", desc := "(I)I" } : Jvm.MethodName)) ∈ lw_all := lw_g (lw_at lw_m6 82 rfl) rfl
/-! java/lang/Integer -/
set_option maxRecDepth 100000
def RJ26 : String := "java/lang/Integer"
abbrev cJ26_numberOfLeadingZeros : ByteArray := prog_32_method_47_code
def yJ26_numberOfLeadingZeros : MethodName := ⟨RJ26, "numberOfLeadingZeros", "(I)I"⟩
def dkwJ26_numberOfLeadingZeros_3 : List UInt8 := [5, 124, 59, 27, 26, 4, 124, 100, 172]
abbrev dktJ26_numberOfLeadingZeros_3 : List UInt8 := dkwJ26_numberOfLeadingZeros_3 ++ []
def dkwJ26_numberOfLeadingZeros_2 : List UInt8 := [124, 59, 26, 16, 16, 161, 0, 10, 132, 1, 252, 26, 7, 124, 59, 26, 7, 161, 0, 10, 132, 1, 254, 26]
abbrev dktJ26_numberOfLeadingZeros_2 : List UInt8 := dkwJ26_numberOfLeadingZeros_2 ++ dktJ26_numberOfLeadingZeros_3
def dkwJ26_numberOfLeadingZeros_1 : List UInt8 := [161, 0, 11, 132, 1, 240, 26, 16, 16, 124, 59, 26, 17, 1, 0, 161, 0, 11, 132, 1, 248, 26, 16, 8]
abbrev dktJ26_numberOfLeadingZeros_1 : List UInt8 := dkwJ26_numberOfLeadingZeros_1 ++ dktJ26_numberOfLeadingZeros_2
def dkwJ26_numberOfLeadingZeros_0 : List UInt8 := [26, 157, 0, 14, 26, 154, 0, 8, 16, 32, 167, 0, 4, 3, 172, 16, 31, 60, 26, 19, 1, 8]
abbrev dktJ26_numberOfLeadingZeros_0 : List UInt8 := dkwJ26_numberOfLeadingZeros_0 ++ dktJ26_numberOfLeadingZeros_1
theorem dksJ26_numberOfLeadingZeros_0 : cJ26_numberOfLeadingZeros.data.toList.drop 0 = dktJ26_numberOfLeadingZeros_0 := by decide +kernel
theorem dksJ26_numberOfLeadingZeros_1 : cJ26_numberOfLeadingZeros.data.toList.drop 22 = dktJ26_numberOfLeadingZeros_1 := dk_seg dksJ26_numberOfLeadingZeros_0 22 rfl rfl
theorem dksJ26_numberOfLeadingZeros_2 : cJ26_numberOfLeadingZeros.data.toList.drop 46 = dktJ26_numberOfLeadingZeros_2 := dk_seg dksJ26_numberOfLeadingZeros_1 24 rfl rfl
theorem dksJ26_numberOfLeadingZeros_3 : cJ26_numberOfLeadingZeros.data.toList.drop 70 = dktJ26_numberOfLeadingZeros_3 := dk_seg dksJ26_numberOfLeadingZeros_2 24 rfl rfl
theorem dJ26_numberOfLeadingZeros_0 : decode cJ26_numberOfLeadingZeros 0 = .ok (.iload_n 0, 1) := dk_26 (dk_at dksJ26_numberOfLeadingZeros_0 0 rfl rfl)
theorem dJ26_numberOfLeadingZeros_1 : decode cJ26_numberOfLeadingZeros 1 = .ok (.ifCond .gt 14, 3) := dk_157 0 14 (dk_at dksJ26_numberOfLeadingZeros_0 1 rfl rfl)
theorem dJ26_numberOfLeadingZeros_4 : decode cJ26_numberOfLeadingZeros 4 = .ok (.iload_n 0, 1) := dk_26 (dk_at dksJ26_numberOfLeadingZeros_0 4 rfl rfl)
theorem dJ26_numberOfLeadingZeros_5 : decode cJ26_numberOfLeadingZeros 5 = .ok (.ifCond .ne 8, 3) := dk_154 0 8 (dk_at dksJ26_numberOfLeadingZeros_0 5 rfl rfl)
theorem dJ26_numberOfLeadingZeros_8 : decode cJ26_numberOfLeadingZeros 8 = .ok (.bipush 32, 2) := dk_16 32 (dk_at dksJ26_numberOfLeadingZeros_0 8 rfl rfl)
theorem dJ26_numberOfLeadingZeros_10 : decode cJ26_numberOfLeadingZeros 10 = .ok (.goto 4, 3) := dk_167 0 4 (dk_at dksJ26_numberOfLeadingZeros_0 10 rfl rfl)
theorem dJ26_numberOfLeadingZeros_13 : decode cJ26_numberOfLeadingZeros 13 = .ok (.iconst 0, 1) := dk_3 (dk_at dksJ26_numberOfLeadingZeros_0 13 rfl rfl)
theorem dJ26_numberOfLeadingZeros_14 : decode cJ26_numberOfLeadingZeros 14 = .ok (.ireturn, 1) := dk_172 (dk_at dksJ26_numberOfLeadingZeros_0 14 rfl rfl)
theorem dJ26_numberOfLeadingZeros_15 : decode cJ26_numberOfLeadingZeros 15 = .ok (.bipush 31, 2) := dk_16 31 (dk_at dksJ26_numberOfLeadingZeros_0 15 rfl rfl)
theorem dJ26_numberOfLeadingZeros_17 : decode cJ26_numberOfLeadingZeros 17 = .ok (.istore_n 1, 1) := dk_60 (dk_at dksJ26_numberOfLeadingZeros_0 17 rfl rfl)
theorem dJ26_numberOfLeadingZeros_18 : decode cJ26_numberOfLeadingZeros 18 = .ok (.iload_n 0, 1) := dk_26 (dk_at dksJ26_numberOfLeadingZeros_0 18 rfl rfl)
theorem dJ26_numberOfLeadingZeros_19 : decode cJ26_numberOfLeadingZeros 19 = .ok (.ldc_w 264, 3) := dk_19 1 8 (dk_at dksJ26_numberOfLeadingZeros_0 19 rfl rfl)
theorem dJ26_numberOfLeadingZeros_22 : decode cJ26_numberOfLeadingZeros 22 = .ok (.if_icmp .lt 11, 3) := dk_161 0 11 (dk_at dksJ26_numberOfLeadingZeros_1 0 rfl rfl)
theorem dJ26_numberOfLeadingZeros_25 : decode cJ26_numberOfLeadingZeros 25 = .ok (.iinc 1 (-16), 3) := dk_132 1 240 (dk_at dksJ26_numberOfLeadingZeros_1 3 rfl rfl)
theorem dJ26_numberOfLeadingZeros_28 : decode cJ26_numberOfLeadingZeros 28 = .ok (.iload_n 0, 1) := dk_26 (dk_at dksJ26_numberOfLeadingZeros_1 6 rfl rfl)
theorem dJ26_numberOfLeadingZeros_29 : decode cJ26_numberOfLeadingZeros 29 = .ok (.bipush 16, 2) := dk_16 16 (dk_at dksJ26_numberOfLeadingZeros_1 7 rfl rfl)
theorem dJ26_numberOfLeadingZeros_31 : decode cJ26_numberOfLeadingZeros 31 = .ok (.iushr, 1) := dk_124 (dk_at dksJ26_numberOfLeadingZeros_1 9 rfl rfl)
theorem dJ26_numberOfLeadingZeros_32 : decode cJ26_numberOfLeadingZeros 32 = .ok (.istore_n 0, 1) := dk_59 (dk_at dksJ26_numberOfLeadingZeros_1 10 rfl rfl)
theorem dJ26_numberOfLeadingZeros_33 : decode cJ26_numberOfLeadingZeros 33 = .ok (.iload_n 0, 1) := dk_26 (dk_at dksJ26_numberOfLeadingZeros_1 11 rfl rfl)
theorem dJ26_numberOfLeadingZeros_34 : decode cJ26_numberOfLeadingZeros 34 = .ok (.sipush 256, 3) := dk_17 1 0 (dk_at dksJ26_numberOfLeadingZeros_1 12 rfl rfl)
theorem dJ26_numberOfLeadingZeros_37 : decode cJ26_numberOfLeadingZeros 37 = .ok (.if_icmp .lt 11, 3) := dk_161 0 11 (dk_at dksJ26_numberOfLeadingZeros_1 15 rfl rfl)
theorem dJ26_numberOfLeadingZeros_40 : decode cJ26_numberOfLeadingZeros 40 = .ok (.iinc 1 (-8), 3) := dk_132 1 248 (dk_at dksJ26_numberOfLeadingZeros_1 18 rfl rfl)
theorem dJ26_numberOfLeadingZeros_43 : decode cJ26_numberOfLeadingZeros 43 = .ok (.iload_n 0, 1) := dk_26 (dk_at dksJ26_numberOfLeadingZeros_1 21 rfl rfl)
theorem dJ26_numberOfLeadingZeros_44 : decode cJ26_numberOfLeadingZeros 44 = .ok (.bipush 8, 2) := dk_16 8 (dk_at dksJ26_numberOfLeadingZeros_1 22 rfl rfl)
theorem dJ26_numberOfLeadingZeros_46 : decode cJ26_numberOfLeadingZeros 46 = .ok (.iushr, 1) := dk_124 (dk_at dksJ26_numberOfLeadingZeros_2 0 rfl rfl)
theorem dJ26_numberOfLeadingZeros_47 : decode cJ26_numberOfLeadingZeros 47 = .ok (.istore_n 0, 1) := dk_59 (dk_at dksJ26_numberOfLeadingZeros_2 1 rfl rfl)
theorem dJ26_numberOfLeadingZeros_48 : decode cJ26_numberOfLeadingZeros 48 = .ok (.iload_n 0, 1) := dk_26 (dk_at dksJ26_numberOfLeadingZeros_2 2 rfl rfl)
theorem dJ26_numberOfLeadingZeros_49 : decode cJ26_numberOfLeadingZeros 49 = .ok (.bipush 16, 2) := dk_16 16 (dk_at dksJ26_numberOfLeadingZeros_2 3 rfl rfl)
theorem dJ26_numberOfLeadingZeros_51 : decode cJ26_numberOfLeadingZeros 51 = .ok (.if_icmp .lt 10, 3) := dk_161 0 10 (dk_at dksJ26_numberOfLeadingZeros_2 5 rfl rfl)
theorem dJ26_numberOfLeadingZeros_54 : decode cJ26_numberOfLeadingZeros 54 = .ok (.iinc 1 (-4), 3) := dk_132 1 252 (dk_at dksJ26_numberOfLeadingZeros_2 8 rfl rfl)
theorem dJ26_numberOfLeadingZeros_57 : decode cJ26_numberOfLeadingZeros 57 = .ok (.iload_n 0, 1) := dk_26 (dk_at dksJ26_numberOfLeadingZeros_2 11 rfl rfl)
theorem dJ26_numberOfLeadingZeros_58 : decode cJ26_numberOfLeadingZeros 58 = .ok (.iconst 4, 1) := dk_7 (dk_at dksJ26_numberOfLeadingZeros_2 12 rfl rfl)
theorem dJ26_numberOfLeadingZeros_59 : decode cJ26_numberOfLeadingZeros 59 = .ok (.iushr, 1) := dk_124 (dk_at dksJ26_numberOfLeadingZeros_2 13 rfl rfl)
theorem dJ26_numberOfLeadingZeros_60 : decode cJ26_numberOfLeadingZeros 60 = .ok (.istore_n 0, 1) := dk_59 (dk_at dksJ26_numberOfLeadingZeros_2 14 rfl rfl)
theorem dJ26_numberOfLeadingZeros_61 : decode cJ26_numberOfLeadingZeros 61 = .ok (.iload_n 0, 1) := dk_26 (dk_at dksJ26_numberOfLeadingZeros_2 15 rfl rfl)
theorem dJ26_numberOfLeadingZeros_62 : decode cJ26_numberOfLeadingZeros 62 = .ok (.iconst 4, 1) := dk_7 (dk_at dksJ26_numberOfLeadingZeros_2 16 rfl rfl)
theorem dJ26_numberOfLeadingZeros_63 : decode cJ26_numberOfLeadingZeros 63 = .ok (.if_icmp .lt 10, 3) := dk_161 0 10 (dk_at dksJ26_numberOfLeadingZeros_2 17 rfl rfl)
theorem dJ26_numberOfLeadingZeros_66 : decode cJ26_numberOfLeadingZeros 66 = .ok (.iinc 1 (-2), 3) := dk_132 1 254 (dk_at dksJ26_numberOfLeadingZeros_2 20 rfl rfl)
theorem dJ26_numberOfLeadingZeros_69 : decode cJ26_numberOfLeadingZeros 69 = .ok (.iload_n 0, 1) := dk_26 (dk_at dksJ26_numberOfLeadingZeros_2 23 rfl rfl)
theorem dJ26_numberOfLeadingZeros_70 : decode cJ26_numberOfLeadingZeros 70 = .ok (.iconst 2, 1) := dk_5 (dk_at dksJ26_numberOfLeadingZeros_3 0 rfl rfl)
theorem dJ26_numberOfLeadingZeros_71 : decode cJ26_numberOfLeadingZeros 71 = .ok (.iushr, 1) := dk_124 (dk_at dksJ26_numberOfLeadingZeros_3 1 rfl rfl)
theorem dJ26_numberOfLeadingZeros_72 : decode cJ26_numberOfLeadingZeros 72 = .ok (.istore_n 0, 1) := dk_59 (dk_at dksJ26_numberOfLeadingZeros_3 2 rfl rfl)
theorem dJ26_numberOfLeadingZeros_73 : decode cJ26_numberOfLeadingZeros 73 = .ok (.iload_n 1, 1) := dk_27 (dk_at dksJ26_numberOfLeadingZeros_3 3 rfl rfl)
theorem dJ26_numberOfLeadingZeros_74 : decode cJ26_numberOfLeadingZeros 74 = .ok (.iload_n 0, 1) := dk_26 (dk_at dksJ26_numberOfLeadingZeros_3 4 rfl rfl)
theorem dJ26_numberOfLeadingZeros_75 : decode cJ26_numberOfLeadingZeros 75 = .ok (.iconst 1, 1) := dk_4 (dk_at dksJ26_numberOfLeadingZeros_3 5 rfl rfl)
theorem dJ26_numberOfLeadingZeros_76 : decode cJ26_numberOfLeadingZeros 76 = .ok (.iushr, 1) := dk_124 (dk_at dksJ26_numberOfLeadingZeros_3 6 rfl rfl)
theorem dJ26_numberOfLeadingZeros_77 : decode cJ26_numberOfLeadingZeros 77 = .ok (.isub, 1) := dk_100 (dk_at dksJ26_numberOfLeadingZeros_3 7 rfl rfl)
theorem dJ26_numberOfLeadingZeros_78 : decode cJ26_numberOfLeadingZeros 78 = .ok (.ireturn, 1) := dk_172 (dk_at dksJ26_numberOfLeadingZeros_3 8 rfl rfl)
abbrev cJ26_numberOfTrailingZeros : ByteArray := prog_32_method_48_code
def yJ26_numberOfTrailingZeros : MethodName := ⟨RJ26, "numberOfTrailingZeros", "(I)I"⟩
def dkwJ26_numberOfTrailingZeros_3 : List UInt8 := [5, 124, 59, 27, 26, 4, 124, 96, 172]
abbrev dktJ26_numberOfTrailingZeros_3 : List UInt8 := dkwJ26_numberOfTrailingZeros_3 ++ []
def dkwJ26_numberOfTrailingZeros_2 : List UInt8 := [124, 59, 26, 16, 16, 164, 0, 10, 132, 1, 4, 26, 7, 124, 59, 26, 7, 164, 0, 10, 132, 1, 2, 26]
abbrev dktJ26_numberOfTrailingZeros_2 : List UInt8 := dkwJ26_numberOfTrailingZeros_2 ++ dktJ26_numberOfTrailingZeros_3
def dkwJ26_numberOfTrailingZeros_1 : List UInt8 := [164, 0, 11, 132, 1, 16, 26, 16, 16, 124, 59, 26, 17, 1, 0, 164, 0, 11, 132, 1, 8, 26, 16, 8]
abbrev dktJ26_numberOfTrailingZeros_1 : List UInt8 := dkwJ26_numberOfTrailingZeros_1 ++ dktJ26_numberOfTrailingZeros_2
def dkwJ26_numberOfTrailingZeros_0 : List UInt8 := [26, 2, 130, 26, 4, 100, 126, 59, 26, 157, 0, 8, 26, 16, 32, 126, 172, 4, 60, 26, 19, 1, 8]
abbrev dktJ26_numberOfTrailingZeros_0 : List UInt8 := dkwJ26_numberOfTrailingZeros_0 ++ dktJ26_numberOfTrailingZeros_1
theorem dksJ26_numberOfTrailingZeros_0 : cJ26_numberOfTrailingZeros.data.toList.drop 0 = dktJ26_numberOfTrailingZeros_0 := by decide +kernel
theorem dksJ26_numberOfTrailingZeros_1 : cJ26_numberOfTrailingZeros.data.toList.drop 23 = dktJ26_numberOfTrailingZeros_1 := dk_seg dksJ26_numberOfTrailingZeros_0 23 rfl rfl
theorem dksJ26_numberOfTrailingZeros_2 : cJ26_numberOfTrailingZeros.data.toList.drop 47 = dktJ26_numberOfTrailingZeros_2 := dk_seg dksJ26_numberOfTrailingZeros_1 24 rfl rfl
theorem dksJ26_numberOfTrailingZeros_3 : cJ26_numberOfTrailingZeros.data.toList.drop 71 = dktJ26_numberOfTrailingZeros_3 := dk_seg dksJ26_numberOfTrailingZeros_2 24 rfl rfl
theorem dJ26_numberOfTrailingZeros_0 : decode cJ26_numberOfTrailingZeros 0 = .ok (.iload_n 0, 1) := dk_26 (dk_at dksJ26_numberOfTrailingZeros_0 0 rfl rfl)
theorem dJ26_numberOfTrailingZeros_1 : decode cJ26_numberOfTrailingZeros 1 = .ok (.iconst (-1), 1) := dk_2 (dk_at dksJ26_numberOfTrailingZeros_0 1 rfl rfl)
theorem dJ26_numberOfTrailingZeros_2 : decode cJ26_numberOfTrailingZeros 2 = .ok (.ixor, 1) := dk_130 (dk_at dksJ26_numberOfTrailingZeros_0 2 rfl rfl)
theorem dJ26_numberOfTrailingZeros_3 : decode cJ26_numberOfTrailingZeros 3 = .ok (.iload_n 0, 1) := dk_26 (dk_at dksJ26_numberOfTrailingZeros_0 3 rfl rfl)
theorem dJ26_numberOfTrailingZeros_4 : decode cJ26_numberOfTrailingZeros 4 = .ok (.iconst 1, 1) := dk_4 (dk_at dksJ26_numberOfTrailingZeros_0 4 rfl rfl)
theorem dJ26_numberOfTrailingZeros_5 : decode cJ26_numberOfTrailingZeros 5 = .ok (.isub, 1) := dk_100 (dk_at dksJ26_numberOfTrailingZeros_0 5 rfl rfl)
theorem dJ26_numberOfTrailingZeros_6 : decode cJ26_numberOfTrailingZeros 6 = .ok (.iand, 1) := dk_126 (dk_at dksJ26_numberOfTrailingZeros_0 6 rfl rfl)
theorem dJ26_numberOfTrailingZeros_7 : decode cJ26_numberOfTrailingZeros 7 = .ok (.istore_n 0, 1) := dk_59 (dk_at dksJ26_numberOfTrailingZeros_0 7 rfl rfl)
theorem dJ26_numberOfTrailingZeros_8 : decode cJ26_numberOfTrailingZeros 8 = .ok (.iload_n 0, 1) := dk_26 (dk_at dksJ26_numberOfTrailingZeros_0 8 rfl rfl)
theorem dJ26_numberOfTrailingZeros_9 : decode cJ26_numberOfTrailingZeros 9 = .ok (.ifCond .gt 8, 3) := dk_157 0 8 (dk_at dksJ26_numberOfTrailingZeros_0 9 rfl rfl)
theorem dJ26_numberOfTrailingZeros_12 : decode cJ26_numberOfTrailingZeros 12 = .ok (.iload_n 0, 1) := dk_26 (dk_at dksJ26_numberOfTrailingZeros_0 12 rfl rfl)
theorem dJ26_numberOfTrailingZeros_13 : decode cJ26_numberOfTrailingZeros 13 = .ok (.bipush 32, 2) := dk_16 32 (dk_at dksJ26_numberOfTrailingZeros_0 13 rfl rfl)
theorem dJ26_numberOfTrailingZeros_15 : decode cJ26_numberOfTrailingZeros 15 = .ok (.iand, 1) := dk_126 (dk_at dksJ26_numberOfTrailingZeros_0 15 rfl rfl)
theorem dJ26_numberOfTrailingZeros_16 : decode cJ26_numberOfTrailingZeros 16 = .ok (.ireturn, 1) := dk_172 (dk_at dksJ26_numberOfTrailingZeros_0 16 rfl rfl)
theorem dJ26_numberOfTrailingZeros_17 : decode cJ26_numberOfTrailingZeros 17 = .ok (.iconst 1, 1) := dk_4 (dk_at dksJ26_numberOfTrailingZeros_0 17 rfl rfl)
theorem dJ26_numberOfTrailingZeros_18 : decode cJ26_numberOfTrailingZeros 18 = .ok (.istore_n 1, 1) := dk_60 (dk_at dksJ26_numberOfTrailingZeros_0 18 rfl rfl)
theorem dJ26_numberOfTrailingZeros_19 : decode cJ26_numberOfTrailingZeros 19 = .ok (.iload_n 0, 1) := dk_26 (dk_at dksJ26_numberOfTrailingZeros_0 19 rfl rfl)
theorem dJ26_numberOfTrailingZeros_20 : decode cJ26_numberOfTrailingZeros 20 = .ok (.ldc_w 264, 3) := dk_19 1 8 (dk_at dksJ26_numberOfTrailingZeros_0 20 rfl rfl)
theorem dJ26_numberOfTrailingZeros_23 : decode cJ26_numberOfTrailingZeros 23 = .ok (.if_icmp .le 11, 3) := dk_164 0 11 (dk_at dksJ26_numberOfTrailingZeros_1 0 rfl rfl)
theorem dJ26_numberOfTrailingZeros_26 : decode cJ26_numberOfTrailingZeros 26 = .ok (.iinc 1 16, 3) := dk_132 1 16 (dk_at dksJ26_numberOfTrailingZeros_1 3 rfl rfl)
theorem dJ26_numberOfTrailingZeros_29 : decode cJ26_numberOfTrailingZeros 29 = .ok (.iload_n 0, 1) := dk_26 (dk_at dksJ26_numberOfTrailingZeros_1 6 rfl rfl)
theorem dJ26_numberOfTrailingZeros_30 : decode cJ26_numberOfTrailingZeros 30 = .ok (.bipush 16, 2) := dk_16 16 (dk_at dksJ26_numberOfTrailingZeros_1 7 rfl rfl)
theorem dJ26_numberOfTrailingZeros_32 : decode cJ26_numberOfTrailingZeros 32 = .ok (.iushr, 1) := dk_124 (dk_at dksJ26_numberOfTrailingZeros_1 9 rfl rfl)
theorem dJ26_numberOfTrailingZeros_33 : decode cJ26_numberOfTrailingZeros 33 = .ok (.istore_n 0, 1) := dk_59 (dk_at dksJ26_numberOfTrailingZeros_1 10 rfl rfl)
theorem dJ26_numberOfTrailingZeros_34 : decode cJ26_numberOfTrailingZeros 34 = .ok (.iload_n 0, 1) := dk_26 (dk_at dksJ26_numberOfTrailingZeros_1 11 rfl rfl)
theorem dJ26_numberOfTrailingZeros_35 : decode cJ26_numberOfTrailingZeros 35 = .ok (.sipush 256, 3) := dk_17 1 0 (dk_at dksJ26_numberOfTrailingZeros_1 12 rfl rfl)
theorem dJ26_numberOfTrailingZeros_38 : decode cJ26_numberOfTrailingZeros 38 = .ok (.if_icmp .le 11, 3) := dk_164 0 11 (dk_at dksJ26_numberOfTrailingZeros_1 15 rfl rfl)
theorem dJ26_numberOfTrailingZeros_41 : decode cJ26_numberOfTrailingZeros 41 = .ok (.iinc 1 8, 3) := dk_132 1 8 (dk_at dksJ26_numberOfTrailingZeros_1 18 rfl rfl)
theorem dJ26_numberOfTrailingZeros_44 : decode cJ26_numberOfTrailingZeros 44 = .ok (.iload_n 0, 1) := dk_26 (dk_at dksJ26_numberOfTrailingZeros_1 21 rfl rfl)
theorem dJ26_numberOfTrailingZeros_45 : decode cJ26_numberOfTrailingZeros 45 = .ok (.bipush 8, 2) := dk_16 8 (dk_at dksJ26_numberOfTrailingZeros_1 22 rfl rfl)
theorem dJ26_numberOfTrailingZeros_47 : decode cJ26_numberOfTrailingZeros 47 = .ok (.iushr, 1) := dk_124 (dk_at dksJ26_numberOfTrailingZeros_2 0 rfl rfl)
theorem dJ26_numberOfTrailingZeros_48 : decode cJ26_numberOfTrailingZeros 48 = .ok (.istore_n 0, 1) := dk_59 (dk_at dksJ26_numberOfTrailingZeros_2 1 rfl rfl)
theorem dJ26_numberOfTrailingZeros_49 : decode cJ26_numberOfTrailingZeros 49 = .ok (.iload_n 0, 1) := dk_26 (dk_at dksJ26_numberOfTrailingZeros_2 2 rfl rfl)
theorem dJ26_numberOfTrailingZeros_50 : decode cJ26_numberOfTrailingZeros 50 = .ok (.bipush 16, 2) := dk_16 16 (dk_at dksJ26_numberOfTrailingZeros_2 3 rfl rfl)
theorem dJ26_numberOfTrailingZeros_52 : decode cJ26_numberOfTrailingZeros 52 = .ok (.if_icmp .le 10, 3) := dk_164 0 10 (dk_at dksJ26_numberOfTrailingZeros_2 5 rfl rfl)
theorem dJ26_numberOfTrailingZeros_55 : decode cJ26_numberOfTrailingZeros 55 = .ok (.iinc 1 4, 3) := dk_132 1 4 (dk_at dksJ26_numberOfTrailingZeros_2 8 rfl rfl)
theorem dJ26_numberOfTrailingZeros_58 : decode cJ26_numberOfTrailingZeros 58 = .ok (.iload_n 0, 1) := dk_26 (dk_at dksJ26_numberOfTrailingZeros_2 11 rfl rfl)
theorem dJ26_numberOfTrailingZeros_59 : decode cJ26_numberOfTrailingZeros 59 = .ok (.iconst 4, 1) := dk_7 (dk_at dksJ26_numberOfTrailingZeros_2 12 rfl rfl)
theorem dJ26_numberOfTrailingZeros_60 : decode cJ26_numberOfTrailingZeros 60 = .ok (.iushr, 1) := dk_124 (dk_at dksJ26_numberOfTrailingZeros_2 13 rfl rfl)
theorem dJ26_numberOfTrailingZeros_61 : decode cJ26_numberOfTrailingZeros 61 = .ok (.istore_n 0, 1) := dk_59 (dk_at dksJ26_numberOfTrailingZeros_2 14 rfl rfl)
theorem dJ26_numberOfTrailingZeros_62 : decode cJ26_numberOfTrailingZeros 62 = .ok (.iload_n 0, 1) := dk_26 (dk_at dksJ26_numberOfTrailingZeros_2 15 rfl rfl)
theorem dJ26_numberOfTrailingZeros_63 : decode cJ26_numberOfTrailingZeros 63 = .ok (.iconst 4, 1) := dk_7 (dk_at dksJ26_numberOfTrailingZeros_2 16 rfl rfl)
theorem dJ26_numberOfTrailingZeros_64 : decode cJ26_numberOfTrailingZeros 64 = .ok (.if_icmp .le 10, 3) := dk_164 0 10 (dk_at dksJ26_numberOfTrailingZeros_2 17 rfl rfl)
theorem dJ26_numberOfTrailingZeros_67 : decode cJ26_numberOfTrailingZeros 67 = .ok (.iinc 1 2, 3) := dk_132 1 2 (dk_at dksJ26_numberOfTrailingZeros_2 20 rfl rfl)
theorem dJ26_numberOfTrailingZeros_70 : decode cJ26_numberOfTrailingZeros 70 = .ok (.iload_n 0, 1) := dk_26 (dk_at dksJ26_numberOfTrailingZeros_2 23 rfl rfl)
theorem dJ26_numberOfTrailingZeros_71 : decode cJ26_numberOfTrailingZeros 71 = .ok (.iconst 2, 1) := dk_5 (dk_at dksJ26_numberOfTrailingZeros_3 0 rfl rfl)
theorem dJ26_numberOfTrailingZeros_72 : decode cJ26_numberOfTrailingZeros 72 = .ok (.iushr, 1) := dk_124 (dk_at dksJ26_numberOfTrailingZeros_3 1 rfl rfl)
theorem dJ26_numberOfTrailingZeros_73 : decode cJ26_numberOfTrailingZeros 73 = .ok (.istore_n 0, 1) := dk_59 (dk_at dksJ26_numberOfTrailingZeros_3 2 rfl rfl)
theorem dJ26_numberOfTrailingZeros_74 : decode cJ26_numberOfTrailingZeros 74 = .ok (.iload_n 1, 1) := dk_27 (dk_at dksJ26_numberOfTrailingZeros_3 3 rfl rfl)
theorem dJ26_numberOfTrailingZeros_75 : decode cJ26_numberOfTrailingZeros 75 = .ok (.iload_n 0, 1) := dk_26 (dk_at dksJ26_numberOfTrailingZeros_3 4 rfl rfl)
theorem dJ26_numberOfTrailingZeros_76 : decode cJ26_numberOfTrailingZeros 76 = .ok (.iconst 1, 1) := dk_4 (dk_at dksJ26_numberOfTrailingZeros_3 5 rfl rfl)
theorem dJ26_numberOfTrailingZeros_77 : decode cJ26_numberOfTrailingZeros 77 = .ok (.iushr, 1) := dk_124 (dk_at dksJ26_numberOfTrailingZeros_3 6 rfl rfl)
theorem dJ26_numberOfTrailingZeros_78 : decode cJ26_numberOfTrailingZeros 78 = .ok (.iadd, 1) := dk_96 (dk_at dksJ26_numberOfTrailingZeros_3 7 rfl rfl)
theorem dJ26_numberOfTrailingZeros_79 : decode cJ26_numberOfTrailingZeros 79 = .ok (.ireturn, 1) := dk_172 (dk_at dksJ26_numberOfTrailingZeros_3 8 rfl rfl)
theorem q118 : (Jvm.Cond.initialized "java/lang/Integer") ∈ lw_all := lw_g (lw_at lw_m1 41 rfl) rfl
theorem q1351 : (Jvm.Cond.static ({ cls := "java/lang/Integer", name := "numberOfLeadingZeros", desc := "(I)I" } : Jvm.MethodName)) ∈ lw_all := lw_g (lw_at lw_m6 74 rfl) rfl
theorem q1352 : (Jvm.Cond.code ({ cls := "java/lang/Integer", name := "numberOfLeadingZeros", desc := "(I)I" } : Jvm.MethodName) prog_32_method_47_code (2 : Nat) (Option.some Jvm.ClassFile.FieldType.int)) ∈ lw_all := lw_g (lw_at lw_m6 75 rfl) rfl
theorem q1353 : (Jvm.Cond.constant "java/lang/Integer" (264 : Nat) (65536 : Int32)) ∈ lw_all := lw_g (lw_at lw_m6 76 rfl) rfl
theorem q1360 : (Jvm.Cond.static ({ cls := "java/lang/Integer", name := "numberOfTrailingZeros", desc := "(I)I" } : Jvm.MethodName)) ∈ lw_all := lw_g (lw_at lw_m6 83 rfl) rfl
theorem q1361 : (Jvm.Cond.code ({ cls := "java/lang/Integer", name := "numberOfTrailingZeros", desc := "(I)I" } : Jvm.MethodName) prog_32_method_48_code (2 : Nat) (Option.some Jvm.ClassFile.FieldType.int)) ∈ lw_all := lw_g (lw_at lw_m6 84 rfl) rfl
/-! java/lang/Object -/
set_option maxRecDepth 100000
def RJ41 : String := "java/lang/Object"
abbrev cJ41_init : ByteArray := object_method_1_code
def yJ41_init : MethodName := ⟨RJ41, "<init>", "()V"⟩
theorem dJ41_init_0 : decode cJ41_init 0 = .ok (.return_, 1) := by decide +kernel
theorem q142 : (Jvm.Cond.instanceMethod ({ cls := "java/lang/Object", name := "<init>", desc := "()V" } : Jvm.MethodName)) ∈ lw_all := lw_g (lw_at lw_m1 65 rfl) rfl
theorem q143 : (Jvm.Cond.code ({ cls := "java/lang/Object", name := "<init>", desc := "()V" } : Jvm.MethodName) object_method_1_code (1 : Nat) (Option.none : Option Jvm.ClassFile.FieldType)) ∈ lw_all := lw_g (lw_at lw_m1 66 rfl) rfl
theorem q429 : (Jvm.Cond.instanceMethod ({ cls := "java/lang/Object", name := "getClass", desc := "()Ljava/lang/Class;" } : Jvm.MethodName)) ∈ lw_all := lw_g (lw_at lw_m2 112 rfl) rfl
theorem q430 : (Jvm.Cond.sameMethod "java/lang/Object" "java/lang/Object" "getClass" "()Ljava/lang/Class;") ∈ lw_all := lw_g (lw_at lw_m2 113 rfl) rfl
theorem q464 : (Jvm.Cond.native ({ cls := "java/lang/Object", name := "getClass", desc := "()Ljava/lang/Class;" } : Jvm.MethodName)) ∈ lw_all := lw_g (lw_at lw_m2 147 rfl) rfl
theorem q880 : (Jvm.Cond.native ({ cls := "java/lang/Object", name := "clone", desc := "()Ljava/lang/Object;" } : Jvm.MethodName)) ∈ lw_all := lw_g (lw_at lw_m4 83 rfl) rfl
theorem q881 : (Jvm.Cond.instanceMethod ({ cls := "java/lang/Object", name := "clone", desc := "()Ljava/lang/Object;" } : Jvm.MethodName)) ∈ lw_all := lw_g (lw_at lw_m4 84 rfl) rfl
theorem q2794 : (Jvm.Cond.declares ({ cls := "java/lang/Object", name := "getClass", desc := "()Ljava/lang/Class;" } : Jvm.MethodName)) ∈ lw_tbl := lw_at lw_m12 77 rfl
theorem q2808 : (Jvm.Cond.instantiable "java/lang/Object" (0 : Nat)) ∈ lw_all := lw_g (lw_at lw_m12 91 rfl) rfl
