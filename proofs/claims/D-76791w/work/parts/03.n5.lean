/-! java/lang/String -/
set_option maxRecDepth 100000
def RJ9 : String := "java/lang/String"
def TJ9 : u_T := fun k => match k with
  | 0 => ("java/lang/String", "value", "[B", true)
  | 1 => ("java/lang/String", "coder", "B", true)
  | 2 => ("java/lang/String", "hash", "I", false)
  | _ => ("java/lang/String", "hashIsZero", "Z", false)
def tyJ9 : Nat → FieldType := fun k => match k with
  | 0 => .array .byte
  | 1 => .byte
  | 2 => .int
  | _ => .boolean
abbrev wsJ90 : List Cond := u_ws RJ9 TJ9 4
theorem nmJ9 : ∀ a, a < 4 → ∀ b, b < 4 → a ≠ b → (TJ9 a).2.1 ≠ (TJ9 b).2.1 := by decide +kernel
theorem tyJ9_ok : ∀ k, k < 4 → parseFieldDescriptor (TJ9 k).2.2.1 = some (tyJ9 k) := by decide +kernel
abbrev cJ9_indexOf : ByteArray := prog_40_method_79_code
def yJ9_indexOf : MethodName := ⟨RJ9, "indexOf", "(I)I"⟩
def dkwJ9_indexOf_0 : List UInt8 := [42, 27, 3, 182, 2, 121, 172]
abbrev dktJ9_indexOf_0 : List UInt8 := dkwJ9_indexOf_0 ++ []
theorem dksJ9_indexOf_0 : cJ9_indexOf.data.toList.drop 0 = dktJ9_indexOf_0 := by decide +kernel
theorem dJ9_indexOf_0 : decode cJ9_indexOf 0 = .ok (.aload_n 0, 1) := dk_42 (dk_at dksJ9_indexOf_0 0 rfl rfl)
theorem dJ9_indexOf_1 : decode cJ9_indexOf 1 = .ok (.iload_n 1, 1) := dk_27 (dk_at dksJ9_indexOf_0 1 rfl rfl)
theorem dJ9_indexOf_2 : decode cJ9_indexOf 2 = .ok (.iconst 0, 1) := dk_3 (dk_at dksJ9_indexOf_0 2 rfl rfl)
theorem dJ9_indexOf_3 : decode cJ9_indexOf 3 = .ok (.invokevirtual 633, 3) := dk_182 2 121 (dk_at dksJ9_indexOf_0 3 rfl rfl)
theorem dJ9_indexOf_6 : decode cJ9_indexOf 6 = .ok (.ireturn, 1) := dk_172 (dk_at dksJ9_indexOf_0 6 rfl rfl)
abbrev cJ9_indexOf_2 : ByteArray := prog_40_method_80_code
def yJ9_indexOf_2 : MethodName := ⟨RJ9, "indexOf", "(II)I"⟩
def dkwJ9_indexOf_2_1 : List UInt8 := [180, 0, 9, 27, 28, 42, 182, 1, 249, 184, 2, 128, 172]
abbrev dktJ9_indexOf_2_1 : List UInt8 := dkwJ9_indexOf_2_1 ++ []
def dkwJ9_indexOf_2_0 : List UInt8 := [42, 182, 1, 236, 153, 0, 19, 42, 180, 0, 9, 27, 28, 42, 182, 1, 249, 184, 2, 125, 167, 0, 16, 42]
abbrev dktJ9_indexOf_2_0 : List UInt8 := dkwJ9_indexOf_2_0 ++ dktJ9_indexOf_2_1
theorem dksJ9_indexOf_2_0 : cJ9_indexOf_2.data.toList.drop 0 = dktJ9_indexOf_2_0 := by decide +kernel
theorem dksJ9_indexOf_2_1 : cJ9_indexOf_2.data.toList.drop 24 = dktJ9_indexOf_2_1 := dk_seg dksJ9_indexOf_2_0 24 rfl rfl
theorem dJ9_indexOf_2_0 : decode cJ9_indexOf_2 0 = .ok (.aload_n 0, 1) := dk_42 (dk_at dksJ9_indexOf_2_0 0 rfl rfl)
theorem dJ9_indexOf_2_1 : decode cJ9_indexOf_2 1 = .ok (.invokevirtual 492, 3) := dk_182 1 236 (dk_at dksJ9_indexOf_2_0 1 rfl rfl)
theorem dJ9_indexOf_2_4 : decode cJ9_indexOf_2 4 = .ok (.ifCond .eq 19, 3) := dk_153 0 19 (dk_at dksJ9_indexOf_2_0 4 rfl rfl)
theorem dJ9_indexOf_2_7 : decode cJ9_indexOf_2 7 = .ok (.aload_n 0, 1) := dk_42 (dk_at dksJ9_indexOf_2_0 7 rfl rfl)
theorem dJ9_indexOf_2_8 : decode cJ9_indexOf_2 8 = .ok (.getfield 9, 3) := dk_180 0 9 (dk_at dksJ9_indexOf_2_0 8 rfl rfl)
theorem dJ9_indexOf_2_11 : decode cJ9_indexOf_2 11 = .ok (.iload_n 1, 1) := dk_27 (dk_at dksJ9_indexOf_2_0 11 rfl rfl)
theorem dJ9_indexOf_2_12 : decode cJ9_indexOf_2 12 = .ok (.iload_n 2, 1) := dk_28 (dk_at dksJ9_indexOf_2_0 12 rfl rfl)
theorem dJ9_indexOf_2_13 : decode cJ9_indexOf_2 13 = .ok (.aload_n 0, 1) := dk_42 (dk_at dksJ9_indexOf_2_0 13 rfl rfl)
theorem dJ9_indexOf_2_14 : decode cJ9_indexOf_2 14 = .ok (.invokevirtual 505, 3) := dk_182 1 249 (dk_at dksJ9_indexOf_2_0 14 rfl rfl)
theorem dJ9_indexOf_2_17 : decode cJ9_indexOf_2 17 = .ok (.invokestatic 637, 3) := dk_184 2 125 (dk_at dksJ9_indexOf_2_0 17 rfl rfl)
theorem dJ9_indexOf_2_20 : decode cJ9_indexOf_2 20 = .ok (.goto 16, 3) := dk_167 0 16 (dk_at dksJ9_indexOf_2_0 20 rfl rfl)
theorem dJ9_indexOf_2_23 : decode cJ9_indexOf_2 23 = .ok (.aload_n 0, 1) := dk_42 (dk_at dksJ9_indexOf_2_0 23 rfl rfl)
theorem dJ9_indexOf_2_24 : decode cJ9_indexOf_2 24 = .ok (.getfield 9, 3) := dk_180 0 9 (dk_at dksJ9_indexOf_2_1 0 rfl rfl)
theorem dJ9_indexOf_2_27 : decode cJ9_indexOf_2 27 = .ok (.iload_n 1, 1) := dk_27 (dk_at dksJ9_indexOf_2_1 3 rfl rfl)
theorem dJ9_indexOf_2_28 : decode cJ9_indexOf_2 28 = .ok (.iload_n 2, 1) := dk_28 (dk_at dksJ9_indexOf_2_1 4 rfl rfl)
theorem dJ9_indexOf_2_29 : decode cJ9_indexOf_2 29 = .ok (.aload_n 0, 1) := dk_42 (dk_at dksJ9_indexOf_2_1 5 rfl rfl)
theorem dJ9_indexOf_2_30 : decode cJ9_indexOf_2 30 = .ok (.invokevirtual 505, 3) := dk_182 1 249 (dk_at dksJ9_indexOf_2_1 6 rfl rfl)
theorem dJ9_indexOf_2_33 : decode cJ9_indexOf_2 33 = .ok (.invokestatic 640, 3) := dk_184 2 128 (dk_at dksJ9_indexOf_2_1 9 rfl rfl)
theorem dJ9_indexOf_2_36 : decode cJ9_indexOf_2 36 = .ok (.ireturn, 1) := dk_172 (dk_at dksJ9_indexOf_2_1 12 rfl rfl)
abbrev cJ9_isLatin1 : ByteArray := prog_40_method_154_code
def yJ9_isLatin1 : MethodName := ⟨RJ9, "isLatin1", "()Z"⟩
def dkwJ9_isLatin1_0 : List UInt8 := [178, 0, 38, 153, 0, 14, 42, 180, 0, 15, 154, 0, 7, 4, 167, 0, 4, 3, 172]
abbrev dktJ9_isLatin1_0 : List UInt8 := dkwJ9_isLatin1_0 ++ []
theorem dksJ9_isLatin1_0 : cJ9_isLatin1.data.toList.drop 0 = dktJ9_isLatin1_0 := by decide +kernel
theorem dJ9_isLatin1_0 : decode cJ9_isLatin1 0 = .ok (.getstatic 38, 3) := dk_178 0 38 (dk_at dksJ9_isLatin1_0 0 rfl rfl)
theorem dJ9_isLatin1_3 : decode cJ9_isLatin1 3 = .ok (.ifCond .eq 14, 3) := dk_153 0 14 (dk_at dksJ9_isLatin1_0 3 rfl rfl)
theorem dJ9_isLatin1_6 : decode cJ9_isLatin1 6 = .ok (.aload_n 0, 1) := dk_42 (dk_at dksJ9_isLatin1_0 6 rfl rfl)
theorem dJ9_isLatin1_7 : decode cJ9_isLatin1 7 = .ok (.getfield 15, 3) := dk_180 0 15 (dk_at dksJ9_isLatin1_0 7 rfl rfl)
theorem dJ9_isLatin1_10 : decode cJ9_isLatin1 10 = .ok (.ifCond .ne 7, 3) := dk_154 0 7 (dk_at dksJ9_isLatin1_0 10 rfl rfl)
theorem dJ9_isLatin1_13 : decode cJ9_isLatin1 13 = .ok (.iconst 1, 1) := dk_4 (dk_at dksJ9_isLatin1_0 13 rfl rfl)
theorem dJ9_isLatin1_14 : decode cJ9_isLatin1 14 = .ok (.goto 4, 3) := dk_167 0 4 (dk_at dksJ9_isLatin1_0 14 rfl rfl)
theorem dJ9_isLatin1_17 : decode cJ9_isLatin1 17 = .ok (.iconst 0, 1) := dk_3 (dk_at dksJ9_isLatin1_0 17 rfl rfl)
theorem dJ9_isLatin1_18 : decode cJ9_isLatin1 18 = .ok (.ireturn, 1) := dk_172 (dk_at dksJ9_isLatin1_0 18 rfl rfl)
abbrev cJ9_length : ByteArray := prog_40_method_54_code
def yJ9_length : MethodName := ⟨RJ9, "length", "()I"⟩
def dkwJ9_length_0 : List UInt8 := [42, 180, 0, 9, 190, 42, 182, 1, 79, 122, 172]
abbrev dktJ9_length_0 : List UInt8 := dkwJ9_length_0 ++ []
theorem dksJ9_length_0 : cJ9_length.data.toList.drop 0 = dktJ9_length_0 := by decide +kernel
theorem dJ9_length_0 : decode cJ9_length 0 = .ok (.aload_n 0, 1) := dk_42 (dk_at dksJ9_length_0 0 rfl rfl)
theorem dJ9_length_1 : decode cJ9_length 1 = .ok (.getfield 9, 3) := dk_180 0 9 (dk_at dksJ9_length_0 1 rfl rfl)
theorem dJ9_length_4 : decode cJ9_length 4 = .ok (.arraylength, 1) := dk_190 (dk_at dksJ9_length_0 4 rfl rfl)
theorem dJ9_length_5 : decode cJ9_length 5 = .ok (.aload_n 0, 1) := dk_42 (dk_at dksJ9_length_0 5 rfl rfl)
theorem dJ9_length_6 : decode cJ9_length 6 = .ok (.invokevirtual 335, 3) := dk_182 1 79 (dk_at dksJ9_length_0 6 rfl rfl)
theorem dJ9_length_9 : decode cJ9_length 9 = .ok (.ishr, 1) := dk_122 (dk_at dksJ9_length_0 9 rfl rfl)
theorem dJ9_length_10 : decode cJ9_length 10 = .ok (.ireturn, 1) := dk_172 (dk_at dksJ9_length_0 10 rfl rfl)
abbrev cJ9_coder : ByteArray := prog_40_method_152_code
def yJ9_coder : MethodName := ⟨RJ9, "coder", "()B"⟩
def dkwJ9_coder_0 : List UInt8 := [178, 0, 38, 153, 0, 10, 42, 180, 0, 15, 167, 0, 4, 4, 172]
abbrev dktJ9_coder_0 : List UInt8 := dkwJ9_coder_0 ++ []
theorem dksJ9_coder_0 : cJ9_coder.data.toList.drop 0 = dktJ9_coder_0 := by decide +kernel
theorem dJ9_coder_0 : decode cJ9_coder 0 = .ok (.getstatic 38, 3) := dk_178 0 38 (dk_at dksJ9_coder_0 0 rfl rfl)
theorem dJ9_coder_3 : decode cJ9_coder 3 = .ok (.ifCond .eq 10, 3) := dk_153 0 10 (dk_at dksJ9_coder_0 3 rfl rfl)
theorem dJ9_coder_6 : decode cJ9_coder 6 = .ok (.aload_n 0, 1) := dk_42 (dk_at dksJ9_coder_0 6 rfl rfl)
theorem dJ9_coder_7 : decode cJ9_coder 7 = .ok (.getfield 15, 3) := dk_180 0 15 (dk_at dksJ9_coder_0 7 rfl rfl)
theorem dJ9_coder_10 : decode cJ9_coder 10 = .ok (.goto 4, 3) := dk_167 0 4 (dk_at dksJ9_coder_0 10 rfl rfl)
theorem dJ9_coder_13 : decode cJ9_coder 13 = .ok (.iconst 1, 1) := dk_4 (dk_at dksJ9_coder_0 13 rfl rfl)
theorem dJ9_coder_14 : decode cJ9_coder 14 = .ok (.ireturn, 1) := dk_172 (dk_at dksJ9_coder_0 14 rfl rfl)
abbrev cJ9_checkBoundsBeginEnd : ByteArray := prog_40_method_158_code
def yJ9_checkBoundsBeginEnd : MethodName := ⟨RJ9, "checkBoundsBeginEnd", "(III)V"⟩
def dkwJ9_checkBoundsBeginEnd_0 : List UInt8 := [26, 27, 28, 178, 4, 29, 184, 4, 38, 87, 177]
abbrev dktJ9_checkBoundsBeginEnd_0 : List UInt8 := dkwJ9_checkBoundsBeginEnd_0 ++ []
theorem dksJ9_checkBoundsBeginEnd_0 : cJ9_checkBoundsBeginEnd.data.toList.drop 0 = dktJ9_checkBoundsBeginEnd_0 := by decide +kernel
theorem dJ9_checkBoundsBeginEnd_0 : decode cJ9_checkBoundsBeginEnd 0 = .ok (.iload_n 0, 1) := dk_26 (dk_at dksJ9_checkBoundsBeginEnd_0 0 rfl rfl)
theorem dJ9_checkBoundsBeginEnd_1 : decode cJ9_checkBoundsBeginEnd 1 = .ok (.iload_n 1, 1) := dk_27 (dk_at dksJ9_checkBoundsBeginEnd_0 1 rfl rfl)
theorem dJ9_checkBoundsBeginEnd_2 : decode cJ9_checkBoundsBeginEnd 2 = .ok (.iload_n 2, 1) := dk_28 (dk_at dksJ9_checkBoundsBeginEnd_0 2 rfl rfl)
theorem dJ9_checkBoundsBeginEnd_3 : decode cJ9_checkBoundsBeginEnd 3 = .ok (.getstatic 1053, 3) := dk_178 4 29 (dk_at dksJ9_checkBoundsBeginEnd_0 3 rfl rfl)
theorem dJ9_checkBoundsBeginEnd_6 : decode cJ9_checkBoundsBeginEnd 6 = .ok (.invokestatic 1062, 3) := dk_184 4 38 (dk_at dksJ9_checkBoundsBeginEnd_0 6 rfl rfl)
theorem dJ9_checkBoundsBeginEnd_9 : decode cJ9_checkBoundsBeginEnd 9 = .ok (.pop, 1) := dk_87 (dk_at dksJ9_checkBoundsBeginEnd_0 9 rfl rfl)
theorem dJ9_checkBoundsBeginEnd_10 : decode cJ9_checkBoundsBeginEnd 10 = .ok (.return_, 1) := dk_177 (dk_at dksJ9_checkBoundsBeginEnd_0 10 rfl rfl)
abbrev cJ9_compareTo : ByteArray := prog_40_method_162_code
def yJ9_compareTo : MethodName := ⟨RJ9, "compareTo", "(Ljava/lang/Object;)I"⟩
def dkwJ9_compareTo_0 : List UInt8 := [42, 43, 192, 0, 10, 182, 4, 60, 172]
abbrev dktJ9_compareTo_0 : List UInt8 := dkwJ9_compareTo_0 ++ []
theorem dksJ9_compareTo_0 : cJ9_compareTo.data.toList.drop 0 = dktJ9_compareTo_0 := by decide +kernel
theorem dJ9_compareTo_0 : decode cJ9_compareTo 0 = .ok (.aload_n 0, 1) := dk_42 (dk_at dksJ9_compareTo_0 0 rfl rfl)
theorem dJ9_compareTo_1 : decode cJ9_compareTo 1 = .ok (.aload_n 1, 1) := dk_43 (dk_at dksJ9_compareTo_0 1 rfl rfl)
theorem dJ9_compareTo_2 : decode cJ9_compareTo 2 = .ok (.checkcast 10, 3) := dk_192 0 10 (dk_at dksJ9_compareTo_0 2 rfl rfl)
theorem dJ9_compareTo_5 : decode cJ9_compareTo 5 = .ok (.invokevirtual 1084, 3) := dk_182 4 60 (dk_at dksJ9_compareTo_0 5 rfl rfl)
theorem dJ9_compareTo_8 : decode cJ9_compareTo 8 = .ok (.ireturn, 1) := dk_172 (dk_at dksJ9_compareTo_0 8 rfl rfl)
abbrev cJ9_compareTo_2 : ByteArray := prog_40_method_71_code
def yJ9_compareTo_2 : MethodName := ⟨RJ9, "compareTo", "(Ljava/lang/String;)I"⟩
def dkwJ9_compareTo_2_2 : List UInt8 := [154, 0, 11, 44, 45, 184, 2, 79, 167, 0, 8, 44, 45, 184, 2, 82, 172]
abbrev dktJ9_compareTo_2_2 : List UInt8 := dkwJ9_compareTo_2_2 ++ []
def dkwJ9_compareTo_2_1 : List UInt8 := [160, 0, 22, 21, 4, 154, 0, 11, 44, 45, 184, 2, 74, 167, 0, 8, 44, 45, 184, 2, 78, 172, 21, 4]
abbrev dktJ9_compareTo_2_1 : List UInt8 := dkwJ9_compareTo_2_1 ++ dktJ9_compareTo_2_2
def dkwJ9_compareTo_2_0 : List UInt8 := [42, 180, 0, 9, 77, 43, 180, 0, 9, 78, 42, 182, 1, 79, 54, 4, 21, 4, 43, 182, 1, 79]
abbrev dktJ9_compareTo_2_0 : List UInt8 := dkwJ9_compareTo_2_0 ++ dktJ9_compareTo_2_1
theorem dksJ9_compareTo_2_0 : cJ9_compareTo_2.data.toList.drop 0 = dktJ9_compareTo_2_0 := by decide +kernel
theorem dksJ9_compareTo_2_1 : cJ9_compareTo_2.data.toList.drop 22 = dktJ9_compareTo_2_1 := dk_seg dksJ9_compareTo_2_0 22 rfl rfl
theorem dksJ9_compareTo_2_2 : cJ9_compareTo_2.data.toList.drop 46 = dktJ9_compareTo_2_2 := dk_seg dksJ9_compareTo_2_1 24 rfl rfl
theorem dJ9_compareTo_2_0 : decode cJ9_compareTo_2 0 = .ok (.aload_n 0, 1) := dk_42 (dk_at dksJ9_compareTo_2_0 0 rfl rfl)
theorem dJ9_compareTo_2_1 : decode cJ9_compareTo_2 1 = .ok (.getfield 9, 3) := dk_180 0 9 (dk_at dksJ9_compareTo_2_0 1 rfl rfl)
theorem dJ9_compareTo_2_4 : decode cJ9_compareTo_2 4 = .ok (.astore_n 2, 1) := dk_77 (dk_at dksJ9_compareTo_2_0 4 rfl rfl)
theorem dJ9_compareTo_2_5 : decode cJ9_compareTo_2 5 = .ok (.aload_n 1, 1) := dk_43 (dk_at dksJ9_compareTo_2_0 5 rfl rfl)
theorem dJ9_compareTo_2_6 : decode cJ9_compareTo_2 6 = .ok (.getfield 9, 3) := dk_180 0 9 (dk_at dksJ9_compareTo_2_0 6 rfl rfl)
theorem dJ9_compareTo_2_9 : decode cJ9_compareTo_2 9 = .ok (.astore_n 3, 1) := dk_78 (dk_at dksJ9_compareTo_2_0 9 rfl rfl)
theorem dJ9_compareTo_2_10 : decode cJ9_compareTo_2 10 = .ok (.aload_n 0, 1) := dk_42 (dk_at dksJ9_compareTo_2_0 10 rfl rfl)
theorem dJ9_compareTo_2_11 : decode cJ9_compareTo_2 11 = .ok (.invokevirtual 335, 3) := dk_182 1 79 (dk_at dksJ9_compareTo_2_0 11 rfl rfl)
theorem dJ9_compareTo_2_14 : decode cJ9_compareTo_2 14 = .ok (.istore 4, 2) := dk_54 4 (dk_at dksJ9_compareTo_2_0 14 rfl rfl)
theorem dJ9_compareTo_2_16 : decode cJ9_compareTo_2 16 = .ok (.iload 4, 2) := dk_21 4 (dk_at dksJ9_compareTo_2_0 16 rfl rfl)
theorem dJ9_compareTo_2_18 : decode cJ9_compareTo_2 18 = .ok (.aload_n 1, 1) := dk_43 (dk_at dksJ9_compareTo_2_0 18 rfl rfl)
theorem dJ9_compareTo_2_19 : decode cJ9_compareTo_2 19 = .ok (.invokevirtual 335, 3) := dk_182 1 79 (dk_at dksJ9_compareTo_2_0 19 rfl rfl)
theorem dJ9_compareTo_2_22 : decode cJ9_compareTo_2 22 = .ok (.if_icmp .ne 22, 3) := dk_160 0 22 (dk_at dksJ9_compareTo_2_1 0 rfl rfl)
theorem dJ9_compareTo_2_25 : decode cJ9_compareTo_2 25 = .ok (.iload 4, 2) := dk_21 4 (dk_at dksJ9_compareTo_2_1 3 rfl rfl)
theorem dJ9_compareTo_2_27 : decode cJ9_compareTo_2 27 = .ok (.ifCond .ne 11, 3) := dk_154 0 11 (dk_at dksJ9_compareTo_2_1 5 rfl rfl)
theorem dJ9_compareTo_2_30 : decode cJ9_compareTo_2 30 = .ok (.aload_n 2, 1) := dk_44 (dk_at dksJ9_compareTo_2_1 8 rfl rfl)
theorem dJ9_compareTo_2_31 : decode cJ9_compareTo_2 31 = .ok (.aload_n 3, 1) := dk_45 (dk_at dksJ9_compareTo_2_1 9 rfl rfl)
theorem dJ9_compareTo_2_32 : decode cJ9_compareTo_2 32 = .ok (.invokestatic 586, 3) := dk_184 2 74 (dk_at dksJ9_compareTo_2_1 10 rfl rfl)
theorem dJ9_compareTo_2_35 : decode cJ9_compareTo_2 35 = .ok (.goto 8, 3) := dk_167 0 8 (dk_at dksJ9_compareTo_2_1 13 rfl rfl)
theorem dJ9_compareTo_2_38 : decode cJ9_compareTo_2 38 = .ok (.aload_n 2, 1) := dk_44 (dk_at dksJ9_compareTo_2_1 16 rfl rfl)
theorem dJ9_compareTo_2_39 : decode cJ9_compareTo_2 39 = .ok (.aload_n 3, 1) := dk_45 (dk_at dksJ9_compareTo_2_1 17 rfl rfl)
theorem dJ9_compareTo_2_40 : decode cJ9_compareTo_2 40 = .ok (.invokestatic 590, 3) := dk_184 2 78 (dk_at dksJ9_compareTo_2_1 18 rfl rfl)
theorem dJ9_compareTo_2_43 : decode cJ9_compareTo_2 43 = .ok (.ireturn, 1) := dk_172 (dk_at dksJ9_compareTo_2_1 21 rfl rfl)
theorem dJ9_compareTo_2_44 : decode cJ9_compareTo_2 44 = .ok (.iload 4, 2) := dk_21 4 (dk_at dksJ9_compareTo_2_1 22 rfl rfl)
theorem dJ9_compareTo_2_46 : decode cJ9_compareTo_2 46 = .ok (.ifCond .ne 11, 3) := dk_154 0 11 (dk_at dksJ9_compareTo_2_2 0 rfl rfl)
theorem dJ9_compareTo_2_49 : decode cJ9_compareTo_2 49 = .ok (.aload_n 2, 1) := dk_44 (dk_at dksJ9_compareTo_2_2 3 rfl rfl)
theorem dJ9_compareTo_2_50 : decode cJ9_compareTo_2 50 = .ok (.aload_n 3, 1) := dk_45 (dk_at dksJ9_compareTo_2_2 4 rfl rfl)
theorem dJ9_compareTo_2_51 : decode cJ9_compareTo_2 51 = .ok (.invokestatic 591, 3) := dk_184 2 79 (dk_at dksJ9_compareTo_2_2 5 rfl rfl)
theorem dJ9_compareTo_2_54 : decode cJ9_compareTo_2 54 = .ok (.goto 8, 3) := dk_167 0 8 (dk_at dksJ9_compareTo_2_2 8 rfl rfl)
theorem dJ9_compareTo_2_57 : decode cJ9_compareTo_2 57 = .ok (.aload_n 2, 1) := dk_44 (dk_at dksJ9_compareTo_2_2 11 rfl rfl)
theorem dJ9_compareTo_2_58 : decode cJ9_compareTo_2 58 = .ok (.aload_n 3, 1) := dk_45 (dk_at dksJ9_compareTo_2_2 12 rfl rfl)
theorem dJ9_compareTo_2_59 : decode cJ9_compareTo_2 59 = .ok (.invokestatic 594, 3) := dk_184 2 82 (dk_at dksJ9_compareTo_2_2 13 rfl rfl)
theorem dJ9_compareTo_2_62 : decode cJ9_compareTo_2 62 = .ok (.ireturn, 1) := dk_172 (dk_at dksJ9_compareTo_2_2 16 rfl rfl)
abbrev cJ9_checkOffset : ByteArray := prog_40_method_156_code
def yJ9_checkOffset : MethodName := ⟨RJ9, "checkOffset", "(II)V"⟩
def dkwJ9_checkOffset_0 : List UInt8 := [26, 27, 27, 178, 4, 29, 184, 4, 38, 87, 177]
abbrev dktJ9_checkOffset_0 : List UInt8 := dkwJ9_checkOffset_0 ++ []
theorem dksJ9_checkOffset_0 : cJ9_checkOffset.data.toList.drop 0 = dktJ9_checkOffset_0 := by decide +kernel
theorem dJ9_checkOffset_0 : decode cJ9_checkOffset 0 = .ok (.iload_n 0, 1) := dk_26 (dk_at dksJ9_checkOffset_0 0 rfl rfl)
theorem dJ9_checkOffset_1 : decode cJ9_checkOffset 1 = .ok (.iload_n 1, 1) := dk_27 (dk_at dksJ9_checkOffset_0 1 rfl rfl)
theorem dJ9_checkOffset_2 : decode cJ9_checkOffset 2 = .ok (.iload_n 1, 1) := dk_27 (dk_at dksJ9_checkOffset_0 2 rfl rfl)
theorem dJ9_checkOffset_3 : decode cJ9_checkOffset 3 = .ok (.getstatic 1053, 3) := dk_178 4 29 (dk_at dksJ9_checkOffset_0 3 rfl rfl)
theorem dJ9_checkOffset_6 : decode cJ9_checkOffset 6 = .ok (.invokestatic 1062, 3) := dk_184 4 38 (dk_at dksJ9_checkOffset_0 6 rfl rfl)
theorem dJ9_checkOffset_9 : decode cJ9_checkOffset 9 = .ok (.pop, 1) := dk_87 (dk_at dksJ9_checkOffset_0 9 rfl rfl)
theorem dJ9_checkOffset_10 : decode cJ9_checkOffset 10 = .ok (.return_, 1) := dk_177 (dk_at dksJ9_checkOffset_0 10 rfl rfl)
abbrev cJ9_checkBoundsOffCount : ByteArray := prog_40_method_157_code
def yJ9_checkBoundsOffCount : MethodName := ⟨RJ9, "checkBoundsOffCount", "(III)I"⟩
def dkwJ9_checkBoundsOffCount_0 : List UInt8 := [26, 27, 28, 178, 4, 29, 184, 4, 41, 172]
abbrev dktJ9_checkBoundsOffCount_0 : List UInt8 := dkwJ9_checkBoundsOffCount_0 ++ []
theorem dksJ9_checkBoundsOffCount_0 : cJ9_checkBoundsOffCount.data.toList.drop 0 = dktJ9_checkBoundsOffCount_0 := by decide +kernel
theorem dJ9_checkBoundsOffCount_0 : decode cJ9_checkBoundsOffCount 0 = .ok (.iload_n 0, 1) := dk_26 (dk_at dksJ9_checkBoundsOffCount_0 0 rfl rfl)
theorem dJ9_checkBoundsOffCount_1 : decode cJ9_checkBoundsOffCount 1 = .ok (.iload_n 1, 1) := dk_27 (dk_at dksJ9_checkBoundsOffCount_0 1 rfl rfl)
theorem dJ9_checkBoundsOffCount_2 : decode cJ9_checkBoundsOffCount 2 = .ok (.iload_n 2, 1) := dk_28 (dk_at dksJ9_checkBoundsOffCount_0 2 rfl rfl)
theorem dJ9_checkBoundsOffCount_3 : decode cJ9_checkBoundsOffCount 3 = .ok (.getstatic 1053, 3) := dk_178 4 29 (dk_at dksJ9_checkBoundsOffCount_0 3 rfl rfl)
theorem dJ9_checkBoundsOffCount_6 : decode cJ9_checkBoundsOffCount 6 = .ok (.invokestatic 1065, 3) := dk_184 4 41 (dk_at dksJ9_checkBoundsOffCount_0 6 rfl rfl)
theorem dJ9_checkBoundsOffCount_9 : decode cJ9_checkBoundsOffCount 9 = .ok (.ireturn, 1) := dk_172 (dk_at dksJ9_checkBoundsOffCount_0 9 rfl rfl)
abbrev cJ9_checkIndex : ByteArray := prog_40_method_155_code
def yJ9_checkIndex : MethodName := ⟨RJ9, "checkIndex", "(II)V"⟩
def dkwJ9_checkIndex_0 : List UInt8 := [26, 27, 178, 4, 29, 184, 4, 35, 87, 177]
abbrev dktJ9_checkIndex_0 : List UInt8 := dkwJ9_checkIndex_0 ++ []
theorem dksJ9_checkIndex_0 : cJ9_checkIndex.data.toList.drop 0 = dktJ9_checkIndex_0 := by decide +kernel
theorem dJ9_checkIndex_0 : decode cJ9_checkIndex 0 = .ok (.iload_n 0, 1) := dk_26 (dk_at dksJ9_checkIndex_0 0 rfl rfl)
theorem dJ9_checkIndex_1 : decode cJ9_checkIndex 1 = .ok (.iload_n 1, 1) := dk_27 (dk_at dksJ9_checkIndex_0 1 rfl rfl)
theorem dJ9_checkIndex_2 : decode cJ9_checkIndex 2 = .ok (.getstatic 1053, 3) := dk_178 4 29 (dk_at dksJ9_checkIndex_0 2 rfl rfl)
theorem dJ9_checkIndex_5 : decode cJ9_checkIndex 5 = .ok (.invokestatic 1059, 3) := dk_184 4 35 (dk_at dksJ9_checkIndex_0 5 rfl rfl)
theorem dJ9_checkIndex_8 : decode cJ9_checkIndex 8 = .ok (.pop, 1) := dk_87 (dk_at dksJ9_checkIndex_0 8 rfl rfl)
theorem dJ9_checkIndex_9 : decode cJ9_checkIndex 9 = .ok (.return_, 1) := dk_177 (dk_at dksJ9_checkIndex_0 9 rfl rfl)
abbrev cJ9_init : ByteArray := prog_40_method_53_code
def yJ9_init : MethodName := ⟨RJ9, "<init>", "(Ljava/lang/StringBuilder;)V"⟩
def dkwJ9_init_0 : List UInt8 := [42, 43, 1, 183, 1, 233, 177]
abbrev dktJ9_init_0 : List UInt8 := dkwJ9_init_0 ++ []
theorem dksJ9_init_0 : cJ9_init.data.toList.drop 0 = dktJ9_init_0 := by decide +kernel
theorem dJ9_init_0 : decode cJ9_init 0 = .ok (.aload_n 0, 1) := dk_42 (dk_at dksJ9_init_0 0 rfl rfl)
theorem dJ9_init_1 : decode cJ9_init 1 = .ok (.aload_n 1, 1) := dk_43 (dk_at dksJ9_init_0 1 rfl rfl)
theorem dJ9_init_2 : decode cJ9_init 2 = .ok (.aconst_null, 1) := dk_1 (dk_at dksJ9_init_0 2 rfl rfl)
theorem dJ9_init_3 : decode cJ9_init 3 = .ok (.invokespecial 489, 3) := dk_183 1 233 (dk_at dksJ9_init_0 3 rfl rfl)
theorem dJ9_init_6 : decode cJ9_init 6 = .ok (.return_, 1) := dk_177 (dk_at dksJ9_init_0 6 rfl rfl)
abbrev cJ9_init_2 : ByteArray := prog_40_method_150_code
def yJ9_init_2 : MethodName := ⟨RJ9, "<init>", "(Ljava/lang/AbstractStringBuilder;Ljava/lang/Void;)V"⟩
def dkwJ9_init_2_4 : List UInt8 := [181, 0, 9, 177]
abbrev dktJ9_init_2_4 : List UInt8 := dkwJ9_init_2_4 ++ []
def dkwJ9_init_2_3 : List UInt8 := [184, 0, 47, 181, 0, 15, 177, 42, 4, 181, 0, 15, 42, 45, 3, 21, 4, 4, 120, 184, 0, 54]
abbrev dktJ9_init_2_3 : List UInt8 := dkwJ9_init_2_3 ++ dktJ9_init_2_4
def dkwJ9_init_2_2 : List UInt8 := [180, 4, 24, 153, 0, 28, 42, 45, 3, 21, 4, 184, 4, 27, 181, 0, 9, 42, 42, 180, 0, 9, 21, 4]
abbrev dktJ9_init_2_2 : List UInt8 := dkwJ9_init_2_2 ++ dktJ9_init_2_3
def dkwJ9_init_2_1 : List UInt8 := [181, 0, 15, 42, 45, 3, 21, 4, 184, 0, 54, 181, 0, 9, 167, 0, 59, 178, 0, 38, 153, 0, 35, 43]
abbrev dktJ9_init_2_1 : List UInt8 := dkwJ9_init_2_1 ++ dktJ9_init_2_2
def dkwJ9_init_2_0 : List UInt8 := [42, 183, 0, 1, 43, 182, 2, 40, 78, 43, 182, 2, 37, 54, 4, 43, 182, 4, 23, 153, 0, 22, 42, 3]
abbrev dktJ9_init_2_0 : List UInt8 := dkwJ9_init_2_0 ++ dktJ9_init_2_1
theorem dksJ9_init_2_0 : cJ9_init_2.data.toList.drop 0 = dktJ9_init_2_0 := by decide +kernel
theorem dksJ9_init_2_1 : cJ9_init_2.data.toList.drop 24 = dktJ9_init_2_1 := dk_seg dksJ9_init_2_0 24 rfl rfl
theorem dksJ9_init_2_2 : cJ9_init_2.data.toList.drop 48 = dktJ9_init_2_2 := dk_seg dksJ9_init_2_1 24 rfl rfl
theorem dksJ9_init_2_3 : cJ9_init_2.data.toList.drop 72 = dktJ9_init_2_3 := dk_seg dksJ9_init_2_2 24 rfl rfl
theorem dksJ9_init_2_4 : cJ9_init_2.data.toList.drop 94 = dktJ9_init_2_4 := dk_seg dksJ9_init_2_3 22 rfl rfl
theorem dJ9_init_2_0 : decode cJ9_init_2 0 = .ok (.aload_n 0, 1) := dk_42 (dk_at dksJ9_init_2_0 0 rfl rfl)
theorem dJ9_init_2_1 : decode cJ9_init_2 1 = .ok (.invokespecial 1, 3) := dk_183 0 1 (dk_at dksJ9_init_2_0 1 rfl rfl)
theorem dJ9_init_2_4 : decode cJ9_init_2 4 = .ok (.aload_n 1, 1) := dk_43 (dk_at dksJ9_init_2_0 4 rfl rfl)
theorem dJ9_init_2_5 : decode cJ9_init_2 5 = .ok (.invokevirtual 552, 3) := dk_182 2 40 (dk_at dksJ9_init_2_0 5 rfl rfl)
theorem dJ9_init_2_8 : decode cJ9_init_2 8 = .ok (.astore_n 3, 1) := dk_78 (dk_at dksJ9_init_2_0 8 rfl rfl)
theorem dJ9_init_2_9 : decode cJ9_init_2 9 = .ok (.aload_n 1, 1) := dk_43 (dk_at dksJ9_init_2_0 9 rfl rfl)
theorem dJ9_init_2_10 : decode cJ9_init_2 10 = .ok (.invokevirtual 549, 3) := dk_182 2 37 (dk_at dksJ9_init_2_0 10 rfl rfl)
theorem dJ9_init_2_13 : decode cJ9_init_2 13 = .ok (.istore 4, 2) := dk_54 4 (dk_at dksJ9_init_2_0 13 rfl rfl)
theorem dJ9_init_2_15 : decode cJ9_init_2 15 = .ok (.aload_n 1, 1) := dk_43 (dk_at dksJ9_init_2_0 15 rfl rfl)
theorem dJ9_init_2_16 : decode cJ9_init_2 16 = .ok (.invokevirtual 1047, 3) := dk_182 4 23 (dk_at dksJ9_init_2_0 16 rfl rfl)
theorem dJ9_init_2_19 : decode cJ9_init_2 19 = .ok (.ifCond .eq 22, 3) := dk_153 0 22 (dk_at dksJ9_init_2_0 19 rfl rfl)
theorem dJ9_init_2_22 : decode cJ9_init_2 22 = .ok (.aload_n 0, 1) := dk_42 (dk_at dksJ9_init_2_0 22 rfl rfl)
theorem dJ9_init_2_23 : decode cJ9_init_2 23 = .ok (.iconst 0, 1) := dk_3 (dk_at dksJ9_init_2_0 23 rfl rfl)
theorem dJ9_init_2_24 : decode cJ9_init_2 24 = .ok (.putfield 15, 3) := dk_181 0 15 (dk_at dksJ9_init_2_1 0 rfl rfl)
theorem dJ9_init_2_27 : decode cJ9_init_2 27 = .ok (.aload_n 0, 1) := dk_42 (dk_at dksJ9_init_2_1 3 rfl rfl)
theorem dJ9_init_2_28 : decode cJ9_init_2 28 = .ok (.aload_n 3, 1) := dk_45 (dk_at dksJ9_init_2_1 4 rfl rfl)
theorem dJ9_init_2_29 : decode cJ9_init_2 29 = .ok (.iconst 0, 1) := dk_3 (dk_at dksJ9_init_2_1 5 rfl rfl)
theorem dJ9_init_2_30 : decode cJ9_init_2 30 = .ok (.iload 4, 2) := dk_21 4 (dk_at dksJ9_init_2_1 6 rfl rfl)
theorem dJ9_init_2_32 : decode cJ9_init_2 32 = .ok (.invokestatic 54, 3) := dk_184 0 54 (dk_at dksJ9_init_2_1 8 rfl rfl)
theorem dJ9_init_2_35 : decode cJ9_init_2 35 = .ok (.putfield 9, 3) := dk_181 0 9 (dk_at dksJ9_init_2_1 11 rfl rfl)
theorem dJ9_init_2_38 : decode cJ9_init_2 38 = .ok (.goto 59, 3) := dk_167 0 59 (dk_at dksJ9_init_2_1 14 rfl rfl)
theorem dJ9_init_2_41 : decode cJ9_init_2 41 = .ok (.getstatic 38, 3) := dk_178 0 38 (dk_at dksJ9_init_2_1 17 rfl rfl)
theorem dJ9_init_2_44 : decode cJ9_init_2 44 = .ok (.ifCond .eq 35, 3) := dk_153 0 35 (dk_at dksJ9_init_2_1 20 rfl rfl)
theorem dJ9_init_2_47 : decode cJ9_init_2 47 = .ok (.aload_n 1, 1) := dk_43 (dk_at dksJ9_init_2_1 23 rfl rfl)
theorem dJ9_init_2_48 : decode cJ9_init_2 48 = .ok (.getfield 1048, 3) := dk_180 4 24 (dk_at dksJ9_init_2_2 0 rfl rfl)
theorem dJ9_init_2_51 : decode cJ9_init_2 51 = .ok (.ifCond .eq 28, 3) := dk_153 0 28 (dk_at dksJ9_init_2_2 3 rfl rfl)
theorem dJ9_init_2_54 : decode cJ9_init_2 54 = .ok (.aload_n 0, 1) := dk_42 (dk_at dksJ9_init_2_2 6 rfl rfl)
theorem dJ9_init_2_55 : decode cJ9_init_2 55 = .ok (.aload_n 3, 1) := dk_45 (dk_at dksJ9_init_2_2 7 rfl rfl)
theorem dJ9_init_2_56 : decode cJ9_init_2 56 = .ok (.iconst 0, 1) := dk_3 (dk_at dksJ9_init_2_2 8 rfl rfl)
theorem dJ9_init_2_57 : decode cJ9_init_2 57 = .ok (.iload 4, 2) := dk_21 4 (dk_at dksJ9_init_2_2 9 rfl rfl)
theorem dJ9_init_2_59 : decode cJ9_init_2 59 = .ok (.invokestatic 1051, 3) := dk_184 4 27 (dk_at dksJ9_init_2_2 11 rfl rfl)
theorem dJ9_init_2_62 : decode cJ9_init_2 62 = .ok (.putfield 9, 3) := dk_181 0 9 (dk_at dksJ9_init_2_2 14 rfl rfl)
theorem dJ9_init_2_65 : decode cJ9_init_2 65 = .ok (.aload_n 0, 1) := dk_42 (dk_at dksJ9_init_2_2 17 rfl rfl)
theorem dJ9_init_2_66 : decode cJ9_init_2 66 = .ok (.aload_n 0, 1) := dk_42 (dk_at dksJ9_init_2_2 18 rfl rfl)
theorem dJ9_init_2_67 : decode cJ9_init_2 67 = .ok (.getfield 9, 3) := dk_180 0 9 (dk_at dksJ9_init_2_2 19 rfl rfl)
theorem dJ9_init_2_70 : decode cJ9_init_2 70 = .ok (.iload 4, 2) := dk_21 4 (dk_at dksJ9_init_2_2 22 rfl rfl)
theorem dJ9_init_2_72 : decode cJ9_init_2 72 = .ok (.invokestatic 47, 3) := dk_184 0 47 (dk_at dksJ9_init_2_3 0 rfl rfl)
theorem dJ9_init_2_75 : decode cJ9_init_2 75 = .ok (.putfield 15, 3) := dk_181 0 15 (dk_at dksJ9_init_2_3 3 rfl rfl)
theorem dJ9_init_2_78 : decode cJ9_init_2 78 = .ok (.return_, 1) := dk_177 (dk_at dksJ9_init_2_3 6 rfl rfl)
theorem dJ9_init_2_79 : decode cJ9_init_2 79 = .ok (.aload_n 0, 1) := dk_42 (dk_at dksJ9_init_2_3 7 rfl rfl)
theorem dJ9_init_2_80 : decode cJ9_init_2 80 = .ok (.iconst 1, 1) := dk_4 (dk_at dksJ9_init_2_3 8 rfl rfl)
theorem dJ9_init_2_81 : decode cJ9_init_2 81 = .ok (.putfield 15, 3) := dk_181 0 15 (dk_at dksJ9_init_2_3 9 rfl rfl)
theorem dJ9_init_2_84 : decode cJ9_init_2 84 = .ok (.aload_n 0, 1) := dk_42 (dk_at dksJ9_init_2_3 12 rfl rfl)
theorem dJ9_init_2_85 : decode cJ9_init_2 85 = .ok (.aload_n 3, 1) := dk_45 (dk_at dksJ9_init_2_3 13 rfl rfl)
theorem dJ9_init_2_86 : decode cJ9_init_2 86 = .ok (.iconst 0, 1) := dk_3 (dk_at dksJ9_init_2_3 14 rfl rfl)
theorem dJ9_init_2_87 : decode cJ9_init_2 87 = .ok (.iload 4, 2) := dk_21 4 (dk_at dksJ9_init_2_3 15 rfl rfl)
theorem dJ9_init_2_89 : decode cJ9_init_2 89 = .ok (.iconst 1, 1) := dk_4 (dk_at dksJ9_init_2_3 17 rfl rfl)
theorem dJ9_init_2_90 : decode cJ9_init_2 90 = .ok (.ishl, 1) := dk_120 (dk_at dksJ9_init_2_3 18 rfl rfl)
theorem dJ9_init_2_91 : decode cJ9_init_2 91 = .ok (.invokestatic 54, 3) := dk_184 0 54 (dk_at dksJ9_init_2_3 19 rfl rfl)
theorem dJ9_init_2_94 : decode cJ9_init_2 94 = .ok (.putfield 9, 3) := dk_181 0 9 (dk_at dksJ9_init_2_4 0 rfl rfl)
theorem dJ9_init_2_97 : decode cJ9_init_2 97 = .ok (.return_, 1) := dk_177 (dk_at dksJ9_init_2_4 3 rfl rfl)
abbrev cJ9_getBytes : ByteArray := prog_40_method_147_code
def yJ9_getBytes : MethodName := ⟨RJ9, "getBytes", "([BIB)V"⟩
def dkwJ9_getBytes_1 : List UInt8 := [184, 0, 212, 167, 0, 18, 42, 180, 0, 9, 3, 43, 28, 42, 180, 0, 9, 190, 184, 0, 106, 177]
abbrev dktJ9_getBytes_1 : List UInt8 := dkwJ9_getBytes_1 ++ []
def dkwJ9_getBytes_0 : List UInt8 := [42, 182, 1, 79, 29, 160, 0, 23, 42, 180, 0, 9, 3, 43, 28, 29, 120, 42, 180, 0, 9, 190]
abbrev dktJ9_getBytes_0 : List UInt8 := dkwJ9_getBytes_0 ++ dktJ9_getBytes_1
theorem dksJ9_getBytes_0 : cJ9_getBytes.data.toList.drop 0 = dktJ9_getBytes_0 := by decide +kernel
theorem dksJ9_getBytes_1 : cJ9_getBytes.data.toList.drop 22 = dktJ9_getBytes_1 := dk_seg dksJ9_getBytes_0 22 rfl rfl
theorem dJ9_getBytes_0 : decode cJ9_getBytes 0 = .ok (.aload_n 0, 1) := dk_42 (dk_at dksJ9_getBytes_0 0 rfl rfl)
theorem dJ9_getBytes_1 : decode cJ9_getBytes 1 = .ok (.invokevirtual 335, 3) := dk_182 1 79 (dk_at dksJ9_getBytes_0 1 rfl rfl)
theorem dJ9_getBytes_4 : decode cJ9_getBytes 4 = .ok (.iload_n 3, 1) := dk_29 (dk_at dksJ9_getBytes_0 4 rfl rfl)
theorem dJ9_getBytes_5 : decode cJ9_getBytes 5 = .ok (.if_icmp .ne 23, 3) := dk_160 0 23 (dk_at dksJ9_getBytes_0 5 rfl rfl)
theorem dJ9_getBytes_8 : decode cJ9_getBytes 8 = .ok (.aload_n 0, 1) := dk_42 (dk_at dksJ9_getBytes_0 8 rfl rfl)
theorem dJ9_getBytes_9 : decode cJ9_getBytes 9 = .ok (.getfield 9, 3) := dk_180 0 9 (dk_at dksJ9_getBytes_0 9 rfl rfl)
theorem dJ9_getBytes_12 : decode cJ9_getBytes 12 = .ok (.iconst 0, 1) := dk_3 (dk_at dksJ9_getBytes_0 12 rfl rfl)
theorem dJ9_getBytes_13 : decode cJ9_getBytes 13 = .ok (.aload_n 1, 1) := dk_43 (dk_at dksJ9_getBytes_0 13 rfl rfl)
theorem dJ9_getBytes_14 : decode cJ9_getBytes 14 = .ok (.iload_n 2, 1) := dk_28 (dk_at dksJ9_getBytes_0 14 rfl rfl)
theorem dJ9_getBytes_15 : decode cJ9_getBytes 15 = .ok (.iload_n 3, 1) := dk_29 (dk_at dksJ9_getBytes_0 15 rfl rfl)
theorem dJ9_getBytes_16 : decode cJ9_getBytes 16 = .ok (.ishl, 1) := dk_120 (dk_at dksJ9_getBytes_0 16 rfl rfl)
theorem dJ9_getBytes_17 : decode cJ9_getBytes 17 = .ok (.aload_n 0, 1) := dk_42 (dk_at dksJ9_getBytes_0 17 rfl rfl)
theorem dJ9_getBytes_18 : decode cJ9_getBytes 18 = .ok (.getfield 9, 3) := dk_180 0 9 (dk_at dksJ9_getBytes_0 18 rfl rfl)
theorem dJ9_getBytes_21 : decode cJ9_getBytes 21 = .ok (.arraylength, 1) := dk_190 (dk_at dksJ9_getBytes_0 21 rfl rfl)
theorem dJ9_getBytes_22 : decode cJ9_getBytes 22 = .ok (.invokestatic 212, 3) := dk_184 0 212 (dk_at dksJ9_getBytes_1 0 rfl rfl)
theorem dJ9_getBytes_25 : decode cJ9_getBytes 25 = .ok (.goto 18, 3) := dk_167 0 18 (dk_at dksJ9_getBytes_1 3 rfl rfl)
theorem dJ9_getBytes_28 : decode cJ9_getBytes 28 = .ok (.aload_n 0, 1) := dk_42 (dk_at dksJ9_getBytes_1 6 rfl rfl)
theorem dJ9_getBytes_29 : decode cJ9_getBytes 29 = .ok (.getfield 9, 3) := dk_180 0 9 (dk_at dksJ9_getBytes_1 7 rfl rfl)
theorem dJ9_getBytes_32 : decode cJ9_getBytes 32 = .ok (.iconst 0, 1) := dk_3 (dk_at dksJ9_getBytes_1 10 rfl rfl)
theorem dJ9_getBytes_33 : decode cJ9_getBytes 33 = .ok (.aload_n 1, 1) := dk_43 (dk_at dksJ9_getBytes_1 11 rfl rfl)
theorem dJ9_getBytes_34 : decode cJ9_getBytes 34 = .ok (.iload_n 2, 1) := dk_28 (dk_at dksJ9_getBytes_1 12 rfl rfl)
theorem dJ9_getBytes_35 : decode cJ9_getBytes 35 = .ok (.aload_n 0, 1) := dk_42 (dk_at dksJ9_getBytes_1 13 rfl rfl)
theorem dJ9_getBytes_36 : decode cJ9_getBytes 36 = .ok (.getfield 9, 3) := dk_180 0 9 (dk_at dksJ9_getBytes_1 14 rfl rfl)
theorem dJ9_getBytes_39 : decode cJ9_getBytes 39 = .ok (.arraylength, 1) := dk_190 (dk_at dksJ9_getBytes_1 17 rfl rfl)
theorem dJ9_getBytes_40 : decode cJ9_getBytes 40 = .ok (.invokestatic 106, 3) := dk_184 0 106 (dk_at dksJ9_getBytes_1 18 rfl rfl)
theorem dJ9_getBytes_43 : decode cJ9_getBytes 43 = .ok (.return_, 1) := dk_177 (dk_at dksJ9_getBytes_1 21 rfl rfl)
abbrev cJ9_charAt : ByteArray := prog_40_method_56_code
def yJ9_charAt : MethodName := ⟨RJ9, "charAt", "(I)C"⟩
def dkwJ9_charAt_1 : List UInt8 := [172]
abbrev dktJ9_charAt_1 : List UInt8 := dkwJ9_charAt_1 ++ []
def dkwJ9_charAt_0 : List UInt8 := [42, 182, 1, 236, 153, 0, 12, 42, 180, 0, 9, 27, 184, 1, 239, 172, 42, 180, 0, 9, 27, 184, 1, 242]
abbrev dktJ9_charAt_0 : List UInt8 := dkwJ9_charAt_0 ++ dktJ9_charAt_1
theorem dksJ9_charAt_0 : cJ9_charAt.data.toList.drop 0 = dktJ9_charAt_0 := by decide +kernel
theorem dksJ9_charAt_1 : cJ9_charAt.data.toList.drop 24 = dktJ9_charAt_1 := dk_seg dksJ9_charAt_0 24 rfl rfl
theorem dJ9_charAt_0 : decode cJ9_charAt 0 = .ok (.aload_n 0, 1) := dk_42 (dk_at dksJ9_charAt_0 0 rfl rfl)
theorem dJ9_charAt_1 : decode cJ9_charAt 1 = .ok (.invokevirtual 492, 3) := dk_182 1 236 (dk_at dksJ9_charAt_0 1 rfl rfl)
theorem dJ9_charAt_4 : decode cJ9_charAt 4 = .ok (.ifCond .eq 12, 3) := dk_153 0 12 (dk_at dksJ9_charAt_0 4 rfl rfl)
theorem dJ9_charAt_7 : decode cJ9_charAt 7 = .ok (.aload_n 0, 1) := dk_42 (dk_at dksJ9_charAt_0 7 rfl rfl)
theorem dJ9_charAt_8 : decode cJ9_charAt 8 = .ok (.getfield 9, 3) := dk_180 0 9 (dk_at dksJ9_charAt_0 8 rfl rfl)
theorem dJ9_charAt_11 : decode cJ9_charAt 11 = .ok (.iload_n 1, 1) := dk_27 (dk_at dksJ9_charAt_0 11 rfl rfl)
theorem dJ9_charAt_12 : decode cJ9_charAt 12 = .ok (.invokestatic 495, 3) := dk_184 1 239 (dk_at dksJ9_charAt_0 12 rfl rfl)
theorem dJ9_charAt_15 : decode cJ9_charAt 15 = .ok (.ireturn, 1) := dk_172 (dk_at dksJ9_charAt_0 15 rfl rfl)
theorem dJ9_charAt_16 : decode cJ9_charAt 16 = .ok (.aload_n 0, 1) := dk_42 (dk_at dksJ9_charAt_0 16 rfl rfl)
theorem dJ9_charAt_17 : decode cJ9_charAt 17 = .ok (.getfield 9, 3) := dk_180 0 9 (dk_at dksJ9_charAt_0 17 rfl rfl)
theorem dJ9_charAt_20 : decode cJ9_charAt 20 = .ok (.iload_n 1, 1) := dk_27 (dk_at dksJ9_charAt_0 20 rfl rfl)
theorem dJ9_charAt_21 : decode cJ9_charAt 21 = .ok (.invokestatic 498, 3) := dk_184 1 242 (dk_at dksJ9_charAt_0 21 rfl rfl)
theorem dJ9_charAt_24 : decode cJ9_charAt 24 = .ok (.ireturn, 1) := dk_172 (dk_at dksJ9_charAt_1 0 rfl rfl)
theorem q95 : (Jvm.Cond.initialized "java/lang/String") ∈ lw_all := lw_g (lw_at lw_m1 18 rfl) rfl
theorem q449 : (Jvm.Cond.selects "java/lang/String" ({ cls := "java/lang/Object", name := "getClass", desc := "()Ljava/lang/Class;" } : Jvm.MethodName) ({ cls := "java/lang/Object", name := "getClass", desc := "()Ljava/lang/Class;" } : Jvm.MethodName)) ∈ lw_all := lw_g (lw_at lw_m2 132 rfl) rfl
theorem q502 : (Jvm.Cond.instanceMethod ({ cls := "java/lang/String", name := "indexOf", desc := "(I)I" } : Jvm.MethodName)) ∈ lw_all := lw_g (lw_at lw_m2 185 rfl) rfl
theorem q503 : (Jvm.Cond.selects "java/lang/String" ({ cls := "java/lang/String", name := "indexOf", desc := "(I)I" } : Jvm.MethodName) ({ cls := "java/lang/String", name := "indexOf", desc := "(I)I" } : Jvm.MethodName)) ∈ lw_all := lw_g (lw_at lw_m2 186 rfl) rfl
theorem q504 : (Jvm.Cond.code ({ cls := "java/lang/String", name := "indexOf", desc := "(I)I" } : Jvm.MethodName) prog_40_method_79_code (2 : Nat) (Option.some Jvm.ClassFile.FieldType.int)) ∈ lw_all := lw_g (lw_at lw_m2 187 rfl) rfl
theorem q505 : (Jvm.Cond.methodLink "java/lang/String" (633 : Nat) ({ cls := "java/lang/String", name := "indexOf", desc := "(II)I" } : Jvm.MethodName)) ∈ lw_all := lw_g (lw_at lw_m2 188 rfl) rfl
theorem q506 : (Jvm.Cond.instanceMethod ({ cls := "java/lang/String", name := "indexOf", desc := "(II)I" } : Jvm.MethodName)) ∈ lw_all := lw_g (lw_at lw_m2 189 rfl) rfl
theorem q507 : (Jvm.Cond.selects "java/lang/String" ({ cls := "java/lang/String", name := "indexOf", desc := "(II)I" } : Jvm.MethodName) ({ cls := "java/lang/String", name := "indexOf", desc := "(II)I" } : Jvm.MethodName)) ∈ lw_all := lw_g (lw_at lw_m2 190 rfl) rfl
theorem q508 : (Jvm.Cond.code ({ cls := "java/lang/String", name := "indexOf", desc := "(II)I" } : Jvm.MethodName) prog_40_method_80_code (3 : Nat) (Option.some Jvm.ClassFile.FieldType.int)) ∈ lw_all := lw_g (lw_at lw_m2 191 rfl) rfl
theorem q509 : (Jvm.Cond.methodLink "java/lang/String" (492 : Nat) ({ cls := "java/lang/String", name := "isLatin1", desc := "()Z" } : Jvm.MethodName)) ∈ lw_all := lw_g (lw_at lw_m2 192 rfl) rfl
theorem q510 : (Jvm.Cond.instanceMethod ({ cls := "java/lang/String", name := "isLatin1", desc := "()Z" } : Jvm.MethodName)) ∈ lw_all := lw_g (lw_at lw_m2 193 rfl) rfl
theorem q511 : (Jvm.Cond.selects "java/lang/String" ({ cls := "java/lang/String", name := "isLatin1", desc := "()Z" } : Jvm.MethodName) ({ cls := "java/lang/String", name := "isLatin1", desc := "()Z" } : Jvm.MethodName)) ∈ lw_all := lw_g (lw_at lw_m2 194 rfl) rfl
theorem q512 : (Jvm.Cond.code ({ cls := "java/lang/String", name := "isLatin1", desc := "()Z" } : Jvm.MethodName) prog_40_method_154_code (1 : Nat) (Option.some Jvm.ClassFile.FieldType.boolean)) ∈ lw_all := lw_g (lw_at lw_m2 195 rfl) rfl
theorem q513 : (Jvm.Cond.fieldLink "java/lang/String" (38 : Nat) "java/lang/String" "COMPACT_STRINGS" "Z") ∈ lw_all := lw_g (lw_at lw_m2 196 rfl) rfl
theorem q514 : (Jvm.Cond.laysStatic "java/lang/String" "COMPACT_STRINGS" "Z") ∈ lw_tbl := lw_at lw_m2 197 rfl
theorem q515 : (Jvm.Cond.methodLink "java/lang/String" (505 : Nat) ({ cls := "java/lang/String", name := "length", desc := "()I" } : Jvm.MethodName)) ∈ lw_all := lw_g (lw_at lw_m2 198 rfl) rfl
theorem q516 : (Jvm.Cond.instanceMethod ({ cls := "java/lang/String", name := "length", desc := "()I" } : Jvm.MethodName)) ∈ lw_all := lw_g (lw_at lw_m2 199 rfl) rfl
theorem q517 : (Jvm.Cond.selects "java/lang/String" ({ cls := "java/lang/String", name := "length", desc := "()I" } : Jvm.MethodName) ({ cls := "java/lang/String", name := "length", desc := "()I" } : Jvm.MethodName)) ∈ lw_all := lw_g (lw_at lw_m2 200 rfl) rfl
theorem q518 : (Jvm.Cond.code ({ cls := "java/lang/String", name := "length", desc := "()I" } : Jvm.MethodName) prog_40_method_54_code (1 : Nat) (Option.some Jvm.ClassFile.FieldType.int)) ∈ lw_all := lw_g (lw_at lw_m2 201 rfl) rfl
theorem q519 : (Jvm.Cond.methodLink "java/lang/String" (335 : Nat) ({ cls := "java/lang/String", name := "coder", desc := "()B" } : Jvm.MethodName)) ∈ lw_all := lw_g (lw_at lw_m2 202 rfl) rfl
theorem q520 : (Jvm.Cond.instanceMethod ({ cls := "java/lang/String", name := "coder", desc := "()B" } : Jvm.MethodName)) ∈ lw_all := lw_g (lw_at lw_m2 203 rfl) rfl
theorem q521 : (Jvm.Cond.selects "java/lang/String" ({ cls := "java/lang/String", name := "coder", desc := "()B" } : Jvm.MethodName) ({ cls := "java/lang/String", name := "coder", desc := "()B" } : Jvm.MethodName)) ∈ lw_all := lw_g (lw_at lw_m2 204 rfl) rfl
theorem q522 : (Jvm.Cond.code ({ cls := "java/lang/String", name := "coder", desc := "()B" } : Jvm.MethodName) prog_40_method_152_code (1 : Nat) (Option.some Jvm.ClassFile.FieldType.byte)) ∈ lw_all := lw_g (lw_at lw_m2 205 rfl) rfl
theorem q523 : (Jvm.Cond.methodLink "java/lang/String" (637 : Nat) ({ cls := "java/lang/StringLatin1", name := "indexOf", desc := "([BIII)I" } : Jvm.MethodName)) ∈ lw_all := lw_g (lw_at lw_m2 206 rfl) rfl
theorem q534 : (Jvm.Cond.methodLink "java/lang/String" (640 : Nat) ({ cls := "java/lang/StringUTF16", name := "indexOf", desc := "([BIII)I" } : Jvm.MethodName)) ∈ lw_all := lw_g (lw_at lw_m2 217 rfl) rfl
theorem q550 : (Jvm.Cond.static ({ cls := "java/lang/String", name := "checkBoundsBeginEnd", desc := "(III)V" } : Jvm.MethodName)) ∈ lw_all := lw_g (lw_at lw_m2 233 rfl) rfl
theorem q551 : (Jvm.Cond.code ({ cls := "java/lang/String", name := "checkBoundsBeginEnd", desc := "(III)V" } : Jvm.MethodName) prog_40_method_158_code (3 : Nat) (Option.none : Option Jvm.ClassFile.FieldType)) ∈ lw_all := lw_g (lw_at lw_m2 234 rfl) rfl
theorem q552 : (Jvm.Cond.fieldLink "java/lang/String" (1053 : Nat) "jdk/internal/util/Preconditions" "SIOOBE_FORMATTER" "Ljava/util/function/BiFunction;") ∈ lw_all := lw_g (lw_at lw_m2 235 rfl) rfl
theorem q554 : (Jvm.Cond.methodLink "java/lang/String" (1062 : Nat) ({ cls := "jdk/internal/util/Preconditions", name := "checkFromToIndex", desc := "(IIILjava/util/function/BiFunction;)I" } : Jvm.MethodName)) ∈ lw_all := lw_g (lw_at lw_m2 237 rfl) rfl
theorem q1262 : (Jvm.Cond.castable "java/lang/String" "java/lang/Comparable") ∈ lw_tbl := lw_at lw_m5 225 rfl
theorem q1263 : (Jvm.Cond.selects "java/lang/String" ({ cls := "java/lang/Comparable", name := "compareTo", desc := "(Ljava/lang/Object;)I" } : Jvm.MethodName) ({ cls := "java/lang/String", name := "compareTo", desc := "(Ljava/lang/Object;)I" } : Jvm.MethodName)) ∈ lw_all := lw_g (lw_at lw_m5 226 rfl) rfl
theorem q1264 : (Jvm.Cond.unhidden "java/lang/String" "compareTo" "(Ljava/lang/Object;)I") ∈ lw_tbl := lw_at lw_m5 227 rfl
theorem q1265 : (Jvm.Cond.instanceMethod ({ cls := "java/lang/String", name := "compareTo", desc := "(Ljava/lang/Object;)I" } : Jvm.MethodName)) ∈ lw_all := lw_g (lw_at lw_m5 228 rfl) rfl
theorem q1266 : (Jvm.Cond.publicMethod ({ cls := "java/lang/String", name := "compareTo", desc := "(Ljava/lang/Object;)I" } : Jvm.MethodName)) ∈ lw_tbl := lw_at lw_m5 229 rfl
theorem q1267 : (Jvm.Cond.code ({ cls := "java/lang/String", name := "compareTo", desc := "(Ljava/lang/Object;)I" } : Jvm.MethodName) prog_40_method_162_code (2 : Nat) (Option.some Jvm.ClassFile.FieldType.int)) ∈ lw_all := lw_g (lw_at lw_m5 230 rfl) rfl
theorem q1268 : (Jvm.Cond.classLink "java/lang/String" (10 : Nat) "java/lang/String") ∈ lw_all := lw_g (lw_at lw_m5 231 rfl) rfl
theorem q1269 : (Jvm.Cond.methodLink "java/lang/String" (1084 : Nat) ({ cls := "java/lang/String", name := "compareTo", desc := "(Ljava/lang/String;)I" } : Jvm.MethodName)) ∈ lw_all := lw_g (lw_at lw_m5 232 rfl) rfl
theorem q1270 : (Jvm.Cond.instanceMethod ({ cls := "java/lang/String", name := "compareTo", desc := "(Ljava/lang/String;)I" } : Jvm.MethodName)) ∈ lw_all := lw_g (lw_at lw_m5 233 rfl) rfl
theorem q1271 : (Jvm.Cond.selects "java/lang/String" ({ cls := "java/lang/String", name := "compareTo", desc := "(Ljava/lang/String;)I" } : Jvm.MethodName) ({ cls := "java/lang/String", name := "compareTo", desc := "(Ljava/lang/String;)I" } : Jvm.MethodName)) ∈ lw_all := lw_g (lw_at lw_m5 234 rfl) rfl
theorem q1272 : (Jvm.Cond.code ({ cls := "java/lang/String", name := "compareTo", desc := "(Ljava/lang/String;)I" } : Jvm.MethodName) prog_40_method_71_code (5 : Nat) (Option.some Jvm.ClassFile.FieldType.int)) ∈ lw_all := lw_g (lw_at lw_m5 235 rfl) rfl
theorem q1273 : (Jvm.Cond.methodLink "java/lang/String" (586 : Nat) ({ cls := "java/lang/StringLatin1", name := "compareTo", desc := "([B[B)I" } : Jvm.MethodName)) ∈ lw_all := lw_g (lw_at lw_m5 236 rfl) rfl
theorem q1386 : (Jvm.Cond.methodLink "java/lang/String" (590 : Nat) ({ cls := "java/lang/StringUTF16", name := "compareTo", desc := "([B[B)I" } : Jvm.MethodName)) ∈ lw_all := lw_g (lw_at lw_m6 109 rfl) rfl
theorem q1392 : (Jvm.Cond.methodLink "java/lang/String" (591 : Nat) ({ cls := "java/lang/StringLatin1", name := "compareToUTF16", desc := "([B[B)I" } : Jvm.MethodName)) ∈ lw_all := lw_g (lw_at lw_m6 115 rfl) rfl
theorem q1403 : (Jvm.Cond.methodLink "java/lang/String" (594 : Nat) ({ cls := "java/lang/StringUTF16", name := "compareToLatin1", desc := "([B[B)I" } : Jvm.MethodName)) ∈ lw_all := lw_g (lw_at lw_m6 126 rfl) rfl
theorem q1436 : (Jvm.Cond.static ({ cls := "java/lang/String", name := "checkOffset", desc := "(II)V" } : Jvm.MethodName)) ∈ lw_all := lw_g (lw_at lw_m6 159 rfl) rfl
theorem q1437 : (Jvm.Cond.code ({ cls := "java/lang/String", name := "checkOffset", desc := "(II)V" } : Jvm.MethodName) prog_40_method_156_code (2 : Nat) (Option.none : Option Jvm.ClassFile.FieldType)) ∈ lw_all := lw_g (lw_at lw_m6 160 rfl) rfl
theorem q2033 : (Jvm.Cond.fieldLink "java/lang/String" (1048 : Nat) "java/lang/AbstractStringBuilder" "maybeLatin1" "Z") ∈ lw_all := lw_g (lw_at lw_m9 36 rfl) rfl
theorem q2092 : (Jvm.Cond.static ({ cls := "java/lang/String", name := "checkBoundsOffCount", desc := "(III)I" } : Jvm.MethodName)) ∈ lw_all := lw_g (lw_at lw_m9 95 rfl) rfl
theorem q2093 : (Jvm.Cond.code ({ cls := "java/lang/String", name := "checkBoundsOffCount", desc := "(III)I" } : Jvm.MethodName) prog_40_method_157_code (3 : Nat) (Option.some Jvm.ClassFile.FieldType.int)) ∈ lw_all := lw_g (lw_at lw_m9 96 rfl) rfl
theorem q2094 : (Jvm.Cond.methodLink "java/lang/String" (1065 : Nat) ({ cls := "jdk/internal/util/Preconditions", name := "checkFromIndexSize", desc := "(IIILjava/util/function/BiFunction;)I" } : Jvm.MethodName)) ∈ lw_all := lw_g (lw_at lw_m9 97 rfl) rfl
theorem q2107 : (Jvm.Cond.static ({ cls := "java/lang/String", name := "checkIndex", desc := "(II)V" } : Jvm.MethodName)) ∈ lw_all := lw_g (lw_at lw_m9 110 rfl) rfl
theorem q2108 : (Jvm.Cond.code ({ cls := "java/lang/String", name := "checkIndex", desc := "(II)V" } : Jvm.MethodName) prog_40_method_155_code (2 : Nat) (Option.none : Option Jvm.ClassFile.FieldType)) ∈ lw_all := lw_g (lw_at lw_m9 111 rfl) rfl
theorem q2109 : (Jvm.Cond.methodLink "java/lang/String" (1059 : Nat) ({ cls := "jdk/internal/util/Preconditions", name := "checkIndex", desc := "(IILjava/util/function/BiFunction;)I" } : Jvm.MethodName)) ∈ lw_all := lw_g (lw_at lw_m9 112 rfl) rfl
theorem q2122 : (Jvm.Cond.instantiable "java/lang/String" (4 : Nat)) ∈ lw_all := lw_g (lw_at lw_m9 125 rfl) rfl
theorem q2124 : (Jvm.Cond.instanceMethod ({ cls := "java/lang/String", name := "<init>", desc := "(Ljava/lang/StringBuilder;)V" } : Jvm.MethodName)) ∈ lw_all := lw_g (lw_at lw_m9 127 rfl) rfl
theorem q2125 : (Jvm.Cond.code ({ cls := "java/lang/String", name := "<init>", desc := "(Ljava/lang/StringBuilder;)V" } : Jvm.MethodName) prog_40_method_53_code (2 : Nat) (Option.none : Option Jvm.ClassFile.FieldType)) ∈ lw_all := lw_g (lw_at lw_m9 128 rfl) rfl
theorem q2126 : (Jvm.Cond.methodLink "java/lang/String" (489 : Nat) ({ cls := "java/lang/String", name := "<init>", desc := "(Ljava/lang/AbstractStringBuilder;Ljava/lang/Void;)V" } : Jvm.MethodName)) ∈ lw_all := lw_g (lw_at lw_m9 129 rfl) rfl
theorem q2127 : (Jvm.Cond.instanceMethod ({ cls := "java/lang/String", name := "<init>", desc := "(Ljava/lang/AbstractStringBuilder;Ljava/lang/Void;)V" } : Jvm.MethodName)) ∈ lw_all := lw_g (lw_at lw_m9 130 rfl) rfl
theorem q2128 : (Jvm.Cond.code ({ cls := "java/lang/String", name := "<init>", desc := "(Ljava/lang/AbstractStringBuilder;Ljava/lang/Void;)V" } : Jvm.MethodName) prog_40_method_150_code (5 : Nat) (Option.none : Option Jvm.ClassFile.FieldType)) ∈ lw_all := lw_g (lw_at lw_m9 131 rfl) rfl
theorem q2129 : (Jvm.Cond.methodLink "java/lang/String" (1 : Nat) ({ cls := "java/lang/Object", name := "<init>", desc := "()V" } : Jvm.MethodName)) ∈ lw_all := lw_g (lw_at lw_m9 132 rfl) rfl
theorem q2130 : (Jvm.Cond.methodLink "java/lang/String" (552 : Nat) ({ cls := "java/lang/AbstractStringBuilder", name := "getValue", desc := "()[B" } : Jvm.MethodName)) ∈ lw_all := lw_g (lw_at lw_m9 133 rfl) rfl
theorem q2135 : (Jvm.Cond.methodLink "java/lang/String" (549 : Nat) ({ cls := "java/lang/AbstractStringBuilder", name := "length", desc := "()I" } : Jvm.MethodName)) ∈ lw_all := lw_g (lw_at lw_m9 138 rfl) rfl
theorem q2136 : (Jvm.Cond.methodLink "java/lang/String" (1047 : Nat) ({ cls := "java/lang/AbstractStringBuilder", name := "isLatin1", desc := "()Z" } : Jvm.MethodName)) ∈ lw_all := lw_g (lw_at lw_m9 139 rfl) rfl
theorem q2137 : (Jvm.Cond.methodLink "java/lang/String" (54 : Nat) ({ cls := "java/util/Arrays", name := "copyOfRange", desc := "([BII)[B" } : Jvm.MethodName)) ∈ lw_all := lw_g (lw_at lw_m9 140 rfl) rfl
theorem q2146 : (Jvm.Cond.methodLink "java/lang/String" (1051 : Nat) ({ cls := "java/lang/StringUTF16", name := "compress", desc := "([BII)[B" } : Jvm.MethodName)) ∈ lw_all := lw_g (lw_at lw_m9 149 rfl) rfl
theorem q2153 : (Jvm.Cond.methodLink "java/lang/String" (47 : Nat) ({ cls := "java/lang/StringUTF16", name := "coderFromArrayLen", desc := "([BI)B" } : Jvm.MethodName)) ∈ lw_all := lw_g (lw_at lw_m9 156 rfl) rfl
theorem q2156 : (Jvm.Cond.fieldLink "java/lang/String" (9 : Nat) "java/lang/String" "value" "[B") ∈ lw_all := lw_g (lw_at lw_m9 159 rfl) rfl
theorem q2157 : (Jvm.Cond.fieldLink "java/lang/String" (15 : Nat) "java/lang/String" "coder" "B") ∈ lw_all := lw_g (lw_at lw_m9 160 rfl) rfl
theorem q2158 : (Jvm.Cond.laysFinal "java/lang/String" "java/lang/String" "value" "[B") ∈ lw_all := lw_g (lw_at lw_m9 161 rfl) rfl
theorem q2159 : (Jvm.Cond.soleField "java/lang/String" "value") ∈ lw_all := lw_g (lw_at lw_m9 162 rfl) rfl
theorem q2160 : (Jvm.Cond.laysFinal "java/lang/String" "java/lang/String" "coder" "B") ∈ lw_all := lw_g (lw_at lw_m9 163 rfl) rfl
theorem q2161 : (Jvm.Cond.soleField "java/lang/String" "coder") ∈ lw_all := lw_g (lw_at lw_m9 164 rfl) rfl
theorem q2162 : (Jvm.Cond.lays "java/lang/String" "java/lang/String" "hash" "I") ∈ lw_all := lw_g (lw_at lw_m9 165 rfl) rfl
theorem q2163 : (Jvm.Cond.soleField "java/lang/String" "hash") ∈ lw_all := lw_g (lw_at lw_m9 166 rfl) rfl
theorem q2164 : (Jvm.Cond.lays "java/lang/String" "java/lang/String" "hashIsZero" "Z") ∈ lw_all := lw_g (lw_at lw_m9 167 rfl) rfl
theorem q2165 : (Jvm.Cond.soleField "java/lang/String" "hashIsZero") ∈ lw_all := lw_g (lw_at lw_m9 168 rfl) rfl
theorem q2166 : (Jvm.Cond.superclass "java/lang/String" "java/lang/Object") ∈ lw_all := lw_g (lw_at lw_m9 169 rfl) rfl
theorem q2192 : (Jvm.Cond.instanceMethod ({ cls := "java/lang/String", name := "getBytes", desc := "([BIB)V" } : Jvm.MethodName)) ∈ lw_all := lw_g (lw_at lw_m9 195 rfl) rfl
theorem q2193 : (Jvm.Cond.selects "java/lang/String" ({ cls := "java/lang/String", name := "getBytes", desc := "([BIB)V" } : Jvm.MethodName) ({ cls := "java/lang/String", name := "getBytes", desc := "([BIB)V" } : Jvm.MethodName)) ∈ lw_all := lw_g (lw_at lw_m9 196 rfl) rfl
theorem q2194 : (Jvm.Cond.code ({ cls := "java/lang/String", name := "getBytes", desc := "([BIB)V" } : Jvm.MethodName) prog_40_method_147_code (4 : Nat) (Option.none : Option Jvm.ClassFile.FieldType)) ∈ lw_all := lw_g (lw_at lw_m9 197 rfl) rfl
theorem q2195 : (Jvm.Cond.methodLink "java/lang/String" (212 : Nat) ({ cls := "java/lang/System", name := "arraycopy", desc := "(Ljava/lang/Object;ILjava/lang/Object;II)V" } : Jvm.MethodName)) ∈ lw_all := lw_g (lw_at lw_m9 198 rfl) rfl
theorem q2196 : (Jvm.Cond.methodLink "java/lang/String" (106 : Nat) ({ cls := "java/lang/StringLatin1", name := "inflate", desc := "([BI[BII)V" } : Jvm.MethodName)) ∈ lw_all := lw_g (lw_at lw_m9 199 rfl) rfl
theorem q2204 : (Jvm.Cond.instanceMethod ({ cls := "java/lang/String", name := "charAt", desc := "(I)C" } : Jvm.MethodName)) ∈ lw_all := lw_g (lw_at lw_m9 207 rfl) rfl
theorem q2205 : (Jvm.Cond.selects "java/lang/String" ({ cls := "java/lang/String", name := "charAt", desc := "(I)C" } : Jvm.MethodName) ({ cls := "java/lang/String", name := "charAt", desc := "(I)C" } : Jvm.MethodName)) ∈ lw_all := lw_g (lw_at lw_m9 208 rfl) rfl
theorem q2206 : (Jvm.Cond.code ({ cls := "java/lang/String", name := "charAt", desc := "(I)C" } : Jvm.MethodName) prog_40_method_56_code (2 : Nat) (Option.some Jvm.ClassFile.FieldType.char)) ∈ lw_all := lw_g (lw_at lw_m9 209 rfl) rfl
theorem q2207 : (Jvm.Cond.methodLink "java/lang/String" (495 : Nat) ({ cls := "java/lang/StringLatin1", name := "charAt", desc := "([BI)C" } : Jvm.MethodName)) ∈ lw_all := lw_g (lw_at lw_m9 210 rfl) rfl
theorem q2211 : (Jvm.Cond.methodLink "java/lang/String" (498 : Nat) ({ cls := "java/lang/StringUTF16", name := "charAt", desc := "([BI)C" } : Jvm.MethodName)) ∈ lw_all := lw_g (lw_at lw_m9 214 rfl) rfl
theorem q2785 : (Jvm.Cond.castable "java/lang/String" "java/lang/Object") ∈ lw_tbl := lw_at lw_m12 68 rfl
theorem in_J9 : ∀ w ∈ wsJ90, w ∈ lw_all := lw_in wsJ90 [2158, 2160, 2162, 2164] (by decide +kernel) (by decide +kernel)
/-! java/lang/StringLatin1 -/
set_option maxRecDepth 100000
def RJ10 : String := "java/lang/StringLatin1"
abbrev cJ10_indexOf : ByteArray := prog_42_method_22_code
def yJ10_indexOf : MethodName := ⟨RJ10, "indexOf", "([BIII)I"⟩
def dkwJ10_indexOf_1 : List UInt8 := [161, 0, 5, 2, 172, 42, 27, 28, 29, 184, 0, 95, 172]
abbrev dktJ10_indexOf_1 : List UInt8 := dkwJ10_indexOf_1 ++ []
def dkwJ10_indexOf_0 : List UInt8 := [27, 184, 0, 88, 154, 0, 5, 2, 172, 28, 3, 184, 0, 92, 61, 29, 42, 190, 184, 0, 38, 62, 28, 29]
abbrev dktJ10_indexOf_0 : List UInt8 := dkwJ10_indexOf_0 ++ dktJ10_indexOf_1
theorem dksJ10_indexOf_0 : cJ10_indexOf.data.toList.drop 0 = dktJ10_indexOf_0 := by decide +kernel
theorem dksJ10_indexOf_1 : cJ10_indexOf.data.toList.drop 24 = dktJ10_indexOf_1 := dk_seg dksJ10_indexOf_0 24 rfl rfl
theorem dJ10_indexOf_0 : decode cJ10_indexOf 0 = .ok (.iload_n 1, 1) := dk_27 (dk_at dksJ10_indexOf_0 0 rfl rfl)
theorem dJ10_indexOf_1 : decode cJ10_indexOf 1 = .ok (.invokestatic 88, 3) := dk_184 0 88 (dk_at dksJ10_indexOf_0 1 rfl rfl)
theorem dJ10_indexOf_4 : decode cJ10_indexOf 4 = .ok (.ifCond .ne 5, 3) := dk_154 0 5 (dk_at dksJ10_indexOf_0 4 rfl rfl)
theorem dJ10_indexOf_7 : decode cJ10_indexOf 7 = .ok (.iconst (-1), 1) := dk_2 (dk_at dksJ10_indexOf_0 7 rfl rfl)
theorem dJ10_indexOf_8 : decode cJ10_indexOf 8 = .ok (.ireturn, 1) := dk_172 (dk_at dksJ10_indexOf_0 8 rfl rfl)
theorem dJ10_indexOf_9 : decode cJ10_indexOf 9 = .ok (.iload_n 2, 1) := dk_28 (dk_at dksJ10_indexOf_0 9 rfl rfl)
theorem dJ10_indexOf_10 : decode cJ10_indexOf 10 = .ok (.iconst 0, 1) := dk_3 (dk_at dksJ10_indexOf_0 10 rfl rfl)
theorem dJ10_indexOf_11 : decode cJ10_indexOf 11 = .ok (.invokestatic 92, 3) := dk_184 0 92 (dk_at dksJ10_indexOf_0 11 rfl rfl)
theorem dJ10_indexOf_14 : decode cJ10_indexOf 14 = .ok (.istore_n 2, 1) := dk_61 (dk_at dksJ10_indexOf_0 14 rfl rfl)
theorem dJ10_indexOf_15 : decode cJ10_indexOf 15 = .ok (.iload_n 3, 1) := dk_29 (dk_at dksJ10_indexOf_0 15 rfl rfl)
theorem dJ10_indexOf_16 : decode cJ10_indexOf 16 = .ok (.aload_n 0, 1) := dk_42 (dk_at dksJ10_indexOf_0 16 rfl rfl)
theorem dJ10_indexOf_17 : decode cJ10_indexOf 17 = .ok (.arraylength, 1) := dk_190 (dk_at dksJ10_indexOf_0 17 rfl rfl)
theorem dJ10_indexOf_18 : decode cJ10_indexOf 18 = .ok (.invokestatic 38, 3) := dk_184 0 38 (dk_at dksJ10_indexOf_0 18 rfl rfl)
theorem dJ10_indexOf_21 : decode cJ10_indexOf 21 = .ok (.istore_n 3, 1) := dk_62 (dk_at dksJ10_indexOf_0 21 rfl rfl)
theorem dJ10_indexOf_22 : decode cJ10_indexOf 22 = .ok (.iload_n 2, 1) := dk_28 (dk_at dksJ10_indexOf_0 22 rfl rfl)
theorem dJ10_indexOf_23 : decode cJ10_indexOf 23 = .ok (.iload_n 3, 1) := dk_29 (dk_at dksJ10_indexOf_0 23 rfl rfl)
theorem dJ10_indexOf_24 : decode cJ10_indexOf 24 = .ok (.if_icmp .lt 5, 3) := dk_161 0 5 (dk_at dksJ10_indexOf_1 0 rfl rfl)
theorem dJ10_indexOf_27 : decode cJ10_indexOf 27 = .ok (.iconst (-1), 1) := dk_2 (dk_at dksJ10_indexOf_1 3 rfl rfl)
theorem dJ10_indexOf_28 : decode cJ10_indexOf 28 = .ok (.ireturn, 1) := dk_172 (dk_at dksJ10_indexOf_1 4 rfl rfl)
theorem dJ10_indexOf_29 : decode cJ10_indexOf 29 = .ok (.aload_n 0, 1) := dk_42 (dk_at dksJ10_indexOf_1 5 rfl rfl)
theorem dJ10_indexOf_30 : decode cJ10_indexOf 30 = .ok (.iload_n 1, 1) := dk_27 (dk_at dksJ10_indexOf_1 6 rfl rfl)
theorem dJ10_indexOf_31 : decode cJ10_indexOf 31 = .ok (.iload_n 2, 1) := dk_28 (dk_at dksJ10_indexOf_1 7 rfl rfl)
theorem dJ10_indexOf_32 : decode cJ10_indexOf 32 = .ok (.iload_n 3, 1) := dk_29 (dk_at dksJ10_indexOf_1 8 rfl rfl)
theorem dJ10_indexOf_33 : decode cJ10_indexOf 33 = .ok (.invokestatic 95, 3) := dk_184 0 95 (dk_at dksJ10_indexOf_1 9 rfl rfl)
theorem dJ10_indexOf_36 : decode cJ10_indexOf 36 = .ok (.ireturn, 1) := dk_172 (dk_at dksJ10_indexOf_1 12 rfl rfl)
abbrev cJ10_canEncode : ByteArray := prog_42_method_4_code
def yJ10_canEncode : MethodName := ⟨RJ10, "canEncode", "(I)Z"⟩
def dkwJ10_canEncode_0 : List UInt8 := [26, 155, 0, 14, 26, 17, 0, 255, 163, 0, 7, 4, 167, 0, 4, 3, 172]
abbrev dktJ10_canEncode_0 : List UInt8 := dkwJ10_canEncode_0 ++ []
theorem dksJ10_canEncode_0 : cJ10_canEncode.data.toList.drop 0 = dktJ10_canEncode_0 := by decide +kernel
theorem dJ10_canEncode_0 : decode cJ10_canEncode 0 = .ok (.iload_n 0, 1) := dk_26 (dk_at dksJ10_canEncode_0 0 rfl rfl)
theorem dJ10_canEncode_1 : decode cJ10_canEncode 1 = .ok (.ifCond .lt 14, 3) := dk_155 0 14 (dk_at dksJ10_canEncode_0 1 rfl rfl)
theorem dJ10_canEncode_4 : decode cJ10_canEncode 4 = .ok (.iload_n 0, 1) := dk_26 (dk_at dksJ10_canEncode_0 4 rfl rfl)
theorem dJ10_canEncode_5 : decode cJ10_canEncode 5 = .ok (.sipush 255, 3) := dk_17 0 255 (dk_at dksJ10_canEncode_0 5 rfl rfl)
theorem dJ10_canEncode_8 : decode cJ10_canEncode 8 = .ok (.if_icmp .gt 7, 3) := dk_163 0 7 (dk_at dksJ10_canEncode_0 8 rfl rfl)
theorem dJ10_canEncode_11 : decode cJ10_canEncode 11 = .ok (.iconst 1, 1) := dk_4 (dk_at dksJ10_canEncode_0 11 rfl rfl)
theorem dJ10_canEncode_12 : decode cJ10_canEncode 12 = .ok (.goto 4, 3) := dk_167 0 4 (dk_at dksJ10_canEncode_0 12 rfl rfl)
theorem dJ10_canEncode_15 : decode cJ10_canEncode 15 = .ok (.iconst 0, 1) := dk_3 (dk_at dksJ10_canEncode_0 15 rfl rfl)
theorem dJ10_canEncode_16 : decode cJ10_canEncode 16 = .ok (.ireturn, 1) := dk_172 (dk_at dksJ10_canEncode_0 16 rfl rfl)
abbrev cJ10_indexOfChar : ByteArray := prog_42_method_23_code
def yJ10_indexOfChar : MethodName := ⟨RJ10, "indexOfChar", "([BIII)I"⟩
def dkwJ10_indexOfChar_1 : List UInt8 := [172, 132, 5, 1, 167, 255, 235, 2, 172]
abbrev dktJ10_indexOfChar_1 : List UInt8 := dkwJ10_indexOfChar_1 ++ []
def dkwJ10_indexOfChar_0 : List UInt8 := [27, 145, 54, 4, 28, 54, 5, 21, 5, 29, 162, 0, 21, 42, 21, 5, 51, 21, 4, 160, 0, 6, 21, 5]
abbrev dktJ10_indexOfChar_0 : List UInt8 := dkwJ10_indexOfChar_0 ++ dktJ10_indexOfChar_1
theorem dksJ10_indexOfChar_0 : cJ10_indexOfChar.data.toList.drop 0 = dktJ10_indexOfChar_0 := by decide +kernel
theorem dksJ10_indexOfChar_1 : cJ10_indexOfChar.data.toList.drop 24 = dktJ10_indexOfChar_1 := dk_seg dksJ10_indexOfChar_0 24 rfl rfl
theorem dJ10_indexOfChar_0 : decode cJ10_indexOfChar 0 = .ok (.iload_n 1, 1) := dk_27 (dk_at dksJ10_indexOfChar_0 0 rfl rfl)
theorem dJ10_indexOfChar_1 : decode cJ10_indexOfChar 1 = .ok (.i2b, 1) := dk_145 (dk_at dksJ10_indexOfChar_0 1 rfl rfl)
theorem dJ10_indexOfChar_2 : decode cJ10_indexOfChar 2 = .ok (.istore 4, 2) := dk_54 4 (dk_at dksJ10_indexOfChar_0 2 rfl rfl)
theorem dJ10_indexOfChar_4 : decode cJ10_indexOfChar 4 = .ok (.iload_n 2, 1) := dk_28 (dk_at dksJ10_indexOfChar_0 4 rfl rfl)
theorem dJ10_indexOfChar_5 : decode cJ10_indexOfChar 5 = .ok (.istore 5, 2) := dk_54 5 (dk_at dksJ10_indexOfChar_0 5 rfl rfl)
theorem dJ10_indexOfChar_7 : decode cJ10_indexOfChar 7 = .ok (.iload 5, 2) := dk_21 5 (dk_at dksJ10_indexOfChar_0 7 rfl rfl)
theorem dJ10_indexOfChar_9 : decode cJ10_indexOfChar 9 = .ok (.iload_n 3, 1) := dk_29 (dk_at dksJ10_indexOfChar_0 9 rfl rfl)
theorem dJ10_indexOfChar_10 : decode cJ10_indexOfChar 10 = .ok (.if_icmp .ge 21, 3) := dk_162 0 21 (dk_at dksJ10_indexOfChar_0 10 rfl rfl)
theorem dJ10_indexOfChar_13 : decode cJ10_indexOfChar 13 = .ok (.aload_n 0, 1) := dk_42 (dk_at dksJ10_indexOfChar_0 13 rfl rfl)
theorem dJ10_indexOfChar_14 : decode cJ10_indexOfChar 14 = .ok (.iload 5, 2) := dk_21 5 (dk_at dksJ10_indexOfChar_0 14 rfl rfl)
theorem dJ10_indexOfChar_16 : decode cJ10_indexOfChar 16 = .ok (.baload, 1) := dk_51 (dk_at dksJ10_indexOfChar_0 16 rfl rfl)
theorem dJ10_indexOfChar_17 : decode cJ10_indexOfChar 17 = .ok (.iload 4, 2) := dk_21 4 (dk_at dksJ10_indexOfChar_0 17 rfl rfl)
theorem dJ10_indexOfChar_19 : decode cJ10_indexOfChar 19 = .ok (.if_icmp .ne 6, 3) := dk_160 0 6 (dk_at dksJ10_indexOfChar_0 19 rfl rfl)
theorem dJ10_indexOfChar_22 : decode cJ10_indexOfChar 22 = .ok (.iload 5, 2) := dk_21 5 (dk_at dksJ10_indexOfChar_0 22 rfl rfl)
theorem dJ10_indexOfChar_24 : decode cJ10_indexOfChar 24 = .ok (.ireturn, 1) := dk_172 (dk_at dksJ10_indexOfChar_1 0 rfl rfl)
theorem dJ10_indexOfChar_25 : decode cJ10_indexOfChar 25 = .ok (.iinc 5 1, 3) := dk_132 5 1 (dk_at dksJ10_indexOfChar_1 1 rfl rfl)
theorem dJ10_indexOfChar_28 : decode cJ10_indexOfChar 28 = .ok (.goto (-21), 3) := dk_167 255 235 (dk_at dksJ10_indexOfChar_1 4 rfl rfl)
theorem dJ10_indexOfChar_31 : decode cJ10_indexOfChar 31 = .ok (.iconst (-1), 1) := dk_2 (dk_at dksJ10_indexOfChar_1 7 rfl rfl)
theorem dJ10_indexOfChar_32 : decode cJ10_indexOfChar 32 = .ok (.ireturn, 1) := dk_172 (dk_at dksJ10_indexOfChar_1 8 rfl rfl)
abbrev cJ10_compareTo : ByteArray := prog_42_method_14_code
def yJ10_compareTo : MethodName := ⟨RJ10, "compareTo", "([B[B)I"⟩
def dkwJ10_compareTo_0 : List UInt8 := [42, 190, 61, 43, 190, 62, 42, 43, 28, 29, 184, 0, 34, 172]
abbrev dktJ10_compareTo_0 : List UInt8 := dkwJ10_compareTo_0 ++ []
theorem dksJ10_compareTo_0 : cJ10_compareTo.data.toList.drop 0 = dktJ10_compareTo_0 := by decide +kernel
theorem dJ10_compareTo_0 : decode cJ10_compareTo 0 = .ok (.aload_n 0, 1) := dk_42 (dk_at dksJ10_compareTo_0 0 rfl rfl)
theorem dJ10_compareTo_1 : decode cJ10_compareTo 1 = .ok (.arraylength, 1) := dk_190 (dk_at dksJ10_compareTo_0 1 rfl rfl)
theorem dJ10_compareTo_2 : decode cJ10_compareTo 2 = .ok (.istore_n 2, 1) := dk_61 (dk_at dksJ10_compareTo_0 2 rfl rfl)
theorem dJ10_compareTo_3 : decode cJ10_compareTo 3 = .ok (.aload_n 1, 1) := dk_43 (dk_at dksJ10_compareTo_0 3 rfl rfl)
theorem dJ10_compareTo_4 : decode cJ10_compareTo 4 = .ok (.arraylength, 1) := dk_190 (dk_at dksJ10_compareTo_0 4 rfl rfl)
theorem dJ10_compareTo_5 : decode cJ10_compareTo 5 = .ok (.istore_n 3, 1) := dk_62 (dk_at dksJ10_compareTo_0 5 rfl rfl)
theorem dJ10_compareTo_6 : decode cJ10_compareTo 6 = .ok (.aload_n 0, 1) := dk_42 (dk_at dksJ10_compareTo_0 6 rfl rfl)
theorem dJ10_compareTo_7 : decode cJ10_compareTo 7 = .ok (.aload_n 1, 1) := dk_43 (dk_at dksJ10_compareTo_0 7 rfl rfl)
theorem dJ10_compareTo_8 : decode cJ10_compareTo 8 = .ok (.iload_n 2, 1) := dk_28 (dk_at dksJ10_compareTo_0 8 rfl rfl)
theorem dJ10_compareTo_9 : decode cJ10_compareTo 9 = .ok (.iload_n 3, 1) := dk_29 (dk_at dksJ10_compareTo_0 9 rfl rfl)
theorem dJ10_compareTo_10 : decode cJ10_compareTo 10 = .ok (.invokestatic 34, 3) := dk_184 0 34 (dk_at dksJ10_compareTo_0 10 rfl rfl)
theorem dJ10_compareTo_13 : decode cJ10_compareTo 13 = .ok (.ireturn, 1) := dk_172 (dk_at dksJ10_compareTo_0 13 rfl rfl)
abbrev cJ10_compareTo_2 : ByteArray := prog_42_method_15_code
def yJ10_compareTo_2 : MethodName := ⟨RJ10, "compareTo", "([B[BII)I"⟩
def dkwJ10_compareTo_2_1 : List UInt8 := [167, 0, 16, 42, 21, 5, 184, 0, 50, 43, 21, 5, 184, 0, 50, 100, 172]
abbrev dktJ10_compareTo_2_1 : List UInt8 := dkwJ10_compareTo_2_1 ++ []
def dkwJ10_compareTo_2_0 : List UInt8 := [28, 29, 184, 0, 38, 54, 4, 42, 43, 21, 4, 184, 0, 44, 54, 5, 21, 5, 156, 0, 9, 28, 29, 100]
abbrev dktJ10_compareTo_2_0 : List UInt8 := dkwJ10_compareTo_2_0 ++ dktJ10_compareTo_2_1
theorem dksJ10_compareTo_2_0 : cJ10_compareTo_2.data.toList.drop 0 = dktJ10_compareTo_2_0 := by decide +kernel
theorem dksJ10_compareTo_2_1 : cJ10_compareTo_2.data.toList.drop 24 = dktJ10_compareTo_2_1 := dk_seg dksJ10_compareTo_2_0 24 rfl rfl
theorem dJ10_compareTo_2_0 : decode cJ10_compareTo_2 0 = .ok (.iload_n 2, 1) := dk_28 (dk_at dksJ10_compareTo_2_0 0 rfl rfl)
theorem dJ10_compareTo_2_1 : decode cJ10_compareTo_2 1 = .ok (.iload_n 3, 1) := dk_29 (dk_at dksJ10_compareTo_2_0 1 rfl rfl)
theorem dJ10_compareTo_2_2 : decode cJ10_compareTo_2 2 = .ok (.invokestatic 38, 3) := dk_184 0 38 (dk_at dksJ10_compareTo_2_0 2 rfl rfl)
theorem dJ10_compareTo_2_5 : decode cJ10_compareTo_2 5 = .ok (.istore 4, 2) := dk_54 4 (dk_at dksJ10_compareTo_2_0 5 rfl rfl)
theorem dJ10_compareTo_2_7 : decode cJ10_compareTo_2 7 = .ok (.aload_n 0, 1) := dk_42 (dk_at dksJ10_compareTo_2_0 7 rfl rfl)
theorem dJ10_compareTo_2_8 : decode cJ10_compareTo_2 8 = .ok (.aload_n 1, 1) := dk_43 (dk_at dksJ10_compareTo_2_0 8 rfl rfl)
theorem dJ10_compareTo_2_9 : decode cJ10_compareTo_2 9 = .ok (.iload 4, 2) := dk_21 4 (dk_at dksJ10_compareTo_2_0 9 rfl rfl)
theorem dJ10_compareTo_2_11 : decode cJ10_compareTo_2 11 = .ok (.invokestatic 44, 3) := dk_184 0 44 (dk_at dksJ10_compareTo_2_0 11 rfl rfl)
theorem dJ10_compareTo_2_14 : decode cJ10_compareTo_2 14 = .ok (.istore 5, 2) := dk_54 5 (dk_at dksJ10_compareTo_2_0 14 rfl rfl)
theorem dJ10_compareTo_2_16 : decode cJ10_compareTo_2 16 = .ok (.iload 5, 2) := dk_21 5 (dk_at dksJ10_compareTo_2_0 16 rfl rfl)
theorem dJ10_compareTo_2_18 : decode cJ10_compareTo_2 18 = .ok (.ifCond .ge 9, 3) := dk_156 0 9 (dk_at dksJ10_compareTo_2_0 18 rfl rfl)
theorem dJ10_compareTo_2_21 : decode cJ10_compareTo_2 21 = .ok (.iload_n 2, 1) := dk_28 (dk_at dksJ10_compareTo_2_0 21 rfl rfl)
theorem dJ10_compareTo_2_22 : decode cJ10_compareTo_2 22 = .ok (.iload_n 3, 1) := dk_29 (dk_at dksJ10_compareTo_2_0 22 rfl rfl)
theorem dJ10_compareTo_2_23 : decode cJ10_compareTo_2 23 = .ok (.isub, 1) := dk_100 (dk_at dksJ10_compareTo_2_0 23 rfl rfl)
theorem dJ10_compareTo_2_24 : decode cJ10_compareTo_2 24 = .ok (.goto 16, 3) := dk_167 0 16 (dk_at dksJ10_compareTo_2_1 0 rfl rfl)
theorem dJ10_compareTo_2_27 : decode cJ10_compareTo_2 27 = .ok (.aload_n 0, 1) := dk_42 (dk_at dksJ10_compareTo_2_1 3 rfl rfl)
theorem dJ10_compareTo_2_28 : decode cJ10_compareTo_2 28 = .ok (.iload 5, 2) := dk_21 5 (dk_at dksJ10_compareTo_2_1 4 rfl rfl)
theorem dJ10_compareTo_2_30 : decode cJ10_compareTo_2 30 = .ok (.invokestatic 50, 3) := dk_184 0 50 (dk_at dksJ10_compareTo_2_1 6 rfl rfl)
theorem dJ10_compareTo_2_33 : decode cJ10_compareTo_2 33 = .ok (.aload_n 1, 1) := dk_43 (dk_at dksJ10_compareTo_2_1 9 rfl rfl)
theorem dJ10_compareTo_2_34 : decode cJ10_compareTo_2 34 = .ok (.iload 5, 2) := dk_21 5 (dk_at dksJ10_compareTo_2_1 10 rfl rfl)
theorem dJ10_compareTo_2_36 : decode cJ10_compareTo_2 36 = .ok (.invokestatic 50, 3) := dk_184 0 50 (dk_at dksJ10_compareTo_2_1 12 rfl rfl)
theorem dJ10_compareTo_2_39 : decode cJ10_compareTo_2 39 = .ok (.isub, 1) := dk_100 (dk_at dksJ10_compareTo_2_1 15 rfl rfl)
theorem dJ10_compareTo_2_40 : decode cJ10_compareTo_2 40 = .ok (.ireturn, 1) := dk_172 (dk_at dksJ10_compareTo_2_1 16 rfl rfl)
abbrev cJ10_getChar : ByteArray := prog_42_method_44_code
def yJ10_getChar : MethodName := ⟨RJ10, "getChar", "([BI)C"⟩
def dkwJ10_getChar_0 : List UInt8 := [42, 27, 51, 17, 0, 255, 126, 146, 172]
abbrev dktJ10_getChar_0 : List UInt8 := dkwJ10_getChar_0 ++ []
theorem dksJ10_getChar_0 : cJ10_getChar.data.toList.drop 0 = dktJ10_getChar_0 := by decide +kernel
theorem dJ10_getChar_0 : decode cJ10_getChar 0 = .ok (.aload_n 0, 1) := dk_42 (dk_at dksJ10_getChar_0 0 rfl rfl)
theorem dJ10_getChar_1 : decode cJ10_getChar 1 = .ok (.iload_n 1, 1) := dk_27 (dk_at dksJ10_getChar_0 1 rfl rfl)
theorem dJ10_getChar_2 : decode cJ10_getChar 2 = .ok (.baload, 1) := dk_51 (dk_at dksJ10_getChar_0 2 rfl rfl)
theorem dJ10_getChar_3 : decode cJ10_getChar 3 = .ok (.sipush 255, 3) := dk_17 0 255 (dk_at dksJ10_getChar_0 3 rfl rfl)
theorem dJ10_getChar_6 : decode cJ10_getChar 6 = .ok (.iand, 1) := dk_126 (dk_at dksJ10_getChar_0 6 rfl rfl)
theorem dJ10_getChar_7 : decode cJ10_getChar 7 = .ok (.i2c, 1) := dk_146 (dk_at dksJ10_getChar_0 7 rfl rfl)
theorem dJ10_getChar_8 : decode cJ10_getChar 8 = .ok (.ireturn, 1) := dk_172 (dk_at dksJ10_getChar_0 8 rfl rfl)
abbrev cJ10_compareToUTF16 : ByteArray := prog_42_method_16_code
def yJ10_compareToUTF16 : MethodName := ⟨RJ10, "compareToUTF16", "([B[B)I"⟩
def dkwJ10_compareToUTF16_0 : List UInt8 := [42, 184, 0, 54, 61, 43, 184, 0, 58, 62, 42, 43, 28, 29, 184, 0, 59, 172]
abbrev dktJ10_compareToUTF16_0 : List UInt8 := dkwJ10_compareToUTF16_0 ++ []
theorem dksJ10_compareToUTF16_0 : cJ10_compareToUTF16.data.toList.drop 0 = dktJ10_compareToUTF16_0 := by decide +kernel
theorem dJ10_compareToUTF16_0 : decode cJ10_compareToUTF16 0 = .ok (.aload_n 0, 1) := dk_42 (dk_at dksJ10_compareToUTF16_0 0 rfl rfl)
theorem dJ10_compareToUTF16_1 : decode cJ10_compareToUTF16 1 = .ok (.invokestatic 54, 3) := dk_184 0 54 (dk_at dksJ10_compareToUTF16_0 1 rfl rfl)
theorem dJ10_compareToUTF16_4 : decode cJ10_compareToUTF16 4 = .ok (.istore_n 2, 1) := dk_61 (dk_at dksJ10_compareToUTF16_0 4 rfl rfl)
theorem dJ10_compareToUTF16_5 : decode cJ10_compareToUTF16 5 = .ok (.aload_n 1, 1) := dk_43 (dk_at dksJ10_compareToUTF16_0 5 rfl rfl)
theorem dJ10_compareToUTF16_6 : decode cJ10_compareToUTF16 6 = .ok (.invokestatic 58, 3) := dk_184 0 58 (dk_at dksJ10_compareToUTF16_0 6 rfl rfl)
theorem dJ10_compareToUTF16_9 : decode cJ10_compareToUTF16 9 = .ok (.istore_n 3, 1) := dk_62 (dk_at dksJ10_compareToUTF16_0 9 rfl rfl)
theorem dJ10_compareToUTF16_10 : decode cJ10_compareToUTF16 10 = .ok (.aload_n 0, 1) := dk_42 (dk_at dksJ10_compareToUTF16_0 10 rfl rfl)
theorem dJ10_compareToUTF16_11 : decode cJ10_compareToUTF16 11 = .ok (.aload_n 1, 1) := dk_43 (dk_at dksJ10_compareToUTF16_0 11 rfl rfl)
theorem dJ10_compareToUTF16_12 : decode cJ10_compareToUTF16 12 = .ok (.iload_n 2, 1) := dk_28 (dk_at dksJ10_compareToUTF16_0 12 rfl rfl)
theorem dJ10_compareToUTF16_13 : decode cJ10_compareToUTF16 13 = .ok (.iload_n 3, 1) := dk_29 (dk_at dksJ10_compareToUTF16_0 13 rfl rfl)
theorem dJ10_compareToUTF16_14 : decode cJ10_compareToUTF16 14 = .ok (.invokestatic 59, 3) := dk_184 0 59 (dk_at dksJ10_compareToUTF16_0 14 rfl rfl)
theorem dJ10_compareToUTF16_17 : decode cJ10_compareToUTF16 17 = .ok (.ireturn, 1) := dk_172 (dk_at dksJ10_compareToUTF16_0 17 rfl rfl)
abbrev cJ10_length : ByteArray := prog_42_method_5_code
def yJ10_length : MethodName := ⟨RJ10, "length", "([B)I"⟩
theorem dJ10_length_0 : decode cJ10_length 0 = .ok (.aload_n 0, 1) := by decide +kernel
theorem dJ10_length_1 : decode cJ10_length 1 = .ok (.arraylength, 1) := by decide +kernel
theorem dJ10_length_2 : decode cJ10_length 2 = .ok (.ireturn, 1) := by decide +kernel
abbrev cJ10_compareToUTF16Values : ByteArray := prog_42_method_18_code
def yJ10_compareToUTF16Values : MethodName := ⟨RJ10, "compareToUTF16Values", "([B[BII)I"⟩
def dkwJ10_compareToUTF16Values_2 : List UInt8 := [132, 5, 1, 167, 255, 217, 28, 29, 100, 172]
abbrev dktJ10_compareToUTF16Values_2 : List UInt8 := dkwJ10_compareToUTF16Values_2 ++ []
def dkwJ10_compareToUTF16Values_1 : List UInt8 := [54, 6, 43, 21, 5, 184, 0, 65, 54, 7, 21, 6, 21, 7, 159, 0, 9, 21, 6, 21, 7, 100, 172]
abbrev dktJ10_compareToUTF16Values_1 : List UInt8 := dkwJ10_compareToUTF16Values_1 ++ dktJ10_compareToUTF16Values_2
def dkwJ10_compareToUTF16Values_0 : List UInt8 := [28, 29, 184, 0, 38, 54, 4, 3, 54, 5, 21, 5, 21, 4, 162, 0, 38, 42, 21, 5, 184, 0, 50]
abbrev dktJ10_compareToUTF16Values_0 : List UInt8 := dkwJ10_compareToUTF16Values_0 ++ dktJ10_compareToUTF16Values_1
theorem dksJ10_compareToUTF16Values_0 : cJ10_compareToUTF16Values.data.toList.drop 0 = dktJ10_compareToUTF16Values_0 := by decide +kernel
theorem dksJ10_compareToUTF16Values_1 : cJ10_compareToUTF16Values.data.toList.drop 23 = dktJ10_compareToUTF16Values_1 := dk_seg dksJ10_compareToUTF16Values_0 23 rfl rfl
theorem dksJ10_compareToUTF16Values_2 : cJ10_compareToUTF16Values.data.toList.drop 46 = dktJ10_compareToUTF16Values_2 := dk_seg dksJ10_compareToUTF16Values_1 23 rfl rfl
theorem dJ10_compareToUTF16Values_0 : decode cJ10_compareToUTF16Values 0 = .ok (.iload_n 2, 1) := dk_28 (dk_at dksJ10_compareToUTF16Values_0 0 rfl rfl)
theorem dJ10_compareToUTF16Values_1 : decode cJ10_compareToUTF16Values 1 = .ok (.iload_n 3, 1) := dk_29 (dk_at dksJ10_compareToUTF16Values_0 1 rfl rfl)
theorem dJ10_compareToUTF16Values_2 : decode cJ10_compareToUTF16Values 2 = .ok (.invokestatic 38, 3) := dk_184 0 38 (dk_at dksJ10_compareToUTF16Values_0 2 rfl rfl)
theorem dJ10_compareToUTF16Values_5 : decode cJ10_compareToUTF16Values 5 = .ok (.istore 4, 2) := dk_54 4 (dk_at dksJ10_compareToUTF16Values_0 5 rfl rfl)
theorem dJ10_compareToUTF16Values_7 : decode cJ10_compareToUTF16Values 7 = .ok (.iconst 0, 1) := dk_3 (dk_at dksJ10_compareToUTF16Values_0 7 rfl rfl)
theorem dJ10_compareToUTF16Values_8 : decode cJ10_compareToUTF16Values 8 = .ok (.istore 5, 2) := dk_54 5 (dk_at dksJ10_compareToUTF16Values_0 8 rfl rfl)
theorem dJ10_compareToUTF16Values_10 : decode cJ10_compareToUTF16Values 10 = .ok (.iload 5, 2) := dk_21 5 (dk_at dksJ10_compareToUTF16Values_0 10 rfl rfl)
theorem dJ10_compareToUTF16Values_12 : decode cJ10_compareToUTF16Values 12 = .ok (.iload 4, 2) := dk_21 4 (dk_at dksJ10_compareToUTF16Values_0 12 rfl rfl)
theorem dJ10_compareToUTF16Values_14 : decode cJ10_compareToUTF16Values 14 = .ok (.if_icmp .ge 38, 3) := dk_162 0 38 (dk_at dksJ10_compareToUTF16Values_0 14 rfl rfl)
theorem dJ10_compareToUTF16Values_17 : decode cJ10_compareToUTF16Values 17 = .ok (.aload_n 0, 1) := dk_42 (dk_at dksJ10_compareToUTF16Values_0 17 rfl rfl)
theorem dJ10_compareToUTF16Values_18 : decode cJ10_compareToUTF16Values 18 = .ok (.iload 5, 2) := dk_21 5 (dk_at dksJ10_compareToUTF16Values_0 18 rfl rfl)
theorem dJ10_compareToUTF16Values_20 : decode cJ10_compareToUTF16Values 20 = .ok (.invokestatic 50, 3) := dk_184 0 50 (dk_at dksJ10_compareToUTF16Values_0 20 rfl rfl)
theorem dJ10_compareToUTF16Values_23 : decode cJ10_compareToUTF16Values 23 = .ok (.istore 6, 2) := dk_54 6 (dk_at dksJ10_compareToUTF16Values_1 0 rfl rfl)
theorem dJ10_compareToUTF16Values_25 : decode cJ10_compareToUTF16Values 25 = .ok (.aload_n 1, 1) := dk_43 (dk_at dksJ10_compareToUTF16Values_1 2 rfl rfl)
theorem dJ10_compareToUTF16Values_26 : decode cJ10_compareToUTF16Values 26 = .ok (.iload 5, 2) := dk_21 5 (dk_at dksJ10_compareToUTF16Values_1 3 rfl rfl)
theorem dJ10_compareToUTF16Values_28 : decode cJ10_compareToUTF16Values 28 = .ok (.invokestatic 65, 3) := dk_184 0 65 (dk_at dksJ10_compareToUTF16Values_1 5 rfl rfl)
theorem dJ10_compareToUTF16Values_31 : decode cJ10_compareToUTF16Values 31 = .ok (.istore 7, 2) := dk_54 7 (dk_at dksJ10_compareToUTF16Values_1 8 rfl rfl)
theorem dJ10_compareToUTF16Values_33 : decode cJ10_compareToUTF16Values 33 = .ok (.iload 6, 2) := dk_21 6 (dk_at dksJ10_compareToUTF16Values_1 10 rfl rfl)
theorem dJ10_compareToUTF16Values_35 : decode cJ10_compareToUTF16Values 35 = .ok (.iload 7, 2) := dk_21 7 (dk_at dksJ10_compareToUTF16Values_1 12 rfl rfl)
theorem dJ10_compareToUTF16Values_37 : decode cJ10_compareToUTF16Values 37 = .ok (.if_icmp .eq 9, 3) := dk_159 0 9 (dk_at dksJ10_compareToUTF16Values_1 14 rfl rfl)
theorem dJ10_compareToUTF16Values_40 : decode cJ10_compareToUTF16Values 40 = .ok (.iload 6, 2) := dk_21 6 (dk_at dksJ10_compareToUTF16Values_1 17 rfl rfl)
theorem dJ10_compareToUTF16Values_42 : decode cJ10_compareToUTF16Values 42 = .ok (.iload 7, 2) := dk_21 7 (dk_at dksJ10_compareToUTF16Values_1 19 rfl rfl)
theorem dJ10_compareToUTF16Values_44 : decode cJ10_compareToUTF16Values 44 = .ok (.isub, 1) := dk_100 (dk_at dksJ10_compareToUTF16Values_1 21 rfl rfl)
theorem dJ10_compareToUTF16Values_45 : decode cJ10_compareToUTF16Values 45 = .ok (.ireturn, 1) := dk_172 (dk_at dksJ10_compareToUTF16Values_1 22 rfl rfl)
theorem dJ10_compareToUTF16Values_46 : decode cJ10_compareToUTF16Values 46 = .ok (.iinc 5 1, 3) := dk_132 5 1 (dk_at dksJ10_compareToUTF16Values_2 0 rfl rfl)
theorem dJ10_compareToUTF16Values_49 : decode cJ10_compareToUTF16Values 49 = .ok (.goto (-39), 3) := dk_167 255 217 (dk_at dksJ10_compareToUTF16Values_2 3 rfl rfl)
theorem dJ10_compareToUTF16Values_52 : decode cJ10_compareToUTF16Values 52 = .ok (.iload_n 2, 1) := dk_28 (dk_at dksJ10_compareToUTF16Values_2 6 rfl rfl)
theorem dJ10_compareToUTF16Values_53 : decode cJ10_compareToUTF16Values 53 = .ok (.iload_n 3, 1) := dk_29 (dk_at dksJ10_compareToUTF16Values_2 7 rfl rfl)
theorem dJ10_compareToUTF16Values_54 : decode cJ10_compareToUTF16Values 54 = .ok (.isub, 1) := dk_100 (dk_at dksJ10_compareToUTF16Values_2 8 rfl rfl)
theorem dJ10_compareToUTF16Values_55 : decode cJ10_compareToUTF16Values 55 = .ok (.ireturn, 1) := dk_172 (dk_at dksJ10_compareToUTF16Values_2 9 rfl rfl)
abbrev cJ10_compareToUTF16_2 : ByteArray := prog_42_method_17_code
def yJ10_compareToUTF16_2 : MethodName := ⟨RJ10, "compareToUTF16", "([B[BII)I"⟩
def dkwJ10_compareToUTF16_2_0 : List UInt8 := [28, 42, 184, 0, 54, 184, 0, 62, 29, 43, 184, 0, 58, 184, 0, 62, 42, 43, 28, 29, 184, 0, 59, 172]
abbrev dktJ10_compareToUTF16_2_0 : List UInt8 := dkwJ10_compareToUTF16_2_0 ++ []
theorem dksJ10_compareToUTF16_2_0 : cJ10_compareToUTF16_2.data.toList.drop 0 = dktJ10_compareToUTF16_2_0 := by decide +kernel
theorem dJ10_compareToUTF16_2_0 : decode cJ10_compareToUTF16_2 0 = .ok (.iload_n 2, 1) := dk_28 (dk_at dksJ10_compareToUTF16_2_0 0 rfl rfl)
theorem dJ10_compareToUTF16_2_1 : decode cJ10_compareToUTF16_2 1 = .ok (.aload_n 0, 1) := dk_42 (dk_at dksJ10_compareToUTF16_2_0 1 rfl rfl)
theorem dJ10_compareToUTF16_2_2 : decode cJ10_compareToUTF16_2 2 = .ok (.invokestatic 54, 3) := dk_184 0 54 (dk_at dksJ10_compareToUTF16_2_0 2 rfl rfl)
theorem dJ10_compareToUTF16_2_5 : decode cJ10_compareToUTF16_2 5 = .ok (.invokestatic 62, 3) := dk_184 0 62 (dk_at dksJ10_compareToUTF16_2_0 5 rfl rfl)
theorem dJ10_compareToUTF16_2_8 : decode cJ10_compareToUTF16_2 8 = .ok (.iload_n 3, 1) := dk_29 (dk_at dksJ10_compareToUTF16_2_0 8 rfl rfl)
theorem dJ10_compareToUTF16_2_9 : decode cJ10_compareToUTF16_2 9 = .ok (.aload_n 1, 1) := dk_43 (dk_at dksJ10_compareToUTF16_2_0 9 rfl rfl)
theorem dJ10_compareToUTF16_2_10 : decode cJ10_compareToUTF16_2 10 = .ok (.invokestatic 58, 3) := dk_184 0 58 (dk_at dksJ10_compareToUTF16_2_0 10 rfl rfl)
theorem dJ10_compareToUTF16_2_13 : decode cJ10_compareToUTF16_2 13 = .ok (.invokestatic 62, 3) := dk_184 0 62 (dk_at dksJ10_compareToUTF16_2_0 13 rfl rfl)
theorem dJ10_compareToUTF16_2_16 : decode cJ10_compareToUTF16_2 16 = .ok (.aload_n 0, 1) := dk_42 (dk_at dksJ10_compareToUTF16_2_0 16 rfl rfl)
theorem dJ10_compareToUTF16_2_17 : decode cJ10_compareToUTF16_2 17 = .ok (.aload_n 1, 1) := dk_43 (dk_at dksJ10_compareToUTF16_2_0 17 rfl rfl)
theorem dJ10_compareToUTF16_2_18 : decode cJ10_compareToUTF16_2 18 = .ok (.iload_n 2, 1) := dk_28 (dk_at dksJ10_compareToUTF16_2_0 18 rfl rfl)
theorem dJ10_compareToUTF16_2_19 : decode cJ10_compareToUTF16_2 19 = .ok (.iload_n 3, 1) := dk_29 (dk_at dksJ10_compareToUTF16_2_0 19 rfl rfl)
theorem dJ10_compareToUTF16_2_20 : decode cJ10_compareToUTF16_2 20 = .ok (.invokestatic 59, 3) := dk_184 0 59 (dk_at dksJ10_compareToUTF16_2_0 20 rfl rfl)
theorem dJ10_compareToUTF16_2_23 : decode cJ10_compareToUTF16_2 23 = .ok (.ireturn, 1) := dk_172 (dk_at dksJ10_compareToUTF16_2_0 23 rfl rfl)
abbrev cJ10_canEncode_2 : ByteArray := prog_42_method_3_code
def yJ10_canEncode_2 : MethodName := ⟨RJ10, "canEncode", "(C)Z"⟩
def dkwJ10_canEncode_2_0 : List UInt8 := [26, 17, 0, 255, 163, 0, 7, 4, 167, 0, 4, 3, 172]
abbrev dktJ10_canEncode_2_0 : List UInt8 := dkwJ10_canEncode_2_0 ++ []
theorem dksJ10_canEncode_2_0 : cJ10_canEncode_2.data.toList.drop 0 = dktJ10_canEncode_2_0 := by decide +kernel
theorem dJ10_canEncode_2_0 : decode cJ10_canEncode_2 0 = .ok (.iload_n 0, 1) := dk_26 (dk_at dksJ10_canEncode_2_0 0 rfl rfl)
theorem dJ10_canEncode_2_1 : decode cJ10_canEncode_2 1 = .ok (.sipush 255, 3) := dk_17 0 255 (dk_at dksJ10_canEncode_2_0 1 rfl rfl)
theorem dJ10_canEncode_2_4 : decode cJ10_canEncode_2 4 = .ok (.if_icmp .gt 7, 3) := dk_163 0 7 (dk_at dksJ10_canEncode_2_0 4 rfl rfl)
theorem dJ10_canEncode_2_7 : decode cJ10_canEncode_2 7 = .ok (.iconst 1, 1) := dk_4 (dk_at dksJ10_canEncode_2_0 7 rfl rfl)
theorem dJ10_canEncode_2_8 : decode cJ10_canEncode_2 8 = .ok (.goto 4, 3) := dk_167 0 4 (dk_at dksJ10_canEncode_2_0 8 rfl rfl)
theorem dJ10_canEncode_2_11 : decode cJ10_canEncode_2 11 = .ok (.iconst 0, 1) := dk_3 (dk_at dksJ10_canEncode_2_0 11 rfl rfl)
theorem dJ10_canEncode_2_12 : decode cJ10_canEncode_2 12 = .ok (.ireturn, 1) := dk_172 (dk_at dksJ10_canEncode_2_0 12 rfl rfl)
abbrev cJ10_inflate : ByteArray := prog_42_method_50_code
def yJ10_inflate : MethodName := ⟨RJ10, "inflate", "([BI[BII)V"⟩
def dkwJ10_inflate_0 : List UInt8 := [42, 27, 44, 29, 21, 4, 184, 0, 240, 177]
abbrev dktJ10_inflate_0 : List UInt8 := dkwJ10_inflate_0 ++ []
theorem dksJ10_inflate_0 : cJ10_inflate.data.toList.drop 0 = dktJ10_inflate_0 := by decide +kernel
theorem dJ10_inflate_0 : decode cJ10_inflate 0 = .ok (.aload_n 0, 1) := dk_42 (dk_at dksJ10_inflate_0 0 rfl rfl)
theorem dJ10_inflate_1 : decode cJ10_inflate 1 = .ok (.iload_n 1, 1) := dk_27 (dk_at dksJ10_inflate_0 1 rfl rfl)
theorem dJ10_inflate_2 : decode cJ10_inflate 2 = .ok (.aload_n 2, 1) := dk_44 (dk_at dksJ10_inflate_0 2 rfl rfl)
theorem dJ10_inflate_3 : decode cJ10_inflate 3 = .ok (.iload_n 3, 1) := dk_29 (dk_at dksJ10_inflate_0 3 rfl rfl)
theorem dJ10_inflate_4 : decode cJ10_inflate 4 = .ok (.iload 4, 2) := dk_21 4 (dk_at dksJ10_inflate_0 4 rfl rfl)
theorem dJ10_inflate_6 : decode cJ10_inflate 6 = .ok (.invokestatic 240, 3) := dk_184 0 240 (dk_at dksJ10_inflate_0 6 rfl rfl)
theorem dJ10_inflate_9 : decode cJ10_inflate 9 = .ok (.return_, 1) := dk_177 (dk_at dksJ10_inflate_0 9 rfl rfl)
abbrev cJ10_charAt : ByteArray := prog_42_method_2_code
def yJ10_charAt : MethodName := ⟨RJ10, "charAt", "([BI)C"⟩
def dkwJ10_charAt_0 : List UInt8 := [27, 42, 190, 184, 0, 9, 42, 27, 51, 17, 0, 255, 126, 146, 172]
abbrev dktJ10_charAt_0 : List UInt8 := dkwJ10_charAt_0 ++ []
theorem dksJ10_charAt_0 : cJ10_charAt.data.toList.drop 0 = dktJ10_charAt_0 := by decide +kernel
theorem dJ10_charAt_0 : decode cJ10_charAt 0 = .ok (.iload_n 1, 1) := dk_27 (dk_at dksJ10_charAt_0 0 rfl rfl)
theorem dJ10_charAt_1 : decode cJ10_charAt 1 = .ok (.aload_n 0, 1) := dk_42 (dk_at dksJ10_charAt_0 1 rfl rfl)
theorem dJ10_charAt_2 : decode cJ10_charAt 2 = .ok (.arraylength, 1) := dk_190 (dk_at dksJ10_charAt_0 2 rfl rfl)
theorem dJ10_charAt_3 : decode cJ10_charAt 3 = .ok (.invokestatic 9, 3) := dk_184 0 9 (dk_at dksJ10_charAt_0 3 rfl rfl)
theorem dJ10_charAt_6 : decode cJ10_charAt 6 = .ok (.aload_n 0, 1) := dk_42 (dk_at dksJ10_charAt_0 6 rfl rfl)
theorem dJ10_charAt_7 : decode cJ10_charAt 7 = .ok (.iload_n 1, 1) := dk_27 (dk_at dksJ10_charAt_0 7 rfl rfl)
theorem dJ10_charAt_8 : decode cJ10_charAt 8 = .ok (.baload, 1) := dk_51 (dk_at dksJ10_charAt_0 8 rfl rfl)
theorem dJ10_charAt_9 : decode cJ10_charAt 9 = .ok (.sipush 255, 3) := dk_17 0 255 (dk_at dksJ10_charAt_0 9 rfl rfl)
theorem dJ10_charAt_12 : decode cJ10_charAt 12 = .ok (.iand, 1) := dk_126 (dk_at dksJ10_charAt_0 12 rfl rfl)
theorem dJ10_charAt_13 : decode cJ10_charAt 13 = .ok (.i2c, 1) := dk_146 (dk_at dksJ10_charAt_0 13 rfl rfl)
theorem dJ10_charAt_14 : decode cJ10_charAt 14 = .ok (.ireturn, 1) := dk_172 (dk_at dksJ10_charAt_0 14 rfl rfl)
theorem q96 : (Jvm.Cond.initialized "java/lang/StringLatin1") ∈ lw_all := lw_g (lw_at lw_m1 19 rfl) rfl
theorem q524 : (Jvm.Cond.static ({ cls := "java/lang/StringLatin1", name := "indexOf", desc := "([BIII)I" } : Jvm.MethodName)) ∈ lw_all := lw_g (lw_at lw_m2 207 rfl) rfl
theorem q525 : (Jvm.Cond.code ({ cls := "java/lang/StringLatin1", name := "indexOf", desc := "([BIII)I" } : Jvm.MethodName) prog_42_method_22_code (4 : Nat) (Option.some Jvm.ClassFile.FieldType.int)) ∈ lw_all := lw_g (lw_at lw_m2 208 rfl) rfl
theorem q526 : (Jvm.Cond.methodLink "java/lang/StringLatin1" (88 : Nat) ({ cls := "java/lang/StringLatin1", name := "canEncode", desc := "(I)Z" } : Jvm.MethodName)) ∈ lw_all := lw_g (lw_at lw_m2 209 rfl) rfl
theorem q527 : (Jvm.Cond.static ({ cls := "java/lang/StringLatin1", name := "canEncode", desc := "(I)Z" } : Jvm.MethodName)) ∈ lw_all := lw_g (lw_at lw_m2 210 rfl) rfl
theorem q528 : (Jvm.Cond.code ({ cls := "java/lang/StringLatin1", name := "canEncode", desc := "(I)Z" } : Jvm.MethodName) prog_42_method_4_code (1 : Nat) (Option.some Jvm.ClassFile.FieldType.boolean)) ∈ lw_all := lw_g (lw_at lw_m2 211 rfl) rfl
theorem q529 : (Jvm.Cond.methodLink "java/lang/StringLatin1" (92 : Nat) ({ cls := "java/lang/Math", name := "max", desc := "(II)I" } : Jvm.MethodName)) ∈ lw_all := lw_g (lw_at lw_m2 212 rfl) rfl
theorem q530 : (Jvm.Cond.methodLink "java/lang/StringLatin1" (38 : Nat) ({ cls := "java/lang/Math", name := "min", desc := "(II)I" } : Jvm.MethodName)) ∈ lw_all := lw_g (lw_at lw_m2 213 rfl) rfl
theorem q531 : (Jvm.Cond.methodLink "java/lang/StringLatin1" (95 : Nat) ({ cls := "java/lang/StringLatin1", name := "indexOfChar", desc := "([BIII)I" } : Jvm.MethodName)) ∈ lw_all := lw_g (lw_at lw_m2 214 rfl) rfl
theorem q532 : (Jvm.Cond.static ({ cls := "java/lang/StringLatin1", name := "indexOfChar", desc := "([BIII)I" } : Jvm.MethodName)) ∈ lw_all := lw_g (lw_at lw_m2 215 rfl) rfl
theorem q533 : (Jvm.Cond.code ({ cls := "java/lang/StringLatin1", name := "indexOfChar", desc := "([BIII)I" } : Jvm.MethodName) prog_42_method_23_code (6 : Nat) (Option.some Jvm.ClassFile.FieldType.int)) ∈ lw_all := lw_g (lw_at lw_m2 216 rfl) rfl
theorem q1274 : (Jvm.Cond.static ({ cls := "java/lang/StringLatin1", name := "compareTo", desc := "([B[B)I" } : Jvm.MethodName)) ∈ lw_all := lw_g (lw_at lw_m5 237 rfl) rfl
theorem q1275 : (Jvm.Cond.code ({ cls := "java/lang/StringLatin1", name := "compareTo", desc := "([B[B)I" } : Jvm.MethodName) prog_42_method_14_code (4 : Nat) (Option.some Jvm.ClassFile.FieldType.int)) ∈ lw_all := lw_g (lw_at lw_m5 238 rfl) rfl
theorem q1276 : (Jvm.Cond.methodLink "java/lang/StringLatin1" (34 : Nat) ({ cls := "java/lang/StringLatin1", name := "compareTo", desc := "([B[BII)I" } : Jvm.MethodName)) ∈ lw_all := lw_g (lw_at lw_m5 239 rfl) rfl
theorem q1277 : (Jvm.Cond.static ({ cls := "java/lang/StringLatin1", name := "compareTo", desc := "([B[BII)I" } : Jvm.MethodName)) ∈ lw_all := lw_g (lw_at lw_m6 0 rfl) rfl
theorem q1278 : (Jvm.Cond.code ({ cls := "java/lang/StringLatin1", name := "compareTo", desc := "([B[BII)I" } : Jvm.MethodName) prog_42_method_15_code (6 : Nat) (Option.some Jvm.ClassFile.FieldType.int)) ∈ lw_all := lw_g (lw_at lw_m6 1 rfl) rfl
theorem q1279 : (Jvm.Cond.methodLink "java/lang/StringLatin1" (44 : Nat) ({ cls := "jdk/internal/util/ArraysSupport", name := "mismatch", desc := "([B[BI)I" } : Jvm.MethodName)) ∈ lw_all := lw_g (lw_at lw_m6 2 rfl) rfl
theorem q1383 : (Jvm.Cond.methodLink "java/lang/StringLatin1" (50 : Nat) ({ cls := "java/lang/StringLatin1", name := "getChar", desc := "([BI)C" } : Jvm.MethodName)) ∈ lw_all := lw_g (lw_at lw_m6 106 rfl) rfl
theorem q1384 : (Jvm.Cond.static ({ cls := "java/lang/StringLatin1", name := "getChar", desc := "([BI)C" } : Jvm.MethodName)) ∈ lw_all := lw_g (lw_at lw_m6 107 rfl) rfl
theorem q1385 : (Jvm.Cond.code ({ cls := "java/lang/StringLatin1", name := "getChar", desc := "([BI)C" } : Jvm.MethodName) prog_42_method_44_code (2 : Nat) (Option.some Jvm.ClassFile.FieldType.char)) ∈ lw_all := lw_g (lw_at lw_m6 108 rfl) rfl
theorem q1393 : (Jvm.Cond.static ({ cls := "java/lang/StringLatin1", name := "compareToUTF16", desc := "([B[B)I" } : Jvm.MethodName)) ∈ lw_all := lw_g (lw_at lw_m6 116 rfl) rfl
theorem q1394 : (Jvm.Cond.code ({ cls := "java/lang/StringLatin1", name := "compareToUTF16", desc := "([B[B)I" } : Jvm.MethodName) prog_42_method_16_code (4 : Nat) (Option.some Jvm.ClassFile.FieldType.int)) ∈ lw_all := lw_g (lw_at lw_m6 117 rfl) rfl
theorem q1395 : (Jvm.Cond.methodLink "java/lang/StringLatin1" (54 : Nat) ({ cls := "java/lang/StringLatin1", name := "length", desc := "([B)I" } : Jvm.MethodName)) ∈ lw_all := lw_g (lw_at lw_m6 118 rfl) rfl
theorem q1396 : (Jvm.Cond.static ({ cls := "java/lang/StringLatin1", name := "length", desc := "([B)I" } : Jvm.MethodName)) ∈ lw_all := lw_g (lw_at lw_m6 119 rfl) rfl
theorem q1397 : (Jvm.Cond.code ({ cls := "java/lang/StringLatin1", name := "length", desc := "([B)I" } : Jvm.MethodName) prog_42_method_5_code (1 : Nat) (Option.some Jvm.ClassFile.FieldType.int)) ∈ lw_all := lw_g (lw_at lw_m6 120 rfl) rfl
theorem q1398 : (Jvm.Cond.methodLink "java/lang/StringLatin1" (58 : Nat) ({ cls := "java/lang/StringUTF16", name := "length", desc := "([B)I" } : Jvm.MethodName)) ∈ lw_all := lw_g (lw_at lw_m6 121 rfl) rfl
theorem q1399 : (Jvm.Cond.methodLink "java/lang/StringLatin1" (59 : Nat) ({ cls := "java/lang/StringLatin1", name := "compareToUTF16Values", desc := "([B[BII)I" } : Jvm.MethodName)) ∈ lw_all := lw_g (lw_at lw_m6 122 rfl) rfl
theorem q1400 : (Jvm.Cond.static ({ cls := "java/lang/StringLatin1", name := "compareToUTF16Values", desc := "([B[BII)I" } : Jvm.MethodName)) ∈ lw_all := lw_g (lw_at lw_m6 123 rfl) rfl
theorem q1401 : (Jvm.Cond.code ({ cls := "java/lang/StringLatin1", name := "compareToUTF16Values", desc := "([B[BII)I" } : Jvm.MethodName) prog_42_method_18_code (8 : Nat) (Option.some Jvm.ClassFile.FieldType.int)) ∈ lw_all := lw_g (lw_at lw_m6 124 rfl) rfl
theorem q1402 : (Jvm.Cond.methodLink "java/lang/StringLatin1" (65 : Nat) ({ cls := "java/lang/StringUTF16", name := "getChar", desc := "([BI)C" } : Jvm.MethodName)) ∈ lw_all := lw_g (lw_at lw_m6 125 rfl) rfl
theorem q1439 : (Jvm.Cond.static ({ cls := "java/lang/StringLatin1", name := "compareToUTF16", desc := "([B[BII)I" } : Jvm.MethodName)) ∈ lw_all := lw_g (lw_at lw_m6 162 rfl) rfl
theorem q1440 : (Jvm.Cond.code ({ cls := "java/lang/StringLatin1", name := "compareToUTF16", desc := "([B[BII)I" } : Jvm.MethodName) prog_42_method_17_code (4 : Nat) (Option.some Jvm.ClassFile.FieldType.int)) ∈ lw_all := lw_g (lw_at lw_m6 163 rfl) rfl
theorem q1441 : (Jvm.Cond.methodLink "java/lang/StringLatin1" (62 : Nat) ({ cls := "java/lang/String", name := "checkOffset", desc := "(II)V" } : Jvm.MethodName)) ∈ lw_all := lw_g (lw_at lw_m6 164 rfl) rfl
theorem q2076 : (Jvm.Cond.static ({ cls := "java/lang/StringLatin1", name := "canEncode", desc := "(C)Z" } : Jvm.MethodName)) ∈ lw_all := lw_g (lw_at lw_m9 79 rfl) rfl
theorem q2077 : (Jvm.Cond.code ({ cls := "java/lang/StringLatin1", name := "canEncode", desc := "(C)Z" } : Jvm.MethodName) prog_42_method_3_code (1 : Nat) (Option.some Jvm.ClassFile.FieldType.boolean)) ∈ lw_all := lw_g (lw_at lw_m9 80 rfl) rfl
theorem q2083 : (Jvm.Cond.static ({ cls := "java/lang/StringLatin1", name := "inflate", desc := "([BI[BII)V" } : Jvm.MethodName)) ∈ lw_all := lw_g (lw_at lw_m9 86 rfl) rfl
theorem q2084 : (Jvm.Cond.code ({ cls := "java/lang/StringLatin1", name := "inflate", desc := "([BI[BII)V" } : Jvm.MethodName) prog_42_method_50_code (5 : Nat) (Option.none : Option Jvm.ClassFile.FieldType)) ∈ lw_all := lw_g (lw_at lw_m9 87 rfl) rfl
theorem q2085 : (Jvm.Cond.methodLink "java/lang/StringLatin1" (240 : Nat) ({ cls := "java/lang/StringUTF16", name := "inflate", desc := "([BI[BII)V" } : Jvm.MethodName)) ∈ lw_all := lw_g (lw_at lw_m9 88 rfl) rfl
theorem q2208 : (Jvm.Cond.static ({ cls := "java/lang/StringLatin1", name := "charAt", desc := "([BI)C" } : Jvm.MethodName)) ∈ lw_all := lw_g (lw_at lw_m9 211 rfl) rfl
theorem q2209 : (Jvm.Cond.code ({ cls := "java/lang/StringLatin1", name := "charAt", desc := "([BI)C" } : Jvm.MethodName) prog_42_method_2_code (2 : Nat) (Option.some Jvm.ClassFile.FieldType.char)) ∈ lw_all := lw_g (lw_at lw_m9 212 rfl) rfl
theorem q2210 : (Jvm.Cond.methodLink "java/lang/StringLatin1" (9 : Nat) ({ cls := "java/lang/String", name := "checkIndex", desc := "(II)V" } : Jvm.MethodName)) ∈ lw_all := lw_g (lw_at lw_m9 213 rfl) rfl
/-! java/lang/AbstractStringBuilder -/
set_option maxRecDepth 100000
def RJ36 : String := "java/lang/AbstractStringBuilder"
abbrev cJ36_compareTo : ByteArray := prog_22_method_5_code
def yJ36_compareTo : MethodName := ⟨RJ36, "compareTo", "(Ljava/lang/AbstractStringBuilder;)I"⟩
def dkwJ36_compareTo_4 : List UInt8 := [184, 0, 97, 172]
abbrev dktJ36_compareTo_4 : List UInt8 := dkwJ36_compareTo_4 ++ []
def dkwJ36_compareTo_3 : List UInt8 := [182, 0, 83, 153, 0, 15, 44, 45, 21, 4, 21, 5, 184, 0, 94, 167, 0, 12, 44, 45, 21, 4, 21, 5]
abbrev dktJ36_compareTo_3 : List UInt8 := dkwJ36_compareTo_3 ++ dktJ36_compareTo_4
def dkwJ36_compareTo_2 : List UInt8 := [45, 21, 4, 21, 5, 184, 0, 87, 167, 0, 12, 44, 45, 21, 4, 21, 5, 184, 0, 93, 172, 42]
abbrev dktJ36_compareTo_2 : List UInt8 := dkwJ36_compareTo_2 ++ dktJ36_compareTo_3
def dkwJ36_compareTo_1 : List UInt8 := [180, 0, 79, 54, 5, 42, 180, 0, 22, 43, 180, 0, 22, 160, 0, 32, 42, 182, 0, 83, 153, 0, 15, 44]
abbrev dktJ36_compareTo_1 : List UInt8 := dkwJ36_compareTo_1 ++ dktJ36_compareTo_2
def dkwJ36_compareTo_0 : List UInt8 := [42, 43, 166, 0, 5, 3, 172, 42, 180, 0, 15, 77, 43, 180, 0, 15, 78, 42, 180, 0, 79, 54, 4, 43]
abbrev dktJ36_compareTo_0 : List UInt8 := dkwJ36_compareTo_0 ++ dktJ36_compareTo_1
theorem dksJ36_compareTo_0 : cJ36_compareTo.data.toList.drop 0 = dktJ36_compareTo_0 := by decide +kernel
theorem dksJ36_compareTo_1 : cJ36_compareTo.data.toList.drop 24 = dktJ36_compareTo_1 := dk_seg dksJ36_compareTo_0 24 rfl rfl
theorem dksJ36_compareTo_2 : cJ36_compareTo.data.toList.drop 48 = dktJ36_compareTo_2 := dk_seg dksJ36_compareTo_1 24 rfl rfl
theorem dksJ36_compareTo_3 : cJ36_compareTo.data.toList.drop 70 = dktJ36_compareTo_3 := dk_seg dksJ36_compareTo_2 22 rfl rfl
theorem dksJ36_compareTo_4 : cJ36_compareTo.data.toList.drop 94 = dktJ36_compareTo_4 := dk_seg dksJ36_compareTo_3 24 rfl rfl
theorem dJ36_compareTo_0 : decode cJ36_compareTo 0 = .ok (.aload_n 0, 1) := dk_42 (dk_at dksJ36_compareTo_0 0 rfl rfl)
theorem dJ36_compareTo_1 : decode cJ36_compareTo 1 = .ok (.aload_n 1, 1) := dk_43 (dk_at dksJ36_compareTo_0 1 rfl rfl)
theorem dJ36_compareTo_2 : decode cJ36_compareTo 2 = .ok (.if_acmp .ne 5, 3) := dk_166 0 5 (dk_at dksJ36_compareTo_0 2 rfl rfl)
theorem dJ36_compareTo_5 : decode cJ36_compareTo 5 = .ok (.iconst 0, 1) := dk_3 (dk_at dksJ36_compareTo_0 5 rfl rfl)
theorem dJ36_compareTo_6 : decode cJ36_compareTo 6 = .ok (.ireturn, 1) := dk_172 (dk_at dksJ36_compareTo_0 6 rfl rfl)
theorem dJ36_compareTo_7 : decode cJ36_compareTo 7 = .ok (.aload_n 0, 1) := dk_42 (dk_at dksJ36_compareTo_0 7 rfl rfl)
theorem dJ36_compareTo_8 : decode cJ36_compareTo 8 = .ok (.getfield 15, 3) := dk_180 0 15 (dk_at dksJ36_compareTo_0 8 rfl rfl)
theorem dJ36_compareTo_11 : decode cJ36_compareTo 11 = .ok (.astore_n 2, 1) := dk_77 (dk_at dksJ36_compareTo_0 11 rfl rfl)
theorem dJ36_compareTo_12 : decode cJ36_compareTo 12 = .ok (.aload_n 1, 1) := dk_43 (dk_at dksJ36_compareTo_0 12 rfl rfl)
theorem dJ36_compareTo_13 : decode cJ36_compareTo 13 = .ok (.getfield 15, 3) := dk_180 0 15 (dk_at dksJ36_compareTo_0 13 rfl rfl)
theorem dJ36_compareTo_16 : decode cJ36_compareTo 16 = .ok (.astore_n 3, 1) := dk_78 (dk_at dksJ36_compareTo_0 16 rfl rfl)
theorem dJ36_compareTo_17 : decode cJ36_compareTo 17 = .ok (.aload_n 0, 1) := dk_42 (dk_at dksJ36_compareTo_0 17 rfl rfl)
theorem dJ36_compareTo_18 : decode cJ36_compareTo 18 = .ok (.getfield 79, 3) := dk_180 0 79 (dk_at dksJ36_compareTo_0 18 rfl rfl)
theorem dJ36_compareTo_21 : decode cJ36_compareTo 21 = .ok (.istore 4, 2) := dk_54 4 (dk_at dksJ36_compareTo_0 21 rfl rfl)
theorem dJ36_compareTo_23 : decode cJ36_compareTo 23 = .ok (.aload_n 1, 1) := dk_43 (dk_at dksJ36_compareTo_0 23 rfl rfl)
theorem dJ36_compareTo_24 : decode cJ36_compareTo 24 = .ok (.getfield 79, 3) := dk_180 0 79 (dk_at dksJ36_compareTo_1 0 rfl rfl)
theorem dJ36_compareTo_27 : decode cJ36_compareTo 27 = .ok (.istore 5, 2) := dk_54 5 (dk_at dksJ36_compareTo_1 3 rfl rfl)
theorem dJ36_compareTo_29 : decode cJ36_compareTo 29 = .ok (.aload_n 0, 1) := dk_42 (dk_at dksJ36_compareTo_1 5 rfl rfl)
theorem dJ36_compareTo_30 : decode cJ36_compareTo 30 = .ok (.getfield 22, 3) := dk_180 0 22 (dk_at dksJ36_compareTo_1 6 rfl rfl)
theorem dJ36_compareTo_33 : decode cJ36_compareTo 33 = .ok (.aload_n 1, 1) := dk_43 (dk_at dksJ36_compareTo_1 9 rfl rfl)
theorem dJ36_compareTo_34 : decode cJ36_compareTo 34 = .ok (.getfield 22, 3) := dk_180 0 22 (dk_at dksJ36_compareTo_1 10 rfl rfl)
theorem dJ36_compareTo_37 : decode cJ36_compareTo 37 = .ok (.if_icmp .ne 32, 3) := dk_160 0 32 (dk_at dksJ36_compareTo_1 13 rfl rfl)
theorem dJ36_compareTo_40 : decode cJ36_compareTo 40 = .ok (.aload_n 0, 1) := dk_42 (dk_at dksJ36_compareTo_1 16 rfl rfl)
theorem dJ36_compareTo_41 : decode cJ36_compareTo 41 = .ok (.invokevirtual 83, 3) := dk_182 0 83 (dk_at dksJ36_compareTo_1 17 rfl rfl)
theorem dJ36_compareTo_44 : decode cJ36_compareTo 44 = .ok (.ifCond .eq 15, 3) := dk_153 0 15 (dk_at dksJ36_compareTo_1 20 rfl rfl)
theorem dJ36_compareTo_47 : decode cJ36_compareTo 47 = .ok (.aload_n 2, 1) := dk_44 (dk_at dksJ36_compareTo_1 23 rfl rfl)
theorem dJ36_compareTo_48 : decode cJ36_compareTo 48 = .ok (.aload_n 3, 1) := dk_45 (dk_at dksJ36_compareTo_2 0 rfl rfl)
theorem dJ36_compareTo_49 : decode cJ36_compareTo 49 = .ok (.iload 4, 2) := dk_21 4 (dk_at dksJ36_compareTo_2 1 rfl rfl)
theorem dJ36_compareTo_51 : decode cJ36_compareTo 51 = .ok (.iload 5, 2) := dk_21 5 (dk_at dksJ36_compareTo_2 3 rfl rfl)
theorem dJ36_compareTo_53 : decode cJ36_compareTo 53 = .ok (.invokestatic 87, 3) := dk_184 0 87 (dk_at dksJ36_compareTo_2 5 rfl rfl)
theorem dJ36_compareTo_56 : decode cJ36_compareTo 56 = .ok (.goto 12, 3) := dk_167 0 12 (dk_at dksJ36_compareTo_2 8 rfl rfl)
theorem dJ36_compareTo_59 : decode cJ36_compareTo 59 = .ok (.aload_n 2, 1) := dk_44 (dk_at dksJ36_compareTo_2 11 rfl rfl)
theorem dJ36_compareTo_60 : decode cJ36_compareTo 60 = .ok (.aload_n 3, 1) := dk_45 (dk_at dksJ36_compareTo_2 12 rfl rfl)
theorem dJ36_compareTo_61 : decode cJ36_compareTo 61 = .ok (.iload 4, 2) := dk_21 4 (dk_at dksJ36_compareTo_2 13 rfl rfl)
theorem dJ36_compareTo_63 : decode cJ36_compareTo 63 = .ok (.iload 5, 2) := dk_21 5 (dk_at dksJ36_compareTo_2 15 rfl rfl)
theorem dJ36_compareTo_65 : decode cJ36_compareTo 65 = .ok (.invokestatic 93, 3) := dk_184 0 93 (dk_at dksJ36_compareTo_2 17 rfl rfl)
theorem dJ36_compareTo_68 : decode cJ36_compareTo 68 = .ok (.ireturn, 1) := dk_172 (dk_at dksJ36_compareTo_2 20 rfl rfl)
theorem dJ36_compareTo_69 : decode cJ36_compareTo 69 = .ok (.aload_n 0, 1) := dk_42 (dk_at dksJ36_compareTo_2 21 rfl rfl)
theorem dJ36_compareTo_70 : decode cJ36_compareTo 70 = .ok (.invokevirtual 83, 3) := dk_182 0 83 (dk_at dksJ36_compareTo_3 0 rfl rfl)
theorem dJ36_compareTo_73 : decode cJ36_compareTo 73 = .ok (.ifCond .eq 15, 3) := dk_153 0 15 (dk_at dksJ36_compareTo_3 3 rfl rfl)
theorem dJ36_compareTo_76 : decode cJ36_compareTo 76 = .ok (.aload_n 2, 1) := dk_44 (dk_at dksJ36_compareTo_3 6 rfl rfl)
theorem dJ36_compareTo_77 : decode cJ36_compareTo 77 = .ok (.aload_n 3, 1) := dk_45 (dk_at dksJ36_compareTo_3 7 rfl rfl)
theorem dJ36_compareTo_78 : decode cJ36_compareTo 78 = .ok (.iload 4, 2) := dk_21 4 (dk_at dksJ36_compareTo_3 8 rfl rfl)
theorem dJ36_compareTo_80 : decode cJ36_compareTo 80 = .ok (.iload 5, 2) := dk_21 5 (dk_at dksJ36_compareTo_3 10 rfl rfl)
theorem dJ36_compareTo_82 : decode cJ36_compareTo 82 = .ok (.invokestatic 94, 3) := dk_184 0 94 (dk_at dksJ36_compareTo_3 12 rfl rfl)
theorem dJ36_compareTo_85 : decode cJ36_compareTo 85 = .ok (.goto 12, 3) := dk_167 0 12 (dk_at dksJ36_compareTo_3 15 rfl rfl)
theorem dJ36_compareTo_88 : decode cJ36_compareTo 88 = .ok (.aload_n 2, 1) := dk_44 (dk_at dksJ36_compareTo_3 18 rfl rfl)
theorem dJ36_compareTo_89 : decode cJ36_compareTo 89 = .ok (.aload_n 3, 1) := dk_45 (dk_at dksJ36_compareTo_3 19 rfl rfl)
theorem dJ36_compareTo_90 : decode cJ36_compareTo 90 = .ok (.iload 4, 2) := dk_21 4 (dk_at dksJ36_compareTo_3 20 rfl rfl)
theorem dJ36_compareTo_92 : decode cJ36_compareTo 92 = .ok (.iload 5, 2) := dk_21 5 (dk_at dksJ36_compareTo_3 22 rfl rfl)
theorem dJ36_compareTo_94 : decode cJ36_compareTo 94 = .ok (.invokestatic 97, 3) := dk_184 0 97 (dk_at dksJ36_compareTo_4 0 rfl rfl)
theorem dJ36_compareTo_97 : decode cJ36_compareTo 97 = .ok (.ireturn, 1) := dk_172 (dk_at dksJ36_compareTo_4 3 rfl rfl)
abbrev cJ36_isLatin1 : ByteArray := prog_22_method_68_code
def yJ36_isLatin1 : MethodName := ⟨RJ36, "isLatin1", "()Z"⟩
def dkwJ36_isLatin1_0 : List UInt8 := [178, 0, 18, 153, 0, 14, 42, 180, 0, 22, 154, 0, 7, 4, 167, 0, 4, 3, 172]
abbrev dktJ36_isLatin1_0 : List UInt8 := dkwJ36_isLatin1_0 ++ []
theorem dksJ36_isLatin1_0 : cJ36_isLatin1.data.toList.drop 0 = dktJ36_isLatin1_0 := by decide +kernel
theorem dJ36_isLatin1_0 : decode cJ36_isLatin1 0 = .ok (.getstatic 18, 3) := dk_178 0 18 (dk_at dksJ36_isLatin1_0 0 rfl rfl)
theorem dJ36_isLatin1_3 : decode cJ36_isLatin1 3 = .ok (.ifCond .eq 14, 3) := dk_153 0 14 (dk_at dksJ36_isLatin1_0 3 rfl rfl)
theorem dJ36_isLatin1_6 : decode cJ36_isLatin1 6 = .ok (.aload_n 0, 1) := dk_42 (dk_at dksJ36_isLatin1_0 6 rfl rfl)
theorem dJ36_isLatin1_7 : decode cJ36_isLatin1 7 = .ok (.getfield 22, 3) := dk_180 0 22 (dk_at dksJ36_isLatin1_0 7 rfl rfl)
theorem dJ36_isLatin1_10 : decode cJ36_isLatin1 10 = .ok (.ifCond .ne 7, 3) := dk_154 0 7 (dk_at dksJ36_isLatin1_0 10 rfl rfl)
theorem dJ36_isLatin1_13 : decode cJ36_isLatin1 13 = .ok (.iconst 1, 1) := dk_4 (dk_at dksJ36_isLatin1_0 13 rfl rfl)
theorem dJ36_isLatin1_14 : decode cJ36_isLatin1 14 = .ok (.goto 4, 3) := dk_167 0 4 (dk_at dksJ36_isLatin1_0 14 rfl rfl)
theorem dJ36_isLatin1_17 : decode cJ36_isLatin1 17 = .ok (.iconst 0, 1) := dk_3 (dk_at dksJ36_isLatin1_0 17 rfl rfl)
theorem dJ36_isLatin1_18 : decode cJ36_isLatin1 18 = .ok (.ireturn, 1) := dk_172 (dk_at dksJ36_isLatin1_0 18 rfl rfl)
abbrev cJ36_init : ByteArray := prog_22_method_2_code
def yJ36_init : MethodName := ⟨RJ36, "<init>", "(I)V"⟩
def dkwJ36_init_1 : List UInt8 := [167, 0, 16, 42, 27, 184, 0, 26, 181, 0, 15, 42, 4, 181, 0, 22, 177]
abbrev dktJ36_init_1 : List UInt8 := dkwJ36_init_1 ++ []
def dkwJ36_init_0 : List UInt8 := [42, 183, 0, 3, 178, 0, 18, 153, 0, 18, 42, 27, 188, 8, 181, 0, 15, 42, 3, 181, 0, 22]
abbrev dktJ36_init_0 : List UInt8 := dkwJ36_init_0 ++ dktJ36_init_1
theorem dksJ36_init_0 : cJ36_init.data.toList.drop 0 = dktJ36_init_0 := by decide +kernel
theorem dksJ36_init_1 : cJ36_init.data.toList.drop 22 = dktJ36_init_1 := dk_seg dksJ36_init_0 22 rfl rfl
theorem dJ36_init_0 : decode cJ36_init 0 = .ok (.aload_n 0, 1) := dk_42 (dk_at dksJ36_init_0 0 rfl rfl)
theorem dJ36_init_1 : decode cJ36_init 1 = .ok (.invokespecial 3, 3) := dk_183 0 3 (dk_at dksJ36_init_0 1 rfl rfl)
theorem dJ36_init_4 : decode cJ36_init 4 = .ok (.getstatic 18, 3) := dk_178 0 18 (dk_at dksJ36_init_0 4 rfl rfl)
theorem dJ36_init_7 : decode cJ36_init 7 = .ok (.ifCond .eq 18, 3) := dk_153 0 18 (dk_at dksJ36_init_0 7 rfl rfl)
theorem dJ36_init_10 : decode cJ36_init 10 = .ok (.aload_n 0, 1) := dk_42 (dk_at dksJ36_init_0 10 rfl rfl)
theorem dJ36_init_11 : decode cJ36_init 11 = .ok (.iload_n 1, 1) := dk_27 (dk_at dksJ36_init_0 11 rfl rfl)
theorem dJ36_init_12 : decode cJ36_init 12 = .ok (.newarray .byte, 2) := dk_188_8 (dk_at dksJ36_init_0 12 rfl rfl)
theorem dJ36_init_14 : decode cJ36_init 14 = .ok (.putfield 15, 3) := dk_181 0 15 (dk_at dksJ36_init_0 14 rfl rfl)
theorem dJ36_init_17 : decode cJ36_init 17 = .ok (.aload_n 0, 1) := dk_42 (dk_at dksJ36_init_0 17 rfl rfl)
theorem dJ36_init_18 : decode cJ36_init 18 = .ok (.iconst 0, 1) := dk_3 (dk_at dksJ36_init_0 18 rfl rfl)
theorem dJ36_init_19 : decode cJ36_init 19 = .ok (.putfield 22, 3) := dk_181 0 22 (dk_at dksJ36_init_0 19 rfl rfl)
theorem dJ36_init_22 : decode cJ36_init 22 = .ok (.goto 16, 3) := dk_167 0 16 (dk_at dksJ36_init_1 0 rfl rfl)
theorem dJ36_init_25 : decode cJ36_init 25 = .ok (.aload_n 0, 1) := dk_42 (dk_at dksJ36_init_1 3 rfl rfl)
theorem dJ36_init_26 : decode cJ36_init 26 = .ok (.iload_n 1, 1) := dk_27 (dk_at dksJ36_init_1 4 rfl rfl)
theorem dJ36_init_27 : decode cJ36_init 27 = .ok (.invokestatic 26, 3) := dk_184 0 26 (dk_at dksJ36_init_1 5 rfl rfl)
theorem dJ36_init_30 : decode cJ36_init 30 = .ok (.putfield 15, 3) := dk_181 0 15 (dk_at dksJ36_init_1 8 rfl rfl)
theorem dJ36_init_33 : decode cJ36_init 33 = .ok (.aload_n 0, 1) := dk_42 (dk_at dksJ36_init_1 11 rfl rfl)
theorem dJ36_init_34 : decode cJ36_init 34 = .ok (.iconst 1, 1) := dk_4 (dk_at dksJ36_init_1 12 rfl rfl)
theorem dJ36_init_35 : decode cJ36_init 35 = .ok (.putfield 22, 3) := dk_181 0 22 (dk_at dksJ36_init_1 13 rfl rfl)
theorem dJ36_init_38 : decode cJ36_init 38 = .ok (.return_, 1) := dk_177 (dk_at dksJ36_init_1 16 rfl rfl)
abbrev cJ36_length : ByteArray := prog_22_method_6_code
def yJ36_length : MethodName := ⟨RJ36, "length", "()I"⟩
theorem dJ36_length_0 : decode cJ36_length 0 = .ok (.aload_n 0, 1) := by decide +kernel
theorem dJ36_length_1 : decode cJ36_length 1 = .ok (.getfield 79, 3) := by decide +kernel
theorem dJ36_length_4 : decode cJ36_length 4 = .ok (.ireturn, 1) := by decide +kernel
abbrev cJ36_append : ByteArray := prog_22_method_31_code
def yJ36_append : MethodName := ⟨RJ36, "append", "(C)Ljava/lang/AbstractStringBuilder;"⟩
def dkwJ36_append_3 : List UInt8 := [181, 0, 79, 27, 184, 0, 197, 42, 176]
abbrev dktJ36_append_3 : List UInt8 := dkwJ36_append_3 ++ []
def dkwJ36_append_2 : List UInt8 := [182, 0, 83, 153, 0, 7, 42, 182, 0, 195, 42, 180, 0, 15, 42, 89, 180, 0, 79, 90, 4, 96]
abbrev dktJ36_append_2 : List UInt8 := dkwJ36_append_2 ++ dktJ36_append_3
def dkwJ36_append_1 : List UInt8 := [42, 180, 0, 15, 42, 89, 180, 0, 79, 90, 4, 96, 181, 0, 79, 27, 145, 84, 167, 0, 33, 42]
abbrev dktJ36_append_1 : List UInt8 := dkwJ36_append_1 ++ dktJ36_append_2
def dkwJ36_append_0 : List UInt8 := [42, 42, 180, 0, 79, 4, 96, 182, 0, 100, 42, 182, 0, 83, 153, 0, 31, 27, 184, 0, 191, 153, 0, 24]
abbrev dktJ36_append_0 : List UInt8 := dkwJ36_append_0 ++ dktJ36_append_1
theorem dksJ36_append_0 : cJ36_append.data.toList.drop 0 = dktJ36_append_0 := by decide +kernel
theorem dksJ36_append_1 : cJ36_append.data.toList.drop 24 = dktJ36_append_1 := dk_seg dksJ36_append_0 24 rfl rfl
theorem dksJ36_append_2 : cJ36_append.data.toList.drop 46 = dktJ36_append_2 := dk_seg dksJ36_append_1 22 rfl rfl
theorem dksJ36_append_3 : cJ36_append.data.toList.drop 68 = dktJ36_append_3 := dk_seg dksJ36_append_2 22 rfl rfl
theorem dJ36_append_0 : decode cJ36_append 0 = .ok (.aload_n 0, 1) := dk_42 (dk_at dksJ36_append_0 0 rfl rfl)
theorem dJ36_append_1 : decode cJ36_append 1 = .ok (.aload_n 0, 1) := dk_42 (dk_at dksJ36_append_0 1 rfl rfl)
theorem dJ36_append_2 : decode cJ36_append 2 = .ok (.getfield 79, 3) := dk_180 0 79 (dk_at dksJ36_append_0 2 rfl rfl)
theorem dJ36_append_5 : decode cJ36_append 5 = .ok (.iconst 1, 1) := dk_4 (dk_at dksJ36_append_0 5 rfl rfl)
theorem dJ36_append_6 : decode cJ36_append 6 = .ok (.iadd, 1) := dk_96 (dk_at dksJ36_append_0 6 rfl rfl)
theorem dJ36_append_7 : decode cJ36_append 7 = .ok (.invokevirtual 100, 3) := dk_182 0 100 (dk_at dksJ36_append_0 7 rfl rfl)
theorem dJ36_append_10 : decode cJ36_append 10 = .ok (.aload_n 0, 1) := dk_42 (dk_at dksJ36_append_0 10 rfl rfl)
theorem dJ36_append_11 : decode cJ36_append 11 = .ok (.invokevirtual 83, 3) := dk_182 0 83 (dk_at dksJ36_append_0 11 rfl rfl)
theorem dJ36_append_14 : decode cJ36_append 14 = .ok (.ifCond .eq 31, 3) := dk_153 0 31 (dk_at dksJ36_append_0 14 rfl rfl)
theorem dJ36_append_17 : decode cJ36_append 17 = .ok (.iload_n 1, 1) := dk_27 (dk_at dksJ36_append_0 17 rfl rfl)
theorem dJ36_append_18 : decode cJ36_append 18 = .ok (.invokestatic 191, 3) := dk_184 0 191 (dk_at dksJ36_append_0 18 rfl rfl)
theorem dJ36_append_21 : decode cJ36_append 21 = .ok (.ifCond .eq 24, 3) := dk_153 0 24 (dk_at dksJ36_append_0 21 rfl rfl)
theorem dJ36_append_24 : decode cJ36_append 24 = .ok (.aload_n 0, 1) := dk_42 (dk_at dksJ36_append_1 0 rfl rfl)
theorem dJ36_append_25 : decode cJ36_append 25 = .ok (.getfield 15, 3) := dk_180 0 15 (dk_at dksJ36_append_1 1 rfl rfl)
theorem dJ36_append_28 : decode cJ36_append 28 = .ok (.aload_n 0, 1) := dk_42 (dk_at dksJ36_append_1 4 rfl rfl)
theorem dJ36_append_29 : decode cJ36_append 29 = .ok (.dup, 1) := dk_89 (dk_at dksJ36_append_1 5 rfl rfl)
theorem dJ36_append_30 : decode cJ36_append 30 = .ok (.getfield 79, 3) := dk_180 0 79 (dk_at dksJ36_append_1 6 rfl rfl)
theorem dJ36_append_33 : decode cJ36_append 33 = .ok (.dup_x1, 1) := dk_90 (dk_at dksJ36_append_1 9 rfl rfl)
theorem dJ36_append_34 : decode cJ36_append 34 = .ok (.iconst 1, 1) := dk_4 (dk_at dksJ36_append_1 10 rfl rfl)
theorem dJ36_append_35 : decode cJ36_append 35 = .ok (.iadd, 1) := dk_96 (dk_at dksJ36_append_1 11 rfl rfl)
theorem dJ36_append_36 : decode cJ36_append 36 = .ok (.putfield 79, 3) := dk_181 0 79 (dk_at dksJ36_append_1 12 rfl rfl)
theorem dJ36_append_39 : decode cJ36_append 39 = .ok (.iload_n 1, 1) := dk_27 (dk_at dksJ36_append_1 15 rfl rfl)
theorem dJ36_append_40 : decode cJ36_append 40 = .ok (.i2b, 1) := dk_145 (dk_at dksJ36_append_1 16 rfl rfl)
theorem dJ36_append_41 : decode cJ36_append 41 = .ok (.bastore, 1) := dk_84 (dk_at dksJ36_append_1 17 rfl rfl)
theorem dJ36_append_42 : decode cJ36_append 42 = .ok (.goto 33, 3) := dk_167 0 33 (dk_at dksJ36_append_1 18 rfl rfl)
theorem dJ36_append_45 : decode cJ36_append 45 = .ok (.aload_n 0, 1) := dk_42 (dk_at dksJ36_append_1 21 rfl rfl)
theorem dJ36_append_46 : decode cJ36_append 46 = .ok (.invokevirtual 83, 3) := dk_182 0 83 (dk_at dksJ36_append_2 0 rfl rfl)
theorem dJ36_append_49 : decode cJ36_append 49 = .ok (.ifCond .eq 7, 3) := dk_153 0 7 (dk_at dksJ36_append_2 3 rfl rfl)
theorem dJ36_append_52 : decode cJ36_append 52 = .ok (.aload_n 0, 1) := dk_42 (dk_at dksJ36_append_2 6 rfl rfl)
theorem dJ36_append_53 : decode cJ36_append 53 = .ok (.invokevirtual 195, 3) := dk_182 0 195 (dk_at dksJ36_append_2 7 rfl rfl)
theorem dJ36_append_56 : decode cJ36_append 56 = .ok (.aload_n 0, 1) := dk_42 (dk_at dksJ36_append_2 10 rfl rfl)
theorem dJ36_append_57 : decode cJ36_append 57 = .ok (.getfield 15, 3) := dk_180 0 15 (dk_at dksJ36_append_2 11 rfl rfl)
theorem dJ36_append_60 : decode cJ36_append 60 = .ok (.aload_n 0, 1) := dk_42 (dk_at dksJ36_append_2 14 rfl rfl)
theorem dJ36_append_61 : decode cJ36_append 61 = .ok (.dup, 1) := dk_89 (dk_at dksJ36_append_2 15 rfl rfl)
theorem dJ36_append_62 : decode cJ36_append 62 = .ok (.getfield 79, 3) := dk_180 0 79 (dk_at dksJ36_append_2 16 rfl rfl)
theorem dJ36_append_65 : decode cJ36_append 65 = .ok (.dup_x1, 1) := dk_90 (dk_at dksJ36_append_2 19 rfl rfl)
theorem dJ36_append_66 : decode cJ36_append 66 = .ok (.iconst 1, 1) := dk_4 (dk_at dksJ36_append_2 20 rfl rfl)
theorem dJ36_append_67 : decode cJ36_append 67 = .ok (.iadd, 1) := dk_96 (dk_at dksJ36_append_2 21 rfl rfl)
theorem dJ36_append_68 : decode cJ36_append 68 = .ok (.putfield 79, 3) := dk_181 0 79 (dk_at dksJ36_append_3 0 rfl rfl)
theorem dJ36_append_71 : decode cJ36_append 71 = .ok (.iload_n 1, 1) := dk_27 (dk_at dksJ36_append_3 3 rfl rfl)
theorem dJ36_append_72 : decode cJ36_append 72 = .ok (.invokestatic 197, 3) := dk_184 0 197 (dk_at dksJ36_append_3 4 rfl rfl)
theorem dJ36_append_75 : decode cJ36_append 75 = .ok (.aload_n 0, 1) := dk_42 (dk_at dksJ36_append_3 7 rfl rfl)
theorem dJ36_append_76 : decode cJ36_append 76 = .ok (.areturn, 1) := dk_176 (dk_at dksJ36_append_3 8 rfl rfl)
abbrev cJ36_ensureCapacityInternal : ByteArray := prog_22_method_9_code
def yJ36_ensureCapacityInternal : MethodName := ⟨RJ36, "ensureCapacityInternal", "(I)V"⟩
def dkwJ36_ensureCapacityInternal_1 : List UInt8 := [182, 0, 104, 42, 180, 0, 22, 120, 184, 0, 108, 181, 0, 15, 177]
abbrev dktJ36_ensureCapacityInternal_1 : List UInt8 := dkwJ36_ensureCapacityInternal_1 ++ []
def dkwJ36_ensureCapacityInternal_0 : List UInt8 := [42, 180, 0, 15, 190, 42, 180, 0, 22, 122, 61, 27, 28, 100, 158, 0, 24, 42, 42, 180, 0, 15, 42, 27]
abbrev dktJ36_ensureCapacityInternal_0 : List UInt8 := dkwJ36_ensureCapacityInternal_0 ++ dktJ36_ensureCapacityInternal_1
theorem dksJ36_ensureCapacityInternal_0 : cJ36_ensureCapacityInternal.data.toList.drop 0 = dktJ36_ensureCapacityInternal_0 := by decide +kernel
theorem dksJ36_ensureCapacityInternal_1 : cJ36_ensureCapacityInternal.data.toList.drop 24 = dktJ36_ensureCapacityInternal_1 := dk_seg dksJ36_ensureCapacityInternal_0 24 rfl rfl
theorem dJ36_ensureCapacityInternal_0 : decode cJ36_ensureCapacityInternal 0 = .ok (.aload_n 0, 1) := dk_42 (dk_at dksJ36_ensureCapacityInternal_0 0 rfl rfl)
theorem dJ36_ensureCapacityInternal_1 : decode cJ36_ensureCapacityInternal 1 = .ok (.getfield 15, 3) := dk_180 0 15 (dk_at dksJ36_ensureCapacityInternal_0 1 rfl rfl)
theorem dJ36_ensureCapacityInternal_4 : decode cJ36_ensureCapacityInternal 4 = .ok (.arraylength, 1) := dk_190 (dk_at dksJ36_ensureCapacityInternal_0 4 rfl rfl)
theorem dJ36_ensureCapacityInternal_5 : decode cJ36_ensureCapacityInternal 5 = .ok (.aload_n 0, 1) := dk_42 (dk_at dksJ36_ensureCapacityInternal_0 5 rfl rfl)
theorem dJ36_ensureCapacityInternal_6 : decode cJ36_ensureCapacityInternal 6 = .ok (.getfield 22, 3) := dk_180 0 22 (dk_at dksJ36_ensureCapacityInternal_0 6 rfl rfl)
theorem dJ36_ensureCapacityInternal_9 : decode cJ36_ensureCapacityInternal 9 = .ok (.ishr, 1) := dk_122 (dk_at dksJ36_ensureCapacityInternal_0 9 rfl rfl)
theorem dJ36_ensureCapacityInternal_10 : decode cJ36_ensureCapacityInternal 10 = .ok (.istore_n 2, 1) := dk_61 (dk_at dksJ36_ensureCapacityInternal_0 10 rfl rfl)
theorem dJ36_ensureCapacityInternal_11 : decode cJ36_ensureCapacityInternal 11 = .ok (.iload_n 1, 1) := dk_27 (dk_at dksJ36_ensureCapacityInternal_0 11 rfl rfl)
theorem dJ36_ensureCapacityInternal_12 : decode cJ36_ensureCapacityInternal 12 = .ok (.iload_n 2, 1) := dk_28 (dk_at dksJ36_ensureCapacityInternal_0 12 rfl rfl)
theorem dJ36_ensureCapacityInternal_13 : decode cJ36_ensureCapacityInternal 13 = .ok (.isub, 1) := dk_100 (dk_at dksJ36_ensureCapacityInternal_0 13 rfl rfl)
theorem dJ36_ensureCapacityInternal_14 : decode cJ36_ensureCapacityInternal 14 = .ok (.ifCond .le 24, 3) := dk_158 0 24 (dk_at dksJ36_ensureCapacityInternal_0 14 rfl rfl)
theorem dJ36_ensureCapacityInternal_17 : decode cJ36_ensureCapacityInternal 17 = .ok (.aload_n 0, 1) := dk_42 (dk_at dksJ36_ensureCapacityInternal_0 17 rfl rfl)
theorem dJ36_ensureCapacityInternal_18 : decode cJ36_ensureCapacityInternal 18 = .ok (.aload_n 0, 1) := dk_42 (dk_at dksJ36_ensureCapacityInternal_0 18 rfl rfl)
theorem dJ36_ensureCapacityInternal_19 : decode cJ36_ensureCapacityInternal 19 = .ok (.getfield 15, 3) := dk_180 0 15 (dk_at dksJ36_ensureCapacityInternal_0 19 rfl rfl)
theorem dJ36_ensureCapacityInternal_22 : decode cJ36_ensureCapacityInternal 22 = .ok (.aload_n 0, 1) := dk_42 (dk_at dksJ36_ensureCapacityInternal_0 22 rfl rfl)
theorem dJ36_ensureCapacityInternal_23 : decode cJ36_ensureCapacityInternal 23 = .ok (.iload_n 1, 1) := dk_27 (dk_at dksJ36_ensureCapacityInternal_0 23 rfl rfl)
theorem dJ36_ensureCapacityInternal_24 : decode cJ36_ensureCapacityInternal 24 = .ok (.invokevirtual 104, 3) := dk_182 0 104 (dk_at dksJ36_ensureCapacityInternal_1 0 rfl rfl)
theorem dJ36_ensureCapacityInternal_27 : decode cJ36_ensureCapacityInternal 27 = .ok (.aload_n 0, 1) := dk_42 (dk_at dksJ36_ensureCapacityInternal_1 3 rfl rfl)
theorem dJ36_ensureCapacityInternal_28 : decode cJ36_ensureCapacityInternal 28 = .ok (.getfield 22, 3) := dk_180 0 22 (dk_at dksJ36_ensureCapacityInternal_1 4 rfl rfl)
theorem dJ36_ensureCapacityInternal_31 : decode cJ36_ensureCapacityInternal 31 = .ok (.ishl, 1) := dk_120 (dk_at dksJ36_ensureCapacityInternal_1 7 rfl rfl)
theorem dJ36_ensureCapacityInternal_32 : decode cJ36_ensureCapacityInternal 32 = .ok (.invokestatic 108, 3) := dk_184 0 108 (dk_at dksJ36_ensureCapacityInternal_1 8 rfl rfl)
theorem dJ36_ensureCapacityInternal_35 : decode cJ36_ensureCapacityInternal 35 = .ok (.putfield 15, 3) := dk_181 0 15 (dk_at dksJ36_ensureCapacityInternal_1 11 rfl rfl)
theorem dJ36_ensureCapacityInternal_38 : decode cJ36_ensureCapacityInternal 38 = .ok (.return_, 1) := dk_177 (dk_at dksJ36_ensureCapacityInternal_1 14 rfl rfl)
abbrev cJ36_newCapacity : ByteArray := prog_22_method_10_code
def yJ36_newCapacity : MethodName := ⟨RJ36, "newCapacity", "(I)I"⟩
def dkwJ36_newCapacity_2 : List UInt8 := [183, 0, 124, 191, 21, 5, 42, 180, 0, 22, 122, 172]
abbrev dktJ36_newCapacity_2 : List UInt8 := dkwJ36_newCapacity_2 ++ []
def dkwJ36_newCapacity_1 : List UInt8 := [180, 0, 22, 120, 96, 184, 0, 114, 54, 5, 21, 5, 18, 39, 160, 0, 13, 187, 0, 120, 89, 18, 122]
abbrev dktJ36_newCapacity_1 : List UInt8 := dkwJ36_newCapacity_1 ++ dktJ36_newCapacity_2
def dkwJ36_newCapacity_0 : List UInt8 := [42, 180, 0, 15, 190, 61, 27, 42, 180, 0, 22, 120, 62, 29, 28, 100, 54, 4, 28, 21, 4, 28, 5, 42]
abbrev dktJ36_newCapacity_0 : List UInt8 := dkwJ36_newCapacity_0 ++ dktJ36_newCapacity_1
theorem dksJ36_newCapacity_0 : cJ36_newCapacity.data.toList.drop 0 = dktJ36_newCapacity_0 := by decide +kernel
theorem dksJ36_newCapacity_1 : cJ36_newCapacity.data.toList.drop 24 = dktJ36_newCapacity_1 := dk_seg dksJ36_newCapacity_0 24 rfl rfl
theorem dksJ36_newCapacity_2 : cJ36_newCapacity.data.toList.drop 47 = dktJ36_newCapacity_2 := dk_seg dksJ36_newCapacity_1 23 rfl rfl
theorem dJ36_newCapacity_0 : decode cJ36_newCapacity 0 = .ok (.aload_n 0, 1) := dk_42 (dk_at dksJ36_newCapacity_0 0 rfl rfl)
theorem dJ36_newCapacity_1 : decode cJ36_newCapacity 1 = .ok (.getfield 15, 3) := dk_180 0 15 (dk_at dksJ36_newCapacity_0 1 rfl rfl)
theorem dJ36_newCapacity_4 : decode cJ36_newCapacity 4 = .ok (.arraylength, 1) := dk_190 (dk_at dksJ36_newCapacity_0 4 rfl rfl)
theorem dJ36_newCapacity_5 : decode cJ36_newCapacity 5 = .ok (.istore_n 2, 1) := dk_61 (dk_at dksJ36_newCapacity_0 5 rfl rfl)
theorem dJ36_newCapacity_6 : decode cJ36_newCapacity 6 = .ok (.iload_n 1, 1) := dk_27 (dk_at dksJ36_newCapacity_0 6 rfl rfl)
theorem dJ36_newCapacity_7 : decode cJ36_newCapacity 7 = .ok (.aload_n 0, 1) := dk_42 (dk_at dksJ36_newCapacity_0 7 rfl rfl)
theorem dJ36_newCapacity_8 : decode cJ36_newCapacity 8 = .ok (.getfield 22, 3) := dk_180 0 22 (dk_at dksJ36_newCapacity_0 8 rfl rfl)
theorem dJ36_newCapacity_11 : decode cJ36_newCapacity 11 = .ok (.ishl, 1) := dk_120 (dk_at dksJ36_newCapacity_0 11 rfl rfl)
theorem dJ36_newCapacity_12 : decode cJ36_newCapacity 12 = .ok (.istore_n 3, 1) := dk_62 (dk_at dksJ36_newCapacity_0 12 rfl rfl)
theorem dJ36_newCapacity_13 : decode cJ36_newCapacity 13 = .ok (.iload_n 3, 1) := dk_29 (dk_at dksJ36_newCapacity_0 13 rfl rfl)
theorem dJ36_newCapacity_14 : decode cJ36_newCapacity 14 = .ok (.iload_n 2, 1) := dk_28 (dk_at dksJ36_newCapacity_0 14 rfl rfl)
theorem dJ36_newCapacity_15 : decode cJ36_newCapacity 15 = .ok (.isub, 1) := dk_100 (dk_at dksJ36_newCapacity_0 15 rfl rfl)
theorem dJ36_newCapacity_16 : decode cJ36_newCapacity 16 = .ok (.istore 4, 2) := dk_54 4 (dk_at dksJ36_newCapacity_0 16 rfl rfl)
theorem dJ36_newCapacity_18 : decode cJ36_newCapacity 18 = .ok (.iload_n 2, 1) := dk_28 (dk_at dksJ36_newCapacity_0 18 rfl rfl)
theorem dJ36_newCapacity_19 : decode cJ36_newCapacity 19 = .ok (.iload 4, 2) := dk_21 4 (dk_at dksJ36_newCapacity_0 19 rfl rfl)
theorem dJ36_newCapacity_21 : decode cJ36_newCapacity 21 = .ok (.iload_n 2, 1) := dk_28 (dk_at dksJ36_newCapacity_0 21 rfl rfl)
theorem dJ36_newCapacity_22 : decode cJ36_newCapacity 22 = .ok (.iconst 2, 1) := dk_5 (dk_at dksJ36_newCapacity_0 22 rfl rfl)
theorem dJ36_newCapacity_23 : decode cJ36_newCapacity 23 = .ok (.aload_n 0, 1) := dk_42 (dk_at dksJ36_newCapacity_0 23 rfl rfl)
theorem dJ36_newCapacity_24 : decode cJ36_newCapacity 24 = .ok (.getfield 22, 3) := dk_180 0 22 (dk_at dksJ36_newCapacity_1 0 rfl rfl)
theorem dJ36_newCapacity_27 : decode cJ36_newCapacity 27 = .ok (.ishl, 1) := dk_120 (dk_at dksJ36_newCapacity_1 3 rfl rfl)
theorem dJ36_newCapacity_28 : decode cJ36_newCapacity 28 = .ok (.iadd, 1) := dk_96 (dk_at dksJ36_newCapacity_1 4 rfl rfl)
theorem dJ36_newCapacity_29 : decode cJ36_newCapacity 29 = .ok (.invokestatic 114, 3) := dk_184 0 114 (dk_at dksJ36_newCapacity_1 5 rfl rfl)
theorem dJ36_newCapacity_32 : decode cJ36_newCapacity 32 = .ok (.istore 5, 2) := dk_54 5 (dk_at dksJ36_newCapacity_1 8 rfl rfl)
theorem dJ36_newCapacity_34 : decode cJ36_newCapacity 34 = .ok (.iload 5, 2) := dk_21 5 (dk_at dksJ36_newCapacity_1 10 rfl rfl)
theorem dJ36_newCapacity_36 : decode cJ36_newCapacity 36 = .ok (.ldc 39, 2) := dk_18 39 (dk_at dksJ36_newCapacity_1 12 rfl rfl)
theorem dJ36_newCapacity_38 : decode cJ36_newCapacity 38 = .ok (.if_icmp .ne 13, 3) := dk_160 0 13 (dk_at dksJ36_newCapacity_1 14 rfl rfl)
theorem dJ36_newCapacity_41 : decode cJ36_newCapacity 41 = .ok (.new 120, 3) := dk_187 0 120 (dk_at dksJ36_newCapacity_1 17 rfl rfl)
theorem dJ36_newCapacity_44 : decode cJ36_newCapacity 44 = .ok (.dup, 1) := dk_89 (dk_at dksJ36_newCapacity_1 20 rfl rfl)
theorem dJ36_newCapacity_45 : decode cJ36_newCapacity 45 = .ok (.ldc 122, 2) := dk_18 122 (dk_at dksJ36_newCapacity_1 21 rfl rfl)
theorem dJ36_newCapacity_47 : decode cJ36_newCapacity 47 = .ok (.invokespecial 124, 3) := dk_183 0 124 (dk_at dksJ36_newCapacity_2 0 rfl rfl)
theorem dJ36_newCapacity_50 : decode cJ36_newCapacity 50 = .ok (.athrow, 1) := dk_191 (dk_at dksJ36_newCapacity_2 3 rfl rfl)
theorem dJ36_newCapacity_51 : decode cJ36_newCapacity 51 = .ok (.iload 5, 2) := dk_21 5 (dk_at dksJ36_newCapacity_2 4 rfl rfl)
theorem dJ36_newCapacity_53 : decode cJ36_newCapacity 53 = .ok (.aload_n 0, 1) := dk_42 (dk_at dksJ36_newCapacity_2 6 rfl rfl)
theorem dJ36_newCapacity_54 : decode cJ36_newCapacity 54 = .ok (.getfield 22, 3) := dk_180 0 22 (dk_at dksJ36_newCapacity_2 7 rfl rfl)
theorem dJ36_newCapacity_57 : decode cJ36_newCapacity 57 = .ok (.ishr, 1) := dk_122 (dk_at dksJ36_newCapacity_2 10 rfl rfl)
theorem dJ36_newCapacity_58 : decode cJ36_newCapacity 58 = .ok (.ireturn, 1) := dk_172 (dk_at dksJ36_newCapacity_2 11 rfl rfl)
abbrev cJ36_inflate : ByteArray := prog_22_method_11_code
def yJ36_inflate : MethodName := ⟨RJ36, "inflate", "()V"⟩
def dkwJ36_inflate_1 : List UInt8 := [42, 180, 0, 79, 184, 0, 125, 42, 43, 181, 0, 15, 42, 4, 181, 0, 22, 177]
abbrev dktJ36_inflate_1 : List UInt8 := dkwJ36_inflate_1 ++ []
def dkwJ36_inflate_0 : List UInt8 := [42, 182, 0, 83, 154, 0, 4, 177, 42, 180, 0, 15, 190, 184, 0, 26, 76, 42, 180, 0, 15, 3, 43, 3]
abbrev dktJ36_inflate_0 : List UInt8 := dkwJ36_inflate_0 ++ dktJ36_inflate_1
theorem dksJ36_inflate_0 : cJ36_inflate.data.toList.drop 0 = dktJ36_inflate_0 := by decide +kernel
theorem dksJ36_inflate_1 : cJ36_inflate.data.toList.drop 24 = dktJ36_inflate_1 := dk_seg dksJ36_inflate_0 24 rfl rfl
theorem dJ36_inflate_0 : decode cJ36_inflate 0 = .ok (.aload_n 0, 1) := dk_42 (dk_at dksJ36_inflate_0 0 rfl rfl)
theorem dJ36_inflate_1 : decode cJ36_inflate 1 = .ok (.invokevirtual 83, 3) := dk_182 0 83 (dk_at dksJ36_inflate_0 1 rfl rfl)
theorem dJ36_inflate_4 : decode cJ36_inflate 4 = .ok (.ifCond .ne 4, 3) := dk_154 0 4 (dk_at dksJ36_inflate_0 4 rfl rfl)
theorem dJ36_inflate_7 : decode cJ36_inflate 7 = .ok (.return_, 1) := dk_177 (dk_at dksJ36_inflate_0 7 rfl rfl)
theorem dJ36_inflate_8 : decode cJ36_inflate 8 = .ok (.aload_n 0, 1) := dk_42 (dk_at dksJ36_inflate_0 8 rfl rfl)
theorem dJ36_inflate_9 : decode cJ36_inflate 9 = .ok (.getfield 15, 3) := dk_180 0 15 (dk_at dksJ36_inflate_0 9 rfl rfl)
theorem dJ36_inflate_12 : decode cJ36_inflate 12 = .ok (.arraylength, 1) := dk_190 (dk_at dksJ36_inflate_0 12 rfl rfl)
theorem dJ36_inflate_13 : decode cJ36_inflate 13 = .ok (.invokestatic 26, 3) := dk_184 0 26 (dk_at dksJ36_inflate_0 13 rfl rfl)
theorem dJ36_inflate_16 : decode cJ36_inflate 16 = .ok (.astore_n 1, 1) := dk_76 (dk_at dksJ36_inflate_0 16 rfl rfl)
theorem dJ36_inflate_17 : decode cJ36_inflate 17 = .ok (.aload_n 0, 1) := dk_42 (dk_at dksJ36_inflate_0 17 rfl rfl)
theorem dJ36_inflate_18 : decode cJ36_inflate 18 = .ok (.getfield 15, 3) := dk_180 0 15 (dk_at dksJ36_inflate_0 18 rfl rfl)
theorem dJ36_inflate_21 : decode cJ36_inflate 21 = .ok (.iconst 0, 1) := dk_3 (dk_at dksJ36_inflate_0 21 rfl rfl)
theorem dJ36_inflate_22 : decode cJ36_inflate 22 = .ok (.aload_n 1, 1) := dk_43 (dk_at dksJ36_inflate_0 22 rfl rfl)
theorem dJ36_inflate_23 : decode cJ36_inflate 23 = .ok (.iconst 0, 1) := dk_3 (dk_at dksJ36_inflate_0 23 rfl rfl)
theorem dJ36_inflate_24 : decode cJ36_inflate 24 = .ok (.aload_n 0, 1) := dk_42 (dk_at dksJ36_inflate_1 0 rfl rfl)
theorem dJ36_inflate_25 : decode cJ36_inflate 25 = .ok (.getfield 79, 3) := dk_180 0 79 (dk_at dksJ36_inflate_1 1 rfl rfl)
theorem dJ36_inflate_28 : decode cJ36_inflate 28 = .ok (.invokestatic 125, 3) := dk_184 0 125 (dk_at dksJ36_inflate_1 4 rfl rfl)
theorem dJ36_inflate_31 : decode cJ36_inflate 31 = .ok (.aload_n 0, 1) := dk_42 (dk_at dksJ36_inflate_1 7 rfl rfl)
theorem dJ36_inflate_32 : decode cJ36_inflate 32 = .ok (.aload_n 1, 1) := dk_43 (dk_at dksJ36_inflate_1 8 rfl rfl)
theorem dJ36_inflate_33 : decode cJ36_inflate 33 = .ok (.putfield 15, 3) := dk_181 0 15 (dk_at dksJ36_inflate_1 9 rfl rfl)
theorem dJ36_inflate_36 : decode cJ36_inflate 36 = .ok (.aload_n 0, 1) := dk_42 (dk_at dksJ36_inflate_1 12 rfl rfl)
theorem dJ36_inflate_37 : decode cJ36_inflate 37 = .ok (.iconst 1, 1) := dk_4 (dk_at dksJ36_inflate_1 13 rfl rfl)
theorem dJ36_inflate_38 : decode cJ36_inflate 38 = .ok (.putfield 22, 3) := dk_181 0 22 (dk_at dksJ36_inflate_1 14 rfl rfl)
theorem dJ36_inflate_41 : decode cJ36_inflate 41 = .ok (.return_, 1) := dk_177 (dk_at dksJ36_inflate_1 17 rfl rfl)
abbrev cJ36_getValue : ByteArray := prog_22_method_64_code
def yJ36_getValue : MethodName := ⟨RJ36, "getValue", "()[B"⟩
theorem dJ36_getValue_0 : decode cJ36_getValue 0 = .ok (.aload_n 0, 1) := by decide +kernel
theorem dJ36_getValue_1 : decode cJ36_getValue 1 = .ok (.getfield 15, 3) := by decide +kernel
theorem dJ36_getValue_4 : decode cJ36_getValue 4 = .ok (.areturn, 1) := by decide +kernel
abbrev cJ36_append_2 : ByteArray := prog_22_method_22_code
def yJ36_append_2 : MethodName := ⟨RJ36, "append", "(Ljava/lang/String;)Ljava/lang/AbstractStringBuilder;"⟩
def dkwJ36_append_2_1 : List UInt8 := [42, 42, 180, 0, 79, 43, 182, 0, 208, 42, 89, 180, 0, 79, 28, 96, 181, 0, 79, 42, 176]
abbrev dktJ36_append_2_1 : List UInt8 := dkwJ36_append_2_1 ++ []
def dkwJ36_append_2_0 : List UInt8 := [43, 199, 0, 8, 42, 182, 0, 204, 176, 43, 182, 0, 32, 61, 42, 42, 180, 0, 79, 28, 96, 182, 0, 100]
abbrev dktJ36_append_2_0 : List UInt8 := dkwJ36_append_2_0 ++ dktJ36_append_2_1
theorem dksJ36_append_2_0 : cJ36_append_2.data.toList.drop 0 = dktJ36_append_2_0 := by decide +kernel
theorem dksJ36_append_2_1 : cJ36_append_2.data.toList.drop 24 = dktJ36_append_2_1 := dk_seg dksJ36_append_2_0 24 rfl rfl
theorem dJ36_append_2_0 : decode cJ36_append_2 0 = .ok (.aload_n 1, 1) := dk_43 (dk_at dksJ36_append_2_0 0 rfl rfl)
theorem dJ36_append_2_1 : decode cJ36_append_2 1 = .ok (.ifnonnull 8, 3) := dk_199 0 8 (dk_at dksJ36_append_2_0 1 rfl rfl)
theorem dJ36_append_2_4 : decode cJ36_append_2 4 = .ok (.aload_n 0, 1) := dk_42 (dk_at dksJ36_append_2_0 4 rfl rfl)
theorem dJ36_append_2_5 : decode cJ36_append_2 5 = .ok (.invokevirtual 204, 3) := dk_182 0 204 (dk_at dksJ36_append_2_0 5 rfl rfl)
theorem dJ36_append_2_8 : decode cJ36_append_2 8 = .ok (.areturn, 1) := dk_176 (dk_at dksJ36_append_2_0 8 rfl rfl)
theorem dJ36_append_2_9 : decode cJ36_append_2 9 = .ok (.aload_n 1, 1) := dk_43 (dk_at dksJ36_append_2_0 9 rfl rfl)
theorem dJ36_append_2_10 : decode cJ36_append_2 10 = .ok (.invokevirtual 32, 3) := dk_182 0 32 (dk_at dksJ36_append_2_0 10 rfl rfl)
theorem dJ36_append_2_13 : decode cJ36_append_2 13 = .ok (.istore_n 2, 1) := dk_61 (dk_at dksJ36_append_2_0 13 rfl rfl)
theorem dJ36_append_2_14 : decode cJ36_append_2 14 = .ok (.aload_n 0, 1) := dk_42 (dk_at dksJ36_append_2_0 14 rfl rfl)
theorem dJ36_append_2_15 : decode cJ36_append_2 15 = .ok (.aload_n 0, 1) := dk_42 (dk_at dksJ36_append_2_0 15 rfl rfl)
theorem dJ36_append_2_16 : decode cJ36_append_2 16 = .ok (.getfield 79, 3) := dk_180 0 79 (dk_at dksJ36_append_2_0 16 rfl rfl)
theorem dJ36_append_2_19 : decode cJ36_append_2 19 = .ok (.iload_n 2, 1) := dk_28 (dk_at dksJ36_append_2_0 19 rfl rfl)
theorem dJ36_append_2_20 : decode cJ36_append_2 20 = .ok (.iadd, 1) := dk_96 (dk_at dksJ36_append_2_0 20 rfl rfl)
theorem dJ36_append_2_21 : decode cJ36_append_2 21 = .ok (.invokevirtual 100, 3) := dk_182 0 100 (dk_at dksJ36_append_2_0 21 rfl rfl)
theorem dJ36_append_2_24 : decode cJ36_append_2 24 = .ok (.aload_n 0, 1) := dk_42 (dk_at dksJ36_append_2_1 0 rfl rfl)
theorem dJ36_append_2_25 : decode cJ36_append_2 25 = .ok (.aload_n 0, 1) := dk_42 (dk_at dksJ36_append_2_1 1 rfl rfl)
theorem dJ36_append_2_26 : decode cJ36_append_2 26 = .ok (.getfield 79, 3) := dk_180 0 79 (dk_at dksJ36_append_2_1 2 rfl rfl)
theorem dJ36_append_2_29 : decode cJ36_append_2 29 = .ok (.aload_n 1, 1) := dk_43 (dk_at dksJ36_append_2_1 5 rfl rfl)
theorem dJ36_append_2_30 : decode cJ36_append_2 30 = .ok (.invokevirtual 208, 3) := dk_182 0 208 (dk_at dksJ36_append_2_1 6 rfl rfl)
theorem dJ36_append_2_33 : decode cJ36_append_2 33 = .ok (.aload_n 0, 1) := dk_42 (dk_at dksJ36_append_2_1 9 rfl rfl)
theorem dJ36_append_2_34 : decode cJ36_append_2 34 = .ok (.dup, 1) := dk_89 (dk_at dksJ36_append_2_1 10 rfl rfl)
theorem dJ36_append_2_35 : decode cJ36_append_2 35 = .ok (.getfield 79, 3) := dk_180 0 79 (dk_at dksJ36_append_2_1 11 rfl rfl)
theorem dJ36_append_2_38 : decode cJ36_append_2 38 = .ok (.iload_n 2, 1) := dk_28 (dk_at dksJ36_append_2_1 14 rfl rfl)
theorem dJ36_append_2_39 : decode cJ36_append_2 39 = .ok (.iadd, 1) := dk_96 (dk_at dksJ36_append_2_1 15 rfl rfl)
theorem dJ36_append_2_40 : decode cJ36_append_2 40 = .ok (.putfield 79, 3) := dk_181 0 79 (dk_at dksJ36_append_2_1 16 rfl rfl)
theorem dJ36_append_2_43 : decode cJ36_append_2 43 = .ok (.aload_n 0, 1) := dk_42 (dk_at dksJ36_append_2_1 19 rfl rfl)
theorem dJ36_append_2_44 : decode cJ36_append_2 44 = .ok (.areturn, 1) := dk_176 (dk_at dksJ36_append_2_1 20 rfl rfl)
abbrev cJ36_appendNull : ByteArray := prog_22_method_26_code
def yJ36_appendNull : MethodName := ⟨RJ36, "appendNull", "()Ljava/lang/AbstractStringBuilder;"⟩
def dkwJ36_appendNull_3 : List UInt8 := [184, 0, 226, 60, 42, 27, 181, 0, 79, 42, 176]
abbrev dktJ36_appendNull_3 : List UInt8 := dkwJ36_appendNull_3 ++ []
def dkwJ36_appendNull_2 : List UInt8 := [16, 108, 84, 44, 27, 132, 1, 1, 16, 108, 84, 167, 0, 17, 44, 27, 16, 110, 16, 117, 16, 108, 16, 108]
abbrev dktJ36_appendNull_2 : List UInt8 := dkwJ36_appendNull_2 ++ dktJ36_appendNull_3
def dkwJ36_appendNull_1 : List UInt8 := [153, 0, 38, 44, 27, 132, 1, 1, 16, 110, 84, 44, 27, 132, 1, 1, 16, 117, 84, 44, 27, 132, 1, 1]
abbrev dktJ36_appendNull_1 : List UInt8 := dkwJ36_appendNull_1 ++ dktJ36_appendNull_2
def dkwJ36_appendNull_0 : List UInt8 := [42, 42, 180, 0, 79, 7, 96, 182, 0, 100, 42, 180, 0, 79, 60, 42, 180, 0, 15, 77, 42, 182, 0, 83]
abbrev dktJ36_appendNull_0 : List UInt8 := dkwJ36_appendNull_0 ++ dktJ36_appendNull_1
theorem dksJ36_appendNull_0 : cJ36_appendNull.data.toList.drop 0 = dktJ36_appendNull_0 := by decide +kernel
theorem dksJ36_appendNull_1 : cJ36_appendNull.data.toList.drop 24 = dktJ36_appendNull_1 := dk_seg dksJ36_appendNull_0 24 rfl rfl
theorem dksJ36_appendNull_2 : cJ36_appendNull.data.toList.drop 48 = dktJ36_appendNull_2 := dk_seg dksJ36_appendNull_1 24 rfl rfl
theorem dksJ36_appendNull_3 : cJ36_appendNull.data.toList.drop 72 = dktJ36_appendNull_3 := dk_seg dksJ36_appendNull_2 24 rfl rfl
theorem dJ36_appendNull_0 : decode cJ36_appendNull 0 = .ok (.aload_n 0, 1) := dk_42 (dk_at dksJ36_appendNull_0 0 rfl rfl)
theorem dJ36_appendNull_1 : decode cJ36_appendNull 1 = .ok (.aload_n 0, 1) := dk_42 (dk_at dksJ36_appendNull_0 1 rfl rfl)
theorem dJ36_appendNull_2 : decode cJ36_appendNull 2 = .ok (.getfield 79, 3) := dk_180 0 79 (dk_at dksJ36_appendNull_0 2 rfl rfl)
theorem dJ36_appendNull_5 : decode cJ36_appendNull 5 = .ok (.iconst 4, 1) := dk_7 (dk_at dksJ36_appendNull_0 5 rfl rfl)
theorem dJ36_appendNull_6 : decode cJ36_appendNull 6 = .ok (.iadd, 1) := dk_96 (dk_at dksJ36_appendNull_0 6 rfl rfl)
theorem dJ36_appendNull_7 : decode cJ36_appendNull 7 = .ok (.invokevirtual 100, 3) := dk_182 0 100 (dk_at dksJ36_appendNull_0 7 rfl rfl)
theorem dJ36_appendNull_10 : decode cJ36_appendNull 10 = .ok (.aload_n 0, 1) := dk_42 (dk_at dksJ36_appendNull_0 10 rfl rfl)
theorem dJ36_appendNull_11 : decode cJ36_appendNull 11 = .ok (.getfield 79, 3) := dk_180 0 79 (dk_at dksJ36_appendNull_0 11 rfl rfl)
theorem dJ36_appendNull_14 : decode cJ36_appendNull 14 = .ok (.istore_n 1, 1) := dk_60 (dk_at dksJ36_appendNull_0 14 rfl rfl)
theorem dJ36_appendNull_15 : decode cJ36_appendNull 15 = .ok (.aload_n 0, 1) := dk_42 (dk_at dksJ36_appendNull_0 15 rfl rfl)
theorem dJ36_appendNull_16 : decode cJ36_appendNull 16 = .ok (.getfield 15, 3) := dk_180 0 15 (dk_at dksJ36_appendNull_0 16 rfl rfl)
theorem dJ36_appendNull_19 : decode cJ36_appendNull 19 = .ok (.astore_n 2, 1) := dk_77 (dk_at dksJ36_appendNull_0 19 rfl rfl)
theorem dJ36_appendNull_20 : decode cJ36_appendNull 20 = .ok (.aload_n 0, 1) := dk_42 (dk_at dksJ36_appendNull_0 20 rfl rfl)
theorem dJ36_appendNull_21 : decode cJ36_appendNull 21 = .ok (.invokevirtual 83, 3) := dk_182 0 83 (dk_at dksJ36_appendNull_0 21 rfl rfl)
theorem dJ36_appendNull_24 : decode cJ36_appendNull 24 = .ok (.ifCond .eq 38, 3) := dk_153 0 38 (dk_at dksJ36_appendNull_1 0 rfl rfl)
theorem dJ36_appendNull_27 : decode cJ36_appendNull 27 = .ok (.aload_n 2, 1) := dk_44 (dk_at dksJ36_appendNull_1 3 rfl rfl)
theorem dJ36_appendNull_28 : decode cJ36_appendNull 28 = .ok (.iload_n 1, 1) := dk_27 (dk_at dksJ36_appendNull_1 4 rfl rfl)
theorem dJ36_appendNull_29 : decode cJ36_appendNull 29 = .ok (.iinc 1 1, 3) := dk_132 1 1 (dk_at dksJ36_appendNull_1 5 rfl rfl)
theorem dJ36_appendNull_32 : decode cJ36_appendNull 32 = .ok (.bipush 110, 2) := dk_16 110 (dk_at dksJ36_appendNull_1 8 rfl rfl)
theorem dJ36_appendNull_34 : decode cJ36_appendNull 34 = .ok (.bastore, 1) := dk_84 (dk_at dksJ36_appendNull_1 10 rfl rfl)
theorem dJ36_appendNull_35 : decode cJ36_appendNull 35 = .ok (.aload_n 2, 1) := dk_44 (dk_at dksJ36_appendNull_1 11 rfl rfl)
theorem dJ36_appendNull_36 : decode cJ36_appendNull 36 = .ok (.iload_n 1, 1) := dk_27 (dk_at dksJ36_appendNull_1 12 rfl rfl)
theorem dJ36_appendNull_37 : decode cJ36_appendNull 37 = .ok (.iinc 1 1, 3) := dk_132 1 1 (dk_at dksJ36_appendNull_1 13 rfl rfl)
theorem dJ36_appendNull_40 : decode cJ36_appendNull 40 = .ok (.bipush 117, 2) := dk_16 117 (dk_at dksJ36_appendNull_1 16 rfl rfl)
theorem dJ36_appendNull_42 : decode cJ36_appendNull 42 = .ok (.bastore, 1) := dk_84 (dk_at dksJ36_appendNull_1 18 rfl rfl)
theorem dJ36_appendNull_43 : decode cJ36_appendNull 43 = .ok (.aload_n 2, 1) := dk_44 (dk_at dksJ36_appendNull_1 19 rfl rfl)
theorem dJ36_appendNull_44 : decode cJ36_appendNull 44 = .ok (.iload_n 1, 1) := dk_27 (dk_at dksJ36_appendNull_1 20 rfl rfl)
theorem dJ36_appendNull_45 : decode cJ36_appendNull 45 = .ok (.iinc 1 1, 3) := dk_132 1 1 (dk_at dksJ36_appendNull_1 21 rfl rfl)
theorem dJ36_appendNull_48 : decode cJ36_appendNull 48 = .ok (.bipush 108, 2) := dk_16 108 (dk_at dksJ36_appendNull_2 0 rfl rfl)
theorem dJ36_appendNull_50 : decode cJ36_appendNull 50 = .ok (.bastore, 1) := dk_84 (dk_at dksJ36_appendNull_2 2 rfl rfl)
theorem dJ36_appendNull_51 : decode cJ36_appendNull 51 = .ok (.aload_n 2, 1) := dk_44 (dk_at dksJ36_appendNull_2 3 rfl rfl)
theorem dJ36_appendNull_52 : decode cJ36_appendNull 52 = .ok (.iload_n 1, 1) := dk_27 (dk_at dksJ36_appendNull_2 4 rfl rfl)
theorem dJ36_appendNull_53 : decode cJ36_appendNull 53 = .ok (.iinc 1 1, 3) := dk_132 1 1 (dk_at dksJ36_appendNull_2 5 rfl rfl)
theorem dJ36_appendNull_56 : decode cJ36_appendNull 56 = .ok (.bipush 108, 2) := dk_16 108 (dk_at dksJ36_appendNull_2 8 rfl rfl)
theorem dJ36_appendNull_58 : decode cJ36_appendNull 58 = .ok (.bastore, 1) := dk_84 (dk_at dksJ36_appendNull_2 10 rfl rfl)
theorem dJ36_appendNull_59 : decode cJ36_appendNull 59 = .ok (.goto 17, 3) := dk_167 0 17 (dk_at dksJ36_appendNull_2 11 rfl rfl)
theorem dJ36_appendNull_62 : decode cJ36_appendNull 62 = .ok (.aload_n 2, 1) := dk_44 (dk_at dksJ36_appendNull_2 14 rfl rfl)
theorem dJ36_appendNull_63 : decode cJ36_appendNull 63 = .ok (.iload_n 1, 1) := dk_27 (dk_at dksJ36_appendNull_2 15 rfl rfl)
theorem dJ36_appendNull_64 : decode cJ36_appendNull 64 = .ok (.bipush 110, 2) := dk_16 110 (dk_at dksJ36_appendNull_2 16 rfl rfl)
theorem dJ36_appendNull_66 : decode cJ36_appendNull 66 = .ok (.bipush 117, 2) := dk_16 117 (dk_at dksJ36_appendNull_2 18 rfl rfl)
theorem dJ36_appendNull_68 : decode cJ36_appendNull 68 = .ok (.bipush 108, 2) := dk_16 108 (dk_at dksJ36_appendNull_2 20 rfl rfl)
theorem dJ36_appendNull_70 : decode cJ36_appendNull 70 = .ok (.bipush 108, 2) := dk_16 108 (dk_at dksJ36_appendNull_2 22 rfl rfl)
theorem dJ36_appendNull_72 : decode cJ36_appendNull 72 = .ok (.invokestatic 226, 3) := dk_184 0 226 (dk_at dksJ36_appendNull_3 0 rfl rfl)
theorem dJ36_appendNull_75 : decode cJ36_appendNull 75 = .ok (.istore_n 1, 1) := dk_60 (dk_at dksJ36_appendNull_3 3 rfl rfl)
theorem dJ36_appendNull_76 : decode cJ36_appendNull 76 = .ok (.aload_n 0, 1) := dk_42 (dk_at dksJ36_appendNull_3 4 rfl rfl)
theorem dJ36_appendNull_77 : decode cJ36_appendNull 77 = .ok (.iload_n 1, 1) := dk_27 (dk_at dksJ36_appendNull_3 5 rfl rfl)
theorem dJ36_appendNull_78 : decode cJ36_appendNull 78 = .ok (.putfield 79, 3) := dk_181 0 79 (dk_at dksJ36_appendNull_3 6 rfl rfl)
theorem dJ36_appendNull_81 : decode cJ36_appendNull 81 = .ok (.aload_n 0, 1) := dk_42 (dk_at dksJ36_appendNull_3 9 rfl rfl)
theorem dJ36_appendNull_82 : decode cJ36_appendNull 82 = .ok (.areturn, 1) := dk_176 (dk_at dksJ36_appendNull_3 10 rfl rfl)
abbrev cJ36_putStringAt : ByteArray := prog_22_method_73_code
def yJ36_putStringAt : MethodName := ⟨RJ36, "putStringAt", "(ILjava/lang/String;)V"⟩
def dkwJ36_putStringAt_0 : List UInt8 := [42, 44, 182, 1, 141, 44, 42, 180, 0, 15, 27, 42, 180, 0, 22, 182, 1, 143, 177]
abbrev dktJ36_putStringAt_0 : List UInt8 := dkwJ36_putStringAt_0 ++ []
theorem dksJ36_putStringAt_0 : cJ36_putStringAt.data.toList.drop 0 = dktJ36_putStringAt_0 := by decide +kernel
theorem dJ36_putStringAt_0 : decode cJ36_putStringAt 0 = .ok (.aload_n 0, 1) := dk_42 (dk_at dksJ36_putStringAt_0 0 rfl rfl)
theorem dJ36_putStringAt_1 : decode cJ36_putStringAt 1 = .ok (.aload_n 2, 1) := dk_44 (dk_at dksJ36_putStringAt_0 1 rfl rfl)
theorem dJ36_putStringAt_2 : decode cJ36_putStringAt 2 = .ok (.invokevirtual 397, 3) := dk_182 1 141 (dk_at dksJ36_putStringAt_0 2 rfl rfl)
theorem dJ36_putStringAt_5 : decode cJ36_putStringAt 5 = .ok (.aload_n 2, 1) := dk_44 (dk_at dksJ36_putStringAt_0 5 rfl rfl)
theorem dJ36_putStringAt_6 : decode cJ36_putStringAt 6 = .ok (.aload_n 0, 1) := dk_42 (dk_at dksJ36_putStringAt_0 6 rfl rfl)
theorem dJ36_putStringAt_7 : decode cJ36_putStringAt 7 = .ok (.getfield 15, 3) := dk_180 0 15 (dk_at dksJ36_putStringAt_0 7 rfl rfl)
theorem dJ36_putStringAt_10 : decode cJ36_putStringAt 10 = .ok (.iload_n 1, 1) := dk_27 (dk_at dksJ36_putStringAt_0 10 rfl rfl)
theorem dJ36_putStringAt_11 : decode cJ36_putStringAt 11 = .ok (.aload_n 0, 1) := dk_42 (dk_at dksJ36_putStringAt_0 11 rfl rfl)
theorem dJ36_putStringAt_12 : decode cJ36_putStringAt 12 = .ok (.getfield 22, 3) := dk_180 0 22 (dk_at dksJ36_putStringAt_0 12 rfl rfl)
theorem dJ36_putStringAt_15 : decode cJ36_putStringAt 15 = .ok (.invokevirtual 399, 3) := dk_182 1 143 (dk_at dksJ36_putStringAt_0 15 rfl rfl)
theorem dJ36_putStringAt_18 : decode cJ36_putStringAt 18 = .ok (.return_, 1) := dk_177 (dk_at dksJ36_putStringAt_0 18 rfl rfl)
abbrev cJ36_inflateIfNeededFor : ByteArray := prog_22_method_71_code
def yJ36_inflateIfNeededFor : MethodName := ⟨RJ36, "inflateIfNeededFor", "(Ljava/lang/String;)V"⟩
def dkwJ36_inflateIfNeededFor_0 : List UInt8 := [178, 0, 18, 153, 0, 18, 42, 180, 0, 22, 43, 182, 0, 40, 159, 0, 7, 42, 182, 0, 195, 177]
abbrev dktJ36_inflateIfNeededFor_0 : List UInt8 := dkwJ36_inflateIfNeededFor_0 ++ []
theorem dksJ36_inflateIfNeededFor_0 : cJ36_inflateIfNeededFor.data.toList.drop 0 = dktJ36_inflateIfNeededFor_0 := by decide +kernel
theorem dJ36_inflateIfNeededFor_0 : decode cJ36_inflateIfNeededFor 0 = .ok (.getstatic 18, 3) := dk_178 0 18 (dk_at dksJ36_inflateIfNeededFor_0 0 rfl rfl)
theorem dJ36_inflateIfNeededFor_3 : decode cJ36_inflateIfNeededFor 3 = .ok (.ifCond .eq 18, 3) := dk_153 0 18 (dk_at dksJ36_inflateIfNeededFor_0 3 rfl rfl)
theorem dJ36_inflateIfNeededFor_6 : decode cJ36_inflateIfNeededFor 6 = .ok (.aload_n 0, 1) := dk_42 (dk_at dksJ36_inflateIfNeededFor_0 6 rfl rfl)
theorem dJ36_inflateIfNeededFor_7 : decode cJ36_inflateIfNeededFor 7 = .ok (.getfield 22, 3) := dk_180 0 22 (dk_at dksJ36_inflateIfNeededFor_0 7 rfl rfl)
theorem dJ36_inflateIfNeededFor_10 : decode cJ36_inflateIfNeededFor 10 = .ok (.aload_n 1, 1) := dk_43 (dk_at dksJ36_inflateIfNeededFor_0 10 rfl rfl)
theorem dJ36_inflateIfNeededFor_11 : decode cJ36_inflateIfNeededFor 11 = .ok (.invokevirtual 40, 3) := dk_182 0 40 (dk_at dksJ36_inflateIfNeededFor_0 11 rfl rfl)
theorem dJ36_inflateIfNeededFor_14 : decode cJ36_inflateIfNeededFor 14 = .ok (.if_icmp .eq 7, 3) := dk_159 0 7 (dk_at dksJ36_inflateIfNeededFor_0 14 rfl rfl)
theorem dJ36_inflateIfNeededFor_17 : decode cJ36_inflateIfNeededFor 17 = .ok (.aload_n 0, 1) := dk_42 (dk_at dksJ36_inflateIfNeededFor_0 17 rfl rfl)
theorem dJ36_inflateIfNeededFor_18 : decode cJ36_inflateIfNeededFor 18 = .ok (.invokevirtual 195, 3) := dk_182 0 195 (dk_at dksJ36_inflateIfNeededFor_0 18 rfl rfl)
theorem dJ36_inflateIfNeededFor_21 : decode cJ36_inflateIfNeededFor 21 = .ok (.return_, 1) := dk_177 (dk_at dksJ36_inflateIfNeededFor_0 21 rfl rfl)
theorem q131 : (Jvm.Cond.initialized "java/lang/AbstractStringBuilder") ∈ lw_all := lw_g (lw_at lw_m1 54 rfl) rfl
theorem q1420 : (Jvm.Cond.instanceMethod ({ cls := "java/lang/AbstractStringBuilder", name := "compareTo", desc := "(Ljava/lang/AbstractStringBuilder;)I" } : Jvm.MethodName)) ∈ lw_all := lw_g (lw_at lw_m6 143 rfl) rfl
theorem q1421 : (Jvm.Cond.code ({ cls := "java/lang/AbstractStringBuilder", name := "compareTo", desc := "(Ljava/lang/AbstractStringBuilder;)I" } : Jvm.MethodName) prog_22_method_5_code (6 : Nat) (Option.some Jvm.ClassFile.FieldType.int)) ∈ lw_all := lw_g (lw_at lw_m6 144 rfl) rfl
theorem q1422 : (Jvm.Cond.methodLink "java/lang/AbstractStringBuilder" (83 : Nat) ({ cls := "java/lang/AbstractStringBuilder", name := "isLatin1", desc := "()Z" } : Jvm.MethodName)) ∈ lw_all := lw_g (lw_at lw_m6 145 rfl) rfl
theorem q1423 : (Jvm.Cond.instanceMethod ({ cls := "java/lang/AbstractStringBuilder", name := "isLatin1", desc := "()Z" } : Jvm.MethodName)) ∈ lw_all := lw_g (lw_at lw_m6 146 rfl) rfl
theorem q1424 : (Jvm.Cond.sameMethod "java/lang/AbstractStringBuilder" "java/lang/AbstractStringBuilder" "isLatin1" "()Z") ∈ lw_all := lw_g (lw_at lw_m6 147 rfl) rfl
theorem q1426 : (Jvm.Cond.code ({ cls := "java/lang/AbstractStringBuilder", name := "isLatin1", desc := "()Z" } : Jvm.MethodName) prog_22_method_68_code (1 : Nat) (Option.some Jvm.ClassFile.FieldType.boolean)) ∈ lw_all := lw_g (lw_at lw_m6 149 rfl) rfl
theorem q1427 : (Jvm.Cond.fieldLink "java/lang/AbstractStringBuilder" (18 : Nat) "java/lang/String" "COMPACT_STRINGS" "Z") ∈ lw_all := lw_g (lw_at lw_m6 150 rfl) rfl
theorem q1428 : (Jvm.Cond.methodLink "java/lang/AbstractStringBuilder" (87 : Nat) ({ cls := "java/lang/StringLatin1", name := "compareTo", desc := "([B[BII)I" } : Jvm.MethodName)) ∈ lw_all := lw_g (lw_at lw_m6 151 rfl) rfl
theorem q1429 : (Jvm.Cond.methodLink "java/lang/AbstractStringBuilder" (93 : Nat) ({ cls := "java/lang/StringUTF16", name := "compareTo", desc := "([B[BII)I" } : Jvm.MethodName)) ∈ lw_all := lw_g (lw_at lw_m6 152 rfl) rfl
theorem q1438 : (Jvm.Cond.methodLink "java/lang/AbstractStringBuilder" (94 : Nat) ({ cls := "java/lang/StringLatin1", name := "compareToUTF16", desc := "([B[BII)I" } : Jvm.MethodName)) ∈ lw_all := lw_g (lw_at lw_m6 161 rfl) rfl
theorem q1442 : (Jvm.Cond.methodLink "java/lang/AbstractStringBuilder" (97 : Nat) ({ cls := "java/lang/StringUTF16", name := "compareToLatin1", desc := "([B[BII)I" } : Jvm.MethodName)) ∈ lw_all := lw_g (lw_at lw_m6 165 rfl) rfl
theorem q2006 : (Jvm.Cond.instanceMethod ({ cls := "java/lang/AbstractStringBuilder", name := "<init>", desc := "(I)V" } : Jvm.MethodName)) ∈ lw_all := lw_g (lw_at lw_m9 9 rfl) rfl
theorem q2007 : (Jvm.Cond.code ({ cls := "java/lang/AbstractStringBuilder", name := "<init>", desc := "(I)V" } : Jvm.MethodName) prog_22_method_2_code (2 : Nat) (Option.none : Option Jvm.ClassFile.FieldType)) ∈ lw_all := lw_g (lw_at lw_m9 10 rfl) rfl
theorem q2008 : (Jvm.Cond.methodLink "java/lang/AbstractStringBuilder" (3 : Nat) ({ cls := "java/lang/Object", name := "<init>", desc := "()V" } : Jvm.MethodName)) ∈ lw_all := lw_g (lw_at lw_m9 11 rfl) rfl
theorem q2009 : (Jvm.Cond.methodLink "java/lang/AbstractStringBuilder" (26 : Nat) ({ cls := "java/lang/StringUTF16", name := "newBytesFor", desc := "(I)[B" } : Jvm.MethodName)) ∈ lw_all := lw_g (lw_at lw_m9 12 rfl) rfl
theorem q2031 : (Jvm.Cond.fieldLink "java/lang/AbstractStringBuilder" (15 : Nat) "java/lang/AbstractStringBuilder" "value" "[B") ∈ lw_all := lw_g (lw_at lw_m9 34 rfl) rfl
theorem q2032 : (Jvm.Cond.fieldLink "java/lang/AbstractStringBuilder" (22 : Nat) "java/lang/AbstractStringBuilder" "coder" "B") ∈ lw_all := lw_g (lw_at lw_m9 35 rfl) rfl
theorem q2034 : (Jvm.Cond.fieldLink "java/lang/AbstractStringBuilder" (79 : Nat) "java/lang/AbstractStringBuilder" "count" "I") ∈ lw_all := lw_g (lw_at lw_m9 37 rfl) rfl
theorem q2036 : (Jvm.Cond.soleField "java/lang/AbstractStringBuilder" "value") ∈ lw_all := lw_g (lw_at lw_m9 39 rfl) rfl
theorem q2038 : (Jvm.Cond.soleField "java/lang/AbstractStringBuilder" "coder") ∈ lw_all := lw_g (lw_at lw_m9 41 rfl) rfl
theorem q2040 : (Jvm.Cond.soleField "java/lang/AbstractStringBuilder" "maybeLatin1") ∈ lw_all := lw_g (lw_at lw_m9 43 rfl) rfl
theorem q2042 : (Jvm.Cond.soleField "java/lang/AbstractStringBuilder" "count") ∈ lw_all := lw_g (lw_at lw_m9 45 rfl) rfl
theorem q2048 : (Jvm.Cond.instanceMethod ({ cls := "java/lang/AbstractStringBuilder", name := "length", desc := "()I" } : Jvm.MethodName)) ∈ lw_all := lw_g (lw_at lw_m9 51 rfl) rfl
theorem q2049 : (Jvm.Cond.code ({ cls := "java/lang/AbstractStringBuilder", name := "length", desc := "()I" } : Jvm.MethodName) prog_22_method_6_code (1 : Nat) (Option.some Jvm.ClassFile.FieldType.int)) ∈ lw_all := lw_g (lw_at lw_m9 52 rfl) rfl
theorem q2055 : (Jvm.Cond.instanceMethod ({ cls := "java/lang/AbstractStringBuilder", name := "append", desc := "(C)Ljava/lang/AbstractStringBuilder;" } : Jvm.MethodName)) ∈ lw_all := lw_g (lw_at lw_m9 58 rfl) rfl
theorem q2056 : (Jvm.Cond.code ({ cls := "java/lang/AbstractStringBuilder", name := "append", desc := "(C)Ljava/lang/AbstractStringBuilder;" } : Jvm.MethodName) prog_22_method_31_code (2 : Nat) (Option.some (Jvm.ClassFile.FieldType.object "java/lang/AbstractStringBuilder"))) ∈ lw_all := lw_g (lw_at lw_m9 59 rfl) rfl
theorem q2057 : (Jvm.Cond.methodLink "java/lang/AbstractStringBuilder" (100 : Nat) ({ cls := "java/lang/AbstractStringBuilder", name := "ensureCapacityInternal", desc := "(I)V" } : Jvm.MethodName)) ∈ lw_all := lw_g (lw_at lw_m9 60 rfl) rfl
theorem q2058 : (Jvm.Cond.privateMethod ({ cls := "java/lang/AbstractStringBuilder", name := "ensureCapacityInternal", desc := "(I)V" } : Jvm.MethodName)) ∈ lw_tbl := lw_at lw_m9 61 rfl
theorem q2059 : (Jvm.Cond.instanceMethod ({ cls := "java/lang/AbstractStringBuilder", name := "ensureCapacityInternal", desc := "(I)V" } : Jvm.MethodName)) ∈ lw_all := lw_g (lw_at lw_m9 62 rfl) rfl
theorem q2060 : (Jvm.Cond.code ({ cls := "java/lang/AbstractStringBuilder", name := "ensureCapacityInternal", desc := "(I)V" } : Jvm.MethodName) prog_22_method_9_code (3 : Nat) (Option.none : Option Jvm.ClassFile.FieldType)) ∈ lw_all := lw_g (lw_at lw_m9 63 rfl) rfl
theorem q2061 : (Jvm.Cond.methodLink "java/lang/AbstractStringBuilder" (104 : Nat) ({ cls := "java/lang/AbstractStringBuilder", name := "newCapacity", desc := "(I)I" } : Jvm.MethodName)) ∈ lw_all := lw_g (lw_at lw_m9 64 rfl) rfl
theorem q2062 : (Jvm.Cond.privateMethod ({ cls := "java/lang/AbstractStringBuilder", name := "newCapacity", desc := "(I)I" } : Jvm.MethodName)) ∈ lw_tbl := lw_at lw_m9 65 rfl
theorem q2063 : (Jvm.Cond.instanceMethod ({ cls := "java/lang/AbstractStringBuilder", name := "newCapacity", desc := "(I)I" } : Jvm.MethodName)) ∈ lw_all := lw_g (lw_at lw_m9 66 rfl) rfl
theorem q2064 : (Jvm.Cond.code ({ cls := "java/lang/AbstractStringBuilder", name := "newCapacity", desc := "(I)I" } : Jvm.MethodName) prog_22_method_10_code (6 : Nat) (Option.some Jvm.ClassFile.FieldType.int)) ∈ lw_all := lw_g (lw_at lw_m9 67 rfl) rfl
theorem q2065 : (Jvm.Cond.methodLink "java/lang/AbstractStringBuilder" (114 : Nat) ({ cls := "jdk/internal/util/ArraysSupport", name := "newLength", desc := "(III)I" } : Jvm.MethodName)) ∈ lw_all := lw_g (lw_at lw_m9 68 rfl) rfl
theorem q2066 : (Jvm.Cond.constant "java/lang/AbstractStringBuilder" (39 : Nat) (2147483647 : Int32)) ∈ lw_all := lw_g (lw_at lw_m9 69 rfl) rfl
theorem q2067 : (Jvm.Cond.methodLink "java/lang/AbstractStringBuilder" (108 : Nat) ({ cls := "java/util/Arrays", name := "copyOf", desc := "([BI)[B" } : Jvm.MethodName)) ∈ lw_all := lw_g (lw_at lw_m9 70 rfl) rfl
theorem q2075 : (Jvm.Cond.methodLink "java/lang/AbstractStringBuilder" (191 : Nat) ({ cls := "java/lang/StringLatin1", name := "canEncode", desc := "(C)Z" } : Jvm.MethodName)) ∈ lw_all := lw_g (lw_at lw_m9 78 rfl) rfl
theorem q2078 : (Jvm.Cond.methodLink "java/lang/AbstractStringBuilder" (195 : Nat) ({ cls := "java/lang/AbstractStringBuilder", name := "inflate", desc := "()V" } : Jvm.MethodName)) ∈ lw_all := lw_g (lw_at lw_m9 81 rfl) rfl
theorem q2079 : (Jvm.Cond.privateMethod ({ cls := "java/lang/AbstractStringBuilder", name := "inflate", desc := "()V" } : Jvm.MethodName)) ∈ lw_tbl := lw_at lw_m9 82 rfl
theorem q2080 : (Jvm.Cond.instanceMethod ({ cls := "java/lang/AbstractStringBuilder", name := "inflate", desc := "()V" } : Jvm.MethodName)) ∈ lw_all := lw_g (lw_at lw_m9 83 rfl) rfl
theorem q2081 : (Jvm.Cond.code ({ cls := "java/lang/AbstractStringBuilder", name := "inflate", desc := "()V" } : Jvm.MethodName) prog_22_method_11_code (2 : Nat) (Option.none : Option Jvm.ClassFile.FieldType)) ∈ lw_all := lw_g (lw_at lw_m9 84 rfl) rfl
theorem q2082 : (Jvm.Cond.methodLink "java/lang/AbstractStringBuilder" (125 : Nat) ({ cls := "java/lang/StringLatin1", name := "inflate", desc := "([BI[BII)V" } : Jvm.MethodName)) ∈ lw_all := lw_g (lw_at lw_m9 85 rfl) rfl
theorem q2100 : (Jvm.Cond.methodLink "java/lang/AbstractStringBuilder" (197 : Nat) ({ cls := "java/lang/StringUTF16", name := "putCharSB", desc := "([BII)V" } : Jvm.MethodName)) ∈ lw_all := lw_g (lw_at lw_m9 103 rfl) rfl
theorem q2131 : (Jvm.Cond.instanceMethod ({ cls := "java/lang/AbstractStringBuilder", name := "getValue", desc := "()[B" } : Jvm.MethodName)) ∈ lw_all := lw_g (lw_at lw_m9 134 rfl) rfl
theorem q2132 : (Jvm.Cond.sameMethod "java/lang/AbstractStringBuilder" "java/lang/AbstractStringBuilder" "getValue" "()[B") ∈ lw_all := lw_g (lw_at lw_m9 135 rfl) rfl
theorem q2134 : (Jvm.Cond.code ({ cls := "java/lang/AbstractStringBuilder", name := "getValue", desc := "()[B" } : Jvm.MethodName) prog_22_method_64_code (1 : Nat) (Option.some (Jvm.ClassFile.FieldType.array Jvm.ClassFile.FieldType.byte))) ∈ lw_all := lw_g (lw_at lw_m9 137 rfl) rfl
theorem q2172 : (Jvm.Cond.instanceMethod ({ cls := "java/lang/AbstractStringBuilder", name := "append", desc := "(Ljava/lang/String;)Ljava/lang/AbstractStringBuilder;" } : Jvm.MethodName)) ∈ lw_all := lw_g (lw_at lw_m9 175 rfl) rfl
theorem q2173 : (Jvm.Cond.code ({ cls := "java/lang/AbstractStringBuilder", name := "append", desc := "(Ljava/lang/String;)Ljava/lang/AbstractStringBuilder;" } : Jvm.MethodName) prog_22_method_22_code (3 : Nat) (Option.some (Jvm.ClassFile.FieldType.object "java/lang/AbstractStringBuilder"))) ∈ lw_all := lw_g (lw_at lw_m9 176 rfl) rfl
theorem q2174 : (Jvm.Cond.methodLink "java/lang/AbstractStringBuilder" (204 : Nat) ({ cls := "java/lang/AbstractStringBuilder", name := "appendNull", desc := "()Ljava/lang/AbstractStringBuilder;" } : Jvm.MethodName)) ∈ lw_all := lw_g (lw_at lw_m9 177 rfl) rfl
theorem q2175 : (Jvm.Cond.privateMethod ({ cls := "java/lang/AbstractStringBuilder", name := "appendNull", desc := "()Ljava/lang/AbstractStringBuilder;" } : Jvm.MethodName)) ∈ lw_tbl := lw_at lw_m9 178 rfl
theorem q2176 : (Jvm.Cond.instanceMethod ({ cls := "java/lang/AbstractStringBuilder", name := "appendNull", desc := "()Ljava/lang/AbstractStringBuilder;" } : Jvm.MethodName)) ∈ lw_all := lw_g (lw_at lw_m9 179 rfl) rfl
theorem q2177 : (Jvm.Cond.code ({ cls := "java/lang/AbstractStringBuilder", name := "appendNull", desc := "()Ljava/lang/AbstractStringBuilder;" } : Jvm.MethodName) prog_22_method_26_code (3 : Nat) (Option.some (Jvm.ClassFile.FieldType.object "java/lang/AbstractStringBuilder"))) ∈ lw_all := lw_g (lw_at lw_m9 180 rfl) rfl
theorem q2178 : (Jvm.Cond.methodLink "java/lang/AbstractStringBuilder" (226 : Nat) ({ cls := "java/lang/StringUTF16", name := "putCharsAt", desc := "([BICCCC)I" } : Jvm.MethodName)) ∈ lw_all := lw_g (lw_at lw_m9 181 rfl) rfl
theorem q2181 : (Jvm.Cond.methodLink "java/lang/AbstractStringBuilder" (32 : Nat) ({ cls := "java/lang/String", name := "length", desc := "()I" } : Jvm.MethodName)) ∈ lw_all := lw_g (lw_at lw_m9 184 rfl) rfl
theorem q2182 : (Jvm.Cond.methodLink "java/lang/AbstractStringBuilder" (208 : Nat) ({ cls := "java/lang/AbstractStringBuilder", name := "putStringAt", desc := "(ILjava/lang/String;)V" } : Jvm.MethodName)) ∈ lw_all := lw_g (lw_at lw_m9 185 rfl) rfl
theorem q2183 : (Jvm.Cond.privateMethod ({ cls := "java/lang/AbstractStringBuilder", name := "putStringAt", desc := "(ILjava/lang/String;)V" } : Jvm.MethodName)) ∈ lw_tbl := lw_at lw_m9 186 rfl
theorem q2184 : (Jvm.Cond.instanceMethod ({ cls := "java/lang/AbstractStringBuilder", name := "putStringAt", desc := "(ILjava/lang/String;)V" } : Jvm.MethodName)) ∈ lw_all := lw_g (lw_at lw_m9 187 rfl) rfl
theorem q2185 : (Jvm.Cond.code ({ cls := "java/lang/AbstractStringBuilder", name := "putStringAt", desc := "(ILjava/lang/String;)V" } : Jvm.MethodName) prog_22_method_73_code (3 : Nat) (Option.none : Option Jvm.ClassFile.FieldType)) ∈ lw_all := lw_g (lw_at lw_m9 188 rfl) rfl
theorem q2186 : (Jvm.Cond.methodLink "java/lang/AbstractStringBuilder" (397 : Nat) ({ cls := "java/lang/AbstractStringBuilder", name := "inflateIfNeededFor", desc := "(Ljava/lang/String;)V" } : Jvm.MethodName)) ∈ lw_all := lw_g (lw_at lw_m9 189 rfl) rfl
theorem q2187 : (Jvm.Cond.privateMethod ({ cls := "java/lang/AbstractStringBuilder", name := "inflateIfNeededFor", desc := "(Ljava/lang/String;)V" } : Jvm.MethodName)) ∈ lw_tbl := lw_at lw_m9 190 rfl
theorem q2188 : (Jvm.Cond.instanceMethod ({ cls := "java/lang/AbstractStringBuilder", name := "inflateIfNeededFor", desc := "(Ljava/lang/String;)V" } : Jvm.MethodName)) ∈ lw_all := lw_g (lw_at lw_m9 191 rfl) rfl
theorem q2189 : (Jvm.Cond.code ({ cls := "java/lang/AbstractStringBuilder", name := "inflateIfNeededFor", desc := "(Ljava/lang/String;)V" } : Jvm.MethodName) prog_22_method_71_code (2 : Nat) (Option.none : Option Jvm.ClassFile.FieldType)) ∈ lw_all := lw_g (lw_at lw_m9 192 rfl) rfl
theorem q2190 : (Jvm.Cond.methodLink "java/lang/AbstractStringBuilder" (40 : Nat) ({ cls := "java/lang/String", name := "coder", desc := "()B" } : Jvm.MethodName)) ∈ lw_all := lw_g (lw_at lw_m9 193 rfl) rfl
theorem q2191 : (Jvm.Cond.methodLink "java/lang/AbstractStringBuilder" (399 : Nat) ({ cls := "java/lang/String", name := "getBytes", desc := "([BIB)V" } : Jvm.MethodName)) ∈ lw_all := lw_g (lw_at lw_m9 194 rfl) rfl
theorem q2736 : (Jvm.Cond.sameMethod "java/lang/AbstractStringBuilder" "java/lang/AbstractStringBuilder" "compareTo" "(Ljava/lang/AbstractStringBuilder;)I") ∈ lw_all := lw_g (lw_at lw_m12 19 rfl) rfl
theorem q2739 : (Jvm.Cond.sameMethod "java/lang/AbstractStringBuilder" "java/lang/AbstractStringBuilder" "length" "()I") ∈ lw_all := lw_g (lw_at lw_m12 22 rfl) rfl
theorem q2740 : (Jvm.Cond.sameMethod "java/lang/AbstractStringBuilder" "java/lang/AbstractStringBuilder" "append" "(C)Ljava/lang/AbstractStringBuilder;") ∈ lw_all := lw_g (lw_at lw_m12 23 rfl) rfl
theorem q2741 : (Jvm.Cond.sameMethod "java/lang/AbstractStringBuilder" "java/lang/AbstractStringBuilder" "ensureCapacityInternal" "(I)V") ∈ lw_all := lw_g (lw_at lw_m12 24 rfl) rfl
theorem q2742 : (Jvm.Cond.sameMethod "java/lang/AbstractStringBuilder" "java/lang/AbstractStringBuilder" "newCapacity" "(I)I") ∈ lw_all := lw_g (lw_at lw_m12 25 rfl) rfl
theorem q2743 : (Jvm.Cond.sameMethod "java/lang/AbstractStringBuilder" "java/lang/AbstractStringBuilder" "inflate" "()V") ∈ lw_all := lw_g (lw_at lw_m12 26 rfl) rfl
theorem q2745 : (Jvm.Cond.sameMethod "java/lang/AbstractStringBuilder" "java/lang/AbstractStringBuilder" "append" "(Ljava/lang/String;)Ljava/lang/AbstractStringBuilder;") ∈ lw_all := lw_g (lw_at lw_m12 28 rfl) rfl
theorem q2746 : (Jvm.Cond.sameMethod "java/lang/AbstractStringBuilder" "java/lang/AbstractStringBuilder" "appendNull" "()Ljava/lang/AbstractStringBuilder;") ∈ lw_all := lw_g (lw_at lw_m12 29 rfl) rfl
theorem q2747 : (Jvm.Cond.sameMethod "java/lang/AbstractStringBuilder" "java/lang/AbstractStringBuilder" "putStringAt" "(ILjava/lang/String;)V") ∈ lw_all := lw_g (lw_at lw_m12 30 rfl) rfl
theorem q2748 : (Jvm.Cond.sameMethod "java/lang/AbstractStringBuilder" "java/lang/AbstractStringBuilder" "inflateIfNeededFor" "(Ljava/lang/String;)V") ∈ lw_all := lw_g (lw_at lw_m12 31 rfl) rfl
/-! java/lang/StringBuilder -/
set_option maxRecDepth 100000
def RJ37 : String := "java/lang/StringBuilder"
def TJ37 : u_T := fun k => match k with
  | 0 => ("java/lang/AbstractStringBuilder", "value", "[B", false)
  | 1 => ("java/lang/AbstractStringBuilder", "coder", "B", false)
  | 2 => ("java/lang/AbstractStringBuilder", "maybeLatin1", "Z", false)
  | _ => ("java/lang/AbstractStringBuilder", "count", "I", false)
def tyJ37 : Nat → FieldType := fun k => match k with
  | 0 => .array .byte
  | 1 => .byte
  | 2 => .boolean
  | _ => .int
abbrev wsJ370 : List Cond := u_ws RJ37 TJ37 4
theorem nmJ37 : ∀ a, a < 4 → ∀ b, b < 4 → a ≠ b → (TJ37 a).2.1 ≠ (TJ37 b).2.1 := by decide +kernel
theorem tyJ37_ok : ∀ k, k < 4 → parseFieldDescriptor (TJ37 k).2.2.1 = some (tyJ37 k) := by decide +kernel
abbrev cJ37_compareTo : ByteArray := prog_41_method_97_code
def yJ37_compareTo : MethodName := ⟨RJ37, "compareTo", "(Ljava/lang/Object;)I"⟩
def dkwJ37_compareTo_0 : List UInt8 := [42, 43, 192, 0, 24, 182, 1, 90, 172]
abbrev dktJ37_compareTo_0 : List UInt8 := dkwJ37_compareTo_0 ++ []
theorem dksJ37_compareTo_0 : cJ37_compareTo.data.toList.drop 0 = dktJ37_compareTo_0 := by decide +kernel
theorem dJ37_compareTo_0 : decode cJ37_compareTo 0 = .ok (.aload_n 0, 1) := dk_42 (dk_at dksJ37_compareTo_0 0 rfl rfl)
theorem dJ37_compareTo_1 : decode cJ37_compareTo 1 = .ok (.aload_n 1, 1) := dk_43 (dk_at dksJ37_compareTo_0 1 rfl rfl)
theorem dJ37_compareTo_2 : decode cJ37_compareTo 2 = .ok (.checkcast 24, 3) := dk_192 0 24 (dk_at dksJ37_compareTo_0 2 rfl rfl)
theorem dJ37_compareTo_5 : decode cJ37_compareTo 5 = .ok (.invokevirtual 346, 3) := dk_182 1 90 (dk_at dksJ37_compareTo_0 5 rfl rfl)
theorem dJ37_compareTo_8 : decode cJ37_compareTo 8 = .ok (.ireturn, 1) := dk_172 (dk_at dksJ37_compareTo_0 8 rfl rfl)
abbrev cJ37_compareTo_2 : ByteArray := prog_41_method_5_code
def yJ37_compareTo_2 : MethodName := ⟨RJ37, "compareTo", "(Ljava/lang/StringBuilder;)I"⟩
def dkwJ37_compareTo_2_0 : List UInt8 := [42, 43, 183, 0, 13, 172]
abbrev dktJ37_compareTo_2_0 : List UInt8 := dkwJ37_compareTo_2_0 ++ []
theorem dksJ37_compareTo_2_0 : cJ37_compareTo_2.data.toList.drop 0 = dktJ37_compareTo_2_0 := by decide +kernel
theorem dJ37_compareTo_2_0 : decode cJ37_compareTo_2 0 = .ok (.aload_n 0, 1) := dk_42 (dk_at dksJ37_compareTo_2_0 0 rfl rfl)
theorem dJ37_compareTo_2_1 : decode cJ37_compareTo_2 1 = .ok (.aload_n 1, 1) := dk_43 (dk_at dksJ37_compareTo_2_0 1 rfl rfl)
theorem dJ37_compareTo_2_2 : decode cJ37_compareTo_2 2 = .ok (.invokespecial 13, 3) := dk_183 0 13 (dk_at dksJ37_compareTo_2_0 2 rfl rfl)
theorem dJ37_compareTo_2_5 : decode cJ37_compareTo_2 5 = .ok (.ireturn, 1) := dk_172 (dk_at dksJ37_compareTo_2_0 5 rfl rfl)
abbrev cJ37_init : ByteArray := prog_41_method_1_code
def yJ37_init : MethodName := ⟨RJ37, "<init>", "()V"⟩
def dkwJ37_init_0 : List UInt8 := [42, 16, 16, 183, 0, 1, 177]
abbrev dktJ37_init_0 : List UInt8 := dkwJ37_init_0 ++ []
theorem dksJ37_init_0 : cJ37_init.data.toList.drop 0 = dktJ37_init_0 := by decide +kernel
theorem dJ37_init_0 : decode cJ37_init 0 = .ok (.aload_n 0, 1) := dk_42 (dk_at dksJ37_init_0 0 rfl rfl)
theorem dJ37_init_1 : decode cJ37_init 1 = .ok (.bipush 16, 2) := dk_16 16 (dk_at dksJ37_init_0 1 rfl rfl)
theorem dJ37_init_3 : decode cJ37_init 3 = .ok (.invokespecial 1, 3) := dk_183 0 1 (dk_at dksJ37_init_0 3 rfl rfl)
theorem dJ37_init_6 : decode cJ37_init 6 = .ok (.return_, 1) := dk_177 (dk_at dksJ37_init_0 6 rfl rfl)
abbrev cJ37_length : ByteArray := prog_41_method_93_code
def yJ37_length : MethodName := ⟨RJ37, "length", "()I"⟩
theorem dJ37_length_0 : decode cJ37_length 0 = .ok (.aload_n 0, 1) := by decide +kernel
theorem dJ37_length_1 : decode cJ37_length 1 = .ok (.invokespecial 343, 3) := by decide +kernel
theorem dJ37_length_4 : decode cJ37_length 4 = .ok (.ireturn, 1) := by decide +kernel
abbrev cJ37_append : ByteArray := prog_41_method_14_code
def yJ37_append : MethodName := ⟨RJ37, "append", "(C)Ljava/lang/StringBuilder;"⟩
def dkwJ37_append_0 : List UInt8 := [42, 27, 183, 0, 50, 87, 42, 176]
abbrev dktJ37_append_0 : List UInt8 := dkwJ37_append_0 ++ []
theorem dksJ37_append_0 : cJ37_append.data.toList.drop 0 = dktJ37_append_0 := by decide +kernel
theorem dJ37_append_0 : decode cJ37_append 0 = .ok (.aload_n 0, 1) := dk_42 (dk_at dksJ37_append_0 0 rfl rfl)
theorem dJ37_append_1 : decode cJ37_append 1 = .ok (.iload_n 1, 1) := dk_27 (dk_at dksJ37_append_0 1 rfl rfl)
theorem dJ37_append_2 : decode cJ37_append 2 = .ok (.invokespecial 50, 3) := dk_183 0 50 (dk_at dksJ37_append_0 2 rfl rfl)
theorem dJ37_append_5 : decode cJ37_append 5 = .ok (.pop, 1) := dk_87 (dk_at dksJ37_append_0 5 rfl rfl)
theorem dJ37_append_6 : decode cJ37_append 6 = .ok (.aload_n 0, 1) := dk_42 (dk_at dksJ37_append_0 6 rfl rfl)
theorem dJ37_append_7 : decode cJ37_append 7 = .ok (.areturn, 1) := dk_176 (dk_at dksJ37_append_0 7 rfl rfl)
abbrev cJ37_toString : ByteArray := prog_41_method_42_code
def yJ37_toString : MethodName := ⟨RJ37, "toString", "()Ljava/lang/String;"⟩
def dkwJ37_toString_0 : List UInt8 := [187, 0, 18, 89, 42, 183, 0, 137, 176]
abbrev dktJ37_toString_0 : List UInt8 := dkwJ37_toString_0 ++ []
theorem dksJ37_toString_0 : cJ37_toString.data.toList.drop 0 = dktJ37_toString_0 := by decide +kernel
theorem dJ37_toString_0 : decode cJ37_toString 0 = .ok (.new 18, 3) := dk_187 0 18 (dk_at dksJ37_toString_0 0 rfl rfl)
theorem dJ37_toString_3 : decode cJ37_toString 3 = .ok (.dup, 1) := dk_89 (dk_at dksJ37_toString_0 3 rfl rfl)
theorem dJ37_toString_4 : decode cJ37_toString 4 = .ok (.aload_n 0, 1) := dk_42 (dk_at dksJ37_toString_0 4 rfl rfl)
theorem dJ37_toString_5 : decode cJ37_toString 5 = .ok (.invokespecial 137, 3) := dk_183 0 137 (dk_at dksJ37_toString_0 5 rfl rfl)
theorem dJ37_toString_8 : decode cJ37_toString 8 = .ok (.areturn, 1) := dk_176 (dk_at dksJ37_toString_0 8 rfl rfl)
abbrev cJ37_append_2 : ByteArray := prog_41_method_7_code
def yJ37_append_2 : MethodName := ⟨RJ37, "append", "(Ljava/lang/String;)Ljava/lang/StringBuilder;"⟩
def dkwJ37_append_2_0 : List UInt8 := [42, 43, 183, 0, 29, 87, 42, 176]
abbrev dktJ37_append_2_0 : List UInt8 := dkwJ37_append_2_0 ++ []
theorem dksJ37_append_2_0 : cJ37_append_2.data.toList.drop 0 = dktJ37_append_2_0 := by decide +kernel
theorem dJ37_append_2_0 : decode cJ37_append_2 0 = .ok (.aload_n 0, 1) := dk_42 (dk_at dksJ37_append_2_0 0 rfl rfl)
theorem dJ37_append_2_1 : decode cJ37_append_2 1 = .ok (.aload_n 1, 1) := dk_43 (dk_at dksJ37_append_2_0 1 rfl rfl)
theorem dJ37_append_2_2 : decode cJ37_append_2 2 = .ok (.invokespecial 29, 3) := dk_183 0 29 (dk_at dksJ37_append_2_0 2 rfl rfl)
theorem dJ37_append_2_5 : decode cJ37_append_2 5 = .ok (.pop, 1) := dk_87 (dk_at dksJ37_append_2_0 5 rfl rfl)
theorem dJ37_append_2_6 : decode cJ37_append_2 6 = .ok (.aload_n 0, 1) := dk_42 (dk_at dksJ37_append_2_0 6 rfl rfl)
theorem dJ37_append_2_7 : decode cJ37_append_2 7 = .ok (.areturn, 1) := dk_176 (dk_at dksJ37_append_2_0 7 rfl rfl)
theorem q132 : (Jvm.Cond.initialized "java/lang/StringBuilder") ∈ lw_all := lw_g (lw_at lw_m1 55 rfl) rfl
theorem q450 : (Jvm.Cond.selects "java/lang/StringBuilder" ({ cls := "java/lang/Object", name := "getClass", desc := "()Ljava/lang/Class;" } : Jvm.MethodName) ({ cls := "java/lang/Object", name := "getClass", desc := "()Ljava/lang/Class;" } : Jvm.MethodName)) ∈ lw_all := lw_g (lw_at lw_m2 133 rfl) rfl
theorem q1407 : (Jvm.Cond.castable "java/lang/StringBuilder" "java/lang/Comparable") ∈ lw_tbl := lw_at lw_m6 130 rfl
theorem q1408 : (Jvm.Cond.selects "java/lang/StringBuilder" ({ cls := "java/lang/Comparable", name := "compareTo", desc := "(Ljava/lang/Object;)I" } : Jvm.MethodName) ({ cls := "java/lang/StringBuilder", name := "compareTo", desc := "(Ljava/lang/Object;)I" } : Jvm.MethodName)) ∈ lw_all := lw_g (lw_at lw_m6 131 rfl) rfl
theorem q1409 : (Jvm.Cond.unhidden "java/lang/StringBuilder" "compareTo" "(Ljava/lang/Object;)I") ∈ lw_tbl := lw_at lw_m6 132 rfl
theorem q1410 : (Jvm.Cond.instanceMethod ({ cls := "java/lang/StringBuilder", name := "compareTo", desc := "(Ljava/lang/Object;)I" } : Jvm.MethodName)) ∈ lw_all := lw_g (lw_at lw_m6 133 rfl) rfl
theorem q1411 : (Jvm.Cond.publicMethod ({ cls := "java/lang/StringBuilder", name := "compareTo", desc := "(Ljava/lang/Object;)I" } : Jvm.MethodName)) ∈ lw_tbl := lw_at lw_m6 134 rfl
theorem q1412 : (Jvm.Cond.code ({ cls := "java/lang/StringBuilder", name := "compareTo", desc := "(Ljava/lang/Object;)I" } : Jvm.MethodName) prog_41_method_97_code (2 : Nat) (Option.some Jvm.ClassFile.FieldType.int)) ∈ lw_all := lw_g (lw_at lw_m6 135 rfl) rfl
theorem q1413 : (Jvm.Cond.classLink "java/lang/StringBuilder" (24 : Nat) "java/lang/StringBuilder") ∈ lw_all := lw_g (lw_at lw_m6 136 rfl) rfl
theorem q1414 : (Jvm.Cond.methodLink "java/lang/StringBuilder" (346 : Nat) ({ cls := "java/lang/StringBuilder", name := "compareTo", desc := "(Ljava/lang/StringBuilder;)I" } : Jvm.MethodName)) ∈ lw_all := lw_g (lw_at lw_m6 137 rfl) rfl
theorem q1415 : (Jvm.Cond.instanceMethod ({ cls := "java/lang/StringBuilder", name := "compareTo", desc := "(Ljava/lang/StringBuilder;)I" } : Jvm.MethodName)) ∈ lw_all := lw_g (lw_at lw_m6 138 rfl) rfl
theorem q1416 : (Jvm.Cond.selects "java/lang/StringBuilder" ({ cls := "java/lang/StringBuilder", name := "compareTo", desc := "(Ljava/lang/StringBuilder;)I" } : Jvm.MethodName) ({ cls := "java/lang/StringBuilder", name := "compareTo", desc := "(Ljava/lang/StringBuilder;)I" } : Jvm.MethodName)) ∈ lw_all := lw_g (lw_at lw_m6 139 rfl) rfl
theorem q1417 : (Jvm.Cond.code ({ cls := "java/lang/StringBuilder", name := "compareTo", desc := "(Ljava/lang/StringBuilder;)I" } : Jvm.MethodName) prog_41_method_5_code (2 : Nat) (Option.some Jvm.ClassFile.FieldType.int)) ∈ lw_all := lw_g (lw_at lw_m6 140 rfl) rfl
theorem q1418 : (Jvm.Cond.methodLink "java/lang/StringBuilder" (13 : Nat) ({ cls := "java/lang/AbstractStringBuilder", name := "compareTo", desc := "(Ljava/lang/AbstractStringBuilder;)I" } : Jvm.MethodName)) ∈ lw_all := lw_g (lw_at lw_m6 141 rfl) rfl
theorem q1419 : (Jvm.Cond.superclass "java/lang/StringBuilder" "java/lang/AbstractStringBuilder") ∈ lw_all := lw_g (lw_at lw_m6 142 rfl) rfl
theorem q1425 : (Jvm.Cond.selects "java/lang/StringBuilder" ({ cls := "java/lang/AbstractStringBuilder", name := "isLatin1", desc := "()Z" } : Jvm.MethodName) ({ cls := "java/lang/AbstractStringBuilder", name := "isLatin1", desc := "()Z" } : Jvm.MethodName)) ∈ lw_all := lw_g (lw_at lw_m6 148 rfl) rfl
theorem q2001 : (Jvm.Cond.instantiable "java/lang/StringBuilder" (4 : Nat)) ∈ lw_all := lw_g (lw_at lw_m9 4 rfl) rfl
theorem q2003 : (Jvm.Cond.instanceMethod ({ cls := "java/lang/StringBuilder", name := "<init>", desc := "()V" } : Jvm.MethodName)) ∈ lw_all := lw_g (lw_at lw_m9 6 rfl) rfl
theorem q2004 : (Jvm.Cond.code ({ cls := "java/lang/StringBuilder", name := "<init>", desc := "()V" } : Jvm.MethodName) prog_41_method_1_code (1 : Nat) (Option.none : Option Jvm.ClassFile.FieldType)) ∈ lw_all := lw_g (lw_at lw_m9 7 rfl) rfl
theorem q2005 : (Jvm.Cond.methodLink "java/lang/StringBuilder" (1 : Nat) ({ cls := "java/lang/AbstractStringBuilder", name := "<init>", desc := "(I)V" } : Jvm.MethodName)) ∈ lw_all := lw_g (lw_at lw_m9 8 rfl) rfl
theorem q2035 : (Jvm.Cond.lays "java/lang/StringBuilder" "java/lang/AbstractStringBuilder" "value" "[B") ∈ lw_all := lw_g (lw_at lw_m9 38 rfl) rfl
theorem q2037 : (Jvm.Cond.lays "java/lang/StringBuilder" "java/lang/AbstractStringBuilder" "coder" "B") ∈ lw_all := lw_g (lw_at lw_m9 40 rfl) rfl
theorem q2039 : (Jvm.Cond.lays "java/lang/StringBuilder" "java/lang/AbstractStringBuilder" "maybeLatin1" "Z") ∈ lw_all := lw_g (lw_at lw_m9 42 rfl) rfl
theorem q2041 : (Jvm.Cond.lays "java/lang/StringBuilder" "java/lang/AbstractStringBuilder" "count" "I") ∈ lw_all := lw_g (lw_at lw_m9 44 rfl) rfl
theorem q2044 : (Jvm.Cond.instanceMethod ({ cls := "java/lang/StringBuilder", name := "length", desc := "()I" } : Jvm.MethodName)) ∈ lw_all := lw_g (lw_at lw_m9 47 rfl) rfl
theorem q2045 : (Jvm.Cond.selects "java/lang/StringBuilder" ({ cls := "java/lang/StringBuilder", name := "length", desc := "()I" } : Jvm.MethodName) ({ cls := "java/lang/StringBuilder", name := "length", desc := "()I" } : Jvm.MethodName)) ∈ lw_all := lw_g (lw_at lw_m9 48 rfl) rfl
theorem q2046 : (Jvm.Cond.code ({ cls := "java/lang/StringBuilder", name := "length", desc := "()I" } : Jvm.MethodName) prog_41_method_93_code (1 : Nat) (Option.some Jvm.ClassFile.FieldType.int)) ∈ lw_all := lw_g (lw_at lw_m9 49 rfl) rfl
theorem q2047 : (Jvm.Cond.methodLink "java/lang/StringBuilder" (343 : Nat) ({ cls := "java/lang/AbstractStringBuilder", name := "length", desc := "()I" } : Jvm.MethodName)) ∈ lw_all := lw_g (lw_at lw_m9 50 rfl) rfl
theorem q2051 : (Jvm.Cond.instanceMethod ({ cls := "java/lang/StringBuilder", name := "append", desc := "(C)Ljava/lang/StringBuilder;" } : Jvm.MethodName)) ∈ lw_all := lw_g (lw_at lw_m9 54 rfl) rfl
theorem q2052 : (Jvm.Cond.selects "java/lang/StringBuilder" ({ cls := "java/lang/StringBuilder", name := "append", desc := "(C)Ljava/lang/StringBuilder;" } : Jvm.MethodName) ({ cls := "java/lang/StringBuilder", name := "append", desc := "(C)Ljava/lang/StringBuilder;" } : Jvm.MethodName)) ∈ lw_all := lw_g (lw_at lw_m9 55 rfl) rfl
theorem q2053 : (Jvm.Cond.code ({ cls := "java/lang/StringBuilder", name := "append", desc := "(C)Ljava/lang/StringBuilder;" } : Jvm.MethodName) prog_41_method_14_code (2 : Nat) (Option.some (Jvm.ClassFile.FieldType.object "java/lang/StringBuilder"))) ∈ lw_all := lw_g (lw_at lw_m9 56 rfl) rfl
theorem q2054 : (Jvm.Cond.methodLink "java/lang/StringBuilder" (50 : Nat) ({ cls := "java/lang/AbstractStringBuilder", name := "append", desc := "(C)Ljava/lang/AbstractStringBuilder;" } : Jvm.MethodName)) ∈ lw_all := lw_g (lw_at lw_m9 57 rfl) rfl
theorem q2118 : (Jvm.Cond.instanceMethod ({ cls := "java/lang/StringBuilder", name := "toString", desc := "()Ljava/lang/String;" } : Jvm.MethodName)) ∈ lw_all := lw_g (lw_at lw_m9 121 rfl) rfl
theorem q2119 : (Jvm.Cond.selects "java/lang/StringBuilder" ({ cls := "java/lang/StringBuilder", name := "toString", desc := "()Ljava/lang/String;" } : Jvm.MethodName) ({ cls := "java/lang/StringBuilder", name := "toString", desc := "()Ljava/lang/String;" } : Jvm.MethodName)) ∈ lw_all := lw_g (lw_at lw_m9 122 rfl) rfl
theorem q2120 : (Jvm.Cond.code ({ cls := "java/lang/StringBuilder", name := "toString", desc := "()Ljava/lang/String;" } : Jvm.MethodName) prog_41_method_42_code (1 : Nat) (Option.some (Jvm.ClassFile.FieldType.object "java/lang/String"))) ∈ lw_all := lw_g (lw_at lw_m9 123 rfl) rfl
theorem q2121 : (Jvm.Cond.classLink "java/lang/StringBuilder" (18 : Nat) "java/lang/String") ∈ lw_all := lw_g (lw_at lw_m9 124 rfl) rfl
theorem q2123 : (Jvm.Cond.methodLink "java/lang/StringBuilder" (137 : Nat) ({ cls := "java/lang/String", name := "<init>", desc := "(Ljava/lang/StringBuilder;)V" } : Jvm.MethodName)) ∈ lw_all := lw_g (lw_at lw_m9 126 rfl) rfl
theorem q2133 : (Jvm.Cond.selects "java/lang/StringBuilder" ({ cls := "java/lang/AbstractStringBuilder", name := "getValue", desc := "()[B" } : Jvm.MethodName) ({ cls := "java/lang/AbstractStringBuilder", name := "getValue", desc := "()[B" } : Jvm.MethodName)) ∈ lw_all := lw_g (lw_at lw_m9 136 rfl) rfl
theorem q2168 : (Jvm.Cond.instanceMethod ({ cls := "java/lang/StringBuilder", name := "append", desc := "(Ljava/lang/String;)Ljava/lang/StringBuilder;" } : Jvm.MethodName)) ∈ lw_all := lw_g (lw_at lw_m9 171 rfl) rfl
theorem q2169 : (Jvm.Cond.selects "java/lang/StringBuilder" ({ cls := "java/lang/StringBuilder", name := "append", desc := "(Ljava/lang/String;)Ljava/lang/StringBuilder;" } : Jvm.MethodName) ({ cls := "java/lang/StringBuilder", name := "append", desc := "(Ljava/lang/String;)Ljava/lang/StringBuilder;" } : Jvm.MethodName)) ∈ lw_all := lw_g (lw_at lw_m9 172 rfl) rfl
theorem q2170 : (Jvm.Cond.code ({ cls := "java/lang/StringBuilder", name := "append", desc := "(Ljava/lang/String;)Ljava/lang/StringBuilder;" } : Jvm.MethodName) prog_41_method_7_code (2 : Nat) (Option.some (Jvm.ClassFile.FieldType.object "java/lang/StringBuilder"))) ∈ lw_all := lw_g (lw_at lw_m9 173 rfl) rfl
theorem q2171 : (Jvm.Cond.methodLink "java/lang/StringBuilder" (29 : Nat) ({ cls := "java/lang/AbstractStringBuilder", name := "append", desc := "(Ljava/lang/String;)Ljava/lang/AbstractStringBuilder;" } : Jvm.MethodName)) ∈ lw_all := lw_g (lw_at lw_m9 174 rfl) rfl
theorem q2744 : (Jvm.Cond.selects "java/lang/StringBuilder" ({ cls := "java/lang/AbstractStringBuilder", name := "length", desc := "()I" } : Jvm.MethodName) ({ cls := "java/lang/StringBuilder", name := "length", desc := "()I" } : Jvm.MethodName)) ∈ lw_all := lw_g (lw_at lw_m12 27 rfl) rfl
theorem q2783 : (Jvm.Cond.castable "java/lang/StringBuilder" "java/lang/Object") ∈ lw_tbl := lw_at lw_m12 66 rfl
theorem in_J37 : ∀ w ∈ wsJ370, w ∈ lw_all := lw_in wsJ370 [2035, 2037, 2039, 2041] (by decide +kernel) (by decide +kernel)
/-! java/lang/Enum -/
set_option maxRecDepth 100000
def RJ3 : String := "java/lang/Enum"
abbrev cJ3_compareTo : ByteArray := prog_29_method_15_code
def yJ3_compareTo : MethodName := ⟨RJ3, "compareTo", "(Ljava/lang/Object;)I"⟩
def dkwJ3_compareTo_0 : List UInt8 := [42, 43, 192, 0, 2, 182, 0, 101, 172]
abbrev dktJ3_compareTo_0 : List UInt8 := dkwJ3_compareTo_0 ++ []
theorem dksJ3_compareTo_0 : cJ3_compareTo.data.toList.drop 0 = dktJ3_compareTo_0 := by decide +kernel
theorem dJ3_compareTo_0 : decode cJ3_compareTo 0 = .ok (.aload_n 0, 1) := dk_42 (dk_at dksJ3_compareTo_0 0 rfl rfl)
theorem dJ3_compareTo_1 : decode cJ3_compareTo 1 = .ok (.aload_n 1, 1) := dk_43 (dk_at dksJ3_compareTo_0 1 rfl rfl)
theorem dJ3_compareTo_2 : decode cJ3_compareTo 2 = .ok (.checkcast 2, 3) := dk_192 0 2 (dk_at dksJ3_compareTo_0 2 rfl rfl)
theorem dJ3_compareTo_5 : decode cJ3_compareTo 5 = .ok (.invokevirtual 101, 3) := dk_182 0 101 (dk_at dksJ3_compareTo_0 5 rfl rfl)
theorem dJ3_compareTo_8 : decode cJ3_compareTo 8 = .ok (.ireturn, 1) := dk_172 (dk_at dksJ3_compareTo_0 8 rfl rfl)
abbrev cJ3_compareTo_2 : ByteArray := prog_29_method_8_code
def yJ3_compareTo_2 : MethodName := ⟨RJ3, "compareTo", "(Ljava/lang/Enum;)I"⟩
def dkwJ3_compareTo_2_1 : List UInt8 := [165, 0, 11, 187, 0, 36, 89, 183, 0, 38, 191, 45, 180, 0, 7, 44, 180, 0, 7, 100, 172]
abbrev dktJ3_compareTo_2_1 : List UInt8 := dkwJ3_compareTo_2_1 ++ []
def dkwJ3_compareTo_2_0 : List UInt8 := [43, 77, 42, 78, 45, 182, 0, 29, 44, 182, 0, 29, 165, 0, 22, 45, 182, 0, 33, 44, 182, 0, 33]
abbrev dktJ3_compareTo_2_0 : List UInt8 := dkwJ3_compareTo_2_0 ++ dktJ3_compareTo_2_1
theorem dksJ3_compareTo_2_0 : cJ3_compareTo_2.data.toList.drop 0 = dktJ3_compareTo_2_0 := by decide +kernel
theorem dksJ3_compareTo_2_1 : cJ3_compareTo_2.data.toList.drop 23 = dktJ3_compareTo_2_1 := dk_seg dksJ3_compareTo_2_0 23 rfl rfl
theorem dJ3_compareTo_2_0 : decode cJ3_compareTo_2 0 = .ok (.aload_n 1, 1) := dk_43 (dk_at dksJ3_compareTo_2_0 0 rfl rfl)
theorem dJ3_compareTo_2_1 : decode cJ3_compareTo_2 1 = .ok (.astore_n 2, 1) := dk_77 (dk_at dksJ3_compareTo_2_0 1 rfl rfl)
theorem dJ3_compareTo_2_2 : decode cJ3_compareTo_2 2 = .ok (.aload_n 0, 1) := dk_42 (dk_at dksJ3_compareTo_2_0 2 rfl rfl)
theorem dJ3_compareTo_2_3 : decode cJ3_compareTo_2 3 = .ok (.astore_n 3, 1) := dk_78 (dk_at dksJ3_compareTo_2_0 3 rfl rfl)
theorem dJ3_compareTo_2_4 : decode cJ3_compareTo_2 4 = .ok (.aload_n 3, 1) := dk_45 (dk_at dksJ3_compareTo_2_0 4 rfl rfl)
theorem dJ3_compareTo_2_5 : decode cJ3_compareTo_2 5 = .ok (.invokevirtual 29, 3) := dk_182 0 29 (dk_at dksJ3_compareTo_2_0 5 rfl rfl)
theorem dJ3_compareTo_2_8 : decode cJ3_compareTo_2 8 = .ok (.aload_n 2, 1) := dk_44 (dk_at dksJ3_compareTo_2_0 8 rfl rfl)
theorem dJ3_compareTo_2_9 : decode cJ3_compareTo_2 9 = .ok (.invokevirtual 29, 3) := dk_182 0 29 (dk_at dksJ3_compareTo_2_0 9 rfl rfl)
theorem dJ3_compareTo_2_12 : decode cJ3_compareTo_2 12 = .ok (.if_acmp .eq 22, 3) := dk_165 0 22 (dk_at dksJ3_compareTo_2_0 12 rfl rfl)
theorem dJ3_compareTo_2_15 : decode cJ3_compareTo_2 15 = .ok (.aload_n 3, 1) := dk_45 (dk_at dksJ3_compareTo_2_0 15 rfl rfl)
theorem dJ3_compareTo_2_16 : decode cJ3_compareTo_2 16 = .ok (.invokevirtual 33, 3) := dk_182 0 33 (dk_at dksJ3_compareTo_2_0 16 rfl rfl)
theorem dJ3_compareTo_2_19 : decode cJ3_compareTo_2 19 = .ok (.aload_n 2, 1) := dk_44 (dk_at dksJ3_compareTo_2_0 19 rfl rfl)
theorem dJ3_compareTo_2_20 : decode cJ3_compareTo_2 20 = .ok (.invokevirtual 33, 3) := dk_182 0 33 (dk_at dksJ3_compareTo_2_0 20 rfl rfl)
theorem dJ3_compareTo_2_23 : decode cJ3_compareTo_2 23 = .ok (.if_acmp .eq 11, 3) := dk_165 0 11 (dk_at dksJ3_compareTo_2_1 0 rfl rfl)
theorem dJ3_compareTo_2_26 : decode cJ3_compareTo_2 26 = .ok (.new 36, 3) := dk_187 0 36 (dk_at dksJ3_compareTo_2_1 3 rfl rfl)
theorem dJ3_compareTo_2_29 : decode cJ3_compareTo_2 29 = .ok (.dup, 1) := dk_89 (dk_at dksJ3_compareTo_2_1 6 rfl rfl)
theorem dJ3_compareTo_2_30 : decode cJ3_compareTo_2 30 = .ok (.invokespecial 38, 3) := dk_183 0 38 (dk_at dksJ3_compareTo_2_1 7 rfl rfl)
theorem dJ3_compareTo_2_33 : decode cJ3_compareTo_2 33 = .ok (.athrow, 1) := dk_191 (dk_at dksJ3_compareTo_2_1 10 rfl rfl)
theorem dJ3_compareTo_2_34 : decode cJ3_compareTo_2 34 = .ok (.aload_n 3, 1) := dk_45 (dk_at dksJ3_compareTo_2_1 11 rfl rfl)
theorem dJ3_compareTo_2_35 : decode cJ3_compareTo_2 35 = .ok (.getfield 7, 3) := dk_180 0 7 (dk_at dksJ3_compareTo_2_1 12 rfl rfl)
theorem dJ3_compareTo_2_38 : decode cJ3_compareTo_2 38 = .ok (.aload_n 2, 1) := dk_44 (dk_at dksJ3_compareTo_2_1 15 rfl rfl)
theorem dJ3_compareTo_2_39 : decode cJ3_compareTo_2 39 = .ok (.getfield 7, 3) := dk_180 0 7 (dk_at dksJ3_compareTo_2_1 16 rfl rfl)
theorem dJ3_compareTo_2_42 : decode cJ3_compareTo_2 42 = .ok (.isub, 1) := dk_100 (dk_at dksJ3_compareTo_2_1 19 rfl rfl)
theorem dJ3_compareTo_2_43 : decode cJ3_compareTo_2 43 = .ok (.ireturn, 1) := dk_172 (dk_at dksJ3_compareTo_2_1 20 rfl rfl)
abbrev cJ3_getDeclaringClass : ByteArray := prog_29_method_9_code
def yJ3_getDeclaringClass : MethodName := ⟨RJ3, "getDeclaringClass", "()Ljava/lang/Class;"⟩
def dkwJ3_getDeclaringClass_0 : List UInt8 := [42, 182, 0, 29, 76, 43, 182, 0, 39, 77, 44, 18, 2, 166, 0, 7, 43, 167, 0, 4, 44, 176]
abbrev dktJ3_getDeclaringClass_0 : List UInt8 := dkwJ3_getDeclaringClass_0 ++ []
theorem dksJ3_getDeclaringClass_0 : cJ3_getDeclaringClass.data.toList.drop 0 = dktJ3_getDeclaringClass_0 := by decide +kernel
theorem dJ3_getDeclaringClass_0 : decode cJ3_getDeclaringClass 0 = .ok (.aload_n 0, 1) := dk_42 (dk_at dksJ3_getDeclaringClass_0 0 rfl rfl)
theorem dJ3_getDeclaringClass_1 : decode cJ3_getDeclaringClass 1 = .ok (.invokevirtual 29, 3) := dk_182 0 29 (dk_at dksJ3_getDeclaringClass_0 1 rfl rfl)
theorem dJ3_getDeclaringClass_4 : decode cJ3_getDeclaringClass 4 = .ok (.astore_n 1, 1) := dk_76 (dk_at dksJ3_getDeclaringClass_0 4 rfl rfl)
theorem dJ3_getDeclaringClass_5 : decode cJ3_getDeclaringClass 5 = .ok (.aload_n 1, 1) := dk_43 (dk_at dksJ3_getDeclaringClass_0 5 rfl rfl)
theorem dJ3_getDeclaringClass_6 : decode cJ3_getDeclaringClass 6 = .ok (.invokevirtual 39, 3) := dk_182 0 39 (dk_at dksJ3_getDeclaringClass_0 6 rfl rfl)
theorem dJ3_getDeclaringClass_9 : decode cJ3_getDeclaringClass 9 = .ok (.astore_n 2, 1) := dk_77 (dk_at dksJ3_getDeclaringClass_0 9 rfl rfl)
theorem dJ3_getDeclaringClass_10 : decode cJ3_getDeclaringClass 10 = .ok (.aload_n 2, 1) := dk_44 (dk_at dksJ3_getDeclaringClass_0 10 rfl rfl)
theorem dJ3_getDeclaringClass_11 : decode cJ3_getDeclaringClass 11 = .ok (.ldc 2, 2) := dk_18 2 (dk_at dksJ3_getDeclaringClass_0 11 rfl rfl)
theorem dJ3_getDeclaringClass_13 : decode cJ3_getDeclaringClass 13 = .ok (.if_acmp .ne 7, 3) := dk_166 0 7 (dk_at dksJ3_getDeclaringClass_0 13 rfl rfl)
theorem dJ3_getDeclaringClass_16 : decode cJ3_getDeclaringClass 16 = .ok (.aload_n 1, 1) := dk_43 (dk_at dksJ3_getDeclaringClass_0 16 rfl rfl)
theorem dJ3_getDeclaringClass_17 : decode cJ3_getDeclaringClass 17 = .ok (.goto 4, 3) := dk_167 0 4 (dk_at dksJ3_getDeclaringClass_0 17 rfl rfl)
theorem dJ3_getDeclaringClass_20 : decode cJ3_getDeclaringClass 20 = .ok (.aload_n 2, 1) := dk_44 (dk_at dksJ3_getDeclaringClass_0 20 rfl rfl)
theorem dJ3_getDeclaringClass_21 : decode cJ3_getDeclaringClass 21 = .ok (.areturn, 1) := dk_176 (dk_at dksJ3_getDeclaringClass_0 21 rfl rfl)
theorem q82 : (Jvm.Cond.initialized "java/lang/Enum") ∈ lw_all := lw_g (lw_at lw_m1 5 rfl) rfl
theorem q1232 : (Jvm.Cond.instanceMethod ({ cls := "java/lang/Enum", name := "compareTo", desc := "(Ljava/lang/Object;)I" } : Jvm.MethodName)) ∈ lw_all := lw_g (lw_at lw_m5 195 rfl) rfl
theorem q1233 : (Jvm.Cond.publicMethod ({ cls := "java/lang/Enum", name := "compareTo", desc := "(Ljava/lang/Object;)I" } : Jvm.MethodName)) ∈ lw_tbl := lw_at lw_m5 196 rfl
theorem q1234 : (Jvm.Cond.code ({ cls := "java/lang/Enum", name := "compareTo", desc := "(Ljava/lang/Object;)I" } : Jvm.MethodName) prog_29_method_15_code (2 : Nat) (Option.some Jvm.ClassFile.FieldType.int)) ∈ lw_all := lw_g (lw_at lw_m5 197 rfl) rfl
theorem q1235 : (Jvm.Cond.classLink "java/lang/Enum" (2 : Nat) "java/lang/Enum") ∈ lw_all := lw_g (lw_at lw_m5 198 rfl) rfl
theorem q1236 : (Jvm.Cond.methodLink "java/lang/Enum" (101 : Nat) ({ cls := "java/lang/Enum", name := "compareTo", desc := "(Ljava/lang/Enum;)I" } : Jvm.MethodName)) ∈ lw_all := lw_g (lw_at lw_m5 199 rfl) rfl
theorem q1237 : (Jvm.Cond.instanceMethod ({ cls := "java/lang/Enum", name := "compareTo", desc := "(Ljava/lang/Enum;)I" } : Jvm.MethodName)) ∈ lw_all := lw_g (lw_at lw_m5 200 rfl) rfl
theorem q1238 : (Jvm.Cond.sameMethod "java/lang/Enum" "java/lang/Enum" "compareTo" "(Ljava/lang/Enum;)I") ∈ lw_all := lw_g (lw_at lw_m5 201 rfl) rfl
theorem q1243 : (Jvm.Cond.code ({ cls := "java/lang/Enum", name := "compareTo", desc := "(Ljava/lang/Enum;)I" } : Jvm.MethodName) prog_29_method_8_code (4 : Nat) (Option.some Jvm.ClassFile.FieldType.int)) ∈ lw_all := lw_g (lw_at lw_m5 206 rfl) rfl
theorem q1244 : (Jvm.Cond.methodLink "java/lang/Enum" (29 : Nat) ({ cls := "java/lang/Object", name := "getClass", desc := "()Ljava/lang/Class;" } : Jvm.MethodName)) ∈ lw_all := lw_g (lw_at lw_m5 207 rfl) rfl
theorem q1245 : (Jvm.Cond.methodLink "java/lang/Enum" (33 : Nat) ({ cls := "java/lang/Enum", name := "getDeclaringClass", desc := "()Ljava/lang/Class;" } : Jvm.MethodName)) ∈ lw_all := lw_g (lw_at lw_m5 208 rfl) rfl
theorem q1246 : (Jvm.Cond.instanceMethod ({ cls := "java/lang/Enum", name := "getDeclaringClass", desc := "()Ljava/lang/Class;" } : Jvm.MethodName)) ∈ lw_all := lw_g (lw_at lw_m5 209 rfl) rfl
theorem q1247 : (Jvm.Cond.sameMethod "java/lang/Enum" "java/lang/Enum" "getDeclaringClass" "()Ljava/lang/Class;") ∈ lw_all := lw_g (lw_at lw_m5 210 rfl) rfl
theorem q1252 : (Jvm.Cond.code ({ cls := "java/lang/Enum", name := "getDeclaringClass", desc := "()Ljava/lang/Class;" } : Jvm.MethodName) prog_29_method_9_code (3 : Nat) (Option.some (Jvm.ClassFile.FieldType.object "java/lang/Class"))) ∈ lw_all := lw_g (lw_at lw_m5 215 rfl) rfl
theorem q2807 : (Jvm.Cond.fieldLink "java/lang/Enum" (7 : Nat) "java/lang/Enum" "ordinal" "I") ∈ lw_all := lw_g (lw_at lw_m12 90 rfl) rfl
/-! java/lang/Throwable -/
set_option maxRecDepth 100000
def RJ4 : String := "java/lang/Throwable"
def TJ4 : u_T := fun k => match k with
  | 0 => ("java/lang/Throwable", "cause", "Ljava/lang/Throwable;", false)
  | 1 => ("java/lang/Throwable", "stackTrace", "[Ljava/lang/StackTraceElement;", false)
  | 2 => ("java/lang/Throwable", "suppressedExceptions", "Ljava/util/List;", false)
  | 3 => ("java/lang/Throwable", "detailMessage", "Ljava/lang/String;", false)
  | _ => ("java/lang/Throwable", "backtrace", "Ljava/lang/Object;", false)
def tyJ4 : Nat → FieldType := fun k => match k with
  | 0 => .object "java/lang/Throwable"
  | 1 => .array (.object "java/lang/StackTraceElement")
  | 2 => .object "java/util/List"
  | 3 => .object "java/lang/String"
  | _ => .object "java/lang/Object"
abbrev wsJ40 : List Cond := u_ws RJ4 TJ4 5
theorem nmJ4 : ∀ a, a < 5 → ∀ b, b < 5 → a ≠ b → (TJ4 a).2.1 ≠ (TJ4 b).2.1 := by decide +kernel
theorem tyJ4_ok : ∀ k, k < 5 → parseFieldDescriptor (TJ4 k).2.2.1 = some (tyJ4 k) := by decide +kernel
abbrev cJ4_init : ByteArray := prog_45_method_1_code
def yJ4_init : MethodName := ⟨RJ4, "<init>", "()V"⟩
def dkwJ4_init_1 : List UInt8 := [182, 0, 27, 87, 177]
abbrev dktJ4_init_1 : List UInt8 := dkwJ4_init_1 ++ []
def dkwJ4_init_0 : List UInt8 := [42, 183, 0, 1, 42, 42, 181, 0, 7, 42, 178, 0, 13, 181, 0, 17, 42, 178, 0, 20, 181, 0, 24, 42]
abbrev dktJ4_init_0 : List UInt8 := dkwJ4_init_0 ++ dktJ4_init_1
theorem dksJ4_init_0 : cJ4_init.data.toList.drop 0 = dktJ4_init_0 := by decide +kernel
theorem dksJ4_init_1 : cJ4_init.data.toList.drop 24 = dktJ4_init_1 := dk_seg dksJ4_init_0 24 rfl rfl
theorem dJ4_init_0 : decode cJ4_init 0 = .ok (.aload_n 0, 1) := dk_42 (dk_at dksJ4_init_0 0 rfl rfl)
theorem dJ4_init_1 : decode cJ4_init 1 = .ok (.invokespecial 1, 3) := dk_183 0 1 (dk_at dksJ4_init_0 1 rfl rfl)
theorem dJ4_init_4 : decode cJ4_init 4 = .ok (.aload_n 0, 1) := dk_42 (dk_at dksJ4_init_0 4 rfl rfl)
theorem dJ4_init_5 : decode cJ4_init 5 = .ok (.aload_n 0, 1) := dk_42 (dk_at dksJ4_init_0 5 rfl rfl)
theorem dJ4_init_6 : decode cJ4_init 6 = .ok (.putfield 7, 3) := dk_181 0 7 (dk_at dksJ4_init_0 6 rfl rfl)
theorem dJ4_init_9 : decode cJ4_init 9 = .ok (.aload_n 0, 1) := dk_42 (dk_at dksJ4_init_0 9 rfl rfl)
theorem dJ4_init_10 : decode cJ4_init 10 = .ok (.getstatic 13, 3) := dk_178 0 13 (dk_at dksJ4_init_0 10 rfl rfl)
theorem dJ4_init_13 : decode cJ4_init 13 = .ok (.putfield 17, 3) := dk_181 0 17 (dk_at dksJ4_init_0 13 rfl rfl)
theorem dJ4_init_16 : decode cJ4_init 16 = .ok (.aload_n 0, 1) := dk_42 (dk_at dksJ4_init_0 16 rfl rfl)
theorem dJ4_init_17 : decode cJ4_init 17 = .ok (.getstatic 20, 3) := dk_178 0 20 (dk_at dksJ4_init_0 17 rfl rfl)
theorem dJ4_init_20 : decode cJ4_init 20 = .ok (.putfield 24, 3) := dk_181 0 24 (dk_at dksJ4_init_0 20 rfl rfl)
theorem dJ4_init_23 : decode cJ4_init 23 = .ok (.aload_n 0, 1) := dk_42 (dk_at dksJ4_init_0 23 rfl rfl)
theorem dJ4_init_24 : decode cJ4_init 24 = .ok (.invokevirtual 27, 3) := dk_182 0 27 (dk_at dksJ4_init_1 0 rfl rfl)
theorem dJ4_init_27 : decode cJ4_init 27 = .ok (.pop, 1) := dk_87 (dk_at dksJ4_init_1 3 rfl rfl)
theorem dJ4_init_28 : decode cJ4_init 28 = .ok (.return_, 1) := dk_177 (dk_at dksJ4_init_1 4 rfl rfl)
abbrev cJ4_init_2 : ByteArray := prog_45_method_5_code
def yJ4_init_2 : MethodName := ⟨RJ4, "<init>", "(Ljava/lang/String;Ljava/lang/Throwable;ZZ)V"⟩
def dkwJ4_init_2_2 : List UInt8 := [44, 181, 0, 7, 29, 154, 0, 8, 42, 1, 181, 0, 24, 177]
abbrev dktJ4_init_2_2 : List UInt8 := dkwJ4_init_2_2 ++ []
def dkwJ4_init_2_1 : List UInt8 := [21, 4, 153, 0, 11, 42, 182, 0, 27, 87, 167, 0, 8, 42, 1, 181, 0, 17, 42, 43, 181, 0, 31, 42]
abbrev dktJ4_init_2_1 : List UInt8 := dkwJ4_init_2_1 ++ dktJ4_init_2_2
def dkwJ4_init_2_0 : List UInt8 := [42, 183, 0, 1, 42, 42, 181, 0, 7, 42, 178, 0, 13, 181, 0, 17, 42, 178, 0, 20, 181, 0, 24]
abbrev dktJ4_init_2_0 : List UInt8 := dkwJ4_init_2_0 ++ dktJ4_init_2_1
theorem dksJ4_init_2_0 : cJ4_init_2.data.toList.drop 0 = dktJ4_init_2_0 := by decide +kernel
theorem dksJ4_init_2_1 : cJ4_init_2.data.toList.drop 23 = dktJ4_init_2_1 := dk_seg dksJ4_init_2_0 23 rfl rfl
theorem dksJ4_init_2_2 : cJ4_init_2.data.toList.drop 47 = dktJ4_init_2_2 := dk_seg dksJ4_init_2_1 24 rfl rfl
theorem dJ4_init_2_0 : decode cJ4_init_2 0 = .ok (.aload_n 0, 1) := dk_42 (dk_at dksJ4_init_2_0 0 rfl rfl)
theorem dJ4_init_2_1 : decode cJ4_init_2 1 = .ok (.invokespecial 1, 3) := dk_183 0 1 (dk_at dksJ4_init_2_0 1 rfl rfl)
theorem dJ4_init_2_4 : decode cJ4_init_2 4 = .ok (.aload_n 0, 1) := dk_42 (dk_at dksJ4_init_2_0 4 rfl rfl)
theorem dJ4_init_2_5 : decode cJ4_init_2 5 = .ok (.aload_n 0, 1) := dk_42 (dk_at dksJ4_init_2_0 5 rfl rfl)
theorem dJ4_init_2_6 : decode cJ4_init_2 6 = .ok (.putfield 7, 3) := dk_181 0 7 (dk_at dksJ4_init_2_0 6 rfl rfl)
theorem dJ4_init_2_9 : decode cJ4_init_2 9 = .ok (.aload_n 0, 1) := dk_42 (dk_at dksJ4_init_2_0 9 rfl rfl)
theorem dJ4_init_2_10 : decode cJ4_init_2 10 = .ok (.getstatic 13, 3) := dk_178 0 13 (dk_at dksJ4_init_2_0 10 rfl rfl)
theorem dJ4_init_2_13 : decode cJ4_init_2 13 = .ok (.putfield 17, 3) := dk_181 0 17 (dk_at dksJ4_init_2_0 13 rfl rfl)
theorem dJ4_init_2_16 : decode cJ4_init_2 16 = .ok (.aload_n 0, 1) := dk_42 (dk_at dksJ4_init_2_0 16 rfl rfl)
theorem dJ4_init_2_17 : decode cJ4_init_2 17 = .ok (.getstatic 20, 3) := dk_178 0 20 (dk_at dksJ4_init_2_0 17 rfl rfl)
theorem dJ4_init_2_20 : decode cJ4_init_2 20 = .ok (.putfield 24, 3) := dk_181 0 24 (dk_at dksJ4_init_2_0 20 rfl rfl)
theorem dJ4_init_2_23 : decode cJ4_init_2 23 = .ok (.iload 4, 2) := dk_21 4 (dk_at dksJ4_init_2_1 0 rfl rfl)
theorem dJ4_init_2_25 : decode cJ4_init_2 25 = .ok (.ifCond .eq 11, 3) := dk_153 0 11 (dk_at dksJ4_init_2_1 2 rfl rfl)
theorem dJ4_init_2_28 : decode cJ4_init_2 28 = .ok (.aload_n 0, 1) := dk_42 (dk_at dksJ4_init_2_1 5 rfl rfl)
theorem dJ4_init_2_29 : decode cJ4_init_2 29 = .ok (.invokevirtual 27, 3) := dk_182 0 27 (dk_at dksJ4_init_2_1 6 rfl rfl)
theorem dJ4_init_2_32 : decode cJ4_init_2 32 = .ok (.pop, 1) := dk_87 (dk_at dksJ4_init_2_1 9 rfl rfl)
theorem dJ4_init_2_33 : decode cJ4_init_2 33 = .ok (.goto 8, 3) := dk_167 0 8 (dk_at dksJ4_init_2_1 10 rfl rfl)
theorem dJ4_init_2_36 : decode cJ4_init_2 36 = .ok (.aload_n 0, 1) := dk_42 (dk_at dksJ4_init_2_1 13 rfl rfl)
theorem dJ4_init_2_37 : decode cJ4_init_2 37 = .ok (.aconst_null, 1) := dk_1 (dk_at dksJ4_init_2_1 14 rfl rfl)
theorem dJ4_init_2_38 : decode cJ4_init_2 38 = .ok (.putfield 17, 3) := dk_181 0 17 (dk_at dksJ4_init_2_1 15 rfl rfl)
theorem dJ4_init_2_41 : decode cJ4_init_2 41 = .ok (.aload_n 0, 1) := dk_42 (dk_at dksJ4_init_2_1 18 rfl rfl)
theorem dJ4_init_2_42 : decode cJ4_init_2 42 = .ok (.aload_n 1, 1) := dk_43 (dk_at dksJ4_init_2_1 19 rfl rfl)
theorem dJ4_init_2_43 : decode cJ4_init_2 43 = .ok (.putfield 31, 3) := dk_181 0 31 (dk_at dksJ4_init_2_1 20 rfl rfl)
theorem dJ4_init_2_46 : decode cJ4_init_2 46 = .ok (.aload_n 0, 1) := dk_42 (dk_at dksJ4_init_2_1 23 rfl rfl)
theorem dJ4_init_2_47 : decode cJ4_init_2 47 = .ok (.aload_n 2, 1) := dk_44 (dk_at dksJ4_init_2_2 0 rfl rfl)
theorem dJ4_init_2_48 : decode cJ4_init_2 48 = .ok (.putfield 7, 3) := dk_181 0 7 (dk_at dksJ4_init_2_2 1 rfl rfl)
theorem dJ4_init_2_51 : decode cJ4_init_2 51 = .ok (.iload_n 3, 1) := dk_29 (dk_at dksJ4_init_2_2 4 rfl rfl)
theorem dJ4_init_2_52 : decode cJ4_init_2 52 = .ok (.ifCond .ne 8, 3) := dk_154 0 8 (dk_at dksJ4_init_2_2 5 rfl rfl)
theorem dJ4_init_2_55 : decode cJ4_init_2 55 = .ok (.aload_n 0, 1) := dk_42 (dk_at dksJ4_init_2_2 8 rfl rfl)
theorem dJ4_init_2_56 : decode cJ4_init_2 56 = .ok (.aconst_null, 1) := dk_1 (dk_at dksJ4_init_2_2 9 rfl rfl)
theorem dJ4_init_2_57 : decode cJ4_init_2 57 = .ok (.putfield 24, 3) := dk_181 0 24 (dk_at dksJ4_init_2_2 10 rfl rfl)
theorem dJ4_init_2_60 : decode cJ4_init_2 60 = .ok (.return_, 1) := dk_177 (dk_at dksJ4_init_2_2 13 rfl rfl)
abbrev cJ4_init_3 : ByteArray := prog_45_method_2_code
def yJ4_init_3 : MethodName := ⟨RJ4, "<init>", "(Ljava/lang/String;)V"⟩
def dkwJ4_init_3_1 : List UInt8 := [182, 0, 27, 87, 42, 43, 181, 0, 31, 177]
abbrev dktJ4_init_3_1 : List UInt8 := dkwJ4_init_3_1 ++ []
def dkwJ4_init_3_0 : List UInt8 := [42, 183, 0, 1, 42, 42, 181, 0, 7, 42, 178, 0, 13, 181, 0, 17, 42, 178, 0, 20, 181, 0, 24, 42]
abbrev dktJ4_init_3_0 : List UInt8 := dkwJ4_init_3_0 ++ dktJ4_init_3_1
theorem dksJ4_init_3_0 : cJ4_init_3.data.toList.drop 0 = dktJ4_init_3_0 := by decide +kernel
theorem dksJ4_init_3_1 : cJ4_init_3.data.toList.drop 24 = dktJ4_init_3_1 := dk_seg dksJ4_init_3_0 24 rfl rfl
theorem dJ4_init_3_0 : decode cJ4_init_3 0 = .ok (.aload_n 0, 1) := dk_42 (dk_at dksJ4_init_3_0 0 rfl rfl)
theorem dJ4_init_3_1 : decode cJ4_init_3 1 = .ok (.invokespecial 1, 3) := dk_183 0 1 (dk_at dksJ4_init_3_0 1 rfl rfl)
theorem dJ4_init_3_4 : decode cJ4_init_3 4 = .ok (.aload_n 0, 1) := dk_42 (dk_at dksJ4_init_3_0 4 rfl rfl)
theorem dJ4_init_3_5 : decode cJ4_init_3 5 = .ok (.aload_n 0, 1) := dk_42 (dk_at dksJ4_init_3_0 5 rfl rfl)
theorem dJ4_init_3_6 : decode cJ4_init_3 6 = .ok (.putfield 7, 3) := dk_181 0 7 (dk_at dksJ4_init_3_0 6 rfl rfl)
theorem dJ4_init_3_9 : decode cJ4_init_3 9 = .ok (.aload_n 0, 1) := dk_42 (dk_at dksJ4_init_3_0 9 rfl rfl)
theorem dJ4_init_3_10 : decode cJ4_init_3 10 = .ok (.getstatic 13, 3) := dk_178 0 13 (dk_at dksJ4_init_3_0 10 rfl rfl)
theorem dJ4_init_3_13 : decode cJ4_init_3 13 = .ok (.putfield 17, 3) := dk_181 0 17 (dk_at dksJ4_init_3_0 13 rfl rfl)
theorem dJ4_init_3_16 : decode cJ4_init_3 16 = .ok (.aload_n 0, 1) := dk_42 (dk_at dksJ4_init_3_0 16 rfl rfl)
theorem dJ4_init_3_17 : decode cJ4_init_3 17 = .ok (.getstatic 20, 3) := dk_178 0 20 (dk_at dksJ4_init_3_0 17 rfl rfl)
theorem dJ4_init_3_20 : decode cJ4_init_3 20 = .ok (.putfield 24, 3) := dk_181 0 24 (dk_at dksJ4_init_3_0 20 rfl rfl)
theorem dJ4_init_3_23 : decode cJ4_init_3 23 = .ok (.aload_n 0, 1) := dk_42 (dk_at dksJ4_init_3_0 23 rfl rfl)
theorem dJ4_init_3_24 : decode cJ4_init_3 24 = .ok (.invokevirtual 27, 3) := dk_182 0 27 (dk_at dksJ4_init_3_1 0 rfl rfl)
theorem dJ4_init_3_27 : decode cJ4_init_3 27 = .ok (.pop, 1) := dk_87 (dk_at dksJ4_init_3_1 3 rfl rfl)
theorem dJ4_init_3_28 : decode cJ4_init_3 28 = .ok (.aload_n 0, 1) := dk_42 (dk_at dksJ4_init_3_1 4 rfl rfl)
theorem dJ4_init_3_29 : decode cJ4_init_3 29 = .ok (.aload_n 1, 1) := dk_43 (dk_at dksJ4_init_3_1 5 rfl rfl)
theorem dJ4_init_3_30 : decode cJ4_init_3 30 = .ok (.putfield 31, 3) := dk_181 0 31 (dk_at dksJ4_init_3_1 6 rfl rfl)
theorem dJ4_init_3_33 : decode cJ4_init_3 33 = .ok (.return_, 1) := dk_177 (dk_at dksJ4_init_3_1 9 rfl rfl)
theorem q87 : (Jvm.Cond.initialized "java/lang/Throwable") ∈ lw_all := lw_g (lw_at lw_m1 10 rfl) rfl
theorem q298 : (Jvm.Cond.declares ({ cls := "java/lang/Throwable", name := "<init>", desc := "()V" } : Jvm.MethodName)) ∈ lw_tbl := lw_at lw_m1 221 rfl
theorem q299 : (Jvm.Cond.declares ({ cls := "java/lang/Throwable", name := "<init>", desc := "(Ljava/lang/String;)V" } : Jvm.MethodName)) ∈ lw_tbl := lw_at lw_m1 222 rfl
theorem q303 : (Jvm.Cond.lays "java/lang/Throwable" "java/lang/Throwable" "cause" "Ljava/lang/Throwable;") ∈ lw_all := lw_g (lw_at lw_m1 226 rfl) rfl
theorem q305 : (Jvm.Cond.lays "java/lang/Throwable" "java/lang/Throwable" "stackTrace" "[Ljava/lang/StackTraceElement;") ∈ lw_all := lw_g (lw_at lw_m1 228 rfl) rfl
theorem q307 : (Jvm.Cond.lays "java/lang/Throwable" "java/lang/Throwable" "suppressedExceptions" "Ljava/util/List;") ∈ lw_all := lw_g (lw_at lw_m1 230 rfl) rfl
theorem q309 : (Jvm.Cond.lays "java/lang/Throwable" "java/lang/Throwable" "detailMessage" "Ljava/lang/String;") ∈ lw_all := lw_g (lw_at lw_m1 232 rfl) rfl
theorem q311 : (Jvm.Cond.lays "java/lang/Throwable" "java/lang/Throwable" "backtrace" "Ljava/lang/Object;") ∈ lw_all := lw_g (lw_at lw_m1 234 rfl) rfl
theorem q312 : (Jvm.Cond.fieldLink "java/lang/Throwable" (198 : Nat) "java/lang/Throwable" "backtrace" "Ljava/lang/Object;") ∈ lw_all := lw_g (lw_at lw_m1 235 rfl) rfl
theorem q313 : (Jvm.Cond.superclass "java/lang/Throwable" "java/lang/Object") ∈ lw_all := lw_g (lw_at lw_m1 236 rfl) rfl
theorem q314 : (Jvm.Cond.instanceMethod ({ cls := "java/lang/Throwable", name := "<init>", desc := "()V" } : Jvm.MethodName)) ∈ lw_all := lw_g (lw_at lw_m1 237 rfl) rfl
theorem q315 : (Jvm.Cond.code ({ cls := "java/lang/Throwable", name := "<init>", desc := "()V" } : Jvm.MethodName) prog_45_method_1_code (1 : Nat) (Option.none : Option Jvm.ClassFile.FieldType)) ∈ lw_all := lw_g (lw_at lw_m1 238 rfl) rfl
theorem q316 : (Jvm.Cond.methodLink "java/lang/Throwable" (1 : Nat) ({ cls := "java/lang/Object", name := "<init>", desc := "()V" } : Jvm.MethodName)) ∈ lw_all := lw_g (lw_at lw_m1 239 rfl) rfl
theorem q317 : (Jvm.Cond.fieldLink "java/lang/Throwable" (13 : Nat) "java/lang/Throwable" "UNASSIGNED_STACK" "[Ljava/lang/StackTraceElement;") ∈ lw_all := lw_g (lw_at lw_m2 0 rfl) rfl
theorem q318 : (Jvm.Cond.laysStatic "java/lang/Throwable" "UNASSIGNED_STACK" "[Ljava/lang/StackTraceElement;") ∈ lw_tbl := lw_at lw_m2 1 rfl
theorem q319 : (Jvm.Cond.fieldLink "java/lang/Throwable" (20 : Nat) "java/lang/Throwable" "SUPPRESSED_SENTINEL" "Ljava/util/List;") ∈ lw_all := lw_g (lw_at lw_m2 2 rfl) rfl
theorem q320 : (Jvm.Cond.laysStatic "java/lang/Throwable" "SUPPRESSED_SENTINEL" "Ljava/util/List;") ∈ lw_tbl := lw_at lw_m2 3 rfl
theorem q321 : (Jvm.Cond.methodLink "java/lang/Throwable" (27 : Nat) ({ cls := "java/lang/Throwable", name := "fillInStackTrace", desc := "()Ljava/lang/Throwable;" } : Jvm.MethodName)) ∈ lw_all := lw_g (lw_at lw_m2 4 rfl) rfl
theorem q322 : (Jvm.Cond.instanceMethod ({ cls := "java/lang/Throwable", name := "fillInStackTrace", desc := "()Ljava/lang/Throwable;" } : Jvm.MethodName)) ∈ lw_all := lw_g (lw_at lw_m2 5 rfl) rfl
theorem q323 : (Jvm.Cond.sameMethod "java/lang/Throwable" "java/lang/Throwable" "fillInStackTrace" "()Ljava/lang/Throwable;") ∈ lw_all := lw_g (lw_at lw_m2 6 rfl) rfl
theorem q336 : (Jvm.Cond.declares ({ cls := "java/lang/Throwable", name := "fillInStackTrace", desc := "()Ljava/lang/Throwable;" } : Jvm.MethodName)) ∈ lw_tbl := lw_at lw_m2 19 rfl
theorem q340 : (Jvm.Cond.codeSync ({ cls := "java/lang/Throwable", name := "fillInStackTrace", desc := "()Ljava/lang/Throwable;" } : Jvm.MethodName) prog_45_method_18_code (1 : Nat) (Option.some (Jvm.ClassFile.FieldType.object "java/lang/Throwable"))) ∈ lw_all := lw_g (lw_at lw_m2 23 rfl) rfl
theorem q341 : (Jvm.Cond.methodLink "java/lang/Throwable" (202 : Nat) ({ cls := "java/lang/Throwable", name := "fillInStackTrace", desc := "(I)Ljava/lang/Throwable;" } : Jvm.MethodName)) ∈ lw_all := lw_g (lw_at lw_m2 24 rfl) rfl
theorem q342 : (Jvm.Cond.privateMethod ({ cls := "java/lang/Throwable", name := "fillInStackTrace", desc := "(I)Ljava/lang/Throwable;" } : Jvm.MethodName)) ∈ lw_tbl := lw_at lw_m2 25 rfl
theorem q343 : (Jvm.Cond.instanceMethod ({ cls := "java/lang/Throwable", name := "fillInStackTrace", desc := "(I)Ljava/lang/Throwable;" } : Jvm.MethodName)) ∈ lw_all := lw_g (lw_at lw_m2 26 rfl) rfl
theorem q344 : (Jvm.Cond.instantiable "java/lang/Throwable" (6 : Nat)) ∈ lw_all := lw_g (lw_at lw_m2 27 rfl) rfl
theorem q345 : (Jvm.Cond.native ({ cls := "java/lang/Throwable", name := "fillInStackTrace", desc := "(I)Ljava/lang/Throwable;" } : Jvm.MethodName)) ∈ lw_all := lw_g (lw_at lw_m2 28 rfl) rfl
theorem q353 : (Jvm.Cond.instanceMethod ({ cls := "java/lang/Throwable", name := "<init>", desc := "(Ljava/lang/String;Ljava/lang/Throwable;ZZ)V" } : Jvm.MethodName)) ∈ lw_all := lw_g (lw_at lw_m2 36 rfl) rfl
theorem q354 : (Jvm.Cond.code ({ cls := "java/lang/Throwable", name := "<init>", desc := "(Ljava/lang/String;Ljava/lang/Throwable;ZZ)V" } : Jvm.MethodName) prog_45_method_5_code (5 : Nat) (Option.none : Option Jvm.ClassFile.FieldType)) ∈ lw_all := lw_g (lw_at lw_m2 37 rfl) rfl
theorem q357 : (Jvm.Cond.fieldLink "java/lang/Throwable" (198 : Nat) "java/lang/Throwable" "backtrace" "Ljava/lang/Object;") ∈ lw_all := lw_g (lw_at lw_m2 40 rfl) rfl
theorem q358 : (Jvm.Cond.fieldLink "java/lang/Throwable" (31 : Nat) "java/lang/Throwable" "detailMessage" "Ljava/lang/String;") ∈ lw_all := lw_g (lw_at lw_m2 41 rfl) rfl
theorem q359 : (Jvm.Cond.fieldLink "java/lang/Throwable" (7 : Nat) "java/lang/Throwable" "cause" "Ljava/lang/Throwable;") ∈ lw_all := lw_g (lw_at lw_m2 42 rfl) rfl
theorem q360 : (Jvm.Cond.fieldLink "java/lang/Throwable" (17 : Nat) "java/lang/Throwable" "stackTrace" "[Ljava/lang/StackTraceElement;") ∈ lw_all := lw_g (lw_at lw_m2 43 rfl) rfl
theorem q361 : (Jvm.Cond.fieldLink "java/lang/Throwable" (24 : Nat) "java/lang/Throwable" "suppressedExceptions" "Ljava/util/List;") ∈ lw_all := lw_g (lw_at lw_m2 44 rfl) rfl
theorem q364 : (Jvm.Cond.soleField "java/lang/Throwable" "backtrace") ∈ lw_all := lw_g (lw_at lw_m2 47 rfl) rfl
theorem q365 : (Jvm.Cond.soleField "java/lang/Throwable" "detailMessage") ∈ lw_all := lw_g (lw_at lw_m2 48 rfl) rfl
theorem q366 : (Jvm.Cond.soleField "java/lang/Throwable" "cause") ∈ lw_all := lw_g (lw_at lw_m2 49 rfl) rfl
theorem q367 : (Jvm.Cond.soleField "java/lang/Throwable" "stackTrace") ∈ lw_all := lw_g (lw_at lw_m2 50 rfl) rfl
theorem q369 : (Jvm.Cond.soleField "java/lang/Throwable" "depth") ∈ lw_all := lw_g (lw_at lw_m2 52 rfl) rfl
theorem q370 : (Jvm.Cond.soleField "java/lang/Throwable" "suppressedExceptions") ∈ lw_all := lw_g (lw_at lw_m2 53 rfl) rfl
theorem q2243 : (Jvm.Cond.instanceMethod ({ cls := "java/lang/Throwable", name := "<init>", desc := "(Ljava/lang/String;)V" } : Jvm.MethodName)) ∈ lw_all := lw_g (lw_at lw_m10 6 rfl) rfl
theorem q2244 : (Jvm.Cond.code ({ cls := "java/lang/Throwable", name := "<init>", desc := "(Ljava/lang/String;)V" } : Jvm.MethodName) prog_45_method_2_code (2 : Nat) (Option.none : Option Jvm.ClassFile.FieldType)) ∈ lw_all := lw_g (lw_at lw_m10 7 rfl) rfl
theorem q2735 : (Jvm.Cond.sameMethod "java/lang/Throwable" "java/lang/Throwable" "fillInStackTrace" "(I)Ljava/lang/Throwable;") ∈ lw_all := lw_g (lw_at lw_m12 18 rfl) rfl
theorem q2787 : (Jvm.Cond.castable "java/lang/Throwable" "java/lang/Object") ∈ lw_tbl := lw_at lw_m12 70 rfl
theorem in_J4 : ∀ w ∈ wsJ40, w ∈ lw_all := lw_in wsJ40 [303, 305, 307, 309, 311] (by decide +kernel) (by decide +kernel)
/-! java/lang/Exception -/
set_option maxRecDepth 100000
def RJ5 : String := "java/lang/Exception"
abbrev cJ5_init : ByteArray := prog_30_method_5_code
def yJ5_init : MethodName := ⟨RJ5, "<init>", "(Ljava/lang/String;Ljava/lang/Throwable;ZZ)V"⟩
def dkwJ5_init_0 : List UInt8 := [42, 43, 44, 29, 21, 4, 183, 0, 16, 177]
abbrev dktJ5_init_0 : List UInt8 := dkwJ5_init_0 ++ []
theorem dksJ5_init_0 : cJ5_init.data.toList.drop 0 = dktJ5_init_0 := by decide +kernel
theorem dJ5_init_0 : decode cJ5_init 0 = .ok (.aload_n 0, 1) := dk_42 (dk_at dksJ5_init_0 0 rfl rfl)
theorem dJ5_init_1 : decode cJ5_init 1 = .ok (.aload_n 1, 1) := dk_43 (dk_at dksJ5_init_0 1 rfl rfl)
theorem dJ5_init_2 : decode cJ5_init 2 = .ok (.aload_n 2, 1) := dk_44 (dk_at dksJ5_init_0 2 rfl rfl)
theorem dJ5_init_3 : decode cJ5_init 3 = .ok (.iload_n 3, 1) := dk_29 (dk_at dksJ5_init_0 3 rfl rfl)
theorem dJ5_init_4 : decode cJ5_init 4 = .ok (.iload 4, 2) := dk_21 4 (dk_at dksJ5_init_0 4 rfl rfl)
theorem dJ5_init_6 : decode cJ5_init 6 = .ok (.invokespecial 16, 3) := dk_183 0 16 (dk_at dksJ5_init_0 6 rfl rfl)
theorem dJ5_init_9 : decode cJ5_init 9 = .ok (.return_, 1) := dk_177 (dk_at dksJ5_init_0 9 rfl rfl)
abbrev cJ5_init_2 : ByteArray := prog_30_method_1_code
def yJ5_init_2 : MethodName := ⟨RJ5, "<init>", "()V"⟩
theorem dJ5_init_2_0 : decode cJ5_init_2 0 = .ok (.aload_n 0, 1) := by decide +kernel
theorem dJ5_init_2_1 : decode cJ5_init_2 1 = .ok (.invokespecial 1, 3) := by decide +kernel
theorem dJ5_init_2_4 : decode cJ5_init_2 4 = .ok (.return_, 1) := by decide +kernel
abbrev cJ5_init_3 : ByteArray := prog_30_method_2_code
def yJ5_init_3 : MethodName := ⟨RJ5, "<init>", "(Ljava/lang/String;)V"⟩
def dkwJ5_init_3_0 : List UInt8 := [42, 43, 183, 0, 7, 177]
abbrev dktJ5_init_3_0 : List UInt8 := dkwJ5_init_3_0 ++ []
theorem dksJ5_init_3_0 : cJ5_init_3.data.toList.drop 0 = dktJ5_init_3_0 := by decide +kernel
theorem dJ5_init_3_0 : decode cJ5_init_3 0 = .ok (.aload_n 0, 1) := dk_42 (dk_at dksJ5_init_3_0 0 rfl rfl)
theorem dJ5_init_3_1 : decode cJ5_init_3 1 = .ok (.aload_n 1, 1) := dk_43 (dk_at dksJ5_init_3_0 1 rfl rfl)
theorem dJ5_init_3_2 : decode cJ5_init_3 2 = .ok (.invokespecial 7, 3) := dk_183 0 7 (dk_at dksJ5_init_3_0 2 rfl rfl)
theorem dJ5_init_3_5 : decode cJ5_init_3 5 = .ok (.return_, 1) := dk_177 (dk_at dksJ5_init_3_0 5 rfl rfl)
theorem q88 : (Jvm.Cond.initialized "java/lang/Exception") ∈ lw_all := lw_g (lw_at lw_m1 11 rfl) rfl
theorem q296 : (Jvm.Cond.declares ({ cls := "java/lang/Exception", name := "<init>", desc := "()V" } : Jvm.MethodName)) ∈ lw_tbl := lw_at lw_m1 219 rfl
theorem q297 : (Jvm.Cond.declares ({ cls := "java/lang/Exception", name := "<init>", desc := "(Ljava/lang/String;)V" } : Jvm.MethodName)) ∈ lw_tbl := lw_at lw_m1 220 rfl
theorem q339 : (Jvm.Cond.superclass "java/lang/Exception" "java/lang/Throwable") ∈ lw_all := lw_g (lw_at lw_m2 22 rfl) rfl
theorem q350 : (Jvm.Cond.instanceMethod ({ cls := "java/lang/Exception", name := "<init>", desc := "(Ljava/lang/String;Ljava/lang/Throwable;ZZ)V" } : Jvm.MethodName)) ∈ lw_all := lw_g (lw_at lw_m2 33 rfl) rfl
theorem q351 : (Jvm.Cond.code ({ cls := "java/lang/Exception", name := "<init>", desc := "(Ljava/lang/String;Ljava/lang/Throwable;ZZ)V" } : Jvm.MethodName) prog_30_method_5_code (5 : Nat) (Option.none : Option Jvm.ClassFile.FieldType)) ∈ lw_all := lw_g (lw_at lw_m2 34 rfl) rfl
theorem q352 : (Jvm.Cond.methodLink "java/lang/Exception" (16 : Nat) ({ cls := "java/lang/Throwable", name := "<init>", desc := "(Ljava/lang/String;Ljava/lang/Throwable;ZZ)V" } : Jvm.MethodName)) ∈ lw_all := lw_g (lw_at lw_m2 35 rfl) rfl
theorem q1160 : (Jvm.Cond.instanceMethod ({ cls := "java/lang/Exception", name := "<init>", desc := "()V" } : Jvm.MethodName)) ∈ lw_all := lw_g (lw_at lw_m5 123 rfl) rfl
theorem q1161 : (Jvm.Cond.code ({ cls := "java/lang/Exception", name := "<init>", desc := "()V" } : Jvm.MethodName) prog_30_method_1_code (1 : Nat) (Option.none : Option Jvm.ClassFile.FieldType)) ∈ lw_all := lw_g (lw_at lw_m5 124 rfl) rfl
theorem q1162 : (Jvm.Cond.methodLink "java/lang/Exception" (1 : Nat) ({ cls := "java/lang/Throwable", name := "<init>", desc := "()V" } : Jvm.MethodName)) ∈ lw_all := lw_g (lw_at lw_m5 125 rfl) rfl
theorem q2240 : (Jvm.Cond.instanceMethod ({ cls := "java/lang/Exception", name := "<init>", desc := "(Ljava/lang/String;)V" } : Jvm.MethodName)) ∈ lw_all := lw_g (lw_at lw_m10 3 rfl) rfl
theorem q2241 : (Jvm.Cond.code ({ cls := "java/lang/Exception", name := "<init>", desc := "(Ljava/lang/String;)V" } : Jvm.MethodName) prog_30_method_2_code (2 : Nat) (Option.none : Option Jvm.ClassFile.FieldType)) ∈ lw_all := lw_g (lw_at lw_m10 4 rfl) rfl
theorem q2242 : (Jvm.Cond.methodLink "java/lang/Exception" (7 : Nat) ({ cls := "java/lang/Throwable", name := "<init>", desc := "(Ljava/lang/String;)V" } : Jvm.MethodName)) ∈ lw_all := lw_g (lw_at lw_m10 5 rfl) rfl
/-! java/lang/RuntimeException -/
set_option maxRecDepth 100000
def RJ22 : String := "java/lang/RuntimeException"
abbrev cJ22_init : ByteArray := prog_39_method_1_code
def yJ22_init : MethodName := ⟨RJ22, "<init>", "()V"⟩
theorem dJ22_init_0 : decode cJ22_init 0 = .ok (.aload_n 0, 1) := by decide +kernel
theorem dJ22_init_1 : decode cJ22_init 1 = .ok (.invokespecial 1, 3) := by decide +kernel
theorem dJ22_init_4 : decode cJ22_init 4 = .ok (.return_, 1) := by decide +kernel
abbrev cJ22_init_2 : ByteArray := prog_39_method_2_code
def yJ22_init_2 : MethodName := ⟨RJ22, "<init>", "(Ljava/lang/String;)V"⟩
def dkwJ22_init_2_0 : List UInt8 := [42, 43, 183, 0, 7, 177]
abbrev dktJ22_init_2_0 : List UInt8 := dkwJ22_init_2_0 ++ []
theorem dksJ22_init_2_0 : cJ22_init_2.data.toList.drop 0 = dktJ22_init_2_0 := by decide +kernel
theorem dJ22_init_2_0 : decode cJ22_init_2 0 = .ok (.aload_n 0, 1) := dk_42 (dk_at dksJ22_init_2_0 0 rfl rfl)
theorem dJ22_init_2_1 : decode cJ22_init_2 1 = .ok (.aload_n 1, 1) := dk_43 (dk_at dksJ22_init_2_0 1 rfl rfl)
theorem dJ22_init_2_2 : decode cJ22_init_2 2 = .ok (.invokespecial 7, 3) := dk_183 0 7 (dk_at dksJ22_init_2_0 2 rfl rfl)
theorem dJ22_init_2_5 : decode cJ22_init_2 5 = .ok (.return_, 1) := dk_177 (dk_at dksJ22_init_2_0 5 rfl rfl)
theorem q112 : (Jvm.Cond.initialized "java/lang/RuntimeException") ∈ lw_all := lw_g (lw_at lw_m1 35 rfl) rfl
theorem q335 : (Jvm.Cond.sameMethod "java/lang/RuntimeException" "java/lang/Throwable" "fillInStackTrace" "()Ljava/lang/Throwable;") ∈ lw_all := lw_g (lw_at lw_m2 18 rfl) rfl
theorem q338 : (Jvm.Cond.superclass "java/lang/RuntimeException" "java/lang/Exception") ∈ lw_all := lw_g (lw_at lw_m2 21 rfl) rfl
theorem q1145 : (Jvm.Cond.declares ({ cls := "java/lang/RuntimeException", name := "<init>", desc := "()V" } : Jvm.MethodName)) ∈ lw_tbl := lw_at lw_m5 108 rfl
theorem q1146 : (Jvm.Cond.declares ({ cls := "java/lang/RuntimeException", name := "<init>", desc := "(Ljava/lang/String;)V" } : Jvm.MethodName)) ∈ lw_tbl := lw_at lw_m5 109 rfl
theorem q1157 : (Jvm.Cond.instanceMethod ({ cls := "java/lang/RuntimeException", name := "<init>", desc := "()V" } : Jvm.MethodName)) ∈ lw_all := lw_g (lw_at lw_m5 120 rfl) rfl
theorem q1158 : (Jvm.Cond.code ({ cls := "java/lang/RuntimeException", name := "<init>", desc := "()V" } : Jvm.MethodName) prog_39_method_1_code (1 : Nat) (Option.none : Option Jvm.ClassFile.FieldType)) ∈ lw_all := lw_g (lw_at lw_m5 121 rfl) rfl
theorem q1159 : (Jvm.Cond.methodLink "java/lang/RuntimeException" (1 : Nat) ({ cls := "java/lang/Exception", name := "<init>", desc := "()V" } : Jvm.MethodName)) ∈ lw_all := lw_g (lw_at lw_m5 122 rfl) rfl
theorem q2237 : (Jvm.Cond.instanceMethod ({ cls := "java/lang/RuntimeException", name := "<init>", desc := "(Ljava/lang/String;)V" } : Jvm.MethodName)) ∈ lw_all := lw_g (lw_at lw_m10 0 rfl) rfl
theorem q2238 : (Jvm.Cond.code ({ cls := "java/lang/RuntimeException", name := "<init>", desc := "(Ljava/lang/String;)V" } : Jvm.MethodName) prog_39_method_2_code (2 : Nat) (Option.none : Option Jvm.ClassFile.FieldType)) ∈ lw_all := lw_g (lw_at lw_m10 1 rfl) rfl
theorem q2239 : (Jvm.Cond.methodLink "java/lang/RuntimeException" (7 : Nat) ({ cls := "java/lang/Exception", name := "<init>", desc := "(Ljava/lang/String;)V" } : Jvm.MethodName)) ∈ lw_all := lw_g (lw_at lw_m10 2 rfl) rfl
theorem q2253 : (Jvm.Cond.castable "java/lang/RuntimeException" "java/lang/Throwable") ∈ lw_tbl := lw_at lw_m10 16 rfl
/-! java/lang/NullPointerException -/
set_option maxRecDepth 100000
def RJ23 : String := "java/lang/NullPointerException"
def TJ23 : u_T := fun k => match k with
  | 0 => ("java/lang/Throwable", "cause", "Ljava/lang/Throwable;", false)
  | 1 => ("java/lang/Throwable", "stackTrace", "[Ljava/lang/StackTraceElement;", false)
  | 2 => ("java/lang/Throwable", "suppressedExceptions", "Ljava/util/List;", false)
  | 3 => ("java/lang/Throwable", "detailMessage", "Ljava/lang/String;", false)
  | 4 => ("java/lang/Throwable", "backtrace", "Ljava/lang/Object;", false)
  | 5 => ("java/lang/Throwable", "depth", "I", false)
  | 6 => ("java/lang/NullPointerException", "extendedMessageState", "I", false)
  | _ => ("java/lang/NullPointerException", "extendedMessage", "Ljava/lang/String;", false)
def tyJ23 : Nat → FieldType := fun k => match k with
  | 0 => .object "java/lang/Throwable"
  | 1 => .array (.object "java/lang/StackTraceElement")
  | 2 => .object "java/util/List"
  | 3 => .object "java/lang/String"
  | 4 => .object "java/lang/Object"
  | 5 => .int
  | 6 => .int
  | _ => .object "java/lang/String"
abbrev wsJ230 : List Cond := u_ws RJ23 TJ23 8
theorem nmJ23 : ∀ a, a < 8 → ∀ b, b < 8 → a ≠ b → (TJ23 a).2.1 ≠ (TJ23 b).2.1 := by decide +kernel
theorem tyJ23_ok : ∀ k, k < 8 → parseFieldDescriptor (TJ23 k).2.2.1 = some (tyJ23 k) := by decide +kernel
abbrev cJ23_init : ByteArray := prog_37_method_1_code
def yJ23_init : MethodName := ⟨RJ23, "<init>", "()V"⟩
theorem dJ23_init_0 : decode cJ23_init 0 = .ok (.aload_n 0, 1) := by decide +kernel
theorem dJ23_init_1 : decode cJ23_init 1 = .ok (.invokespecial 1, 3) := by decide +kernel
theorem dJ23_init_4 : decode cJ23_init 4 = .ok (.return_, 1) := by decide +kernel
theorem q113 : (Jvm.Cond.initialized "java/lang/NullPointerException") ∈ lw_all := lw_g (lw_at lw_m1 36 rfl) rfl
theorem q326 : (Jvm.Cond.selects "java/lang/NullPointerException" ({ cls := "java/lang/Throwable", name := "fillInStackTrace", desc := "()Ljava/lang/Throwable;" } : Jvm.MethodName) ({ cls := "java/lang/NullPointerException", name := "fillInStackTrace", desc := "()Ljava/lang/Throwable;" } : Jvm.MethodName)) ∈ lw_all := lw_g (lw_at lw_m2 9 rfl) rfl
theorem q327 : (Jvm.Cond.instanceMethod ({ cls := "java/lang/NullPointerException", name := "fillInStackTrace", desc := "()Ljava/lang/Throwable;" } : Jvm.MethodName)) ∈ lw_all := lw_g (lw_at lw_m2 10 rfl) rfl
theorem q328 : (Jvm.Cond.codeSync ({ cls := "java/lang/NullPointerException", name := "fillInStackTrace", desc := "()Ljava/lang/Throwable;" } : Jvm.MethodName) prog_37_method_3_code (1 : Nat) (Option.some (Jvm.ClassFile.FieldType.object "java/lang/Throwable"))) ∈ lw_all := lw_g (lw_at lw_m2 11 rfl) rfl
theorem q329 : (Jvm.Cond.methodLink "java/lang/NullPointerException" (16 : Nat) ({ cls := "java/lang/NullPointerException", name := "getExtendedNPEMessage", desc := "()Ljava/lang/String;" } : Jvm.MethodName)) ∈ lw_all := lw_g (lw_at lw_m2 12 rfl) rfl
theorem q330 : (Jvm.Cond.privateMethod ({ cls := "java/lang/NullPointerException", name := "getExtendedNPEMessage", desc := "()Ljava/lang/String;" } : Jvm.MethodName)) ∈ lw_tbl := lw_at lw_m2 13 rfl
theorem q331 : (Jvm.Cond.instanceMethod ({ cls := "java/lang/NullPointerException", name := "getExtendedNPEMessage", desc := "()Ljava/lang/String;" } : Jvm.MethodName)) ∈ lw_all := lw_g (lw_at lw_m2 14 rfl) rfl
theorem q332 : (Jvm.Cond.instantiable "java/lang/NullPointerException" (8 : Nat)) ∈ lw_all := lw_g (lw_at lw_m2 15 rfl) rfl
theorem q333 : (Jvm.Cond.native ({ cls := "java/lang/NullPointerException", name := "getExtendedNPEMessage", desc := "()Ljava/lang/String;" } : Jvm.MethodName)) ∈ lw_all := lw_g (lw_at lw_m2 16 rfl) rfl
theorem q334 : (Jvm.Cond.methodLink "java/lang/NullPointerException" (24 : Nat) ({ cls := "java/lang/RuntimeException", name := "fillInStackTrace", desc := "()Ljava/lang/Throwable;" } : Jvm.MethodName)) ∈ lw_all := lw_g (lw_at lw_m2 17 rfl) rfl
theorem q337 : (Jvm.Cond.superclass "java/lang/NullPointerException" "java/lang/RuntimeException") ∈ lw_all := lw_g (lw_at lw_m2 20 rfl) rfl
theorem q448 : (Jvm.Cond.selects "java/lang/NullPointerException" ({ cls := "java/lang/Object", name := "getClass", desc := "()Ljava/lang/Class;" } : Jvm.MethodName) ({ cls := "java/lang/Object", name := "getClass", desc := "()Ljava/lang/Class;" } : Jvm.MethodName)) ∈ lw_all := lw_g (lw_at lw_m2 131 rfl) rfl
theorem q1144 : (Jvm.Cond.castable "java/lang/NullPointerException" "java/lang/NullPointerException") ∈ lw_tbl := lw_at lw_m5 107 rfl
theorem q1147 : (Jvm.Cond.selects "java/lang/NullPointerException" ({ cls := "java/lang/Throwable", name := "fillInStackTrace", desc := "(I)Ljava/lang/Throwable;" } : Jvm.MethodName) ({ cls := "java/lang/Throwable", name := "fillInStackTrace", desc := "(I)Ljava/lang/Throwable;" } : Jvm.MethodName)) ∈ lw_all := lw_g (lw_at lw_m5 110 rfl) rfl
theorem q1148 : (Jvm.Cond.lays "java/lang/NullPointerException" "java/lang/Throwable" "cause" "Ljava/lang/Throwable;") ∈ lw_all := lw_g (lw_at lw_m5 111 rfl) rfl
theorem q1149 : (Jvm.Cond.lays "java/lang/NullPointerException" "java/lang/Throwable" "stackTrace" "[Ljava/lang/StackTraceElement;") ∈ lw_all := lw_g (lw_at lw_m5 112 rfl) rfl
theorem q1150 : (Jvm.Cond.lays "java/lang/NullPointerException" "java/lang/Throwable" "suppressedExceptions" "Ljava/util/List;") ∈ lw_all := lw_g (lw_at lw_m5 113 rfl) rfl
theorem q1151 : (Jvm.Cond.lays "java/lang/NullPointerException" "java/lang/Throwable" "detailMessage" "Ljava/lang/String;") ∈ lw_all := lw_g (lw_at lw_m5 114 rfl) rfl
theorem q1152 : (Jvm.Cond.lays "java/lang/NullPointerException" "java/lang/Throwable" "backtrace" "Ljava/lang/Object;") ∈ lw_all := lw_g (lw_at lw_m5 115 rfl) rfl
theorem q1154 : (Jvm.Cond.instanceMethod ({ cls := "java/lang/NullPointerException", name := "<init>", desc := "()V" } : Jvm.MethodName)) ∈ lw_all := lw_g (lw_at lw_m5 117 rfl) rfl
theorem q1155 : (Jvm.Cond.code ({ cls := "java/lang/NullPointerException", name := "<init>", desc := "()V" } : Jvm.MethodName) prog_37_method_1_code (1 : Nat) (Option.none : Option Jvm.ClassFile.FieldType)) ∈ lw_all := lw_g (lw_at lw_m5 118 rfl) rfl
theorem q1156 : (Jvm.Cond.methodLink "java/lang/NullPointerException" (1 : Nat) ({ cls := "java/lang/RuntimeException", name := "<init>", desc := "()V" } : Jvm.MethodName)) ∈ lw_all := lw_g (lw_at lw_m5 119 rfl) rfl
theorem q1163 : (Jvm.Cond.fieldLink "java/lang/NullPointerException" (10 : Nat) "java/lang/NullPointerException" "extendedMessageState" "I") ∈ lw_all := lw_g (lw_at lw_m5 126 rfl) rfl
theorem q1164 : (Jvm.Cond.fieldLink "java/lang/NullPointerException" (20 : Nat) "java/lang/NullPointerException" "extendedMessage" "Ljava/lang/String;") ∈ lw_all := lw_g (lw_at lw_m5 127 rfl) rfl
theorem q1165 : (Jvm.Cond.lays "java/lang/NullPointerException" "java/lang/NullPointerException" "extendedMessageState" "I") ∈ lw_all := lw_g (lw_at lw_m5 128 rfl) rfl
theorem q1166 : (Jvm.Cond.soleField "java/lang/NullPointerException" "extendedMessageState") ∈ lw_all := lw_g (lw_at lw_m5 129 rfl) rfl
theorem q1167 : (Jvm.Cond.lays "java/lang/NullPointerException" "java/lang/NullPointerException" "extendedMessage" "Ljava/lang/String;") ∈ lw_all := lw_g (lw_at lw_m5 130 rfl) rfl
theorem q1168 : (Jvm.Cond.soleField "java/lang/NullPointerException" "extendedMessage") ∈ lw_all := lw_g (lw_at lw_m5 131 rfl) rfl
theorem q1169 : (Jvm.Cond.lays "java/lang/NullPointerException" "java/lang/Throwable" "depth" "I") ∈ lw_all := lw_g (lw_at lw_m5 132 rfl) rfl
theorem q2770 : (Jvm.Cond.castable "java/lang/NullPointerException" "java/lang/Object") ∈ lw_tbl := lw_at lw_m12 53 rfl
theorem in_J23 : ∀ w ∈ wsJ230, w ∈ lw_all := lw_in wsJ230 [1148, 1149, 1150, 1151, 1152, 1169, 1165, 1167] (by decide +kernel) (by decide +kernel)
/-! java/lang/NegativeArraySizeException -/
set_option maxRecDepth 100000
def RJ38 : String := "java/lang/NegativeArraySizeException"
def TJ38 : u_T := fun k => match k with
  | 0 => ("java/lang/Throwable", "cause", "Ljava/lang/Throwable;", false)
  | 1 => ("java/lang/Throwable", "stackTrace", "[Ljava/lang/StackTraceElement;", false)
  | 2 => ("java/lang/Throwable", "suppressedExceptions", "Ljava/util/List;", false)
  | 3 => ("java/lang/Throwable", "detailMessage", "Ljava/lang/String;", false)
  | 4 => ("java/lang/Throwable", "backtrace", "Ljava/lang/Object;", false)
  | _ => ("java/lang/Throwable", "depth", "I", false)
def tyJ38 : Nat → FieldType := fun k => match k with
  | 0 => .object "java/lang/Throwable"
  | 1 => .array (.object "java/lang/StackTraceElement")
  | 2 => .object "java/util/List"
  | 3 => .object "java/lang/String"
  | 4 => .object "java/lang/Object"
  | _ => .int
abbrev wsJ380 : List Cond := u_ws RJ38 TJ38 6
theorem nmJ38 : ∀ a, a < 6 → ∀ b, b < 6 → a ≠ b → (TJ38 a).2.1 ≠ (TJ38 b).2.1 := by decide +kernel
theorem tyJ38_ok : ∀ k, k < 6 → parseFieldDescriptor (TJ38 k).2.2.1 = some (tyJ38 k) := by decide +kernel
abbrev cJ38_init : ByteArray := prog_36_method_1_code
def yJ38_init : MethodName := ⟨RJ38, "<init>", "()V"⟩
theorem dJ38_init_0 : decode cJ38_init 0 = .ok (.aload_n 0, 1) := by decide +kernel
theorem dJ38_init_1 : decode cJ38_init 1 = .ok (.invokespecial 1, 3) := by decide +kernel
theorem dJ38_init_4 : decode cJ38_init 4 = .ok (.return_, 1) := by decide +kernel
abbrev cJ38_init_2 : ByteArray := prog_36_method_2_code
def yJ38_init_2 : MethodName := ⟨RJ38, "<init>", "(Ljava/lang/String;)V"⟩
def dkwJ38_init_2_0 : List UInt8 := [42, 43, 183, 0, 7, 177]
abbrev dktJ38_init_2_0 : List UInt8 := dkwJ38_init_2_0 ++ []
theorem dksJ38_init_2_0 : cJ38_init_2.data.toList.drop 0 = dktJ38_init_2_0 := by decide +kernel
theorem dJ38_init_2_0 : decode cJ38_init_2 0 = .ok (.aload_n 0, 1) := dk_42 (dk_at dksJ38_init_2_0 0 rfl rfl)
theorem dJ38_init_2_1 : decode cJ38_init_2 1 = .ok (.aload_n 1, 1) := dk_43 (dk_at dksJ38_init_2_0 1 rfl rfl)
theorem dJ38_init_2_2 : decode cJ38_init_2 2 = .ok (.invokespecial 7, 3) := dk_183 0 7 (dk_at dksJ38_init_2_0 2 rfl rfl)
theorem dJ38_init_2_5 : decode cJ38_init_2 5 = .ok (.return_, 1) := dk_177 (dk_at dksJ38_init_2_0 5 rfl rfl)
theorem q133 : (Jvm.Cond.initialized "java/lang/NegativeArraySizeException") ∈ lw_all := lw_g (lw_at lw_m1 56 rfl) rfl
theorem q325 : (Jvm.Cond.selects "java/lang/NegativeArraySizeException" ({ cls := "java/lang/Throwable", name := "fillInStackTrace", desc := "()Ljava/lang/Throwable;" } : Jvm.MethodName) ({ cls := "java/lang/Throwable", name := "fillInStackTrace", desc := "()Ljava/lang/Throwable;" } : Jvm.MethodName)) ∈ lw_all := lw_g (lw_at lw_m2 8 rfl) rfl
theorem q447 : (Jvm.Cond.selects "java/lang/NegativeArraySizeException" ({ cls := "java/lang/Object", name := "getClass", desc := "()Ljava/lang/Class;" } : Jvm.MethodName) ({ cls := "java/lang/Object", name := "getClass", desc := "()Ljava/lang/Class;" } : Jvm.MethodName)) ∈ lw_all := lw_g (lw_at lw_m2 130 rfl) rfl
theorem q2016 : (Jvm.Cond.instantiable "java/lang/NegativeArraySizeException" (6 : Nat)) ∈ lw_all := lw_g (lw_at lw_m9 19 rfl) rfl
theorem q2017 : (Jvm.Cond.castable "java/lang/NegativeArraySizeException" "java/lang/NegativeArraySizeException") ∈ lw_tbl := lw_at lw_m9 20 rfl
theorem q2018 : (Jvm.Cond.selects "java/lang/NegativeArraySizeException" ({ cls := "java/lang/Throwable", name := "fillInStackTrace", desc := "(I)Ljava/lang/Throwable;" } : Jvm.MethodName) ({ cls := "java/lang/Throwable", name := "fillInStackTrace", desc := "(I)Ljava/lang/Throwable;" } : Jvm.MethodName)) ∈ lw_all := lw_g (lw_at lw_m9 21 rfl) rfl
theorem q2019 : (Jvm.Cond.lays "java/lang/NegativeArraySizeException" "java/lang/Throwable" "cause" "Ljava/lang/Throwable;") ∈ lw_all := lw_g (lw_at lw_m9 22 rfl) rfl
theorem q2020 : (Jvm.Cond.lays "java/lang/NegativeArraySizeException" "java/lang/Throwable" "stackTrace" "[Ljava/lang/StackTraceElement;") ∈ lw_all := lw_g (lw_at lw_m9 23 rfl) rfl
theorem q2021 : (Jvm.Cond.lays "java/lang/NegativeArraySizeException" "java/lang/Throwable" "suppressedExceptions" "Ljava/util/List;") ∈ lw_all := lw_g (lw_at lw_m9 24 rfl) rfl
theorem q2022 : (Jvm.Cond.lays "java/lang/NegativeArraySizeException" "java/lang/Throwable" "detailMessage" "Ljava/lang/String;") ∈ lw_all := lw_g (lw_at lw_m9 25 rfl) rfl
theorem q2023 : (Jvm.Cond.lays "java/lang/NegativeArraySizeException" "java/lang/Throwable" "backtrace" "Ljava/lang/Object;") ∈ lw_all := lw_g (lw_at lw_m9 26 rfl) rfl
theorem q2025 : (Jvm.Cond.instanceMethod ({ cls := "java/lang/NegativeArraySizeException", name := "<init>", desc := "()V" } : Jvm.MethodName)) ∈ lw_all := lw_g (lw_at lw_m9 28 rfl) rfl
theorem q2026 : (Jvm.Cond.code ({ cls := "java/lang/NegativeArraySizeException", name := "<init>", desc := "()V" } : Jvm.MethodName) prog_36_method_1_code (1 : Nat) (Option.none : Option Jvm.ClassFile.FieldType)) ∈ lw_all := lw_g (lw_at lw_m9 29 rfl) rfl
theorem q2027 : (Jvm.Cond.methodLink "java/lang/NegativeArraySizeException" (1 : Nat) ({ cls := "java/lang/RuntimeException", name := "<init>", desc := "()V" } : Jvm.MethodName)) ∈ lw_all := lw_g (lw_at lw_m9 30 rfl) rfl
theorem q2028 : (Jvm.Cond.lays "java/lang/NegativeArraySizeException" "java/lang/Throwable" "depth" "I") ∈ lw_all := lw_g (lw_at lw_m9 31 rfl) rfl
theorem q2029 : (Jvm.Cond.superclass "java/lang/NegativeArraySizeException" "java/lang/RuntimeException") ∈ lw_all := lw_g (lw_at lw_m9 32 rfl) rfl
theorem q2234 : (Jvm.Cond.instanceMethod ({ cls := "java/lang/NegativeArraySizeException", name := "<init>", desc := "(Ljava/lang/String;)V" } : Jvm.MethodName)) ∈ lw_all := lw_g (lw_at lw_m9 237 rfl) rfl
theorem q2235 : (Jvm.Cond.code ({ cls := "java/lang/NegativeArraySizeException", name := "<init>", desc := "(Ljava/lang/String;)V" } : Jvm.MethodName) prog_36_method_2_code (2 : Nat) (Option.none : Option Jvm.ClassFile.FieldType)) ∈ lw_all := lw_g (lw_at lw_m9 238 rfl) rfl
theorem q2236 : (Jvm.Cond.methodLink "java/lang/NegativeArraySizeException" (7 : Nat) ({ cls := "java/lang/RuntimeException", name := "<init>", desc := "(Ljava/lang/String;)V" } : Jvm.MethodName)) ∈ lw_all := lw_g (lw_at lw_m9 239 rfl) rfl
theorem q2784 : (Jvm.Cond.castable "java/lang/NegativeArraySizeException" "java/lang/Object") ∈ lw_tbl := lw_at lw_m12 67 rfl
theorem in_J38 : ∀ w ∈ wsJ380, w ∈ lw_all := lw_in wsJ380 [2019, 2020, 2021, 2022, 2023, 2028] (by decide +kernel) (by decide +kernel)
/-! java/lang/IndexOutOfBoundsException -/
set_option maxRecDepth 100000
def RJ39 : String := "java/lang/IndexOutOfBoundsException"
abbrev cJ39_init : ByteArray := prog_31_method_2_code
def yJ39_init : MethodName := ⟨RJ39, "<init>", "(Ljava/lang/String;)V"⟩
def dkwJ39_init_0 : List UInt8 := [42, 43, 183, 0, 7, 177]
abbrev dktJ39_init_0 : List UInt8 := dkwJ39_init_0 ++ []
theorem dksJ39_init_0 : cJ39_init.data.toList.drop 0 = dktJ39_init_0 := by decide +kernel
theorem dJ39_init_0 : decode cJ39_init 0 = .ok (.aload_n 0, 1) := dk_42 (dk_at dksJ39_init_0 0 rfl rfl)
theorem dJ39_init_1 : decode cJ39_init 1 = .ok (.aload_n 1, 1) := dk_43 (dk_at dksJ39_init_0 1 rfl rfl)
theorem dJ39_init_2 : decode cJ39_init 2 = .ok (.invokespecial 7, 3) := dk_183 0 7 (dk_at dksJ39_init_0 2 rfl rfl)
theorem dJ39_init_5 : decode cJ39_init 5 = .ok (.return_, 1) := dk_177 (dk_at dksJ39_init_0 5 rfl rfl)
theorem q134 : (Jvm.Cond.initialized "java/lang/IndexOutOfBoundsException") ∈ lw_all := lw_g (lw_at lw_m1 57 rfl) rfl
theorem q2259 : (Jvm.Cond.instanceMethod ({ cls := "java/lang/IndexOutOfBoundsException", name := "<init>", desc := "(Ljava/lang/String;)V" } : Jvm.MethodName)) ∈ lw_all := lw_g (lw_at lw_m10 22 rfl) rfl
theorem q2260 : (Jvm.Cond.code ({ cls := "java/lang/IndexOutOfBoundsException", name := "<init>", desc := "(Ljava/lang/String;)V" } : Jvm.MethodName) prog_31_method_2_code (2 : Nat) (Option.none : Option Jvm.ClassFile.FieldType)) ∈ lw_all := lw_g (lw_at lw_m10 23 rfl) rfl
theorem q2261 : (Jvm.Cond.methodLink "java/lang/IndexOutOfBoundsException" (7 : Nat) ({ cls := "java/lang/RuntimeException", name := "<init>", desc := "(Ljava/lang/String;)V" } : Jvm.MethodName)) ∈ lw_all := lw_g (lw_at lw_m10 24 rfl) rfl
theorem q2270 : (Jvm.Cond.declares ({ cls := "java/lang/IndexOutOfBoundsException", name := "<init>", desc := "()V" } : Jvm.MethodName)) ∈ lw_tbl := lw_at lw_m10 33 rfl
theorem q2271 : (Jvm.Cond.declares ({ cls := "java/lang/IndexOutOfBoundsException", name := "<init>", desc := "(Ljava/lang/String;)V" } : Jvm.MethodName)) ∈ lw_tbl := lw_at lw_m10 34 rfl
/-! java/lang/ArrayIndexOutOfBoundsException -/
set_option maxRecDepth 100000
def RJ40 : String := "java/lang/ArrayIndexOutOfBoundsException"
def TJ40 : u_T := fun k => match k with
  | 0 => ("java/lang/Throwable", "backtrace", "Ljava/lang/Object;", false)
  | 1 => ("java/lang/Throwable", "detailMessage", "Ljava/lang/String;", false)
  | 2 => ("java/lang/Throwable", "cause", "Ljava/lang/Throwable;", false)
  | 3 => ("java/lang/Throwable", "stackTrace", "[Ljava/lang/StackTraceElement;", false)
  | 4 => ("java/lang/Throwable", "depth", "I", false)
  | _ => ("java/lang/Throwable", "suppressedExceptions", "Ljava/util/List;", false)
def tyJ40 : Nat → FieldType := fun k => match k with
  | 0 => .object "java/lang/Object"
  | 1 => .object "java/lang/String"
  | 2 => .object "java/lang/Throwable"
  | 3 => .array (.object "java/lang/StackTraceElement")
  | 4 => .int
  | _ => .object "java/util/List"
abbrev wsJ400 : List Cond := u_ws RJ40 TJ40 6
theorem nmJ40 : ∀ a, a < 6 → ∀ b, b < 6 → a ≠ b → (TJ40 a).2.1 ≠ (TJ40 b).2.1 := by decide +kernel
theorem tyJ40_ok : ∀ k, k < 6 → parseFieldDescriptor (TJ40 k).2.2.1 = some (tyJ40 k) := by decide +kernel
abbrev cJ40_init : ByteArray := prog_24_method_2_code
def yJ40_init : MethodName := ⟨RJ40, "<init>", "(Ljava/lang/String;)V"⟩
def dkwJ40_init_0 : List UInt8 := [42, 43, 183, 0, 7, 177]
abbrev dktJ40_init_0 : List UInt8 := dkwJ40_init_0 ++ []
theorem dksJ40_init_0 : cJ40_init.data.toList.drop 0 = dktJ40_init_0 := by decide +kernel
theorem dJ40_init_0 : decode cJ40_init 0 = .ok (.aload_n 0, 1) := dk_42 (dk_at dksJ40_init_0 0 rfl rfl)
theorem dJ40_init_1 : decode cJ40_init 1 = .ok (.aload_n 1, 1) := dk_43 (dk_at dksJ40_init_0 1 rfl rfl)
theorem dJ40_init_2 : decode cJ40_init 2 = .ok (.invokespecial 7, 3) := dk_183 0 7 (dk_at dksJ40_init_0 2 rfl rfl)
theorem dJ40_init_5 : decode cJ40_init 5 = .ok (.return_, 1) := dk_177 (dk_at dksJ40_init_0 5 rfl rfl)
theorem q135 : (Jvm.Cond.initialized "java/lang/ArrayIndexOutOfBoundsException") ∈ lw_all := lw_g (lw_at lw_m1 58 rfl) rfl
theorem q324 : (Jvm.Cond.selects "java/lang/ArrayIndexOutOfBoundsException" ({ cls := "java/lang/Throwable", name := "fillInStackTrace", desc := "()Ljava/lang/Throwable;" } : Jvm.MethodName) ({ cls := "java/lang/Throwable", name := "fillInStackTrace", desc := "()Ljava/lang/Throwable;" } : Jvm.MethodName)) ∈ lw_all := lw_g (lw_at lw_m2 7 rfl) rfl
theorem q446 : (Jvm.Cond.selects "java/lang/ArrayIndexOutOfBoundsException" ({ cls := "java/lang/Object", name := "getClass", desc := "()Ljava/lang/Class;" } : Jvm.MethodName) ({ cls := "java/lang/Object", name := "getClass", desc := "()Ljava/lang/Class;" } : Jvm.MethodName)) ∈ lw_all := lw_g (lw_at lw_m2 129 rfl) rfl
theorem q2255 : (Jvm.Cond.instantiable "java/lang/ArrayIndexOutOfBoundsException" (6 : Nat)) ∈ lw_all := lw_g (lw_at lw_m10 18 rfl) rfl
theorem q2256 : (Jvm.Cond.instanceMethod ({ cls := "java/lang/ArrayIndexOutOfBoundsException", name := "<init>", desc := "(Ljava/lang/String;)V" } : Jvm.MethodName)) ∈ lw_all := lw_g (lw_at lw_m10 19 rfl) rfl
theorem q2257 : (Jvm.Cond.code ({ cls := "java/lang/ArrayIndexOutOfBoundsException", name := "<init>", desc := "(Ljava/lang/String;)V" } : Jvm.MethodName) prog_24_method_2_code (2 : Nat) (Option.none : Option Jvm.ClassFile.FieldType)) ∈ lw_all := lw_g (lw_at lw_m10 20 rfl) rfl
theorem q2258 : (Jvm.Cond.methodLink "java/lang/ArrayIndexOutOfBoundsException" (7 : Nat) ({ cls := "java/lang/IndexOutOfBoundsException", name := "<init>", desc := "(Ljava/lang/String;)V" } : Jvm.MethodName)) ∈ lw_all := lw_g (lw_at lw_m10 21 rfl) rfl
theorem q2262 : (Jvm.Cond.lays "java/lang/ArrayIndexOutOfBoundsException" "java/lang/Throwable" "backtrace" "Ljava/lang/Object;") ∈ lw_all := lw_g (lw_at lw_m10 25 rfl) rfl
theorem q2263 : (Jvm.Cond.lays "java/lang/ArrayIndexOutOfBoundsException" "java/lang/Throwable" "detailMessage" "Ljava/lang/String;") ∈ lw_all := lw_g (lw_at lw_m10 26 rfl) rfl
theorem q2264 : (Jvm.Cond.lays "java/lang/ArrayIndexOutOfBoundsException" "java/lang/Throwable" "cause" "Ljava/lang/Throwable;") ∈ lw_all := lw_g (lw_at lw_m10 27 rfl) rfl
theorem q2265 : (Jvm.Cond.lays "java/lang/ArrayIndexOutOfBoundsException" "java/lang/Throwable" "stackTrace" "[Ljava/lang/StackTraceElement;") ∈ lw_all := lw_g (lw_at lw_m10 28 rfl) rfl
theorem q2266 : (Jvm.Cond.lays "java/lang/ArrayIndexOutOfBoundsException" "java/lang/Throwable" "depth" "I") ∈ lw_all := lw_g (lw_at lw_m10 29 rfl) rfl
theorem q2267 : (Jvm.Cond.lays "java/lang/ArrayIndexOutOfBoundsException" "java/lang/Throwable" "suppressedExceptions" "Ljava/util/List;") ∈ lw_all := lw_g (lw_at lw_m10 30 rfl) rfl
theorem q2268 : (Jvm.Cond.superclass "java/lang/ArrayIndexOutOfBoundsException" "java/lang/IndexOutOfBoundsException") ∈ lw_all := lw_g (lw_at lw_m10 31 rfl) rfl
theorem q2269 : (Jvm.Cond.castable "java/lang/ArrayIndexOutOfBoundsException" "java/lang/ArrayIndexOutOfBoundsException") ∈ lw_tbl := lw_at lw_m10 32 rfl
theorem q2272 : (Jvm.Cond.selects "java/lang/ArrayIndexOutOfBoundsException" ({ cls := "java/lang/Throwable", name := "fillInStackTrace", desc := "(I)Ljava/lang/Throwable;" } : Jvm.MethodName) ({ cls := "java/lang/Throwable", name := "fillInStackTrace", desc := "(I)Ljava/lang/Throwable;" } : Jvm.MethodName)) ∈ lw_all := lw_g (lw_at lw_m10 35 rfl) rfl
theorem q2786 : (Jvm.Cond.castable "java/lang/ArrayIndexOutOfBoundsException" "java/lang/Object") ∈ lw_tbl := lw_at lw_m12 69 rfl
theorem in_J40 : ∀ w ∈ wsJ400, w ∈ lw_all := lw_in wsJ400 [2262, 2263, 2264, 2265, 2266, 2267] (by decide +kernel) (by decide +kernel)
