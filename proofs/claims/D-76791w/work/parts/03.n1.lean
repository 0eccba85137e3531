/-! CardLoom -/
set_option maxRecDepth 100000
def RX0 : String := "CardLoom"
def TX0 : u_T := fun k => match k with
  | 0 => ("CardLoom", "cards", "Ljava/util/ArrayList;", false)
  | 1 => ("CardLoom", "rows", "Ljava/util/ArrayList;", false)
  | 2 => ("CardLoom", "law", "LCardLoom$Law;", false)
  | 3 => ("CardLoom", "tape", "[B", true)
  | 4 => ("CardLoom", "fed", "I", false)
  | 5 => ("CardLoom", "picture", "[[I", true)
  | 6 => ("CardLoom", "lines", "I", false)
  | 7 => ("CardLoom", "fewest", "[[I", true)
  | 8 => ("CardLoom", "colour", "[LCardLoom$Colour;", true)
  | 9 => ("CardLoom", "paper", "Ljava/lang/String;", false)
  | 10 => ("CardLoom", "lists", "[[I", true)
  | 11 => ("CardLoom", "keptCards", "Ljava/util/ArrayList;", false)
  | 12 => ("CardLoom", "keptRows", "Ljava/util/ArrayList;", false)
  | _ => ("CardLoom", "keptLaw", "LCardLoom$Law;", false)
def tyX0 : Nat → FieldType := fun k => match k with
  | 0 => .object "java/util/ArrayList"
  | 1 => .object "java/util/ArrayList"
  | 2 => .object "CardLoom$Law"
  | 3 => .array .byte
  | 4 => .int
  | 5 => .array (.array .int)
  | 6 => .int
  | 7 => .array (.array .int)
  | 8 => .array (.object "CardLoom$Colour")
  | 9 => .object "java/lang/String"
  | 10 => .array (.array .int)
  | 11 => .object "java/util/ArrayList"
  | 12 => .object "java/util/ArrayList"
  | _ => .object "CardLoom$Law"
abbrev wsX00 : List Cond := u_ws RX0 TX0 14
set_option maxRecDepth 100000 in
theorem nmX0 : ∀ a, a < 14 → ∀ b, b < 14 → a ≠ b → (TX0 a).2.1 ≠ (TX0 b).2.1 := by decide +kernel
set_option maxRecDepth 100000 in
theorem tyX0_ok : ∀ k, k < 14 → parseFieldDescriptor (TX0 k).2.2.1 = some (tyX0 k) := by decide +kernel
abbrev cX0_init : ByteArray := prog_1_method_1_code
def yX0_init : MethodName := ⟨RX0, "<init>", "()V"⟩
def dkwX0_init_4 : List UInt8 := [186, 0, 19, 0, 0, 181, 0, 58, 177]
abbrev dktX0_init_4 : List UInt8 := dkwX0_init_4 ++ []
def dkwX0_init_3 : List UInt8 := [184, 0, 39, 181, 0, 43, 42, 18, 47, 181, 0, 49, 42, 7, 189, 0, 53, 181, 0, 55, 42]
abbrev dktX0_init_3 : List UInt8 := dkwX0_init_3 ++ dktX0_init_4
def dkwX0_init_2 : List UInt8 := [16, 10, 197, 0, 31, 2, 181, 0, 33, 42, 16, 9, 7, 197, 0, 31, 2, 181, 0, 36, 42, 16, 10]
abbrev dktX0_init_2 : List UInt8 := dkwX0_init_2 ++ dktX0_init_3
def dkwX0_init_1 : List UInt8 := [181, 0, 16, 42, 186, 0, 19, 0, 0, 181, 0, 23, 42, 16, 80, 188, 8, 181, 0, 27, 42, 16, 8]
abbrev dktX0_init_1 : List UInt8 := dkwX0_init_1 ++ dktX0_init_2
def dkwX0_init_0 : List UInt8 := [42, 183, 0, 1, 42, 187, 0, 7, 89, 183, 0, 9, 181, 0, 10, 42, 187, 0, 7, 89, 183, 0, 9]
abbrev dktX0_init_0 : List UInt8 := dkwX0_init_0 ++ dktX0_init_1
theorem dksX0_init_0 : cX0_init.data.toList.drop 0 = dktX0_init_0 := by decide +kernel
theorem dksX0_init_1 : cX0_init.data.toList.drop 23 = dktX0_init_1 := dk_seg dksX0_init_0 23 rfl rfl
theorem dksX0_init_2 : cX0_init.data.toList.drop 46 = dktX0_init_2 := dk_seg dksX0_init_1 23 rfl rfl
theorem dksX0_init_3 : cX0_init.data.toList.drop 69 = dktX0_init_3 := dk_seg dksX0_init_2 23 rfl rfl
theorem dksX0_init_4 : cX0_init.data.toList.drop 90 = dktX0_init_4 := dk_seg dksX0_init_3 21 rfl rfl
theorem dX0_init_0 : decode cX0_init 0 = .ok (.aload_n 0, 1) := dk_42 (dk_at dksX0_init_0 0 rfl rfl)
theorem dX0_init_1 : decode cX0_init 1 = .ok (.invokespecial 1, 3) := dk_183 0 1 (dk_at dksX0_init_0 1 rfl rfl)
theorem dX0_init_4 : decode cX0_init 4 = .ok (.aload_n 0, 1) := dk_42 (dk_at dksX0_init_0 4 rfl rfl)
theorem dX0_init_5 : decode cX0_init 5 = .ok (.new 7, 3) := dk_187 0 7 (dk_at dksX0_init_0 5 rfl rfl)
theorem dX0_init_8 : decode cX0_init 8 = .ok (.dup, 1) := dk_89 (dk_at dksX0_init_0 8 rfl rfl)
theorem dX0_init_9 : decode cX0_init 9 = .ok (.invokespecial 9, 3) := dk_183 0 9 (dk_at dksX0_init_0 9 rfl rfl)
theorem dX0_init_12 : decode cX0_init 12 = .ok (.putfield 10, 3) := dk_181 0 10 (dk_at dksX0_init_0 12 rfl rfl)
theorem dX0_init_15 : decode cX0_init 15 = .ok (.aload_n 0, 1) := dk_42 (dk_at dksX0_init_0 15 rfl rfl)
theorem dX0_init_16 : decode cX0_init 16 = .ok (.new 7, 3) := dk_187 0 7 (dk_at dksX0_init_0 16 rfl rfl)
theorem dX0_init_19 : decode cX0_init 19 = .ok (.dup, 1) := dk_89 (dk_at dksX0_init_0 19 rfl rfl)
theorem dX0_init_20 : decode cX0_init 20 = .ok (.invokespecial 9, 3) := dk_183 0 9 (dk_at dksX0_init_0 20 rfl rfl)
theorem dX0_init_23 : decode cX0_init 23 = .ok (.putfield 16, 3) := dk_181 0 16 (dk_at dksX0_init_1 0 rfl rfl)
theorem dX0_init_26 : decode cX0_init 26 = .ok (.aload_n 0, 1) := dk_42 (dk_at dksX0_init_1 3 rfl rfl)
theorem dX0_init_27 : decode cX0_init 27 = .ok (.invokedynamic 19, 5) := by decide +kernel
theorem dX0_init_32 : decode cX0_init 32 = .ok (.putfield 23, 3) := dk_181 0 23 (dk_at dksX0_init_1 9 rfl rfl)
theorem dX0_init_35 : decode cX0_init 35 = .ok (.aload_n 0, 1) := dk_42 (dk_at dksX0_init_1 12 rfl rfl)
theorem dX0_init_36 : decode cX0_init 36 = .ok (.bipush 80, 2) := dk_16 80 (dk_at dksX0_init_1 13 rfl rfl)
theorem dX0_init_38 : decode cX0_init 38 = .ok (.newarray .byte, 2) := dk_188_8 (dk_at dksX0_init_1 15 rfl rfl)
theorem dX0_init_40 : decode cX0_init 40 = .ok (.putfield 27, 3) := dk_181 0 27 (dk_at dksX0_init_1 17 rfl rfl)
theorem dX0_init_43 : decode cX0_init 43 = .ok (.aload_n 0, 1) := dk_42 (dk_at dksX0_init_1 20 rfl rfl)
theorem dX0_init_44 : decode cX0_init 44 = .ok (.bipush 8, 2) := dk_16 8 (dk_at dksX0_init_1 21 rfl rfl)
theorem dX0_init_46 : decode cX0_init 46 = .ok (.bipush 10, 2) := dk_16 10 (dk_at dksX0_init_2 0 rfl rfl)
theorem dX0_init_48 : decode cX0_init 48 = .ok (.multianewarray 31 2, 4) := by decide +kernel
theorem dX0_init_52 : decode cX0_init 52 = .ok (.putfield 33, 3) := dk_181 0 33 (dk_at dksX0_init_2 6 rfl rfl)
theorem dX0_init_55 : decode cX0_init 55 = .ok (.aload_n 0, 1) := dk_42 (dk_at dksX0_init_2 9 rfl rfl)
theorem dX0_init_56 : decode cX0_init 56 = .ok (.bipush 9, 2) := dk_16 9 (dk_at dksX0_init_2 10 rfl rfl)
theorem dX0_init_58 : decode cX0_init 58 = .ok (.iconst 4, 1) := dk_7 (dk_at dksX0_init_2 12 rfl rfl)
theorem dX0_init_59 : decode cX0_init 59 = .ok (.multianewarray 31 2, 4) := by decide +kernel
theorem dX0_init_63 : decode cX0_init 63 = .ok (.putfield 36, 3) := dk_181 0 36 (dk_at dksX0_init_2 17 rfl rfl)
theorem dX0_init_66 : decode cX0_init 66 = .ok (.aload_n 0, 1) := dk_42 (dk_at dksX0_init_2 20 rfl rfl)
theorem dX0_init_67 : decode cX0_init 67 = .ok (.bipush 10, 2) := dk_16 10 (dk_at dksX0_init_2 21 rfl rfl)
theorem dX0_init_69 : decode cX0_init 69 = .ok (.invokestatic 39, 3) := dk_184 0 39 (dk_at dksX0_init_3 0 rfl rfl)
theorem dX0_init_72 : decode cX0_init 72 = .ok (.putfield 43, 3) := dk_181 0 43 (dk_at dksX0_init_3 3 rfl rfl)
theorem dX0_init_75 : decode cX0_init 75 = .ok (.aload_n 0, 1) := dk_42 (dk_at dksX0_init_3 6 rfl rfl)
theorem dX0_init_76 : decode cX0_init 76 = .ok (.ldc 47, 2) := dk_18 47 (dk_at dksX0_init_3 7 rfl rfl)
theorem dX0_init_78 : decode cX0_init 78 = .ok (.putfield 49, 3) := dk_181 0 49 (dk_at dksX0_init_3 9 rfl rfl)
theorem dX0_init_81 : decode cX0_init 81 = .ok (.aload_n 0, 1) := dk_42 (dk_at dksX0_init_3 12 rfl rfl)
theorem dX0_init_82 : decode cX0_init 82 = .ok (.iconst 4, 1) := dk_7 (dk_at dksX0_init_3 13 rfl rfl)
theorem dX0_init_83 : decode cX0_init 83 = .ok (.anewarray 53, 3) := dk_189 0 53 (dk_at dksX0_init_3 14 rfl rfl)
theorem dX0_init_86 : decode cX0_init 86 = .ok (.putfield 55, 3) := dk_181 0 55 (dk_at dksX0_init_3 17 rfl rfl)
theorem dX0_init_89 : decode cX0_init 89 = .ok (.aload_n 0, 1) := dk_42 (dk_at dksX0_init_3 20 rfl rfl)
theorem dX0_init_90 : decode cX0_init 90 = .ok (.invokedynamic 19, 5) := by decide +kernel
theorem dX0_init_95 : decode cX0_init 95 = .ok (.putfield 58, 3) := dk_181 0 58 (dk_at dksX0_init_4 5 rfl rfl)
theorem dX0_init_98 : decode cX0_init 98 = .ok (.return_, 1) := dk_177 (dk_at dksX0_init_4 8 rfl rfl)
abbrev cX0_idle : ByteArray := prog_1_method_3_code
def yX0_idle : MethodName := ⟨RX0, "idle", "(III)LCardLoom$Turning;"⟩
theorem dX0_idle_0 : decode cX0_idle 0 = .ok (.getstatic 61, 3) := by decide +kernel
theorem dX0_idle_3 : decode cX0_idle 3 = .ok (.areturn, 1) := by decide +kernel
abbrev cX0_coloursOf : ByteArray := prog_1_method_69_code
def yX0_coloursOf : MethodName := ⟨RX0, "coloursOf", "(I)[LCardLoom$Colour;"⟩
def dkwX0_coloursOf_1 : List UInt8 := [132, 2, 1, 167, 255, 237, 43, 176]
abbrev dktX0_coloursOf_1 : List UInt8 := dkwX0_coloursOf_1 ++ []
def dkwX0_coloursOf_0 : List UInt8 := [26, 189, 1, 113, 76, 3, 61, 28, 26, 162, 0, 20, 43, 28, 187, 1, 113, 89, 28, 183, 1, 115, 83]
abbrev dktX0_coloursOf_0 : List UInt8 := dkwX0_coloursOf_0 ++ dktX0_coloursOf_1
theorem dksX0_coloursOf_0 : cX0_coloursOf.data.toList.drop 0 = dktX0_coloursOf_0 := by decide +kernel
theorem dksX0_coloursOf_1 : cX0_coloursOf.data.toList.drop 23 = dktX0_coloursOf_1 := dk_seg dksX0_coloursOf_0 23 rfl rfl
theorem dX0_coloursOf_0 : decode cX0_coloursOf 0 = .ok (.iload_n 0, 1) := dk_26 (dk_at dksX0_coloursOf_0 0 rfl rfl)
theorem dX0_coloursOf_1 : decode cX0_coloursOf 1 = .ok (.anewarray 369, 3) := dk_189 1 113 (dk_at dksX0_coloursOf_0 1 rfl rfl)
theorem dX0_coloursOf_4 : decode cX0_coloursOf 4 = .ok (.astore_n 1, 1) := dk_76 (dk_at dksX0_coloursOf_0 4 rfl rfl)
theorem dX0_coloursOf_5 : decode cX0_coloursOf 5 = .ok (.iconst 0, 1) := dk_3 (dk_at dksX0_coloursOf_0 5 rfl rfl)
theorem dX0_coloursOf_6 : decode cX0_coloursOf 6 = .ok (.istore_n 2, 1) := dk_61 (dk_at dksX0_coloursOf_0 6 rfl rfl)
theorem dX0_coloursOf_7 : decode cX0_coloursOf 7 = .ok (.iload_n 2, 1) := dk_28 (dk_at dksX0_coloursOf_0 7 rfl rfl)
theorem dX0_coloursOf_8 : decode cX0_coloursOf 8 = .ok (.iload_n 0, 1) := dk_26 (dk_at dksX0_coloursOf_0 8 rfl rfl)
theorem dX0_coloursOf_9 : decode cX0_coloursOf 9 = .ok (.if_icmp .ge 20, 3) := dk_162 0 20 (dk_at dksX0_coloursOf_0 9 rfl rfl)
theorem dX0_coloursOf_12 : decode cX0_coloursOf 12 = .ok (.aload_n 1, 1) := dk_43 (dk_at dksX0_coloursOf_0 12 rfl rfl)
theorem dX0_coloursOf_13 : decode cX0_coloursOf 13 = .ok (.iload_n 2, 1) := dk_28 (dk_at dksX0_coloursOf_0 13 rfl rfl)
theorem dX0_coloursOf_14 : decode cX0_coloursOf 14 = .ok (.new 369, 3) := dk_187 1 113 (dk_at dksX0_coloursOf_0 14 rfl rfl)
theorem dX0_coloursOf_17 : decode cX0_coloursOf 17 = .ok (.dup, 1) := dk_89 (dk_at dksX0_coloursOf_0 17 rfl rfl)
theorem dX0_coloursOf_18 : decode cX0_coloursOf 18 = .ok (.iload_n 2, 1) := dk_28 (dk_at dksX0_coloursOf_0 18 rfl rfl)
theorem dX0_coloursOf_19 : decode cX0_coloursOf 19 = .ok (.invokespecial 371, 3) := dk_183 1 115 (dk_at dksX0_coloursOf_0 19 rfl rfl)
theorem dX0_coloursOf_22 : decode cX0_coloursOf 22 = .ok (.aastore, 1) := dk_83 (dk_at dksX0_coloursOf_0 22 rfl rfl)
theorem dX0_coloursOf_23 : decode cX0_coloursOf 23 = .ok (.iinc 2 1, 3) := dk_132 2 1 (dk_at dksX0_coloursOf_1 0 rfl rfl)
theorem dX0_coloursOf_26 : decode cX0_coloursOf 26 = .ok (.goto (-19), 3) := dk_167 255 237 (dk_at dksX0_coloursOf_1 3 rfl rfl)
theorem dX0_coloursOf_29 : decode cX0_coloursOf 29 = .ok (.aload_n 1, 1) := dk_43 (dk_at dksX0_coloursOf_1 6 rfl rfl)
theorem dX0_coloursOf_30 : decode cX0_coloursOf 30 = .ok (.areturn, 1) := dk_176 (dk_at dksX0_coloursOf_1 7 rfl rfl)
abbrev cX0_feed : ByteArray := prog_1_method_25_code
def yX0_feed : MethodName := ⟨RX0, "feed", "(I)I"⟩
def dkwX0_feed_2 : List UInt8 := [180, 0, 162, 172]
abbrev dktX0_feed_2 : List UInt8 := dkwX0_feed_2 ++ []
def dkwX0_feed_1 : List UInt8 := [172, 42, 180, 0, 27, 42, 180, 0, 162, 27, 145, 84, 42, 89, 180, 0, 162, 4, 96, 181, 0, 162, 42]
abbrev dktX0_feed_1 : List UInt8 := dkwX0_feed_1 ++ dktX0_feed_2
def dkwX0_feed_0 : List UInt8 := [27, 4, 16, 127, 184, 0, 93, 154, 0, 6, 16, 254, 172, 42, 180, 0, 162, 16, 80, 160, 0, 6, 16, 252]
abbrev dktX0_feed_0 : List UInt8 := dkwX0_feed_0 ++ dktX0_feed_1
theorem dksX0_feed_0 : cX0_feed.data.toList.drop 0 = dktX0_feed_0 := by decide +kernel
theorem dksX0_feed_1 : cX0_feed.data.toList.drop 24 = dktX0_feed_1 := dk_seg dksX0_feed_0 24 rfl rfl
theorem dksX0_feed_2 : cX0_feed.data.toList.drop 47 = dktX0_feed_2 := dk_seg dksX0_feed_1 23 rfl rfl
theorem dX0_feed_0 : decode cX0_feed 0 = .ok (.iload_n 1, 1) := dk_27 (dk_at dksX0_feed_0 0 rfl rfl)
theorem dX0_feed_1 : decode cX0_feed 1 = .ok (.iconst 1, 1) := dk_4 (dk_at dksX0_feed_0 1 rfl rfl)
theorem dX0_feed_2 : decode cX0_feed 2 = .ok (.bipush 127, 2) := dk_16 127 (dk_at dksX0_feed_0 2 rfl rfl)
theorem dX0_feed_4 : decode cX0_feed 4 = .ok (.invokestatic 93, 3) := dk_184 0 93 (dk_at dksX0_feed_0 4 rfl rfl)
theorem dX0_feed_7 : decode cX0_feed 7 = .ok (.ifCond .ne 6, 3) := dk_154 0 6 (dk_at dksX0_feed_0 7 rfl rfl)
theorem dX0_feed_10 : decode cX0_feed 10 = .ok (.bipush (-2), 2) := dk_16 254 (dk_at dksX0_feed_0 10 rfl rfl)
theorem dX0_feed_12 : decode cX0_feed 12 = .ok (.ireturn, 1) := dk_172 (dk_at dksX0_feed_0 12 rfl rfl)
theorem dX0_feed_13 : decode cX0_feed 13 = .ok (.aload_n 0, 1) := dk_42 (dk_at dksX0_feed_0 13 rfl rfl)
theorem dX0_feed_14 : decode cX0_feed 14 = .ok (.getfield 162, 3) := dk_180 0 162 (dk_at dksX0_feed_0 14 rfl rfl)
theorem dX0_feed_17 : decode cX0_feed 17 = .ok (.bipush 80, 2) := dk_16 80 (dk_at dksX0_feed_0 17 rfl rfl)
theorem dX0_feed_19 : decode cX0_feed 19 = .ok (.if_icmp .ne 6, 3) := dk_160 0 6 (dk_at dksX0_feed_0 19 rfl rfl)
theorem dX0_feed_22 : decode cX0_feed 22 = .ok (.bipush (-4), 2) := dk_16 252 (dk_at dksX0_feed_0 22 rfl rfl)
theorem dX0_feed_24 : decode cX0_feed 24 = .ok (.ireturn, 1) := dk_172 (dk_at dksX0_feed_1 0 rfl rfl)
theorem dX0_feed_25 : decode cX0_feed 25 = .ok (.aload_n 0, 1) := dk_42 (dk_at dksX0_feed_1 1 rfl rfl)
theorem dX0_feed_26 : decode cX0_feed 26 = .ok (.getfield 27, 3) := dk_180 0 27 (dk_at dksX0_feed_1 2 rfl rfl)
theorem dX0_feed_29 : decode cX0_feed 29 = .ok (.aload_n 0, 1) := dk_42 (dk_at dksX0_feed_1 5 rfl rfl)
theorem dX0_feed_30 : decode cX0_feed 30 = .ok (.getfield 162, 3) := dk_180 0 162 (dk_at dksX0_feed_1 6 rfl rfl)
theorem dX0_feed_33 : decode cX0_feed 33 = .ok (.iload_n 1, 1) := dk_27 (dk_at dksX0_feed_1 9 rfl rfl)
theorem dX0_feed_34 : decode cX0_feed 34 = .ok (.i2b, 1) := dk_145 (dk_at dksX0_feed_1 10 rfl rfl)
theorem dX0_feed_35 : decode cX0_feed 35 = .ok (.bastore, 1) := dk_84 (dk_at dksX0_feed_1 11 rfl rfl)
theorem dX0_feed_36 : decode cX0_feed 36 = .ok (.aload_n 0, 1) := dk_42 (dk_at dksX0_feed_1 12 rfl rfl)
theorem dX0_feed_37 : decode cX0_feed 37 = .ok (.dup, 1) := dk_89 (dk_at dksX0_feed_1 13 rfl rfl)
theorem dX0_feed_38 : decode cX0_feed 38 = .ok (.getfield 162, 3) := dk_180 0 162 (dk_at dksX0_feed_1 14 rfl rfl)
theorem dX0_feed_41 : decode cX0_feed 41 = .ok (.iconst 1, 1) := dk_4 (dk_at dksX0_feed_1 17 rfl rfl)
theorem dX0_feed_42 : decode cX0_feed 42 = .ok (.iadd, 1) := dk_96 (dk_at dksX0_feed_1 18 rfl rfl)
theorem dX0_feed_43 : decode cX0_feed 43 = .ok (.putfield 162, 3) := dk_181 0 162 (dk_at dksX0_feed_1 19 rfl rfl)
theorem dX0_feed_46 : decode cX0_feed 46 = .ok (.aload_n 0, 1) := dk_42 (dk_at dksX0_feed_1 22 rfl rfl)
theorem dX0_feed_47 : decode cX0_feed 47 = .ok (.getfield 162, 3) := dk_180 0 162 (dk_at dksX0_feed_2 0 rfl rfl)
theorem dX0_feed_50 : decode cX0_feed 50 = .ok (.ireturn, 1) := dk_172 (dk_at dksX0_feed_2 3 rfl rfl)
abbrev cX0_isIn : ByteArray := prog_1_method_2_code
def yX0_isIn : MethodName := ⟨RX0, "isIn", "(III)Z"⟩
def dkwX0_isIn_0 : List UInt8 := [26, 27, 161, 0, 12, 26, 28, 163, 0, 7, 4, 167, 0, 4, 3, 172]
abbrev dktX0_isIn_0 : List UInt8 := dkwX0_isIn_0 ++ []
theorem dksX0_isIn_0 : cX0_isIn.data.toList.drop 0 = dktX0_isIn_0 := by decide +kernel
theorem dX0_isIn_0 : decode cX0_isIn 0 = .ok (.iload_n 0, 1) := dk_26 (dk_at dksX0_isIn_0 0 rfl rfl)
theorem dX0_isIn_1 : decode cX0_isIn 1 = .ok (.iload_n 1, 1) := dk_27 (dk_at dksX0_isIn_0 1 rfl rfl)
theorem dX0_isIn_2 : decode cX0_isIn 2 = .ok (.if_icmp .lt 12, 3) := dk_161 0 12 (dk_at dksX0_isIn_0 2 rfl rfl)
theorem dX0_isIn_5 : decode cX0_isIn 5 = .ok (.iload_n 0, 1) := dk_26 (dk_at dksX0_isIn_0 5 rfl rfl)
theorem dX0_isIn_6 : decode cX0_isIn 6 = .ok (.iload_n 2, 1) := dk_28 (dk_at dksX0_isIn_0 6 rfl rfl)
theorem dX0_isIn_7 : decode cX0_isIn 7 = .ok (.if_icmp .gt 7, 3) := dk_163 0 7 (dk_at dksX0_isIn_0 7 rfl rfl)
theorem dX0_isIn_10 : decode cX0_isIn 10 = .ok (.iconst 1, 1) := dk_4 (dk_at dksX0_isIn_0 10 rfl rfl)
theorem dX0_isIn_11 : decode cX0_isIn 11 = .ok (.goto 4, 3) := dk_167 0 4 (dk_at dksX0_isIn_0 11 rfl rfl)
theorem dX0_isIn_14 : decode cX0_isIn 14 = .ok (.iconst 0, 1) := dk_3 (dk_at dksX0_isIn_0 14 rfl rfl)
theorem dX0_isIn_15 : decode cX0_isIn 15 = .ok (.ireturn, 1) := dk_172 (dk_at dksX0_isIn_0 15 rfl rfl)
abbrev cX0_clear : ByteArray := prog_1_method_26_code
def yX0_clear : MethodName := ⟨RX0, "clear", "()I"⟩
def dkwX0_clear_0 : List UInt8 := [42, 180, 0, 162, 60, 42, 3, 181, 0, 162, 27, 172]
abbrev dktX0_clear_0 : List UInt8 := dkwX0_clear_0 ++ []
theorem dksX0_clear_0 : cX0_clear.data.toList.drop 0 = dktX0_clear_0 := by decide +kernel
theorem dX0_clear_0 : decode cX0_clear 0 = .ok (.aload_n 0, 1) := dk_42 (dk_at dksX0_clear_0 0 rfl rfl)
theorem dX0_clear_1 : decode cX0_clear 1 = .ok (.getfield 162, 3) := dk_180 0 162 (dk_at dksX0_clear_0 1 rfl rfl)
theorem dX0_clear_4 : decode cX0_clear 4 = .ok (.istore_n 1, 1) := dk_60 (dk_at dksX0_clear_0 4 rfl rfl)
theorem dX0_clear_5 : decode cX0_clear 5 = .ok (.aload_n 0, 1) := dk_42 (dk_at dksX0_clear_0 5 rfl rfl)
theorem dX0_clear_6 : decode cX0_clear 6 = .ok (.iconst 0, 1) := dk_3 (dk_at dksX0_clear_0 6 rfl rfl)
theorem dX0_clear_7 : decode cX0_clear 7 = .ok (.putfield 162, 3) := dk_181 0 162 (dk_at dksX0_clear_0 7 rfl rfl)
theorem dX0_clear_10 : decode cX0_clear 10 = .ok (.iload_n 1, 1) := dk_27 (dk_at dksX0_clear_0 10 rfl rfl)
theorem dX0_clear_11 : decode cX0_clear 11 = .ok (.ireturn, 1) := dk_172 (dk_at dksX0_clear_0 11 rfl rfl)
abbrev cX0_thread : ByteArray := prog_1_method_27_code
def yX0_thread : MethodName := ⟨RX0, "thread", "()I"⟩
def dkwX0_thread_2 : List UInt8 := [42, 3, 181, 0, 162, 28, 172, 78, 42, 3, 181, 0, 162, 45, 191]
abbrev dktX0_thread_2 : List UInt8 := dkwX0_thread_2 ++ []
def dkwX0_thread_1 : List UInt8 := [181, 0, 16, 42, 182, 0, 90, 60, 42, 3, 181, 0, 162, 27, 172, 76, 16, 156, 43, 180, 0, 177, 100, 61]
abbrev dktX0_thread_1 : List UInt8 := dkwX0_thread_1 ++ dktX0_thread_2
def dkwX0_thread_0 : List UInt8 := [42, 187, 0, 166, 89, 42, 183, 0, 168, 182, 0, 171, 181, 0, 10, 42, 187, 0, 7, 89, 183, 0, 9]
abbrev dktX0_thread_0 : List UInt8 := dkwX0_thread_0 ++ dktX0_thread_1
theorem dksX0_thread_0 : cX0_thread.data.toList.drop 0 = dktX0_thread_0 := by decide +kernel
theorem dksX0_thread_1 : cX0_thread.data.toList.drop 23 = dktX0_thread_1 := dk_seg dksX0_thread_0 23 rfl rfl
theorem dksX0_thread_2 : cX0_thread.data.toList.drop 47 = dktX0_thread_2 := dk_seg dksX0_thread_1 24 rfl rfl
theorem dX0_thread_0 : decode cX0_thread 0 = .ok (.aload_n 0, 1) := dk_42 (dk_at dksX0_thread_0 0 rfl rfl)
theorem dX0_thread_1 : decode cX0_thread 1 = .ok (.new 166, 3) := dk_187 0 166 (dk_at dksX0_thread_0 1 rfl rfl)
theorem dX0_thread_4 : decode cX0_thread 4 = .ok (.dup, 1) := dk_89 (dk_at dksX0_thread_0 4 rfl rfl)
theorem dX0_thread_5 : decode cX0_thread 5 = .ok (.aload_n 0, 1) := dk_42 (dk_at dksX0_thread_0 5 rfl rfl)
theorem dX0_thread_6 : decode cX0_thread 6 = .ok (.invokespecial 168, 3) := dk_183 0 168 (dk_at dksX0_thread_0 6 rfl rfl)
theorem dX0_thread_9 : decode cX0_thread 9 = .ok (.invokevirtual 171, 3) := dk_182 0 171 (dk_at dksX0_thread_0 9 rfl rfl)
theorem dX0_thread_12 : decode cX0_thread 12 = .ok (.putfield 10, 3) := dk_181 0 10 (dk_at dksX0_thread_0 12 rfl rfl)
theorem dX0_thread_15 : decode cX0_thread 15 = .ok (.aload_n 0, 1) := dk_42 (dk_at dksX0_thread_0 15 rfl rfl)
theorem dX0_thread_16 : decode cX0_thread 16 = .ok (.new 7, 3) := dk_187 0 7 (dk_at dksX0_thread_0 16 rfl rfl)
theorem dX0_thread_19 : decode cX0_thread 19 = .ok (.dup, 1) := dk_89 (dk_at dksX0_thread_0 19 rfl rfl)
theorem dX0_thread_20 : decode cX0_thread 20 = .ok (.invokespecial 9, 3) := dk_183 0 9 (dk_at dksX0_thread_0 20 rfl rfl)
theorem dX0_thread_23 : decode cX0_thread 23 = .ok (.putfield 16, 3) := dk_181 0 16 (dk_at dksX0_thread_1 0 rfl rfl)
theorem dX0_thread_26 : decode cX0_thread 26 = .ok (.aload_n 0, 1) := dk_42 (dk_at dksX0_thread_1 3 rfl rfl)
theorem dX0_thread_27 : decode cX0_thread 27 = .ok (.invokevirtual 90, 3) := dk_182 0 90 (dk_at dksX0_thread_1 4 rfl rfl)
theorem dX0_thread_30 : decode cX0_thread 30 = .ok (.istore_n 1, 1) := dk_60 (dk_at dksX0_thread_1 7 rfl rfl)
theorem dX0_thread_31 : decode cX0_thread 31 = .ok (.aload_n 0, 1) := dk_42 (dk_at dksX0_thread_1 8 rfl rfl)
theorem dX0_thread_32 : decode cX0_thread 32 = .ok (.iconst 0, 1) := dk_3 (dk_at dksX0_thread_1 9 rfl rfl)
theorem dX0_thread_33 : decode cX0_thread 33 = .ok (.putfield 162, 3) := dk_181 0 162 (dk_at dksX0_thread_1 10 rfl rfl)
theorem dX0_thread_36 : decode cX0_thread 36 = .ok (.iload_n 1, 1) := dk_27 (dk_at dksX0_thread_1 13 rfl rfl)
theorem dX0_thread_37 : decode cX0_thread 37 = .ok (.ireturn, 1) := dk_172 (dk_at dksX0_thread_1 14 rfl rfl)
theorem dX0_thread_38 : decode cX0_thread 38 = .ok (.astore_n 1, 1) := dk_76 (dk_at dksX0_thread_1 15 rfl rfl)
theorem dX0_thread_39 : decode cX0_thread 39 = .ok (.bipush (-100), 2) := dk_16 156 (dk_at dksX0_thread_1 16 rfl rfl)
theorem dX0_thread_41 : decode cX0_thread 41 = .ok (.aload_n 1, 1) := dk_43 (dk_at dksX0_thread_1 18 rfl rfl)
theorem dX0_thread_42 : decode cX0_thread 42 = .ok (.getfield 177, 3) := dk_180 0 177 (dk_at dksX0_thread_1 19 rfl rfl)
theorem dX0_thread_45 : decode cX0_thread 45 = .ok (.isub, 1) := dk_100 (dk_at dksX0_thread_1 22 rfl rfl)
theorem dX0_thread_46 : decode cX0_thread 46 = .ok (.istore_n 2, 1) := dk_61 (dk_at dksX0_thread_1 23 rfl rfl)
theorem dX0_thread_47 : decode cX0_thread 47 = .ok (.aload_n 0, 1) := dk_42 (dk_at dksX0_thread_2 0 rfl rfl)
theorem dX0_thread_48 : decode cX0_thread 48 = .ok (.iconst 0, 1) := dk_3 (dk_at dksX0_thread_2 1 rfl rfl)
theorem dX0_thread_49 : decode cX0_thread 49 = .ok (.putfield 162, 3) := dk_181 0 162 (dk_at dksX0_thread_2 2 rfl rfl)
theorem dX0_thread_52 : decode cX0_thread 52 = .ok (.iload_n 2, 1) := dk_28 (dk_at dksX0_thread_2 5 rfl rfl)
theorem dX0_thread_53 : decode cX0_thread 53 = .ok (.ireturn, 1) := dk_172 (dk_at dksX0_thread_2 6 rfl rfl)
theorem dX0_thread_54 : decode cX0_thread 54 = .ok (.astore_n 3, 1) := dk_78 (dk_at dksX0_thread_2 7 rfl rfl)
theorem dX0_thread_55 : decode cX0_thread 55 = .ok (.aload_n 0, 1) := dk_42 (dk_at dksX0_thread_2 8 rfl rfl)
theorem dX0_thread_56 : decode cX0_thread 56 = .ok (.iconst 0, 1) := dk_3 (dk_at dksX0_thread_2 9 rfl rfl)
theorem dX0_thread_57 : decode cX0_thread 57 = .ok (.putfield 162, 3) := dk_181 0 162 (dk_at dksX0_thread_2 10 rfl rfl)
theorem dX0_thread_60 : decode cX0_thread 60 = .ok (.aload_n 3, 1) := dk_45 (dk_at dksX0_thread_2 13 rfl rfl)
theorem dX0_thread_61 : decode cX0_thread 61 = .ok (.athrow, 1) := dk_191 (dk_at dksX0_thread_2 14 rfl rfl)
abbrev cX0_many : ByteArray := prog_1_method_13_code
def yX0_many : MethodName := ⟨RX0, "many", "()I"⟩
def dkwX0_many_0 : List UInt8 := [42, 180, 0, 10, 182, 0, 86, 172]
abbrev dktX0_many_0 : List UInt8 := dkwX0_many_0 ++ []
theorem dksX0_many_0 : cX0_many.data.toList.drop 0 = dktX0_many_0 := by decide +kernel
theorem dX0_many_0 : decode cX0_many 0 = .ok (.aload_n 0, 1) := dk_42 (dk_at dksX0_many_0 0 rfl rfl)
theorem dX0_many_1 : decode cX0_many 1 = .ok (.getfield 10, 3) := dk_180 0 10 (dk_at dksX0_many_0 1 rfl rfl)
theorem dX0_many_4 : decode cX0_many 4 = .ok (.invokevirtual 86, 3) := dk_182 0 86 (dk_at dksX0_many_0 4 rfl rfl)
theorem dX0_many_7 : decode cX0_many 7 = .ok (.ireturn, 1) := dk_172 (dk_at dksX0_many_0 7 rfl rfl)
abbrev cX0_law : ByteArray := prog_1_method_28_code
def yX0_law : MethodName := ⟨RX0, "law", "()I"⟩
def dkwX0_law_2 : List UInt8 := [181, 0, 162, 45, 191]
abbrev dktX0_law_2 : List UInt8 := dkwX0_law_2 ++ []
def dkwX0_law_1 : List UInt8 := [181, 0, 162, 28, 172, 76, 16, 156, 43, 180, 0, 177, 100, 61, 42, 3, 181, 0, 162, 28, 172, 78, 42, 3]
abbrev dktX0_law_1 : List UInt8 := dkwX0_law_1 ++ dktX0_law_2
def dkwX0_law_0 : List UInt8 := [187, 0, 166, 89, 42, 183, 0, 168, 76, 42, 43, 182, 0, 180, 181, 0, 23, 43, 180, 0, 182, 61, 42, 3]
abbrev dktX0_law_0 : List UInt8 := dkwX0_law_0 ++ dktX0_law_1
theorem dksX0_law_0 : cX0_law.data.toList.drop 0 = dktX0_law_0 := by decide +kernel
theorem dksX0_law_1 : cX0_law.data.toList.drop 24 = dktX0_law_1 := dk_seg dksX0_law_0 24 rfl rfl
theorem dksX0_law_2 : cX0_law.data.toList.drop 48 = dktX0_law_2 := dk_seg dksX0_law_1 24 rfl rfl
theorem dX0_law_0 : decode cX0_law 0 = .ok (.new 166, 3) := dk_187 0 166 (dk_at dksX0_law_0 0 rfl rfl)
theorem dX0_law_3 : decode cX0_law 3 = .ok (.dup, 1) := dk_89 (dk_at dksX0_law_0 3 rfl rfl)
theorem dX0_law_4 : decode cX0_law 4 = .ok (.aload_n 0, 1) := dk_42 (dk_at dksX0_law_0 4 rfl rfl)
theorem dX0_law_5 : decode cX0_law 5 = .ok (.invokespecial 168, 3) := dk_183 0 168 (dk_at dksX0_law_0 5 rfl rfl)
theorem dX0_law_8 : decode cX0_law 8 = .ok (.astore_n 1, 1) := dk_76 (dk_at dksX0_law_0 8 rfl rfl)
theorem dX0_law_9 : decode cX0_law 9 = .ok (.aload_n 0, 1) := dk_42 (dk_at dksX0_law_0 9 rfl rfl)
theorem dX0_law_10 : decode cX0_law 10 = .ok (.aload_n 1, 1) := dk_43 (dk_at dksX0_law_0 10 rfl rfl)
theorem dX0_law_11 : decode cX0_law 11 = .ok (.invokevirtual 180, 3) := dk_182 0 180 (dk_at dksX0_law_0 11 rfl rfl)
theorem dX0_law_14 : decode cX0_law 14 = .ok (.putfield 23, 3) := dk_181 0 23 (dk_at dksX0_law_0 14 rfl rfl)
theorem dX0_law_17 : decode cX0_law 17 = .ok (.aload_n 1, 1) := dk_43 (dk_at dksX0_law_0 17 rfl rfl)
theorem dX0_law_18 : decode cX0_law 18 = .ok (.getfield 182, 3) := dk_180 0 182 (dk_at dksX0_law_0 18 rfl rfl)
theorem dX0_law_21 : decode cX0_law 21 = .ok (.istore_n 2, 1) := dk_61 (dk_at dksX0_law_0 21 rfl rfl)
theorem dX0_law_22 : decode cX0_law 22 = .ok (.aload_n 0, 1) := dk_42 (dk_at dksX0_law_0 22 rfl rfl)
theorem dX0_law_23 : decode cX0_law 23 = .ok (.iconst 0, 1) := dk_3 (dk_at dksX0_law_0 23 rfl rfl)
theorem dX0_law_24 : decode cX0_law 24 = .ok (.putfield 162, 3) := dk_181 0 162 (dk_at dksX0_law_1 0 rfl rfl)
theorem dX0_law_27 : decode cX0_law 27 = .ok (.iload_n 2, 1) := dk_28 (dk_at dksX0_law_1 3 rfl rfl)
theorem dX0_law_28 : decode cX0_law 28 = .ok (.ireturn, 1) := dk_172 (dk_at dksX0_law_1 4 rfl rfl)
theorem dX0_law_29 : decode cX0_law 29 = .ok (.astore_n 1, 1) := dk_76 (dk_at dksX0_law_1 5 rfl rfl)
theorem dX0_law_30 : decode cX0_law 30 = .ok (.bipush (-100), 2) := dk_16 156 (dk_at dksX0_law_1 6 rfl rfl)
theorem dX0_law_32 : decode cX0_law 32 = .ok (.aload_n 1, 1) := dk_43 (dk_at dksX0_law_1 8 rfl rfl)
theorem dX0_law_33 : decode cX0_law 33 = .ok (.getfield 177, 3) := dk_180 0 177 (dk_at dksX0_law_1 9 rfl rfl)
theorem dX0_law_36 : decode cX0_law 36 = .ok (.isub, 1) := dk_100 (dk_at dksX0_law_1 12 rfl rfl)
theorem dX0_law_37 : decode cX0_law 37 = .ok (.istore_n 2, 1) := dk_61 (dk_at dksX0_law_1 13 rfl rfl)
theorem dX0_law_38 : decode cX0_law 38 = .ok (.aload_n 0, 1) := dk_42 (dk_at dksX0_law_1 14 rfl rfl)
theorem dX0_law_39 : decode cX0_law 39 = .ok (.iconst 0, 1) := dk_3 (dk_at dksX0_law_1 15 rfl rfl)
theorem dX0_law_40 : decode cX0_law 40 = .ok (.putfield 162, 3) := dk_181 0 162 (dk_at dksX0_law_1 16 rfl rfl)
theorem dX0_law_43 : decode cX0_law 43 = .ok (.iload_n 2, 1) := dk_28 (dk_at dksX0_law_1 19 rfl rfl)
theorem dX0_law_44 : decode cX0_law 44 = .ok (.ireturn, 1) := dk_172 (dk_at dksX0_law_1 20 rfl rfl)
theorem dX0_law_45 : decode cX0_law 45 = .ok (.astore_n 3, 1) := dk_78 (dk_at dksX0_law_1 21 rfl rfl)
theorem dX0_law_46 : decode cX0_law 46 = .ok (.aload_n 0, 1) := dk_42 (dk_at dksX0_law_1 22 rfl rfl)
theorem dX0_law_47 : decode cX0_law 47 = .ok (.iconst 0, 1) := dk_3 (dk_at dksX0_law_1 23 rfl rfl)
theorem dX0_law_48 : decode cX0_law 48 = .ok (.putfield 162, 3) := dk_181 0 162 (dk_at dksX0_law_2 0 rfl rfl)
theorem dX0_law_51 : decode cX0_law 51 = .ok (.aload_n 3, 1) := dk_45 (dk_at dksX0_law_2 3 rfl rfl)
theorem dX0_law_52 : decode cX0_law 52 = .ok (.athrow, 1) := dk_191 (dk_at dksX0_law_2 4 rfl rfl)
abbrev cX0_inTurn : ByteArray := prog_1_method_5_code
def yX0_inTurn : MethodName := ⟨RX0, "inTurn", "(ILCardLoom$Law;LCardLoom$Law;)LCardLoom$Law;"⟩
def dkwX0_inTurn_0 : List UInt8 := [26, 43, 44, 186, 0, 70, 0, 0, 176]
abbrev dktX0_inTurn_0 : List UInt8 := dkwX0_inTurn_0 ++ []
theorem dksX0_inTurn_0 : cX0_inTurn.data.toList.drop 0 = dktX0_inTurn_0 := by decide +kernel
theorem dX0_inTurn_0 : decode cX0_inTurn 0 = .ok (.iload_n 0, 1) := dk_26 (dk_at dksX0_inTurn_0 0 rfl rfl)
theorem dX0_inTurn_1 : decode cX0_inTurn 1 = .ok (.aload_n 1, 1) := dk_43 (dk_at dksX0_inTurn_0 1 rfl rfl)
theorem dX0_inTurn_2 : decode cX0_inTurn 2 = .ok (.aload_n 2, 1) := dk_44 (dk_at dksX0_inTurn_0 2 rfl rfl)
theorem dX0_inTurn_3 : decode cX0_inTurn 3 = .ok (.invokedynamic 70, 5) := by decide +kernel
theorem dX0_inTurn_8 : decode cX0_inTurn 8 = .ok (.areturn, 1) := dk_176 (dk_at dksX0_inTurn_0 8 rfl rfl)
abbrev cX0_lambda_inTurn_1 : ByteArray := prog_1_method_96_code
def yX0_lambda_inTurn_1 : MethodName := ⟨RX0, "lambda$inTurn$1", "(ILCardLoom$Law;LCardLoom$Law;III)LCardLoom$Turning;"⟩
def dkwX0_lambda_inTurn_1_1 : List UInt8 := [29, 21, 4, 21, 5, 185, 0, 133, 4, 0, 176]
abbrev dktX0_lambda_inTurn_1_1 : List UInt8 := dkwX0_lambda_inTurn_1_1 ++ []
def dkwX0_lambda_inTurn_1_0 : List UInt8 := [21, 4, 26, 108, 5, 112, 154, 0, 17, 43, 29, 21, 4, 21, 5, 185, 0, 133, 4, 0, 167, 0, 14, 44]
abbrev dktX0_lambda_inTurn_1_0 : List UInt8 := dkwX0_lambda_inTurn_1_0 ++ dktX0_lambda_inTurn_1_1
theorem dksX0_lambda_inTurn_1_0 : cX0_lambda_inTurn_1.data.toList.drop 0 = dktX0_lambda_inTurn_1_0 := by decide +kernel
theorem dksX0_lambda_inTurn_1_1 : cX0_lambda_inTurn_1.data.toList.drop 24 = dktX0_lambda_inTurn_1_1 := dk_seg dksX0_lambda_inTurn_1_0 24 rfl rfl
theorem dX0_lambda_inTurn_1_0 : decode cX0_lambda_inTurn_1 0 = .ok (.iload 4, 2) := dk_21 4 (dk_at dksX0_lambda_inTurn_1_0 0 rfl rfl)
theorem dX0_lambda_inTurn_1_2 : decode cX0_lambda_inTurn_1 2 = .ok (.iload_n 0, 1) := dk_26 (dk_at dksX0_lambda_inTurn_1_0 2 rfl rfl)
theorem dX0_lambda_inTurn_1_3 : decode cX0_lambda_inTurn_1 3 = .ok (.idiv, 1) := dk_108 (dk_at dksX0_lambda_inTurn_1_0 3 rfl rfl)
theorem dX0_lambda_inTurn_1_4 : decode cX0_lambda_inTurn_1 4 = .ok (.iconst 2, 1) := dk_5 (dk_at dksX0_lambda_inTurn_1_0 4 rfl rfl)
theorem dX0_lambda_inTurn_1_5 : decode cX0_lambda_inTurn_1 5 = .ok (.irem, 1) := dk_112 (dk_at dksX0_lambda_inTurn_1_0 5 rfl rfl)
theorem dX0_lambda_inTurn_1_6 : decode cX0_lambda_inTurn_1 6 = .ok (.ifCond .ne 17, 3) := dk_154 0 17 (dk_at dksX0_lambda_inTurn_1_0 6 rfl rfl)
theorem dX0_lambda_inTurn_1_9 : decode cX0_lambda_inTurn_1 9 = .ok (.aload_n 1, 1) := dk_43 (dk_at dksX0_lambda_inTurn_1_0 9 rfl rfl)
theorem dX0_lambda_inTurn_1_10 : decode cX0_lambda_inTurn_1 10 = .ok (.iload_n 3, 1) := dk_29 (dk_at dksX0_lambda_inTurn_1_0 10 rfl rfl)
theorem dX0_lambda_inTurn_1_11 : decode cX0_lambda_inTurn_1 11 = .ok (.iload 4, 2) := dk_21 4 (dk_at dksX0_lambda_inTurn_1_0 11 rfl rfl)
theorem dX0_lambda_inTurn_1_13 : decode cX0_lambda_inTurn_1 13 = .ok (.iload 5, 2) := dk_21 5 (dk_at dksX0_lambda_inTurn_1_0 13 rfl rfl)
theorem dX0_lambda_inTurn_1_15 : decode cX0_lambda_inTurn_1 15 = .ok (.invokeinterface 133 4, 5) := by decide +kernel
theorem dX0_lambda_inTurn_1_20 : decode cX0_lambda_inTurn_1 20 = .ok (.goto 14, 3) := dk_167 0 14 (dk_at dksX0_lambda_inTurn_1_0 20 rfl rfl)
theorem dX0_lambda_inTurn_1_23 : decode cX0_lambda_inTurn_1 23 = .ok (.aload_n 2, 1) := dk_44 (dk_at dksX0_lambda_inTurn_1_0 23 rfl rfl)
theorem dX0_lambda_inTurn_1_24 : decode cX0_lambda_inTurn_1 24 = .ok (.iload_n 3, 1) := dk_29 (dk_at dksX0_lambda_inTurn_1_1 0 rfl rfl)
theorem dX0_lambda_inTurn_1_25 : decode cX0_lambda_inTurn_1 25 = .ok (.iload 4, 2) := dk_21 4 (dk_at dksX0_lambda_inTurn_1_1 1 rfl rfl)
theorem dX0_lambda_inTurn_1_27 : decode cX0_lambda_inTurn_1 27 = .ok (.iload 5, 2) := dk_21 5 (dk_at dksX0_lambda_inTurn_1_1 3 rfl rfl)
theorem dX0_lambda_inTurn_1_29 : decode cX0_lambda_inTurn_1 29 = .ok (.invokeinterface 133 4, 5) := by decide +kernel
theorem dX0_lambda_inTurn_1_34 : decode cX0_lambda_inTurn_1 34 = .ok (.areturn, 1) := dk_176 (dk_at dksX0_lambda_inTurn_1_1 10 rfl rfl)
abbrev cX0_byCards : ByteArray := prog_1_method_6_code
def yX0_byCards : MethodName := ⟨RX0, "byCards", "(ILCardLoom$Law;LCardLoom$Law;)LCardLoom$Law;"⟩
def dkwX0_byCards_0 : List UInt8 := [26, 43, 44, 186, 0, 73, 0, 0, 176]
abbrev dktX0_byCards_0 : List UInt8 := dkwX0_byCards_0 ++ []
theorem dksX0_byCards_0 : cX0_byCards.data.toList.drop 0 = dktX0_byCards_0 := by decide +kernel
theorem dX0_byCards_0 : decode cX0_byCards 0 = .ok (.iload_n 0, 1) := dk_26 (dk_at dksX0_byCards_0 0 rfl rfl)
theorem dX0_byCards_1 : decode cX0_byCards 1 = .ok (.aload_n 1, 1) := dk_43 (dk_at dksX0_byCards_0 1 rfl rfl)
theorem dX0_byCards_2 : decode cX0_byCards 2 = .ok (.aload_n 2, 1) := dk_44 (dk_at dksX0_byCards_0 2 rfl rfl)
theorem dX0_byCards_3 : decode cX0_byCards 3 = .ok (.invokedynamic 73, 5) := by decide +kernel
theorem dX0_byCards_8 : decode cX0_byCards 8 = .ok (.areturn, 1) := dk_176 (dk_at dksX0_byCards_0 8 rfl rfl)
abbrev cX0_lambda_byCards_2 : ByteArray := prog_1_method_95_code
def yX0_lambda_byCards_2 : MethodName := ⟨RX0, "lambda$byCards$2", "(ILCardLoom$Law;LCardLoom$Law;III)LCardLoom$Turning;"⟩
def dkwX0_lambda_byCards_2_1 : List UInt8 := [21, 5, 185, 0, 133, 4, 0, 176]
abbrev dktX0_lambda_byCards_2_1 : List UInt8 := dkwX0_lambda_byCards_2_1 ++ []
def dkwX0_lambda_byCards_2_0 : List UInt8 := [29, 26, 162, 0, 17, 43, 29, 21, 4, 21, 5, 185, 0, 133, 4, 0, 167, 0, 14, 44, 29, 21, 4]
abbrev dktX0_lambda_byCards_2_0 : List UInt8 := dkwX0_lambda_byCards_2_0 ++ dktX0_lambda_byCards_2_1
theorem dksX0_lambda_byCards_2_0 : cX0_lambda_byCards_2.data.toList.drop 0 = dktX0_lambda_byCards_2_0 := by decide +kernel
theorem dksX0_lambda_byCards_2_1 : cX0_lambda_byCards_2.data.toList.drop 23 = dktX0_lambda_byCards_2_1 := dk_seg dksX0_lambda_byCards_2_0 23 rfl rfl
theorem dX0_lambda_byCards_2_0 : decode cX0_lambda_byCards_2 0 = .ok (.iload_n 3, 1) := dk_29 (dk_at dksX0_lambda_byCards_2_0 0 rfl rfl)
theorem dX0_lambda_byCards_2_1 : decode cX0_lambda_byCards_2 1 = .ok (.iload_n 0, 1) := dk_26 (dk_at dksX0_lambda_byCards_2_0 1 rfl rfl)
theorem dX0_lambda_byCards_2_2 : decode cX0_lambda_byCards_2 2 = .ok (.if_icmp .ge 17, 3) := dk_162 0 17 (dk_at dksX0_lambda_byCards_2_0 2 rfl rfl)
theorem dX0_lambda_byCards_2_5 : decode cX0_lambda_byCards_2 5 = .ok (.aload_n 1, 1) := dk_43 (dk_at dksX0_lambda_byCards_2_0 5 rfl rfl)
theorem dX0_lambda_byCards_2_6 : decode cX0_lambda_byCards_2 6 = .ok (.iload_n 3, 1) := dk_29 (dk_at dksX0_lambda_byCards_2_0 6 rfl rfl)
theorem dX0_lambda_byCards_2_7 : decode cX0_lambda_byCards_2 7 = .ok (.iload 4, 2) := dk_21 4 (dk_at dksX0_lambda_byCards_2_0 7 rfl rfl)
theorem dX0_lambda_byCards_2_9 : decode cX0_lambda_byCards_2 9 = .ok (.iload 5, 2) := dk_21 5 (dk_at dksX0_lambda_byCards_2_0 9 rfl rfl)
theorem dX0_lambda_byCards_2_11 : decode cX0_lambda_byCards_2 11 = .ok (.invokeinterface 133 4, 5) := by decide +kernel
theorem dX0_lambda_byCards_2_16 : decode cX0_lambda_byCards_2 16 = .ok (.goto 14, 3) := dk_167 0 14 (dk_at dksX0_lambda_byCards_2_0 16 rfl rfl)
theorem dX0_lambda_byCards_2_19 : decode cX0_lambda_byCards_2 19 = .ok (.aload_n 2, 1) := dk_44 (dk_at dksX0_lambda_byCards_2_0 19 rfl rfl)
theorem dX0_lambda_byCards_2_20 : decode cX0_lambda_byCards_2 20 = .ok (.iload_n 3, 1) := dk_29 (dk_at dksX0_lambda_byCards_2_0 20 rfl rfl)
theorem dX0_lambda_byCards_2_21 : decode cX0_lambda_byCards_2 21 = .ok (.iload 4, 2) := dk_21 4 (dk_at dksX0_lambda_byCards_2_0 21 rfl rfl)
theorem dX0_lambda_byCards_2_23 : decode cX0_lambda_byCards_2 23 = .ok (.iload 5, 2) := dk_21 5 (dk_at dksX0_lambda_byCards_2_1 0 rfl rfl)
theorem dX0_lambda_byCards_2_25 : decode cX0_lambda_byCards_2 25 = .ok (.invokeinterface 133 4, 5) := by decide +kernel
theorem dX0_lambda_byCards_2_30 : decode cX0_lambda_byCards_2 30 = .ok (.areturn, 1) := dk_176 (dk_at dksX0_lambda_byCards_2_1 7 rfl rfl)
abbrev cX0_eachOf : ByteArray := prog_1_method_7_code
def yX0_eachOf : MethodName := ⟨RX0, "eachOf", "(ILCardLoom$Law;LCardLoom$Law;)LCardLoom$Law;"⟩
def dkwX0_eachOf_0 : List UInt8 := [26, 44, 43, 186, 0, 74, 0, 0, 176]
abbrev dktX0_eachOf_0 : List UInt8 := dkwX0_eachOf_0 ++ []
theorem dksX0_eachOf_0 : cX0_eachOf.data.toList.drop 0 = dktX0_eachOf_0 := by decide +kernel
theorem dX0_eachOf_0 : decode cX0_eachOf 0 = .ok (.iload_n 0, 1) := dk_26 (dk_at dksX0_eachOf_0 0 rfl rfl)
theorem dX0_eachOf_1 : decode cX0_eachOf 1 = .ok (.aload_n 2, 1) := dk_44 (dk_at dksX0_eachOf_0 1 rfl rfl)
theorem dX0_eachOf_2 : decode cX0_eachOf 2 = .ok (.aload_n 1, 1) := dk_43 (dk_at dksX0_eachOf_0 2 rfl rfl)
theorem dX0_eachOf_3 : decode cX0_eachOf 3 = .ok (.invokedynamic 74, 5) := by decide +kernel
theorem dX0_eachOf_8 : decode cX0_eachOf 8 = .ok (.areturn, 1) := dk_176 (dk_at dksX0_eachOf_0 8 rfl rfl)
abbrev cX0_lambda_eachOf_3 : ByteArray := prog_1_method_94_code
def yX0_lambda_eachOf_3 : MethodName := ⟨RX0, "lambda$eachOf$3", "(ILCardLoom$Law;LCardLoom$Law;III)LCardLoom$Turning;"⟩
def dkwX0_lambda_eachOf_3_1 : List UInt8 := [21, 4, 21, 5, 185, 0, 133, 4, 0, 176]
abbrev dktX0_lambda_eachOf_3_1 : List UInt8 := dkwX0_lambda_eachOf_3_1 ++ []
def dkwX0_lambda_eachOf_3_0 : List UInt8 := [21, 4, 26, 112, 154, 0, 17, 43, 29, 21, 4, 21, 5, 185, 0, 133, 4, 0, 167, 0, 14, 44, 29]
abbrev dktX0_lambda_eachOf_3_0 : List UInt8 := dkwX0_lambda_eachOf_3_0 ++ dktX0_lambda_eachOf_3_1
theorem dksX0_lambda_eachOf_3_0 : cX0_lambda_eachOf_3.data.toList.drop 0 = dktX0_lambda_eachOf_3_0 := by decide +kernel
theorem dksX0_lambda_eachOf_3_1 : cX0_lambda_eachOf_3.data.toList.drop 23 = dktX0_lambda_eachOf_3_1 := dk_seg dksX0_lambda_eachOf_3_0 23 rfl rfl
theorem dX0_lambda_eachOf_3_0 : decode cX0_lambda_eachOf_3 0 = .ok (.iload 4, 2) := dk_21 4 (dk_at dksX0_lambda_eachOf_3_0 0 rfl rfl)
theorem dX0_lambda_eachOf_3_2 : decode cX0_lambda_eachOf_3 2 = .ok (.iload_n 0, 1) := dk_26 (dk_at dksX0_lambda_eachOf_3_0 2 rfl rfl)
theorem dX0_lambda_eachOf_3_3 : decode cX0_lambda_eachOf_3 3 = .ok (.irem, 1) := dk_112 (dk_at dksX0_lambda_eachOf_3_0 3 rfl rfl)
theorem dX0_lambda_eachOf_3_4 : decode cX0_lambda_eachOf_3 4 = .ok (.ifCond .ne 17, 3) := dk_154 0 17 (dk_at dksX0_lambda_eachOf_3_0 4 rfl rfl)
theorem dX0_lambda_eachOf_3_7 : decode cX0_lambda_eachOf_3 7 = .ok (.aload_n 1, 1) := dk_43 (dk_at dksX0_lambda_eachOf_3_0 7 rfl rfl)
theorem dX0_lambda_eachOf_3_8 : decode cX0_lambda_eachOf_3 8 = .ok (.iload_n 3, 1) := dk_29 (dk_at dksX0_lambda_eachOf_3_0 8 rfl rfl)
theorem dX0_lambda_eachOf_3_9 : decode cX0_lambda_eachOf_3 9 = .ok (.iload 4, 2) := dk_21 4 (dk_at dksX0_lambda_eachOf_3_0 9 rfl rfl)
theorem dX0_lambda_eachOf_3_11 : decode cX0_lambda_eachOf_3 11 = .ok (.iload 5, 2) := dk_21 5 (dk_at dksX0_lambda_eachOf_3_0 11 rfl rfl)
theorem dX0_lambda_eachOf_3_13 : decode cX0_lambda_eachOf_3 13 = .ok (.invokeinterface 133 4, 5) := by decide +kernel
theorem dX0_lambda_eachOf_3_18 : decode cX0_lambda_eachOf_3 18 = .ok (.goto 14, 3) := dk_167 0 14 (dk_at dksX0_lambda_eachOf_3_0 18 rfl rfl)
theorem dX0_lambda_eachOf_3_21 : decode cX0_lambda_eachOf_3 21 = .ok (.aload_n 2, 1) := dk_44 (dk_at dksX0_lambda_eachOf_3_0 21 rfl rfl)
theorem dX0_lambda_eachOf_3_22 : decode cX0_lambda_eachOf_3 22 = .ok (.iload_n 3, 1) := dk_29 (dk_at dksX0_lambda_eachOf_3_0 22 rfl rfl)
theorem dX0_lambda_eachOf_3_23 : decode cX0_lambda_eachOf_3 23 = .ok (.iload 4, 2) := dk_21 4 (dk_at dksX0_lambda_eachOf_3_1 0 rfl rfl)
theorem dX0_lambda_eachOf_3_25 : decode cX0_lambda_eachOf_3 25 = .ok (.iload 5, 2) := dk_21 5 (dk_at dksX0_lambda_eachOf_3_1 2 rfl rfl)
theorem dX0_lambda_eachOf_3_27 : decode cX0_lambda_eachOf_3 27 = .ok (.invokeinterface 133 4, 5) := by decide +kernel
theorem dX0_lambda_eachOf_3_32 : decode cX0_lambda_eachOf_3 32 = .ok (.areturn, 1) := dk_176 (dk_at dksX0_lambda_eachOf_3_1 9 rfl rfl)
abbrev cX0_first : ByteArray := prog_1_method_12_code
def yX0_first : MethodName := ⟨RX0, "first", "(LCardLoom$Law;LCardLoom$Law;)LCardLoom$Law;"⟩
def dkwX0_first_0 : List UInt8 := [42, 43, 186, 0, 83, 0, 0, 176]
abbrev dktX0_first_0 : List UInt8 := dkwX0_first_0 ++ []
theorem dksX0_first_0 : cX0_first.data.toList.drop 0 = dktX0_first_0 := by decide +kernel
theorem dX0_first_0 : decode cX0_first 0 = .ok (.aload_n 0, 1) := dk_42 (dk_at dksX0_first_0 0 rfl rfl)
theorem dX0_first_1 : decode cX0_first 1 = .ok (.aload_n 1, 1) := dk_43 (dk_at dksX0_first_0 1 rfl rfl)
theorem dX0_first_2 : decode cX0_first 2 = .ok (.invokedynamic 83, 5) := by decide +kernel
theorem dX0_first_7 : decode cX0_first 7 = .ok (.areturn, 1) := dk_176 (dk_at dksX0_first_0 7 rfl rfl)
abbrev cX0_lambda_first_8 : ByteArray := prog_1_method_89_code
def yX0_lambda_first_8 : MethodName := ⟨RX0, "lambda$first$8", "(LCardLoom$Law;LCardLoom$Law;III)LCardLoom$Turning;"⟩
def dkwX0_lambda_first_8_1 : List UInt8 := [21, 4, 185, 0, 133, 4, 0, 167, 0, 5, 25, 5, 176]
abbrev dktX0_lambda_first_8_1 : List UInt8 := dkwX0_lambda_first_8_1 ++ []
def dkwX0_lambda_first_8_0 : List UInt8 := [42, 28, 29, 21, 4, 185, 0, 133, 4, 0, 58, 5, 25, 5, 178, 0, 61, 166, 0, 16, 43, 28, 29]
abbrev dktX0_lambda_first_8_0 : List UInt8 := dkwX0_lambda_first_8_0 ++ dktX0_lambda_first_8_1
theorem dksX0_lambda_first_8_0 : cX0_lambda_first_8.data.toList.drop 0 = dktX0_lambda_first_8_0 := by decide +kernel
theorem dksX0_lambda_first_8_1 : cX0_lambda_first_8.data.toList.drop 23 = dktX0_lambda_first_8_1 := dk_seg dksX0_lambda_first_8_0 23 rfl rfl
theorem dX0_lambda_first_8_0 : decode cX0_lambda_first_8 0 = .ok (.aload_n 0, 1) := dk_42 (dk_at dksX0_lambda_first_8_0 0 rfl rfl)
theorem dX0_lambda_first_8_1 : decode cX0_lambda_first_8 1 = .ok (.iload_n 2, 1) := dk_28 (dk_at dksX0_lambda_first_8_0 1 rfl rfl)
theorem dX0_lambda_first_8_2 : decode cX0_lambda_first_8 2 = .ok (.iload_n 3, 1) := dk_29 (dk_at dksX0_lambda_first_8_0 2 rfl rfl)
theorem dX0_lambda_first_8_3 : decode cX0_lambda_first_8 3 = .ok (.iload 4, 2) := dk_21 4 (dk_at dksX0_lambda_first_8_0 3 rfl rfl)
theorem dX0_lambda_first_8_5 : decode cX0_lambda_first_8 5 = .ok (.invokeinterface 133 4, 5) := by decide +kernel
theorem dX0_lambda_first_8_10 : decode cX0_lambda_first_8 10 = .ok (.astore 5, 2) := dk_58 5 (dk_at dksX0_lambda_first_8_0 10 rfl rfl)
theorem dX0_lambda_first_8_12 : decode cX0_lambda_first_8 12 = .ok (.aload 5, 2) := dk_25 5 (dk_at dksX0_lambda_first_8_0 12 rfl rfl)
theorem dX0_lambda_first_8_14 : decode cX0_lambda_first_8 14 = .ok (.getstatic 61, 3) := dk_178 0 61 (dk_at dksX0_lambda_first_8_0 14 rfl rfl)
theorem dX0_lambda_first_8_17 : decode cX0_lambda_first_8 17 = .ok (.if_acmp .ne 16, 3) := dk_166 0 16 (dk_at dksX0_lambda_first_8_0 17 rfl rfl)
theorem dX0_lambda_first_8_20 : decode cX0_lambda_first_8 20 = .ok (.aload_n 1, 1) := dk_43 (dk_at dksX0_lambda_first_8_0 20 rfl rfl)
theorem dX0_lambda_first_8_21 : decode cX0_lambda_first_8 21 = .ok (.iload_n 2, 1) := dk_28 (dk_at dksX0_lambda_first_8_0 21 rfl rfl)
theorem dX0_lambda_first_8_22 : decode cX0_lambda_first_8 22 = .ok (.iload_n 3, 1) := dk_29 (dk_at dksX0_lambda_first_8_0 22 rfl rfl)
theorem dX0_lambda_first_8_23 : decode cX0_lambda_first_8 23 = .ok (.iload 4, 2) := dk_21 4 (dk_at dksX0_lambda_first_8_1 0 rfl rfl)
theorem dX0_lambda_first_8_25 : decode cX0_lambda_first_8 25 = .ok (.invokeinterface 133 4, 5) := by decide +kernel
theorem dX0_lambda_first_8_30 : decode cX0_lambda_first_8 30 = .ok (.goto 5, 3) := dk_167 0 5 (dk_at dksX0_lambda_first_8_1 7 rfl rfl)
theorem dX0_lambda_first_8_33 : decode cX0_lambda_first_8 33 = .ok (.aload 5, 2) := dk_25 5 (dk_at dksX0_lambda_first_8_1 10 rfl rfl)
theorem dX0_lambda_first_8_35 : decode cX0_lambda_first_8 35 = .ok (.areturn, 1) := dk_176 (dk_at dksX0_lambda_first_8_1 12 rfl rfl)
abbrev cX0_later : ByteArray := prog_1_method_8_code
def yX0_later : MethodName := ⟨RX0, "later", "(ILCardLoom$Law;)LCardLoom$Law;"⟩
def dkwX0_later_0 : List UInt8 := [43, 26, 186, 0, 75, 0, 0, 176]
abbrev dktX0_later_0 : List UInt8 := dkwX0_later_0 ++ []
theorem dksX0_later_0 : cX0_later.data.toList.drop 0 = dktX0_later_0 := by decide +kernel
theorem dX0_later_0 : decode cX0_later 0 = .ok (.aload_n 1, 1) := dk_43 (dk_at dksX0_later_0 0 rfl rfl)
theorem dX0_later_1 : decode cX0_later 1 = .ok (.iload_n 0, 1) := dk_26 (dk_at dksX0_later_0 1 rfl rfl)
theorem dX0_later_2 : decode cX0_later 2 = .ok (.invokedynamic 75, 5) := by decide +kernel
theorem dX0_later_7 : decode cX0_later 7 = .ok (.areturn, 1) := dk_176 (dk_at dksX0_later_0 7 rfl rfl)
abbrev cX0_lambda_later_4 : ByteArray := prog_1_method_93_code
def yX0_lambda_later_4 : MethodName := ⟨RX0, "lambda$later$4", "(LCardLoom$Law;IIII)LCardLoom$Turning;"⟩
def dkwX0_lambda_later_4_0 : List UInt8 := [42, 28, 29, 27, 96, 21, 4, 185, 0, 133, 4, 0, 176]
abbrev dktX0_lambda_later_4_0 : List UInt8 := dkwX0_lambda_later_4_0 ++ []
theorem dksX0_lambda_later_4_0 : cX0_lambda_later_4.data.toList.drop 0 = dktX0_lambda_later_4_0 := by decide +kernel
theorem dX0_lambda_later_4_0 : decode cX0_lambda_later_4 0 = .ok (.aload_n 0, 1) := dk_42 (dk_at dksX0_lambda_later_4_0 0 rfl rfl)
theorem dX0_lambda_later_4_1 : decode cX0_lambda_later_4 1 = .ok (.iload_n 2, 1) := dk_28 (dk_at dksX0_lambda_later_4_0 1 rfl rfl)
theorem dX0_lambda_later_4_2 : decode cX0_lambda_later_4 2 = .ok (.iload_n 3, 1) := dk_29 (dk_at dksX0_lambda_later_4_0 2 rfl rfl)
theorem dX0_lambda_later_4_3 : decode cX0_lambda_later_4 3 = .ok (.iload_n 1, 1) := dk_27 (dk_at dksX0_lambda_later_4_0 3 rfl rfl)
theorem dX0_lambda_later_4_4 : decode cX0_lambda_later_4 4 = .ok (.iadd, 1) := dk_96 (dk_at dksX0_lambda_later_4_0 4 rfl rfl)
theorem dX0_lambda_later_4_5 : decode cX0_lambda_later_4 5 = .ok (.iload 4, 2) := dk_21 4 (dk_at dksX0_lambda_later_4_0 5 rfl rfl)
theorem dX0_lambda_later_4_7 : decode cX0_lambda_later_4 7 = .ok (.invokeinterface 133 4, 5) := by decide +kernel
theorem dX0_lambda_later_4_12 : decode cX0_lambda_later_4 12 = .ok (.areturn, 1) := dk_176 (dk_at dksX0_lambda_later_4_0 12 rfl rfl)
abbrev cX0_slanting : ByteArray := prog_1_method_9_code
def yX0_slanting : MethodName := ⟨RX0, "slanting", "(LCardLoom$Law;)LCardLoom$Law;"⟩
theorem dX0_slanting_0 : decode cX0_slanting 0 = .ok (.aload_n 0, 1) := by decide +kernel
theorem dX0_slanting_1 : decode cX0_slanting 1 = .ok (.invokedynamic 78, 5) := by decide +kernel
theorem dX0_slanting_6 : decode cX0_slanting 6 = .ok (.areturn, 1) := by decide +kernel
abbrev cX0_lambda_slanting_5 : ByteArray := prog_1_method_92_code
def yX0_lambda_slanting_5 : MethodName := ⟨RX0, "lambda$slanting$5", "(LCardLoom$Law;III)LCardLoom$Turning;"⟩
def dkwX0_lambda_slanting_5_0 : List UInt8 := [42, 27, 28, 27, 96, 29, 185, 0, 133, 4, 0, 176]
abbrev dktX0_lambda_slanting_5_0 : List UInt8 := dkwX0_lambda_slanting_5_0 ++ []
theorem dksX0_lambda_slanting_5_0 : cX0_lambda_slanting_5.data.toList.drop 0 = dktX0_lambda_slanting_5_0 := by decide +kernel
theorem dX0_lambda_slanting_5_0 : decode cX0_lambda_slanting_5 0 = .ok (.aload_n 0, 1) := dk_42 (dk_at dksX0_lambda_slanting_5_0 0 rfl rfl)
theorem dX0_lambda_slanting_5_1 : decode cX0_lambda_slanting_5 1 = .ok (.iload_n 1, 1) := dk_27 (dk_at dksX0_lambda_slanting_5_0 1 rfl rfl)
theorem dX0_lambda_slanting_5_2 : decode cX0_lambda_slanting_5 2 = .ok (.iload_n 2, 1) := dk_28 (dk_at dksX0_lambda_slanting_5_0 2 rfl rfl)
theorem dX0_lambda_slanting_5_3 : decode cX0_lambda_slanting_5 3 = .ok (.iload_n 1, 1) := dk_27 (dk_at dksX0_lambda_slanting_5_0 3 rfl rfl)
theorem dX0_lambda_slanting_5_4 : decode cX0_lambda_slanting_5 4 = .ok (.iadd, 1) := dk_96 (dk_at dksX0_lambda_slanting_5_0 4 rfl rfl)
theorem dX0_lambda_slanting_5_5 : decode cX0_lambda_slanting_5 5 = .ok (.iload_n 3, 1) := dk_29 (dk_at dksX0_lambda_slanting_5_0 5 rfl rfl)
theorem dX0_lambda_slanting_5_6 : decode cX0_lambda_slanting_5 6 = .ok (.invokeinterface 133 4, 5) := by decide +kernel
theorem dX0_lambda_slanting_5_11 : decode cX0_lambda_slanting_5 11 = .ok (.areturn, 1) := dk_176 (dk_at dksX0_lambda_slanting_5_0 11 rfl rfl)
abbrev cX0_reversed : ByteArray := prog_1_method_10_code
def yX0_reversed : MethodName := ⟨RX0, "reversed", "(LCardLoom$Law;)LCardLoom$Law;"⟩
theorem dX0_reversed_0 : decode cX0_reversed 0 = .ok (.aload_n 0, 1) := by decide +kernel
theorem dX0_reversed_1 : decode cX0_reversed 1 = .ok (.invokedynamic 81, 5) := by decide +kernel
theorem dX0_reversed_6 : decode cX0_reversed 6 = .ok (.areturn, 1) := by decide +kernel
abbrev cX0_lambda_reversed_6 : ByteArray := prog_1_method_91_code
def yX0_lambda_reversed_6 : MethodName := ⟨RX0, "lambda$reversed$6", "(LCardLoom$Law;III)LCardLoom$Turning;"⟩
def dkwX0_lambda_reversed_6_0 : List UInt8 := [42, 27, 28, 29, 185, 0, 133, 4, 0, 182, 1, 226, 176]
abbrev dktX0_lambda_reversed_6_0 : List UInt8 := dkwX0_lambda_reversed_6_0 ++ []
theorem dksX0_lambda_reversed_6_0 : cX0_lambda_reversed_6.data.toList.drop 0 = dktX0_lambda_reversed_6_0 := by decide +kernel
theorem dX0_lambda_reversed_6_0 : decode cX0_lambda_reversed_6 0 = .ok (.aload_n 0, 1) := dk_42 (dk_at dksX0_lambda_reversed_6_0 0 rfl rfl)
theorem dX0_lambda_reversed_6_1 : decode cX0_lambda_reversed_6 1 = .ok (.iload_n 1, 1) := dk_27 (dk_at dksX0_lambda_reversed_6_0 1 rfl rfl)
theorem dX0_lambda_reversed_6_2 : decode cX0_lambda_reversed_6 2 = .ok (.iload_n 2, 1) := dk_28 (dk_at dksX0_lambda_reversed_6_0 2 rfl rfl)
theorem dX0_lambda_reversed_6_3 : decode cX0_lambda_reversed_6 3 = .ok (.iload_n 3, 1) := dk_29 (dk_at dksX0_lambda_reversed_6_0 3 rfl rfl)
theorem dX0_lambda_reversed_6_4 : decode cX0_lambda_reversed_6 4 = .ok (.invokeinterface 133 4, 5) := by decide +kernel
theorem dX0_lambda_reversed_6_9 : decode cX0_lambda_reversed_6 9 = .ok (.invokevirtual 482, 3) := dk_182 1 226 (dk_at dksX0_lambda_reversed_6_0 9 rfl rfl)
theorem dX0_lambda_reversed_6_12 : decode cX0_lambda_reversed_6 12 = .ok (.areturn, 1) := dk_176 (dk_at dksX0_lambda_reversed_6_0 12 rfl rfl)
abbrev cX0_mirrored : ByteArray := prog_1_method_11_code
def yX0_mirrored : MethodName := ⟨RX0, "mirrored", "(LCardLoom$Law;)LCardLoom$Law;"⟩
theorem dX0_mirrored_0 : decode cX0_mirrored 0 = .ok (.aload_n 0, 1) := by decide +kernel
theorem dX0_mirrored_1 : decode cX0_mirrored 1 = .ok (.invokedynamic 82, 5) := by decide +kernel
theorem dX0_mirrored_6 : decode cX0_mirrored 6 = .ok (.areturn, 1) := by decide +kernel
abbrev cX0_lambda_mirrored_7 : ByteArray := prog_1_method_90_code
def yX0_lambda_mirrored_7 : MethodName := ⟨RX0, "lambda$mirrored$7", "(LCardLoom$Law;III)LCardLoom$Turning;"⟩
def dkwX0_lambda_mirrored_7_0 : List UInt8 := [42, 29, 4, 100, 27, 100, 28, 29, 185, 0, 133, 4, 0, 176]
abbrev dktX0_lambda_mirrored_7_0 : List UInt8 := dkwX0_lambda_mirrored_7_0 ++ []
theorem dksX0_lambda_mirrored_7_0 : cX0_lambda_mirrored_7.data.toList.drop 0 = dktX0_lambda_mirrored_7_0 := by decide +kernel
theorem dX0_lambda_mirrored_7_0 : decode cX0_lambda_mirrored_7 0 = .ok (.aload_n 0, 1) := dk_42 (dk_at dksX0_lambda_mirrored_7_0 0 rfl rfl)
theorem dX0_lambda_mirrored_7_1 : decode cX0_lambda_mirrored_7 1 = .ok (.iload_n 3, 1) := dk_29 (dk_at dksX0_lambda_mirrored_7_0 1 rfl rfl)
theorem dX0_lambda_mirrored_7_2 : decode cX0_lambda_mirrored_7 2 = .ok (.iconst 1, 1) := dk_4 (dk_at dksX0_lambda_mirrored_7_0 2 rfl rfl)
theorem dX0_lambda_mirrored_7_3 : decode cX0_lambda_mirrored_7 3 = .ok (.isub, 1) := dk_100 (dk_at dksX0_lambda_mirrored_7_0 3 rfl rfl)
theorem dX0_lambda_mirrored_7_4 : decode cX0_lambda_mirrored_7 4 = .ok (.iload_n 1, 1) := dk_27 (dk_at dksX0_lambda_mirrored_7_0 4 rfl rfl)
theorem dX0_lambda_mirrored_7_5 : decode cX0_lambda_mirrored_7 5 = .ok (.isub, 1) := dk_100 (dk_at dksX0_lambda_mirrored_7_0 5 rfl rfl)
theorem dX0_lambda_mirrored_7_6 : decode cX0_lambda_mirrored_7 6 = .ok (.iload_n 2, 1) := dk_28 (dk_at dksX0_lambda_mirrored_7_0 6 rfl rfl)
theorem dX0_lambda_mirrored_7_7 : decode cX0_lambda_mirrored_7 7 = .ok (.iload_n 3, 1) := dk_29 (dk_at dksX0_lambda_mirrored_7_0 7 rfl rfl)
theorem dX0_lambda_mirrored_7_8 : decode cX0_lambda_mirrored_7 8 = .ok (.invokeinterface 133 4, 5) := by decide +kernel
theorem dX0_lambda_mirrored_7_13 : decode cX0_lambda_mirrored_7 13 = .ok (.areturn, 1) := dk_176 (dk_at dksX0_lambda_mirrored_7_0 13 rfl rfl)
abbrev cX0_always : ByteArray := prog_1_method_4_code
def yX0_always : MethodName := ⟨RX0, "always", "(LCardLoom$Turning;)LCardLoom$Law;"⟩
theorem dX0_always_0 : decode cX0_always 0 = .ok (.aload_n 0, 1) := by decide +kernel
theorem dX0_always_1 : decode cX0_always 1 = .ok (.invokedynamic 67, 5) := by decide +kernel
theorem dX0_always_6 : decode cX0_always 6 = .ok (.areturn, 1) := by decide +kernel
abbrev cX0_lambda_always_0 : ByteArray := prog_1_method_97_code
def yX0_lambda_always_0 : MethodName := ⟨RX0, "lambda$always$0", "(LCardLoom$Turning;III)LCardLoom$Turning;"⟩
theorem dX0_lambda_always_0_0 : decode cX0_lambda_always_0 0 = .ok (.aload_n 0, 1) := by decide +kernel
theorem dX0_lambda_always_0_1 : decode cX0_lambda_always_0 1 = .ok (.areturn, 1) := by decide +kernel
abbrev cX0_card : ByteArray := prog_1_method_30_code
def yX0_card : MethodName := ⟨RX0, "card", "(II)I"⟩
def dkwX0_card_4 : List UInt8 := [185, 0, 133, 4, 0, 180, 0, 211, 172, 2, 172]
abbrev dktX0_card_4 : List UInt8 := dkwX0_card_4 ++ []
def dkwX0_card_3 : List UInt8 := [172, 42, 27, 182, 0, 208, 172, 42, 180, 0, 23, 27, 42, 180, 0, 16, 182, 0, 86, 42, 182, 0, 90]
abbrev dktX0_card_3 : List UInt8 := dkwX0_card_3 ++ dktX0_card_4
def dkwX0_card_2 : List UInt8 := [45, 180, 0, 198, 28, 46, 172, 45, 180, 0, 201, 172, 45, 180, 0, 204, 172, 45, 180, 0, 205, 16, 100, 96]
abbrev dktX0_card_2 : List UInt8 := dkwX0_card_2 ++ dktX0_card_3
def dkwX0_card_1 : List UInt8 := [170, 0, 0, 0, 105, 0, 0, 0, 0, 0, 0, 0, 8, 0, 0, 0, 49, 0, 0, 0, 49, 0, 0, 0, 49, 0, 0, 0, 49, 0, 0, 0, 56, 0, 0, 0, 61, 0, 0, 0, 66, 0, 0, 0, 74, 0, 0, 0, 80]
abbrev dktX0_card_1 : List UInt8 := dkwX0_card_1 ++ dktX0_card_2
def dkwX0_card_0 : List UInt8 := [42, 27, 182, 0, 195, 154, 0, 5, 2, 172, 42, 180, 0, 10, 27, 182, 0, 121, 192, 0, 111, 78, 28]
abbrev dktX0_card_0 : List UInt8 := dkwX0_card_0 ++ dktX0_card_1
theorem dksX0_card_0 : cX0_card.data.toList.drop 0 = dktX0_card_0 := by decide +kernel
theorem dksX0_card_1 : cX0_card.data.toList.drop 23 = dktX0_card_1 := dk_seg dksX0_card_0 23 rfl rfl
theorem dksX0_card_2 : cX0_card.data.toList.drop 72 = dktX0_card_2 := dk_seg dksX0_card_1 49 rfl rfl
theorem dksX0_card_3 : cX0_card.data.toList.drop 96 = dktX0_card_3 := dk_seg dksX0_card_2 24 rfl rfl
theorem dksX0_card_4 : cX0_card.data.toList.drop 119 = dktX0_card_4 := dk_seg dksX0_card_3 23 rfl rfl
theorem dX0_card_0 : decode cX0_card 0 = .ok (.aload_n 0, 1) := dk_42 (dk_at dksX0_card_0 0 rfl rfl)
theorem dX0_card_1 : decode cX0_card 1 = .ok (.iload_n 1, 1) := dk_27 (dk_at dksX0_card_0 1 rfl rfl)
theorem dX0_card_2 : decode cX0_card 2 = .ok (.invokevirtual 195, 3) := dk_182 0 195 (dk_at dksX0_card_0 2 rfl rfl)
theorem dX0_card_5 : decode cX0_card 5 = .ok (.ifCond .ne 5, 3) := dk_154 0 5 (dk_at dksX0_card_0 5 rfl rfl)
theorem dX0_card_8 : decode cX0_card 8 = .ok (.iconst (-1), 1) := dk_2 (dk_at dksX0_card_0 8 rfl rfl)
theorem dX0_card_9 : decode cX0_card 9 = .ok (.ireturn, 1) := dk_172 (dk_at dksX0_card_0 9 rfl rfl)
theorem dX0_card_10 : decode cX0_card 10 = .ok (.aload_n 0, 1) := dk_42 (dk_at dksX0_card_0 10 rfl rfl)
theorem dX0_card_11 : decode cX0_card 11 = .ok (.getfield 10, 3) := dk_180 0 10 (dk_at dksX0_card_0 11 rfl rfl)
theorem dX0_card_14 : decode cX0_card 14 = .ok (.iload_n 1, 1) := dk_27 (dk_at dksX0_card_0 14 rfl rfl)
theorem dX0_card_15 : decode cX0_card 15 = .ok (.invokevirtual 121, 3) := dk_182 0 121 (dk_at dksX0_card_0 15 rfl rfl)
theorem dX0_card_18 : decode cX0_card 18 = .ok (.checkcast 111, 3) := dk_192 0 111 (dk_at dksX0_card_0 18 rfl rfl)
theorem dX0_card_21 : decode cX0_card 21 = .ok (.astore_n 3, 1) := dk_78 (dk_at dksX0_card_0 21 rfl rfl)
theorem dX0_card_22 : decode cX0_card 22 = .ok (.iload_n 2, 1) := dk_28 (dk_at dksX0_card_0 22 rfl rfl)
theorem dX0_card_23 : decode cX0_card 23 = .ok (.tableswitch 105 0 8 #[49, 49, 49, 49, 56, 61, 66, 74, 80], 49) := by decide +kernel
theorem dX0_card_72 : decode cX0_card 72 = .ok (.aload_n 3, 1) := dk_45 (dk_at dksX0_card_2 0 rfl rfl)
theorem dX0_card_73 : decode cX0_card 73 = .ok (.getfield 198, 3) := dk_180 0 198 (dk_at dksX0_card_2 1 rfl rfl)
theorem dX0_card_76 : decode cX0_card 76 = .ok (.iload_n 2, 1) := dk_28 (dk_at dksX0_card_2 4 rfl rfl)
theorem dX0_card_77 : decode cX0_card 77 = .ok (.iaload, 1) := dk_46 (dk_at dksX0_card_2 5 rfl rfl)
theorem dX0_card_78 : decode cX0_card 78 = .ok (.ireturn, 1) := dk_172 (dk_at dksX0_card_2 6 rfl rfl)
theorem dX0_card_79 : decode cX0_card 79 = .ok (.aload_n 3, 1) := dk_45 (dk_at dksX0_card_2 7 rfl rfl)
theorem dX0_card_80 : decode cX0_card 80 = .ok (.getfield 201, 3) := dk_180 0 201 (dk_at dksX0_card_2 8 rfl rfl)
theorem dX0_card_83 : decode cX0_card 83 = .ok (.ireturn, 1) := dk_172 (dk_at dksX0_card_2 11 rfl rfl)
theorem dX0_card_84 : decode cX0_card 84 = .ok (.aload_n 3, 1) := dk_45 (dk_at dksX0_card_2 12 rfl rfl)
theorem dX0_card_85 : decode cX0_card 85 = .ok (.getfield 204, 3) := dk_180 0 204 (dk_at dksX0_card_2 13 rfl rfl)
theorem dX0_card_88 : decode cX0_card 88 = .ok (.ireturn, 1) := dk_172 (dk_at dksX0_card_2 16 rfl rfl)
theorem dX0_card_89 : decode cX0_card 89 = .ok (.aload_n 3, 1) := dk_45 (dk_at dksX0_card_2 17 rfl rfl)
theorem dX0_card_90 : decode cX0_card 90 = .ok (.getfield 205, 3) := dk_180 0 205 (dk_at dksX0_card_2 18 rfl rfl)
theorem dX0_card_93 : decode cX0_card 93 = .ok (.bipush 100, 2) := dk_16 100 (dk_at dksX0_card_2 21 rfl rfl)
theorem dX0_card_95 : decode cX0_card 95 = .ok (.iadd, 1) := dk_96 (dk_at dksX0_card_2 23 rfl rfl)
theorem dX0_card_96 : decode cX0_card 96 = .ok (.ireturn, 1) := dk_172 (dk_at dksX0_card_3 0 rfl rfl)
theorem dX0_card_97 : decode cX0_card 97 = .ok (.aload_n 0, 1) := dk_42 (dk_at dksX0_card_3 1 rfl rfl)
theorem dX0_card_98 : decode cX0_card 98 = .ok (.iload_n 1, 1) := dk_27 (dk_at dksX0_card_3 2 rfl rfl)
theorem dX0_card_99 : decode cX0_card 99 = .ok (.invokevirtual 208, 3) := dk_182 0 208 (dk_at dksX0_card_3 3 rfl rfl)
theorem dX0_card_102 : decode cX0_card 102 = .ok (.ireturn, 1) := dk_172 (dk_at dksX0_card_3 6 rfl rfl)
theorem dX0_card_103 : decode cX0_card 103 = .ok (.aload_n 0, 1) := dk_42 (dk_at dksX0_card_3 7 rfl rfl)
theorem dX0_card_104 : decode cX0_card 104 = .ok (.getfield 23, 3) := dk_180 0 23 (dk_at dksX0_card_3 8 rfl rfl)
theorem dX0_card_107 : decode cX0_card 107 = .ok (.iload_n 1, 1) := dk_27 (dk_at dksX0_card_3 11 rfl rfl)
theorem dX0_card_108 : decode cX0_card 108 = .ok (.aload_n 0, 1) := dk_42 (dk_at dksX0_card_3 12 rfl rfl)
theorem dX0_card_109 : decode cX0_card 109 = .ok (.getfield 16, 3) := dk_180 0 16 (dk_at dksX0_card_3 13 rfl rfl)
theorem dX0_card_112 : decode cX0_card 112 = .ok (.invokevirtual 86, 3) := dk_182 0 86 (dk_at dksX0_card_3 16 rfl rfl)
theorem dX0_card_115 : decode cX0_card 115 = .ok (.aload_n 0, 1) := dk_42 (dk_at dksX0_card_3 19 rfl rfl)
theorem dX0_card_116 : decode cX0_card 116 = .ok (.invokevirtual 90, 3) := dk_182 0 90 (dk_at dksX0_card_3 20 rfl rfl)
theorem dX0_card_119 : decode cX0_card 119 = .ok (.invokeinterface 133 4, 5) := by decide +kernel
theorem dX0_card_124 : decode cX0_card 124 = .ok (.getfield 211, 3) := dk_180 0 211 (dk_at dksX0_card_4 5 rfl rfl)
theorem dX0_card_127 : decode cX0_card 127 = .ok (.ireturn, 1) := dk_172 (dk_at dksX0_card_4 8 rfl rfl)
theorem dX0_card_128 : decode cX0_card 128 = .ok (.iconst (-1), 1) := dk_2 (dk_at dksX0_card_4 9 rfl rfl)
theorem dX0_card_129 : decode cX0_card 129 = .ok (.ireturn, 1) := dk_172 (dk_at dksX0_card_4 10 rfl rfl)
abbrev cX0_isCard : ByteArray := prog_1_method_14_code
def yX0_isCard : MethodName := ⟨RX0, "isCard", "(I)Z"⟩
def dkwX0_isCard_0 : List UInt8 := [27, 3, 42, 182, 0, 90, 4, 100, 184, 0, 93, 172]
abbrev dktX0_isCard_0 : List UInt8 := dkwX0_isCard_0 ++ []
theorem dksX0_isCard_0 : cX0_isCard.data.toList.drop 0 = dktX0_isCard_0 := by decide +kernel
theorem dX0_isCard_0 : decode cX0_isCard 0 = .ok (.iload_n 1, 1) := dk_27 (dk_at dksX0_isCard_0 0 rfl rfl)
theorem dX0_isCard_1 : decode cX0_isCard 1 = .ok (.iconst 0, 1) := dk_3 (dk_at dksX0_isCard_0 1 rfl rfl)
theorem dX0_isCard_2 : decode cX0_isCard 2 = .ok (.aload_n 0, 1) := dk_42 (dk_at dksX0_isCard_0 2 rfl rfl)
theorem dX0_isCard_3 : decode cX0_isCard 3 = .ok (.invokevirtual 90, 3) := dk_182 0 90 (dk_at dksX0_isCard_0 3 rfl rfl)
theorem dX0_isCard_6 : decode cX0_isCard 6 = .ok (.iconst 1, 1) := dk_4 (dk_at dksX0_isCard_0 6 rfl rfl)
theorem dX0_isCard_7 : decode cX0_isCard 7 = .ok (.isub, 1) := dk_100 (dk_at dksX0_isCard_0 7 rfl rfl)
theorem dX0_isCard_8 : decode cX0_isCard 8 = .ok (.invokestatic 93, 3) := dk_184 0 93 (dk_at dksX0_isCard_0 8 rfl rfl)
theorem dX0_isCard_11 : decode cX0_isCard 11 = .ok (.ireturn, 1) := dk_172 (dk_at dksX0_isCard_0 11 rfl rfl)
abbrev cX0_floatOf : ByteArray := prog_1_method_29_code
def yX0_floatOf : MethodName := ⟨RX0, "floatOf", "(I)I"⟩
def dkwX0_floatOf_2 : List UInt8 := [166, 0, 9, 29, 4, 96, 167, 0, 4, 3, 62, 28, 29, 184, 0, 189, 61, 167, 255, 207, 28, 172]
abbrev dktX0_floatOf_2 : List UInt8 := dkwX0_floatOf_2 ++ []
def dkwX0_floatOf_1 : List UInt8 := [25, 4, 185, 0, 107, 1, 0, 192, 0, 144, 58, 5, 25, 5, 180, 0, 185, 27, 50, 178, 0, 61]
abbrev dktX0_floatOf_1 : List UInt8 := dkwX0_floatOf_1 ++ dktX0_floatOf_2
def dkwX0_floatOf_0 : List UInt8 := [3, 61, 3, 62, 42, 180, 0, 16, 182, 0, 97, 58, 4, 25, 4, 185, 0, 101, 1, 0, 153, 0, 45]
abbrev dktX0_floatOf_0 : List UInt8 := dkwX0_floatOf_0 ++ dktX0_floatOf_1
theorem dksX0_floatOf_0 : cX0_floatOf.data.toList.drop 0 = dktX0_floatOf_0 := by decide +kernel
theorem dksX0_floatOf_1 : cX0_floatOf.data.toList.drop 23 = dktX0_floatOf_1 := dk_seg dksX0_floatOf_0 23 rfl rfl
theorem dksX0_floatOf_2 : cX0_floatOf.data.toList.drop 45 = dktX0_floatOf_2 := dk_seg dksX0_floatOf_1 22 rfl rfl
theorem dX0_floatOf_0 : decode cX0_floatOf 0 = .ok (.iconst 0, 1) := dk_3 (dk_at dksX0_floatOf_0 0 rfl rfl)
theorem dX0_floatOf_1 : decode cX0_floatOf 1 = .ok (.istore_n 2, 1) := dk_61 (dk_at dksX0_floatOf_0 1 rfl rfl)
theorem dX0_floatOf_2 : decode cX0_floatOf 2 = .ok (.iconst 0, 1) := dk_3 (dk_at dksX0_floatOf_0 2 rfl rfl)
theorem dX0_floatOf_3 : decode cX0_floatOf 3 = .ok (.istore_n 3, 1) := dk_62 (dk_at dksX0_floatOf_0 3 rfl rfl)
theorem dX0_floatOf_4 : decode cX0_floatOf 4 = .ok (.aload_n 0, 1) := dk_42 (dk_at dksX0_floatOf_0 4 rfl rfl)
theorem dX0_floatOf_5 : decode cX0_floatOf 5 = .ok (.getfield 16, 3) := dk_180 0 16 (dk_at dksX0_floatOf_0 5 rfl rfl)
theorem dX0_floatOf_8 : decode cX0_floatOf 8 = .ok (.invokevirtual 97, 3) := dk_182 0 97 (dk_at dksX0_floatOf_0 8 rfl rfl)
theorem dX0_floatOf_11 : decode cX0_floatOf 11 = .ok (.astore 4, 2) := dk_58 4 (dk_at dksX0_floatOf_0 11 rfl rfl)
theorem dX0_floatOf_13 : decode cX0_floatOf 13 = .ok (.aload 4, 2) := dk_25 4 (dk_at dksX0_floatOf_0 13 rfl rfl)
theorem dX0_floatOf_15 : decode cX0_floatOf 15 = .ok (.invokeinterface 101 1, 5) := by decide +kernel
theorem dX0_floatOf_20 : decode cX0_floatOf 20 = .ok (.ifCond .eq 45, 3) := dk_153 0 45 (dk_at dksX0_floatOf_0 20 rfl rfl)
theorem dX0_floatOf_23 : decode cX0_floatOf 23 = .ok (.aload 4, 2) := dk_25 4 (dk_at dksX0_floatOf_1 0 rfl rfl)
theorem dX0_floatOf_25 : decode cX0_floatOf 25 = .ok (.invokeinterface 107 1, 5) := by decide +kernel
theorem dX0_floatOf_30 : decode cX0_floatOf 30 = .ok (.checkcast 144, 3) := dk_192 0 144 (dk_at dksX0_floatOf_1 7 rfl rfl)
theorem dX0_floatOf_33 : decode cX0_floatOf 33 = .ok (.astore 5, 2) := dk_58 5 (dk_at dksX0_floatOf_1 10 rfl rfl)
theorem dX0_floatOf_35 : decode cX0_floatOf 35 = .ok (.aload 5, 2) := dk_25 5 (dk_at dksX0_floatOf_1 12 rfl rfl)
theorem dX0_floatOf_37 : decode cX0_floatOf 37 = .ok (.getfield 185, 3) := dk_180 0 185 (dk_at dksX0_floatOf_1 14 rfl rfl)
theorem dX0_floatOf_40 : decode cX0_floatOf 40 = .ok (.iload_n 1, 1) := dk_27 (dk_at dksX0_floatOf_1 17 rfl rfl)
theorem dX0_floatOf_41 : decode cX0_floatOf 41 = .ok (.aaload, 1) := dk_50 (dk_at dksX0_floatOf_1 18 rfl rfl)
theorem dX0_floatOf_42 : decode cX0_floatOf 42 = .ok (.getstatic 61, 3) := dk_178 0 61 (dk_at dksX0_floatOf_1 19 rfl rfl)
theorem dX0_floatOf_45 : decode cX0_floatOf 45 = .ok (.if_acmp .ne 9, 3) := dk_166 0 9 (dk_at dksX0_floatOf_2 0 rfl rfl)
theorem dX0_floatOf_48 : decode cX0_floatOf 48 = .ok (.iload_n 3, 1) := dk_29 (dk_at dksX0_floatOf_2 3 rfl rfl)
theorem dX0_floatOf_49 : decode cX0_floatOf 49 = .ok (.iconst 1, 1) := dk_4 (dk_at dksX0_floatOf_2 4 rfl rfl)
theorem dX0_floatOf_50 : decode cX0_floatOf 50 = .ok (.iadd, 1) := dk_96 (dk_at dksX0_floatOf_2 5 rfl rfl)
theorem dX0_floatOf_51 : decode cX0_floatOf 51 = .ok (.goto 4, 3) := dk_167 0 4 (dk_at dksX0_floatOf_2 6 rfl rfl)
theorem dX0_floatOf_54 : decode cX0_floatOf 54 = .ok (.iconst 0, 1) := dk_3 (dk_at dksX0_floatOf_2 9 rfl rfl)
theorem dX0_floatOf_55 : decode cX0_floatOf 55 = .ok (.istore_n 3, 1) := dk_62 (dk_at dksX0_floatOf_2 10 rfl rfl)
theorem dX0_floatOf_56 : decode cX0_floatOf 56 = .ok (.iload_n 2, 1) := dk_28 (dk_at dksX0_floatOf_2 11 rfl rfl)
theorem dX0_floatOf_57 : decode cX0_floatOf 57 = .ok (.iload_n 3, 1) := dk_29 (dk_at dksX0_floatOf_2 12 rfl rfl)
theorem dX0_floatOf_58 : decode cX0_floatOf 58 = .ok (.invokestatic 189, 3) := dk_184 0 189 (dk_at dksX0_floatOf_2 13 rfl rfl)
theorem dX0_floatOf_61 : decode cX0_floatOf 61 = .ok (.istore_n 2, 1) := dk_61 (dk_at dksX0_floatOf_2 16 rfl rfl)
theorem dX0_floatOf_62 : decode cX0_floatOf 62 = .ok (.goto (-49), 3) := dk_167 255 207 (dk_at dksX0_floatOf_2 17 rfl rfl)
theorem dX0_floatOf_65 : decode cX0_floatOf 65 = .ok (.iload_n 2, 1) := dk_28 (dk_at dksX0_floatOf_2 20 rfl rfl)
theorem dX0_floatOf_66 : decode cX0_floatOf 66 = .ok (.ireturn, 1) := dk_172 (dk_at dksX0_floatOf_2 21 rfl rfl)
abbrev cX0_slant : ByteArray := prog_1_method_31_code
def yX0_slant : MethodName := ⟨RX0, "slant", "(I)I"⟩
def dkwX0_slant_1 : List UInt8 := [44, 180, 0, 201, 100, 181, 0, 201, 44, 180, 0, 201, 172]
abbrev dktX0_slant_1 : List UInt8 := dkwX0_slant_1 ++ []
def dkwX0_slant_0 : List UInt8 := [42, 27, 182, 0, 195, 154, 0, 5, 2, 172, 42, 180, 0, 10, 27, 182, 0, 121, 192, 0, 111, 77, 44, 4]
abbrev dktX0_slant_0 : List UInt8 := dkwX0_slant_0 ++ dktX0_slant_1
theorem dksX0_slant_0 : cX0_slant.data.toList.drop 0 = dktX0_slant_0 := by decide +kernel
theorem dksX0_slant_1 : cX0_slant.data.toList.drop 24 = dktX0_slant_1 := dk_seg dksX0_slant_0 24 rfl rfl
theorem dX0_slant_0 : decode cX0_slant 0 = .ok (.aload_n 0, 1) := dk_42 (dk_at dksX0_slant_0 0 rfl rfl)
theorem dX0_slant_1 : decode cX0_slant 1 = .ok (.iload_n 1, 1) := dk_27 (dk_at dksX0_slant_0 1 rfl rfl)
theorem dX0_slant_2 : decode cX0_slant 2 = .ok (.invokevirtual 195, 3) := dk_182 0 195 (dk_at dksX0_slant_0 2 rfl rfl)
theorem dX0_slant_5 : decode cX0_slant 5 = .ok (.ifCond .ne 5, 3) := dk_154 0 5 (dk_at dksX0_slant_0 5 rfl rfl)
theorem dX0_slant_8 : decode cX0_slant 8 = .ok (.iconst (-1), 1) := dk_2 (dk_at dksX0_slant_0 8 rfl rfl)
theorem dX0_slant_9 : decode cX0_slant 9 = .ok (.ireturn, 1) := dk_172 (dk_at dksX0_slant_0 9 rfl rfl)
theorem dX0_slant_10 : decode cX0_slant 10 = .ok (.aload_n 0, 1) := dk_42 (dk_at dksX0_slant_0 10 rfl rfl)
theorem dX0_slant_11 : decode cX0_slant 11 = .ok (.getfield 10, 3) := dk_180 0 10 (dk_at dksX0_slant_0 11 rfl rfl)
theorem dX0_slant_14 : decode cX0_slant 14 = .ok (.iload_n 1, 1) := dk_27 (dk_at dksX0_slant_0 14 rfl rfl)
theorem dX0_slant_15 : decode cX0_slant 15 = .ok (.invokevirtual 121, 3) := dk_182 0 121 (dk_at dksX0_slant_0 15 rfl rfl)
theorem dX0_slant_18 : decode cX0_slant 18 = .ok (.checkcast 111, 3) := dk_192 0 111 (dk_at dksX0_slant_0 18 rfl rfl)
theorem dX0_slant_21 : decode cX0_slant 21 = .ok (.astore_n 2, 1) := dk_77 (dk_at dksX0_slant_0 21 rfl rfl)
theorem dX0_slant_22 : decode cX0_slant 22 = .ok (.aload_n 2, 1) := dk_44 (dk_at dksX0_slant_0 22 rfl rfl)
theorem dX0_slant_23 : decode cX0_slant 23 = .ok (.iconst 1, 1) := dk_4 (dk_at dksX0_slant_0 23 rfl rfl)
theorem dX0_slant_24 : decode cX0_slant 24 = .ok (.aload_n 2, 1) := dk_44 (dk_at dksX0_slant_1 0 rfl rfl)
theorem dX0_slant_25 : decode cX0_slant 25 = .ok (.getfield 201, 3) := dk_180 0 201 (dk_at dksX0_slant_1 1 rfl rfl)
theorem dX0_slant_28 : decode cX0_slant 28 = .ok (.isub, 1) := dk_100 (dk_at dksX0_slant_1 4 rfl rfl)
theorem dX0_slant_29 : decode cX0_slant 29 = .ok (.putfield 201, 3) := dk_181 0 201 (dk_at dksX0_slant_1 5 rfl rfl)
theorem dX0_slant_32 : decode cX0_slant 32 = .ok (.aload_n 2, 1) := dk_44 (dk_at dksX0_slant_1 8 rfl rfl)
theorem dX0_slant_33 : decode cX0_slant 33 = .ok (.getfield 201, 3) := dk_180 0 201 (dk_at dksX0_slant_1 9 rfl rfl)
theorem dX0_slant_36 : decode cX0_slant 36 = .ok (.ireturn, 1) := dk_172 (dk_at dksX0_slant_1 12 rfl rfl)
abbrev cX0_place : ByteArray := prog_1_method_32_code
def yX0_place : MethodName := ⟨RX0, "place", "(II)I"⟩
def dkwX0_place_2 : List UInt8 := [192, 0, 111, 28, 181, 0, 204, 29, 172]
abbrev dktX0_place_2 : List UInt8 := dkwX0_place_2 ++ []
def dkwX0_place_1 : List UInt8 := [180, 0, 10, 27, 182, 0, 121, 192, 0, 111, 180, 0, 204, 62, 42, 180, 0, 10, 27, 182, 0, 121]
abbrev dktX0_place_1 : List UInt8 := dkwX0_place_1 ++ dktX0_place_2
def dkwX0_place_0 : List UInt8 := [42, 27, 182, 0, 195, 154, 0, 5, 2, 172, 28, 3, 6, 184, 0, 93, 154, 0, 6, 16, 254, 172, 42]
abbrev dktX0_place_0 : List UInt8 := dkwX0_place_0 ++ dktX0_place_1
theorem dksX0_place_0 : cX0_place.data.toList.drop 0 = dktX0_place_0 := by decide +kernel
theorem dksX0_place_1 : cX0_place.data.toList.drop 23 = dktX0_place_1 := dk_seg dksX0_place_0 23 rfl rfl
theorem dksX0_place_2 : cX0_place.data.toList.drop 45 = dktX0_place_2 := dk_seg dksX0_place_1 22 rfl rfl
theorem dX0_place_0 : decode cX0_place 0 = .ok (.aload_n 0, 1) := dk_42 (dk_at dksX0_place_0 0 rfl rfl)
theorem dX0_place_1 : decode cX0_place 1 = .ok (.iload_n 1, 1) := dk_27 (dk_at dksX0_place_0 1 rfl rfl)
theorem dX0_place_2 : decode cX0_place 2 = .ok (.invokevirtual 195, 3) := dk_182 0 195 (dk_at dksX0_place_0 2 rfl rfl)
theorem dX0_place_5 : decode cX0_place 5 = .ok (.ifCond .ne 5, 3) := dk_154 0 5 (dk_at dksX0_place_0 5 rfl rfl)
theorem dX0_place_8 : decode cX0_place 8 = .ok (.iconst (-1), 1) := dk_2 (dk_at dksX0_place_0 8 rfl rfl)
theorem dX0_place_9 : decode cX0_place 9 = .ok (.ireturn, 1) := dk_172 (dk_at dksX0_place_0 9 rfl rfl)
theorem dX0_place_10 : decode cX0_place 10 = .ok (.iload_n 2, 1) := dk_28 (dk_at dksX0_place_0 10 rfl rfl)
theorem dX0_place_11 : decode cX0_place 11 = .ok (.iconst 0, 1) := dk_3 (dk_at dksX0_place_0 11 rfl rfl)
theorem dX0_place_12 : decode cX0_place 12 = .ok (.iconst 3, 1) := dk_6 (dk_at dksX0_place_0 12 rfl rfl)
theorem dX0_place_13 : decode cX0_place 13 = .ok (.invokestatic 93, 3) := dk_184 0 93 (dk_at dksX0_place_0 13 rfl rfl)
theorem dX0_place_16 : decode cX0_place 16 = .ok (.ifCond .ne 6, 3) := dk_154 0 6 (dk_at dksX0_place_0 16 rfl rfl)
theorem dX0_place_19 : decode cX0_place 19 = .ok (.bipush (-2), 2) := dk_16 254 (dk_at dksX0_place_0 19 rfl rfl)
theorem dX0_place_21 : decode cX0_place 21 = .ok (.ireturn, 1) := dk_172 (dk_at dksX0_place_0 21 rfl rfl)
theorem dX0_place_22 : decode cX0_place 22 = .ok (.aload_n 0, 1) := dk_42 (dk_at dksX0_place_0 22 rfl rfl)
theorem dX0_place_23 : decode cX0_place 23 = .ok (.getfield 10, 3) := dk_180 0 10 (dk_at dksX0_place_1 0 rfl rfl)
theorem dX0_place_26 : decode cX0_place 26 = .ok (.iload_n 1, 1) := dk_27 (dk_at dksX0_place_1 3 rfl rfl)
theorem dX0_place_27 : decode cX0_place 27 = .ok (.invokevirtual 121, 3) := dk_182 0 121 (dk_at dksX0_place_1 4 rfl rfl)
theorem dX0_place_30 : decode cX0_place 30 = .ok (.checkcast 111, 3) := dk_192 0 111 (dk_at dksX0_place_1 7 rfl rfl)
theorem dX0_place_33 : decode cX0_place 33 = .ok (.getfield 204, 3) := dk_180 0 204 (dk_at dksX0_place_1 10 rfl rfl)
theorem dX0_place_36 : decode cX0_place 36 = .ok (.istore_n 3, 1) := dk_62 (dk_at dksX0_place_1 13 rfl rfl)
theorem dX0_place_37 : decode cX0_place 37 = .ok (.aload_n 0, 1) := dk_42 (dk_at dksX0_place_1 14 rfl rfl)
theorem dX0_place_38 : decode cX0_place 38 = .ok (.getfield 10, 3) := dk_180 0 10 (dk_at dksX0_place_1 15 rfl rfl)
theorem dX0_place_41 : decode cX0_place 41 = .ok (.iload_n 1, 1) := dk_27 (dk_at dksX0_place_1 18 rfl rfl)
theorem dX0_place_42 : decode cX0_place 42 = .ok (.invokevirtual 121, 3) := dk_182 0 121 (dk_at dksX0_place_1 19 rfl rfl)
theorem dX0_place_45 : decode cX0_place 45 = .ok (.checkcast 111, 3) := dk_192 0 111 (dk_at dksX0_place_2 0 rfl rfl)
theorem dX0_place_48 : decode cX0_place 48 = .ok (.iload_n 2, 1) := dk_28 (dk_at dksX0_place_2 3 rfl rfl)
theorem dX0_place_49 : decode cX0_place 49 = .ok (.putfield 204, 3) := dk_181 0 204 (dk_at dksX0_place_2 4 rfl rfl)
theorem dX0_place_52 : decode cX0_place 52 = .ok (.iload_n 3, 1) := dk_29 (dk_at dksX0_place_2 7 rfl rfl)
theorem dX0_place_53 : decode cX0_place 53 = .ok (.ireturn, 1) := dk_172 (dk_at dksX0_place_2 8 rfl rfl)
abbrev cX0_recolour : ByteArray := prog_1_method_34_code
def yX0_recolour : MethodName := ⟨RX0, "recolour", "(III)I"⟩
def dkwX0_recolour_2 : List UInt8 := [42, 180, 0, 10, 27, 182, 0, 121, 192, 0, 111, 180, 0, 198, 28, 29, 79, 21, 4, 172]
abbrev dktX0_recolour_2 : List UInt8 := dkwX0_recolour_2 ++ []
def dkwX0_recolour_1 : List UInt8 := [154, 0, 6, 16, 254, 172, 42, 180, 0, 10, 27, 182, 0, 121, 192, 0, 111, 180, 0, 198, 28, 46, 54, 4]
abbrev dktX0_recolour_1 : List UInt8 := dkwX0_recolour_1 ++ dktX0_recolour_2
def dkwX0_recolour_0 : List UInt8 := [42, 27, 182, 0, 195, 153, 0, 12, 28, 3, 6, 184, 0, 93, 154, 0, 5, 2, 172, 29, 184, 0, 214]
abbrev dktX0_recolour_0 : List UInt8 := dkwX0_recolour_0 ++ dktX0_recolour_1
theorem dksX0_recolour_0 : cX0_recolour.data.toList.drop 0 = dktX0_recolour_0 := by decide +kernel
theorem dksX0_recolour_1 : cX0_recolour.data.toList.drop 23 = dktX0_recolour_1 := dk_seg dksX0_recolour_0 23 rfl rfl
theorem dksX0_recolour_2 : cX0_recolour.data.toList.drop 47 = dktX0_recolour_2 := dk_seg dksX0_recolour_1 24 rfl rfl
theorem dX0_recolour_0 : decode cX0_recolour 0 = .ok (.aload_n 0, 1) := dk_42 (dk_at dksX0_recolour_0 0 rfl rfl)
theorem dX0_recolour_1 : decode cX0_recolour 1 = .ok (.iload_n 1, 1) := dk_27 (dk_at dksX0_recolour_0 1 rfl rfl)
theorem dX0_recolour_2 : decode cX0_recolour 2 = .ok (.invokevirtual 195, 3) := dk_182 0 195 (dk_at dksX0_recolour_0 2 rfl rfl)
theorem dX0_recolour_5 : decode cX0_recolour 5 = .ok (.ifCond .eq 12, 3) := dk_153 0 12 (dk_at dksX0_recolour_0 5 rfl rfl)
theorem dX0_recolour_8 : decode cX0_recolour 8 = .ok (.iload_n 2, 1) := dk_28 (dk_at dksX0_recolour_0 8 rfl rfl)
theorem dX0_recolour_9 : decode cX0_recolour 9 = .ok (.iconst 0, 1) := dk_3 (dk_at dksX0_recolour_0 9 rfl rfl)
theorem dX0_recolour_10 : decode cX0_recolour 10 = .ok (.iconst 3, 1) := dk_6 (dk_at dksX0_recolour_0 10 rfl rfl)
theorem dX0_recolour_11 : decode cX0_recolour 11 = .ok (.invokestatic 93, 3) := dk_184 0 93 (dk_at dksX0_recolour_0 11 rfl rfl)
theorem dX0_recolour_14 : decode cX0_recolour 14 = .ok (.ifCond .ne 5, 3) := dk_154 0 5 (dk_at dksX0_recolour_0 14 rfl rfl)
theorem dX0_recolour_17 : decode cX0_recolour 17 = .ok (.iconst (-1), 1) := dk_2 (dk_at dksX0_recolour_0 17 rfl rfl)
theorem dX0_recolour_18 : decode cX0_recolour 18 = .ok (.ireturn, 1) := dk_172 (dk_at dksX0_recolour_0 18 rfl rfl)
theorem dX0_recolour_19 : decode cX0_recolour 19 = .ok (.iload_n 3, 1) := dk_29 (dk_at dksX0_recolour_0 19 rfl rfl)
theorem dX0_recolour_20 : decode cX0_recolour 20 = .ok (.invokestatic 214, 3) := dk_184 0 214 (dk_at dksX0_recolour_0 20 rfl rfl)
theorem dX0_recolour_23 : decode cX0_recolour 23 = .ok (.ifCond .ne 6, 3) := dk_154 0 6 (dk_at dksX0_recolour_1 0 rfl rfl)
theorem dX0_recolour_26 : decode cX0_recolour 26 = .ok (.bipush (-2), 2) := dk_16 254 (dk_at dksX0_recolour_1 3 rfl rfl)
theorem dX0_recolour_28 : decode cX0_recolour 28 = .ok (.ireturn, 1) := dk_172 (dk_at dksX0_recolour_1 5 rfl rfl)
theorem dX0_recolour_29 : decode cX0_recolour 29 = .ok (.aload_n 0, 1) := dk_42 (dk_at dksX0_recolour_1 6 rfl rfl)
theorem dX0_recolour_30 : decode cX0_recolour 30 = .ok (.getfield 10, 3) := dk_180 0 10 (dk_at dksX0_recolour_1 7 rfl rfl)
theorem dX0_recolour_33 : decode cX0_recolour 33 = .ok (.iload_n 1, 1) := dk_27 (dk_at dksX0_recolour_1 10 rfl rfl)
theorem dX0_recolour_34 : decode cX0_recolour 34 = .ok (.invokevirtual 121, 3) := dk_182 0 121 (dk_at dksX0_recolour_1 11 rfl rfl)
theorem dX0_recolour_37 : decode cX0_recolour 37 = .ok (.checkcast 111, 3) := dk_192 0 111 (dk_at dksX0_recolour_1 14 rfl rfl)
theorem dX0_recolour_40 : decode cX0_recolour 40 = .ok (.getfield 198, 3) := dk_180 0 198 (dk_at dksX0_recolour_1 17 rfl rfl)
theorem dX0_recolour_43 : decode cX0_recolour 43 = .ok (.iload_n 2, 1) := dk_28 (dk_at dksX0_recolour_1 20 rfl rfl)
theorem dX0_recolour_44 : decode cX0_recolour 44 = .ok (.iaload, 1) := dk_46 (dk_at dksX0_recolour_1 21 rfl rfl)
theorem dX0_recolour_45 : decode cX0_recolour 45 = .ok (.istore 4, 2) := dk_54 4 (dk_at dksX0_recolour_1 22 rfl rfl)
theorem dX0_recolour_47 : decode cX0_recolour 47 = .ok (.aload_n 0, 1) := dk_42 (dk_at dksX0_recolour_2 0 rfl rfl)
theorem dX0_recolour_48 : decode cX0_recolour 48 = .ok (.getfield 10, 3) := dk_180 0 10 (dk_at dksX0_recolour_2 1 rfl rfl)
theorem dX0_recolour_51 : decode cX0_recolour 51 = .ok (.iload_n 1, 1) := dk_27 (dk_at dksX0_recolour_2 4 rfl rfl)
theorem dX0_recolour_52 : decode cX0_recolour 52 = .ok (.invokevirtual 121, 3) := dk_182 0 121 (dk_at dksX0_recolour_2 5 rfl rfl)
theorem dX0_recolour_55 : decode cX0_recolour 55 = .ok (.checkcast 111, 3) := dk_192 0 111 (dk_at dksX0_recolour_2 8 rfl rfl)
theorem dX0_recolour_58 : decode cX0_recolour 58 = .ok (.getfield 198, 3) := dk_180 0 198 (dk_at dksX0_recolour_2 11 rfl rfl)
theorem dX0_recolour_61 : decode cX0_recolour 61 = .ok (.iload_n 2, 1) := dk_28 (dk_at dksX0_recolour_2 14 rfl rfl)
theorem dX0_recolour_62 : decode cX0_recolour 62 = .ok (.iload_n 3, 1) := dk_29 (dk_at dksX0_recolour_2 15 rfl rfl)
theorem dX0_recolour_63 : decode cX0_recolour 63 = .ok (.iastore, 1) := dk_79 (dk_at dksX0_recolour_2 16 rfl rfl)
theorem dX0_recolour_64 : decode cX0_recolour 64 = .ok (.iload 4, 2) := dk_21 4 (dk_at dksX0_recolour_2 17 rfl rfl)
theorem dX0_recolour_66 : decode cX0_recolour 66 = .ok (.ireturn, 1) := dk_172 (dk_at dksX0_recolour_2 19 rfl rfl)
abbrev cX0_isColour : ByteArray := prog_1_method_33_code
def yX0_isColour : MethodName := ⟨RX0, "isColour", "(I)Z"⟩
def dkwX0_isColour_0 : List UInt8 := [26, 3, 16, 9, 184, 0, 93, 172]
abbrev dktX0_isColour_0 : List UInt8 := dkwX0_isColour_0 ++ []
theorem dksX0_isColour_0 : cX0_isColour.data.toList.drop 0 = dktX0_isColour_0 := by decide +kernel
theorem dX0_isColour_0 : decode cX0_isColour 0 = .ok (.iload_n 0, 1) := dk_26 (dk_at dksX0_isColour_0 0 rfl rfl)
theorem dX0_isColour_1 : decode cX0_isColour 1 = .ok (.iconst 0, 1) := dk_3 (dk_at dksX0_isColour_0 1 rfl rfl)
theorem dX0_isColour_2 : decode cX0_isColour 2 = .ok (.bipush 9, 2) := dk_16 9 (dk_at dksX0_isColour_0 2 rfl rfl)
theorem dX0_isColour_4 : decode cX0_isColour 4 = .ok (.invokestatic 93, 3) := dk_184 0 93 (dk_at dksX0_isColour_0 4 rfl rfl)
theorem dX0_isColour_7 : decode cX0_isColour 7 = .ok (.ireturn, 1) := dk_172 (dk_at dksX0_isColour_0 7 rfl rfl)
abbrev cX0_turn : ByteArray := prog_1_method_35_code
def yX0_turn : MethodName := ⟨RX0, "turn", "(II)I"⟩
def dkwX0_turn_1 : List UInt8 := [184, 0, 220, 28, 184, 0, 224, 182, 0, 228, 182, 0, 232, 167, 0, 5, 16, 254, 172]
abbrev dktX0_turn_1 : List UInt8 := dkwX0_turn_1 ++ []
def dkwX0_turn_0 : List UInt8 := [42, 27, 182, 0, 195, 154, 0, 5, 2, 172, 28, 184, 0, 217, 153, 0, 24, 42, 42, 4, 27, 120]
abbrev dktX0_turn_0 : List UInt8 := dkwX0_turn_0 ++ dktX0_turn_1
theorem dksX0_turn_0 : cX0_turn.data.toList.drop 0 = dktX0_turn_0 := by decide +kernel
theorem dksX0_turn_1 : cX0_turn.data.toList.drop 22 = dktX0_turn_1 := dk_seg dksX0_turn_0 22 rfl rfl
theorem dX0_turn_0 : decode cX0_turn 0 = .ok (.aload_n 0, 1) := dk_42 (dk_at dksX0_turn_0 0 rfl rfl)
theorem dX0_turn_1 : decode cX0_turn 1 = .ok (.iload_n 1, 1) := dk_27 (dk_at dksX0_turn_0 1 rfl rfl)
theorem dX0_turn_2 : decode cX0_turn 2 = .ok (.invokevirtual 195, 3) := dk_182 0 195 (dk_at dksX0_turn_0 2 rfl rfl)
theorem dX0_turn_5 : decode cX0_turn 5 = .ok (.ifCond .ne 5, 3) := dk_154 0 5 (dk_at dksX0_turn_0 5 rfl rfl)
theorem dX0_turn_8 : decode cX0_turn 8 = .ok (.iconst (-1), 1) := dk_2 (dk_at dksX0_turn_0 8 rfl rfl)
theorem dX0_turn_9 : decode cX0_turn 9 = .ok (.ireturn, 1) := dk_172 (dk_at dksX0_turn_0 9 rfl rfl)
theorem dX0_turn_10 : decode cX0_turn 10 = .ok (.iload_n 2, 1) := dk_28 (dk_at dksX0_turn_0 10 rfl rfl)
theorem dX0_turn_11 : decode cX0_turn 11 = .ok (.invokestatic 217, 3) := dk_184 0 217 (dk_at dksX0_turn_0 11 rfl rfl)
theorem dX0_turn_14 : decode cX0_turn 14 = .ok (.ifCond .eq 24, 3) := dk_153 0 24 (dk_at dksX0_turn_0 14 rfl rfl)
theorem dX0_turn_17 : decode cX0_turn 17 = .ok (.aload_n 0, 1) := dk_42 (dk_at dksX0_turn_0 17 rfl rfl)
theorem dX0_turn_18 : decode cX0_turn 18 = .ok (.aload_n 0, 1) := dk_42 (dk_at dksX0_turn_0 18 rfl rfl)
theorem dX0_turn_19 : decode cX0_turn 19 = .ok (.iconst 1, 1) := dk_4 (dk_at dksX0_turn_0 19 rfl rfl)
theorem dX0_turn_20 : decode cX0_turn 20 = .ok (.iload_n 1, 1) := dk_27 (dk_at dksX0_turn_0 20 rfl rfl)
theorem dX0_turn_21 : decode cX0_turn 21 = .ok (.ishl, 1) := dk_120 (dk_at dksX0_turn_0 21 rfl rfl)
theorem dX0_turn_22 : decode cX0_turn 22 = .ok (.invokestatic 220, 3) := dk_184 0 220 (dk_at dksX0_turn_1 0 rfl rfl)
theorem dX0_turn_25 : decode cX0_turn 25 = .ok (.iload_n 2, 1) := dk_28 (dk_at dksX0_turn_1 3 rfl rfl)
theorem dX0_turn_26 : decode cX0_turn 26 = .ok (.invokestatic 224, 3) := dk_184 0 224 (dk_at dksX0_turn_1 4 rfl rfl)
theorem dX0_turn_29 : decode cX0_turn 29 = .ok (.invokevirtual 228, 3) := dk_182 0 228 (dk_at dksX0_turn_1 7 rfl rfl)
theorem dX0_turn_32 : decode cX0_turn 32 = .ok (.invokevirtual 232, 3) := dk_182 0 232 (dk_at dksX0_turn_1 10 rfl rfl)
theorem dX0_turn_35 : decode cX0_turn 35 = .ok (.goto 5, 3) := dk_167 0 5 (dk_at dksX0_turn_1 13 rfl rfl)
theorem dX0_turn_38 : decode cX0_turn 38 = .ok (.bipush (-2), 2) := dk_16 254 (dk_at dksX0_turn_1 16 rfl rfl)
theorem dX0_turn_40 : decode cX0_turn 40 = .ok (.ireturn, 1) := dk_172 (dk_at dksX0_turn_1 18 rfl rfl)
abbrev cX0_isTurning : ByteArray := prog_1_method_16_code
def yX0_isTurning : MethodName := ⟨RX0, "isTurning", "(I)Z"⟩
def dkwX0_isTurning_0 : List UInt8 := [26, 3, 6, 184, 0, 93, 172]
abbrev dktX0_isTurning_0 : List UInt8 := dkwX0_isTurning_0 ++ []
theorem dksX0_isTurning_0 : cX0_isTurning.data.toList.drop 0 = dktX0_isTurning_0 := by decide +kernel
theorem dX0_isTurning_0 : decode cX0_isTurning 0 = .ok (.iload_n 0, 1) := dk_26 (dk_at dksX0_isTurning_0 0 rfl rfl)
theorem dX0_isTurning_1 : decode cX0_isTurning 1 = .ok (.iconst 0, 1) := dk_3 (dk_at dksX0_isTurning_0 1 rfl rfl)
theorem dX0_isTurning_2 : decode cX0_isTurning 2 = .ok (.iconst 3, 1) := dk_6 (dk_at dksX0_isTurning_0 2 rfl rfl)
theorem dX0_isTurning_3 : decode cX0_isTurning 3 = .ok (.invokestatic 93, 3) := dk_184 0 93 (dk_at dksX0_isTurning_0 3 rfl rfl)
theorem dX0_isTurning_6 : decode cX0_isTurning 6 = .ok (.ireturn, 1) := dk_172 (dk_at dksX0_isTurning_0 6 rfl rfl)
abbrev cX0_setOf : ByteArray := prog_1_method_23_code
def yX0_setOf : MethodName := ⟨RX0, "setOf", "(I)Ljava/util/BitSet;"⟩
def dkwX0_setOf_1 : List UInt8 := [160, 0, 8, 43, 28, 182, 0, 154, 132, 2, 1, 167, 255, 233, 43, 176]
abbrev dktX0_setOf_1 : List UInt8 := dkwX0_setOf_1 ++ []
def dkwX0_setOf_0 : List UInt8 := [187, 0, 149, 89, 183, 0, 153, 76, 3, 61, 28, 16, 10, 162, 0, 23, 26, 28, 122, 4, 126, 4]
abbrev dktX0_setOf_0 : List UInt8 := dkwX0_setOf_0 ++ dktX0_setOf_1
theorem dksX0_setOf_0 : cX0_setOf.data.toList.drop 0 = dktX0_setOf_0 := by decide +kernel
theorem dksX0_setOf_1 : cX0_setOf.data.toList.drop 22 = dktX0_setOf_1 := dk_seg dksX0_setOf_0 22 rfl rfl
theorem dX0_setOf_0 : decode cX0_setOf 0 = .ok (.new 149, 3) := dk_187 0 149 (dk_at dksX0_setOf_0 0 rfl rfl)
theorem dX0_setOf_3 : decode cX0_setOf 3 = .ok (.dup, 1) := dk_89 (dk_at dksX0_setOf_0 3 rfl rfl)
theorem dX0_setOf_4 : decode cX0_setOf 4 = .ok (.invokespecial 153, 3) := dk_183 0 153 (dk_at dksX0_setOf_0 4 rfl rfl)
theorem dX0_setOf_7 : decode cX0_setOf 7 = .ok (.astore_n 1, 1) := dk_76 (dk_at dksX0_setOf_0 7 rfl rfl)
theorem dX0_setOf_8 : decode cX0_setOf 8 = .ok (.iconst 0, 1) := dk_3 (dk_at dksX0_setOf_0 8 rfl rfl)
theorem dX0_setOf_9 : decode cX0_setOf 9 = .ok (.istore_n 2, 1) := dk_61 (dk_at dksX0_setOf_0 9 rfl rfl)
theorem dX0_setOf_10 : decode cX0_setOf 10 = .ok (.iload_n 2, 1) := dk_28 (dk_at dksX0_setOf_0 10 rfl rfl)
theorem dX0_setOf_11 : decode cX0_setOf 11 = .ok (.bipush 10, 2) := dk_16 10 (dk_at dksX0_setOf_0 11 rfl rfl)
theorem dX0_setOf_13 : decode cX0_setOf 13 = .ok (.if_icmp .ge 23, 3) := dk_162 0 23 (dk_at dksX0_setOf_0 13 rfl rfl)
theorem dX0_setOf_16 : decode cX0_setOf 16 = .ok (.iload_n 0, 1) := dk_26 (dk_at dksX0_setOf_0 16 rfl rfl)
theorem dX0_setOf_17 : decode cX0_setOf 17 = .ok (.iload_n 2, 1) := dk_28 (dk_at dksX0_setOf_0 17 rfl rfl)
theorem dX0_setOf_18 : decode cX0_setOf 18 = .ok (.ishr, 1) := dk_122 (dk_at dksX0_setOf_0 18 rfl rfl)
theorem dX0_setOf_19 : decode cX0_setOf 19 = .ok (.iconst 1, 1) := dk_4 (dk_at dksX0_setOf_0 19 rfl rfl)
theorem dX0_setOf_20 : decode cX0_setOf 20 = .ok (.iand, 1) := dk_126 (dk_at dksX0_setOf_0 20 rfl rfl)
theorem dX0_setOf_21 : decode cX0_setOf 21 = .ok (.iconst 1, 1) := dk_4 (dk_at dksX0_setOf_0 21 rfl rfl)
theorem dX0_setOf_22 : decode cX0_setOf 22 = .ok (.if_icmp .ne 8, 3) := dk_160 0 8 (dk_at dksX0_setOf_1 0 rfl rfl)
theorem dX0_setOf_25 : decode cX0_setOf 25 = .ok (.aload_n 1, 1) := dk_43 (dk_at dksX0_setOf_1 3 rfl rfl)
theorem dX0_setOf_26 : decode cX0_setOf 26 = .ok (.iload_n 2, 1) := dk_28 (dk_at dksX0_setOf_1 4 rfl rfl)
theorem dX0_setOf_27 : decode cX0_setOf 27 = .ok (.invokevirtual 154, 3) := dk_182 0 154 (dk_at dksX0_setOf_1 5 rfl rfl)
theorem dX0_setOf_30 : decode cX0_setOf 30 = .ok (.iinc 2 1, 3) := dk_132 2 1 (dk_at dksX0_setOf_1 8 rfl rfl)
theorem dX0_setOf_33 : decode cX0_setOf 33 = .ok (.goto (-23), 3) := dk_167 255 233 (dk_at dksX0_setOf_1 11 rfl rfl)
theorem dX0_setOf_36 : decode cX0_setOf 36 = .ok (.aload_n 1, 1) := dk_43 (dk_at dksX0_setOf_1 14 rfl rfl)
theorem dX0_setOf_37 : decode cX0_setOf 37 = .ok (.areturn, 1) := dk_176 (dk_at dksX0_setOf_1 15 rfl rfl)
abbrev cX0_ofSet : ByteArray := prog_1_method_22_code
def yX0_ofSet : MethodName := ⟨RX0, "ofSet", "(Ljava/util/BitSet;LCardLoom$Turning;)[LCardLoom$Turning;"⟩
def dkwX0_ofSet_1 : List UInt8 := [182, 0, 148, 153, 0, 7, 44, 167, 0, 6, 178, 0, 61, 83, 132, 4, 1, 167, 255, 226, 45, 176]
abbrev dktX0_ofSet_1 : List UInt8 := dkwX0_ofSet_1 ++ []
def dkwX0_ofSet_0 : List UInt8 := [42, 182, 0, 90, 189, 0, 62, 78, 3, 54, 4, 21, 4, 45, 190, 162, 0, 29, 45, 21, 4, 43, 21, 4]
abbrev dktX0_ofSet_0 : List UInt8 := dkwX0_ofSet_0 ++ dktX0_ofSet_1
theorem dksX0_ofSet_0 : cX0_ofSet.data.toList.drop 0 = dktX0_ofSet_0 := by decide +kernel
theorem dksX0_ofSet_1 : cX0_ofSet.data.toList.drop 24 = dktX0_ofSet_1 := dk_seg dksX0_ofSet_0 24 rfl rfl
theorem dX0_ofSet_0 : decode cX0_ofSet 0 = .ok (.aload_n 0, 1) := dk_42 (dk_at dksX0_ofSet_0 0 rfl rfl)
theorem dX0_ofSet_1 : decode cX0_ofSet 1 = .ok (.invokevirtual 90, 3) := dk_182 0 90 (dk_at dksX0_ofSet_0 1 rfl rfl)
theorem dX0_ofSet_4 : decode cX0_ofSet 4 = .ok (.anewarray 62, 3) := dk_189 0 62 (dk_at dksX0_ofSet_0 4 rfl rfl)
theorem dX0_ofSet_7 : decode cX0_ofSet 7 = .ok (.astore_n 3, 1) := dk_78 (dk_at dksX0_ofSet_0 7 rfl rfl)
theorem dX0_ofSet_8 : decode cX0_ofSet 8 = .ok (.iconst 0, 1) := dk_3 (dk_at dksX0_ofSet_0 8 rfl rfl)
theorem dX0_ofSet_9 : decode cX0_ofSet 9 = .ok (.istore 4, 2) := dk_54 4 (dk_at dksX0_ofSet_0 9 rfl rfl)
theorem dX0_ofSet_11 : decode cX0_ofSet 11 = .ok (.iload 4, 2) := dk_21 4 (dk_at dksX0_ofSet_0 11 rfl rfl)
theorem dX0_ofSet_13 : decode cX0_ofSet 13 = .ok (.aload_n 3, 1) := dk_45 (dk_at dksX0_ofSet_0 13 rfl rfl)
theorem dX0_ofSet_14 : decode cX0_ofSet 14 = .ok (.arraylength, 1) := dk_190 (dk_at dksX0_ofSet_0 14 rfl rfl)
theorem dX0_ofSet_15 : decode cX0_ofSet 15 = .ok (.if_icmp .ge 29, 3) := dk_162 0 29 (dk_at dksX0_ofSet_0 15 rfl rfl)
theorem dX0_ofSet_18 : decode cX0_ofSet 18 = .ok (.aload_n 3, 1) := dk_45 (dk_at dksX0_ofSet_0 18 rfl rfl)
theorem dX0_ofSet_19 : decode cX0_ofSet 19 = .ok (.iload 4, 2) := dk_21 4 (dk_at dksX0_ofSet_0 19 rfl rfl)
theorem dX0_ofSet_21 : decode cX0_ofSet 21 = .ok (.aload_n 1, 1) := dk_43 (dk_at dksX0_ofSet_0 21 rfl rfl)
theorem dX0_ofSet_22 : decode cX0_ofSet 22 = .ok (.iload 4, 2) := dk_21 4 (dk_at dksX0_ofSet_0 22 rfl rfl)
theorem dX0_ofSet_24 : decode cX0_ofSet 24 = .ok (.invokevirtual 148, 3) := dk_182 0 148 (dk_at dksX0_ofSet_1 0 rfl rfl)
theorem dX0_ofSet_27 : decode cX0_ofSet 27 = .ok (.ifCond .eq 7, 3) := dk_153 0 7 (dk_at dksX0_ofSet_1 3 rfl rfl)
theorem dX0_ofSet_30 : decode cX0_ofSet 30 = .ok (.aload_n 2, 1) := dk_44 (dk_at dksX0_ofSet_1 6 rfl rfl)
theorem dX0_ofSet_31 : decode cX0_ofSet 31 = .ok (.goto 6, 3) := dk_167 0 6 (dk_at dksX0_ofSet_1 7 rfl rfl)
theorem dX0_ofSet_34 : decode cX0_ofSet 34 = .ok (.getstatic 61, 3) := dk_178 0 61 (dk_at dksX0_ofSet_1 10 rfl rfl)
theorem dX0_ofSet_37 : decode cX0_ofSet 37 = .ok (.aastore, 1) := dk_83 (dk_at dksX0_ofSet_1 13 rfl rfl)
theorem dX0_ofSet_38 : decode cX0_ofSet 38 = .ok (.iinc 4 1, 3) := dk_132 4 1 (dk_at dksX0_ofSet_1 14 rfl rfl)
theorem dX0_ofSet_41 : decode cX0_ofSet 41 = .ok (.goto (-30), 3) := dk_167 255 226 (dk_at dksX0_ofSet_1 17 rfl rfl)
theorem dX0_ofSet_44 : decode cX0_ofSet 44 = .ok (.aload_n 3, 1) := dk_45 (dk_at dksX0_ofSet_1 20 rfl rfl)
theorem dX0_ofSet_45 : decode cX0_ofSet 45 = .ok (.areturn, 1) := dk_176 (dk_at dksX0_ofSet_1 21 rfl rfl)
abbrev cX0_picks : ByteArray := prog_1_method_21_code
def yX0_picks : MethodName := ⟨RX0, "picks", "([LCardLoom$Turning;)I"⟩
def dkwX0_picks_2 : List UInt8 := [180, 0, 10, 43, 183, 0, 146, 182, 0, 117, 87, 42, 180, 0, 16, 182, 0, 86, 172]
abbrev dktX0_picks_2 : List UInt8 := dkwX0_picks_2 ++ []
def dkwX0_picks_1 : List UInt8 := [153, 0, 6, 16, 250, 172, 42, 180, 0, 10, 43, 184, 0, 141, 42, 180, 0, 16, 187, 0, 144, 89, 42]
abbrev dktX0_picks_1 : List UInt8 := dkwX0_picks_1 ++ dktX0_picks_2
def dkwX0_picks_0 : List UInt8 := [42, 180, 0, 16, 182, 0, 86, 16, 50, 160, 0, 6, 16, 252, 172, 42, 180, 0, 10, 43, 184, 0, 138]
abbrev dktX0_picks_0 : List UInt8 := dkwX0_picks_0 ++ dktX0_picks_1
theorem dksX0_picks_0 : cX0_picks.data.toList.drop 0 = dktX0_picks_0 := by decide +kernel
theorem dksX0_picks_1 : cX0_picks.data.toList.drop 23 = dktX0_picks_1 := dk_seg dksX0_picks_0 23 rfl rfl
theorem dksX0_picks_2 : cX0_picks.data.toList.drop 46 = dktX0_picks_2 := dk_seg dksX0_picks_1 23 rfl rfl
theorem dX0_picks_0 : decode cX0_picks 0 = .ok (.aload_n 0, 1) := dk_42 (dk_at dksX0_picks_0 0 rfl rfl)
theorem dX0_picks_1 : decode cX0_picks 1 = .ok (.getfield 16, 3) := dk_180 0 16 (dk_at dksX0_picks_0 1 rfl rfl)
theorem dX0_picks_4 : decode cX0_picks 4 = .ok (.invokevirtual 86, 3) := dk_182 0 86 (dk_at dksX0_picks_0 4 rfl rfl)
theorem dX0_picks_7 : decode cX0_picks 7 = .ok (.bipush 50, 2) := dk_16 50 (dk_at dksX0_picks_0 7 rfl rfl)
theorem dX0_picks_9 : decode cX0_picks 9 = .ok (.if_icmp .ne 6, 3) := dk_160 0 6 (dk_at dksX0_picks_0 9 rfl rfl)
theorem dX0_picks_12 : decode cX0_picks 12 = .ok (.bipush (-4), 2) := dk_16 252 (dk_at dksX0_picks_0 12 rfl rfl)
theorem dX0_picks_14 : decode cX0_picks 14 = .ok (.ireturn, 1) := dk_172 (dk_at dksX0_picks_0 14 rfl rfl)
theorem dX0_picks_15 : decode cX0_picks 15 = .ok (.aload_n 0, 1) := dk_42 (dk_at dksX0_picks_0 15 rfl rfl)
theorem dX0_picks_16 : decode cX0_picks 16 = .ok (.getfield 10, 3) := dk_180 0 10 (dk_at dksX0_picks_0 16 rfl rfl)
theorem dX0_picks_19 : decode cX0_picks 19 = .ok (.aload_n 1, 1) := dk_43 (dk_at dksX0_picks_0 19 rfl rfl)
theorem dX0_picks_20 : decode cX0_picks 20 = .ok (.invokestatic 138, 3) := dk_184 0 138 (dk_at dksX0_picks_0 20 rfl rfl)
theorem dX0_picks_23 : decode cX0_picks 23 = .ok (.ifCond .eq 6, 3) := dk_153 0 6 (dk_at dksX0_picks_1 0 rfl rfl)
theorem dX0_picks_26 : decode cX0_picks 26 = .ok (.bipush (-6), 2) := dk_16 250 (dk_at dksX0_picks_1 3 rfl rfl)
theorem dX0_picks_28 : decode cX0_picks 28 = .ok (.ireturn, 1) := dk_172 (dk_at dksX0_picks_1 5 rfl rfl)
theorem dX0_picks_29 : decode cX0_picks 29 = .ok (.aload_n 0, 1) := dk_42 (dk_at dksX0_picks_1 6 rfl rfl)
theorem dX0_picks_30 : decode cX0_picks 30 = .ok (.getfield 10, 3) := dk_180 0 10 (dk_at dksX0_picks_1 7 rfl rfl)
theorem dX0_picks_33 : decode cX0_picks 33 = .ok (.aload_n 1, 1) := dk_43 (dk_at dksX0_picks_1 10 rfl rfl)
theorem dX0_picks_34 : decode cX0_picks 34 = .ok (.invokestatic 141, 3) := dk_184 0 141 (dk_at dksX0_picks_1 11 rfl rfl)
theorem dX0_picks_37 : decode cX0_picks 37 = .ok (.aload_n 0, 1) := dk_42 (dk_at dksX0_picks_1 14 rfl rfl)
theorem dX0_picks_38 : decode cX0_picks 38 = .ok (.getfield 16, 3) := dk_180 0 16 (dk_at dksX0_picks_1 15 rfl rfl)
theorem dX0_picks_41 : decode cX0_picks 41 = .ok (.new 144, 3) := dk_187 0 144 (dk_at dksX0_picks_1 18 rfl rfl)
theorem dX0_picks_44 : decode cX0_picks 44 = .ok (.dup, 1) := dk_89 (dk_at dksX0_picks_1 21 rfl rfl)
theorem dX0_picks_45 : decode cX0_picks 45 = .ok (.aload_n 0, 1) := dk_42 (dk_at dksX0_picks_1 22 rfl rfl)
theorem dX0_picks_46 : decode cX0_picks 46 = .ok (.getfield 10, 3) := dk_180 0 10 (dk_at dksX0_picks_2 0 rfl rfl)
theorem dX0_picks_49 : decode cX0_picks 49 = .ok (.aload_n 1, 1) := dk_43 (dk_at dksX0_picks_2 3 rfl rfl)
theorem dX0_picks_50 : decode cX0_picks 50 = .ok (.invokespecial 146, 3) := dk_183 0 146 (dk_at dksX0_picks_2 4 rfl rfl)
theorem dX0_picks_53 : decode cX0_picks 53 = .ok (.invokevirtual 117, 3) := dk_182 0 117 (dk_at dksX0_picks_2 7 rfl rfl)
theorem dX0_picks_56 : decode cX0_picks 56 = .ok (.pop, 1) := dk_87 (dk_at dksX0_picks_2 10 rfl rfl)
theorem dX0_picks_57 : decode cX0_picks 57 = .ok (.aload_n 0, 1) := dk_42 (dk_at dksX0_picks_2 11 rfl rfl)
theorem dX0_picks_58 : decode cX0_picks 58 = .ok (.getfield 16, 3) := dk_180 0 16 (dk_at dksX0_picks_2 12 rfl rfl)
theorem dX0_picks_61 : decode cX0_picks 61 = .ok (.invokevirtual 86, 3) := dk_182 0 86 (dk_at dksX0_picks_2 15 rfl rfl)
theorem dX0_picks_64 : decode cX0_picks 64 = .ok (.ireturn, 1) := dk_172 (dk_at dksX0_picks_2 18 rfl rfl)
abbrev cX0_jams : ByteArray := prog_1_method_18_code
def yX0_jams : MethodName := ⟨RX0, "jams", "(Ljava/util/ArrayList;[LCardLoom$Turning;)Z"⟩
def dkwX0_jams_1 : List UInt8 := [182, 0, 125, 128, 61, 132, 3, 1, 167, 255, 230, 28, 172]
abbrev dktX0_jams_1 : List UInt8 := dkwX0_jams_1 ++ []
def dkwX0_jams_0 : List UInt8 := [3, 61, 3, 62, 29, 43, 190, 162, 0, 26, 28, 42, 29, 182, 0, 121, 192, 0, 111, 43, 29, 50]
abbrev dktX0_jams_0 : List UInt8 := dkwX0_jams_0 ++ dktX0_jams_1
theorem dksX0_jams_0 : cX0_jams.data.toList.drop 0 = dktX0_jams_0 := by decide +kernel
theorem dksX0_jams_1 : cX0_jams.data.toList.drop 22 = dktX0_jams_1 := dk_seg dksX0_jams_0 22 rfl rfl
theorem dX0_jams_0 : decode cX0_jams 0 = .ok (.iconst 0, 1) := dk_3 (dk_at dksX0_jams_0 0 rfl rfl)
theorem dX0_jams_1 : decode cX0_jams 1 = .ok (.istore_n 2, 1) := dk_61 (dk_at dksX0_jams_0 1 rfl rfl)
theorem dX0_jams_2 : decode cX0_jams 2 = .ok (.iconst 0, 1) := dk_3 (dk_at dksX0_jams_0 2 rfl rfl)
theorem dX0_jams_3 : decode cX0_jams 3 = .ok (.istore_n 3, 1) := dk_62 (dk_at dksX0_jams_0 3 rfl rfl)
theorem dX0_jams_4 : decode cX0_jams 4 = .ok (.iload_n 3, 1) := dk_29 (dk_at dksX0_jams_0 4 rfl rfl)
theorem dX0_jams_5 : decode cX0_jams 5 = .ok (.aload_n 1, 1) := dk_43 (dk_at dksX0_jams_0 5 rfl rfl)
theorem dX0_jams_6 : decode cX0_jams 6 = .ok (.arraylength, 1) := dk_190 (dk_at dksX0_jams_0 6 rfl rfl)
theorem dX0_jams_7 : decode cX0_jams 7 = .ok (.if_icmp .ge 26, 3) := dk_162 0 26 (dk_at dksX0_jams_0 7 rfl rfl)
theorem dX0_jams_10 : decode cX0_jams 10 = .ok (.iload_n 2, 1) := dk_28 (dk_at dksX0_jams_0 10 rfl rfl)
theorem dX0_jams_11 : decode cX0_jams 11 = .ok (.aload_n 0, 1) := dk_42 (dk_at dksX0_jams_0 11 rfl rfl)
theorem dX0_jams_12 : decode cX0_jams 12 = .ok (.iload_n 3, 1) := dk_29 (dk_at dksX0_jams_0 12 rfl rfl)
theorem dX0_jams_13 : decode cX0_jams 13 = .ok (.invokevirtual 121, 3) := dk_182 0 121 (dk_at dksX0_jams_0 13 rfl rfl)
theorem dX0_jams_16 : decode cX0_jams 16 = .ok (.checkcast 111, 3) := dk_192 0 111 (dk_at dksX0_jams_0 16 rfl rfl)
theorem dX0_jams_19 : decode cX0_jams 19 = .ok (.aload_n 1, 1) := dk_43 (dk_at dksX0_jams_0 19 rfl rfl)
theorem dX0_jams_20 : decode cX0_jams 20 = .ok (.iload_n 3, 1) := dk_29 (dk_at dksX0_jams_0 20 rfl rfl)
theorem dX0_jams_21 : decode cX0_jams 21 = .ok (.aaload, 1) := dk_50 (dk_at dksX0_jams_0 21 rfl rfl)
theorem dX0_jams_22 : decode cX0_jams 22 = .ok (.invokevirtual 125, 3) := dk_182 0 125 (dk_at dksX0_jams_1 0 rfl rfl)
theorem dX0_jams_25 : decode cX0_jams 25 = .ok (.ior, 1) := dk_128 (dk_at dksX0_jams_1 3 rfl rfl)
theorem dX0_jams_26 : decode cX0_jams 26 = .ok (.istore_n 2, 1) := dk_61 (dk_at dksX0_jams_1 4 rfl rfl)
theorem dX0_jams_27 : decode cX0_jams 27 = .ok (.iinc 3 1, 3) := dk_132 3 1 (dk_at dksX0_jams_1 5 rfl rfl)
theorem dX0_jams_30 : decode cX0_jams 30 = .ok (.goto (-26), 3) := dk_167 255 230 (dk_at dksX0_jams_1 8 rfl rfl)
theorem dX0_jams_33 : decode cX0_jams 33 = .ok (.iload_n 2, 1) := dk_28 (dk_at dksX0_jams_1 11 rfl rfl)
theorem dX0_jams_34 : decode cX0_jams 34 = .ok (.ireturn, 1) := dk_172 (dk_at dksX0_jams_1 12 rfl rfl)
abbrev cX0_turns : ByteArray := prog_1_method_19_code
def yX0_turns : MethodName := ⟨RX0, "turns", "(Ljava/util/ArrayList;[LCardLoom$Turning;)V"⟩
def dkwX0_turns_1 : List UInt8 := [132, 2, 1, 167, 255, 233, 177]
abbrev dktX0_turns_1 : List UInt8 := dkwX0_turns_1 ++ []
def dkwX0_turns_0 : List UInt8 := [3, 61, 28, 43, 190, 162, 0, 23, 42, 28, 182, 0, 121, 192, 0, 111, 43, 28, 50, 182, 0, 129]
abbrev dktX0_turns_0 : List UInt8 := dkwX0_turns_0 ++ dktX0_turns_1
theorem dksX0_turns_0 : cX0_turns.data.toList.drop 0 = dktX0_turns_0 := by decide +kernel
theorem dksX0_turns_1 : cX0_turns.data.toList.drop 22 = dktX0_turns_1 := dk_seg dksX0_turns_0 22 rfl rfl
theorem dX0_turns_0 : decode cX0_turns 0 = .ok (.iconst 0, 1) := dk_3 (dk_at dksX0_turns_0 0 rfl rfl)
theorem dX0_turns_1 : decode cX0_turns 1 = .ok (.istore_n 2, 1) := dk_61 (dk_at dksX0_turns_0 1 rfl rfl)
theorem dX0_turns_2 : decode cX0_turns 2 = .ok (.iload_n 2, 1) := dk_28 (dk_at dksX0_turns_0 2 rfl rfl)
theorem dX0_turns_3 : decode cX0_turns 3 = .ok (.aload_n 1, 1) := dk_43 (dk_at dksX0_turns_0 3 rfl rfl)
theorem dX0_turns_4 : decode cX0_turns 4 = .ok (.arraylength, 1) := dk_190 (dk_at dksX0_turns_0 4 rfl rfl)
theorem dX0_turns_5 : decode cX0_turns 5 = .ok (.if_icmp .ge 23, 3) := dk_162 0 23 (dk_at dksX0_turns_0 5 rfl rfl)
theorem dX0_turns_8 : decode cX0_turns 8 = .ok (.aload_n 0, 1) := dk_42 (dk_at dksX0_turns_0 8 rfl rfl)
theorem dX0_turns_9 : decode cX0_turns 9 = .ok (.iload_n 2, 1) := dk_28 (dk_at dksX0_turns_0 9 rfl rfl)
theorem dX0_turns_10 : decode cX0_turns 10 = .ok (.invokevirtual 121, 3) := dk_182 0 121 (dk_at dksX0_turns_0 10 rfl rfl)
theorem dX0_turns_13 : decode cX0_turns 13 = .ok (.checkcast 111, 3) := dk_192 0 111 (dk_at dksX0_turns_0 13 rfl rfl)
theorem dX0_turns_16 : decode cX0_turns 16 = .ok (.aload_n 1, 1) := dk_43 (dk_at dksX0_turns_0 16 rfl rfl)
theorem dX0_turns_17 : decode cX0_turns 17 = .ok (.iload_n 2, 1) := dk_28 (dk_at dksX0_turns_0 17 rfl rfl)
theorem dX0_turns_18 : decode cX0_turns 18 = .ok (.aaload, 1) := dk_50 (dk_at dksX0_turns_0 18 rfl rfl)
theorem dX0_turns_19 : decode cX0_turns 19 = .ok (.invokevirtual 129, 3) := dk_182 0 129 (dk_at dksX0_turns_0 19 rfl rfl)
theorem dX0_turns_22 : decode cX0_turns 22 = .ok (.iinc 2 1, 3) := dk_132 2 1 (dk_at dksX0_turns_1 0 rfl rfl)
theorem dX0_turns_25 : decode cX0_turns 25 = .ok (.goto (-23), 3) := dk_167 255 233 (dk_at dksX0_turns_1 3 rfl rfl)
theorem dX0_turns_28 : decode cX0_turns 28 = .ok (.return_, 1) := dk_177 (dk_at dksX0_turns_1 6 rfl rfl)
abbrev cX0_pack : ByteArray := prog_1_method_36_code
def yX0_pack : MethodName := ⟨RX0, "pack", "(II)I"⟩
def dkwX0_pack_2 : List UInt8 := [184, 0, 224, 182, 0, 228, 182, 0, 232, 172]
abbrev dktX0_pack_2 : List UInt8 := dkwX0_pack_2 ++ []
def dkwX0_pack_1 : List UInt8 := [16, 254, 172, 42, 182, 0, 90, 154, 0, 8, 16, 253, 167, 0, 19, 42, 42, 27, 184, 0, 220, 28]
abbrev dktX0_pack_1 : List UInt8 := dkwX0_pack_1 ++ dktX0_pack_2
def dkwX0_pack_0 : List UInt8 := [27, 3, 4, 42, 182, 0, 90, 120, 4, 100, 184, 0, 93, 153, 0, 10, 28, 184, 0, 217, 154, 0, 6]
abbrev dktX0_pack_0 : List UInt8 := dkwX0_pack_0 ++ dktX0_pack_1
theorem dksX0_pack_0 : cX0_pack.data.toList.drop 0 = dktX0_pack_0 := by decide +kernel
theorem dksX0_pack_1 : cX0_pack.data.toList.drop 23 = dktX0_pack_1 := dk_seg dksX0_pack_0 23 rfl rfl
theorem dksX0_pack_2 : cX0_pack.data.toList.drop 45 = dktX0_pack_2 := dk_seg dksX0_pack_1 22 rfl rfl
theorem dX0_pack_0 : decode cX0_pack 0 = .ok (.iload_n 1, 1) := dk_27 (dk_at dksX0_pack_0 0 rfl rfl)
theorem dX0_pack_1 : decode cX0_pack 1 = .ok (.iconst 0, 1) := dk_3 (dk_at dksX0_pack_0 1 rfl rfl)
theorem dX0_pack_2 : decode cX0_pack 2 = .ok (.iconst 1, 1) := dk_4 (dk_at dksX0_pack_0 2 rfl rfl)
theorem dX0_pack_3 : decode cX0_pack 3 = .ok (.aload_n 0, 1) := dk_42 (dk_at dksX0_pack_0 3 rfl rfl)
theorem dX0_pack_4 : decode cX0_pack 4 = .ok (.invokevirtual 90, 3) := dk_182 0 90 (dk_at dksX0_pack_0 4 rfl rfl)
theorem dX0_pack_7 : decode cX0_pack 7 = .ok (.ishl, 1) := dk_120 (dk_at dksX0_pack_0 7 rfl rfl)
theorem dX0_pack_8 : decode cX0_pack 8 = .ok (.iconst 1, 1) := dk_4 (dk_at dksX0_pack_0 8 rfl rfl)
theorem dX0_pack_9 : decode cX0_pack 9 = .ok (.isub, 1) := dk_100 (dk_at dksX0_pack_0 9 rfl rfl)
theorem dX0_pack_10 : decode cX0_pack 10 = .ok (.invokestatic 93, 3) := dk_184 0 93 (dk_at dksX0_pack_0 10 rfl rfl)
theorem dX0_pack_13 : decode cX0_pack 13 = .ok (.ifCond .eq 10, 3) := dk_153 0 10 (dk_at dksX0_pack_0 13 rfl rfl)
theorem dX0_pack_16 : decode cX0_pack 16 = .ok (.iload_n 2, 1) := dk_28 (dk_at dksX0_pack_0 16 rfl rfl)
theorem dX0_pack_17 : decode cX0_pack 17 = .ok (.invokestatic 217, 3) := dk_184 0 217 (dk_at dksX0_pack_0 17 rfl rfl)
theorem dX0_pack_20 : decode cX0_pack 20 = .ok (.ifCond .ne 6, 3) := dk_154 0 6 (dk_at dksX0_pack_0 20 rfl rfl)
theorem dX0_pack_23 : decode cX0_pack 23 = .ok (.bipush (-2), 2) := dk_16 254 (dk_at dksX0_pack_1 0 rfl rfl)
theorem dX0_pack_25 : decode cX0_pack 25 = .ok (.ireturn, 1) := dk_172 (dk_at dksX0_pack_1 2 rfl rfl)
theorem dX0_pack_26 : decode cX0_pack 26 = .ok (.aload_n 0, 1) := dk_42 (dk_at dksX0_pack_1 3 rfl rfl)
theorem dX0_pack_27 : decode cX0_pack 27 = .ok (.invokevirtual 90, 3) := dk_182 0 90 (dk_at dksX0_pack_1 4 rfl rfl)
theorem dX0_pack_30 : decode cX0_pack 30 = .ok (.ifCond .ne 8, 3) := dk_154 0 8 (dk_at dksX0_pack_1 7 rfl rfl)
theorem dX0_pack_33 : decode cX0_pack 33 = .ok (.bipush (-3), 2) := dk_16 253 (dk_at dksX0_pack_1 10 rfl rfl)
theorem dX0_pack_35 : decode cX0_pack 35 = .ok (.goto 19, 3) := dk_167 0 19 (dk_at dksX0_pack_1 12 rfl rfl)
theorem dX0_pack_38 : decode cX0_pack 38 = .ok (.aload_n 0, 1) := dk_42 (dk_at dksX0_pack_1 15 rfl rfl)
theorem dX0_pack_39 : decode cX0_pack 39 = .ok (.aload_n 0, 1) := dk_42 (dk_at dksX0_pack_1 16 rfl rfl)
theorem dX0_pack_40 : decode cX0_pack 40 = .ok (.iload_n 1, 1) := dk_27 (dk_at dksX0_pack_1 17 rfl rfl)
theorem dX0_pack_41 : decode cX0_pack 41 = .ok (.invokestatic 220, 3) := dk_184 0 220 (dk_at dksX0_pack_1 18 rfl rfl)
theorem dX0_pack_44 : decode cX0_pack 44 = .ok (.iload_n 2, 1) := dk_28 (dk_at dksX0_pack_1 21 rfl rfl)
theorem dX0_pack_45 : decode cX0_pack 45 = .ok (.invokestatic 224, 3) := dk_184 0 224 (dk_at dksX0_pack_2 0 rfl rfl)
theorem dX0_pack_48 : decode cX0_pack 48 = .ok (.invokevirtual 228, 3) := dk_182 0 228 (dk_at dksX0_pack_2 3 rfl rfl)
theorem dX0_pack_51 : decode cX0_pack 51 = .ok (.invokevirtual 232, 3) := dk_182 0 232 (dk_at dksX0_pack_2 6 rfl rfl)
theorem dX0_pack_54 : decode cX0_pack 54 = .ok (.ireturn, 1) := dk_172 (dk_at dksX0_pack_2 9 rfl rfl)
abbrev cX0_weave : ByteArray := prog_1_method_37_code
def yX0_weave : MethodName := ⟨RX0, "weave", "(I)I"⟩
def dkwX0_weave_2 : List UInt8 := [132, 2, 1, 167, 255, 230, 28, 172]
abbrev dktX0_weave_2 : List UInt8 := dkwX0_weave_2 ++ []
def dkwX0_weave_1 : List UInt8 := [61, 28, 27, 162, 0, 27, 42, 42, 42, 180, 0, 16, 182, 0, 86, 182, 0, 236, 182, 0, 232, 158, 0, 9]
abbrev dktX0_weave_1 : List UInt8 := dkwX0_weave_1 ++ dktX0_weave_2
def dkwX0_weave_0 : List UInt8 := [27, 4, 16, 50, 184, 0, 93, 154, 0, 6, 16, 254, 172, 42, 182, 0, 90, 154, 0, 6, 16, 253, 172, 3]
abbrev dktX0_weave_0 : List UInt8 := dkwX0_weave_0 ++ dktX0_weave_1
theorem dksX0_weave_0 : cX0_weave.data.toList.drop 0 = dktX0_weave_0 := by decide +kernel
theorem dksX0_weave_1 : cX0_weave.data.toList.drop 24 = dktX0_weave_1 := dk_seg dksX0_weave_0 24 rfl rfl
theorem dksX0_weave_2 : cX0_weave.data.toList.drop 48 = dktX0_weave_2 := dk_seg dksX0_weave_1 24 rfl rfl
theorem dX0_weave_0 : decode cX0_weave 0 = .ok (.iload_n 1, 1) := dk_27 (dk_at dksX0_weave_0 0 rfl rfl)
theorem dX0_weave_1 : decode cX0_weave 1 = .ok (.iconst 1, 1) := dk_4 (dk_at dksX0_weave_0 1 rfl rfl)
theorem dX0_weave_2 : decode cX0_weave 2 = .ok (.bipush 50, 2) := dk_16 50 (dk_at dksX0_weave_0 2 rfl rfl)
theorem dX0_weave_4 : decode cX0_weave 4 = .ok (.invokestatic 93, 3) := dk_184 0 93 (dk_at dksX0_weave_0 4 rfl rfl)
theorem dX0_weave_7 : decode cX0_weave 7 = .ok (.ifCond .ne 6, 3) := dk_154 0 6 (dk_at dksX0_weave_0 7 rfl rfl)
theorem dX0_weave_10 : decode cX0_weave 10 = .ok (.bipush (-2), 2) := dk_16 254 (dk_at dksX0_weave_0 10 rfl rfl)
theorem dX0_weave_12 : decode cX0_weave 12 = .ok (.ireturn, 1) := dk_172 (dk_at dksX0_weave_0 12 rfl rfl)
theorem dX0_weave_13 : decode cX0_weave 13 = .ok (.aload_n 0, 1) := dk_42 (dk_at dksX0_weave_0 13 rfl rfl)
theorem dX0_weave_14 : decode cX0_weave 14 = .ok (.invokevirtual 90, 3) := dk_182 0 90 (dk_at dksX0_weave_0 14 rfl rfl)
theorem dX0_weave_17 : decode cX0_weave 17 = .ok (.ifCond .ne 6, 3) := dk_154 0 6 (dk_at dksX0_weave_0 17 rfl rfl)
theorem dX0_weave_20 : decode cX0_weave 20 = .ok (.bipush (-3), 2) := dk_16 253 (dk_at dksX0_weave_0 20 rfl rfl)
theorem dX0_weave_22 : decode cX0_weave 22 = .ok (.ireturn, 1) := dk_172 (dk_at dksX0_weave_0 22 rfl rfl)
theorem dX0_weave_23 : decode cX0_weave 23 = .ok (.iconst 0, 1) := dk_3 (dk_at dksX0_weave_0 23 rfl rfl)
theorem dX0_weave_24 : decode cX0_weave 24 = .ok (.istore_n 2, 1) := dk_61 (dk_at dksX0_weave_1 0 rfl rfl)
theorem dX0_weave_25 : decode cX0_weave 25 = .ok (.iload_n 2, 1) := dk_28 (dk_at dksX0_weave_1 1 rfl rfl)
theorem dX0_weave_26 : decode cX0_weave 26 = .ok (.iload_n 1, 1) := dk_27 (dk_at dksX0_weave_1 2 rfl rfl)
theorem dX0_weave_27 : decode cX0_weave 27 = .ok (.if_icmp .ge 27, 3) := dk_162 0 27 (dk_at dksX0_weave_1 3 rfl rfl)
theorem dX0_weave_30 : decode cX0_weave 30 = .ok (.aload_n 0, 1) := dk_42 (dk_at dksX0_weave_1 6 rfl rfl)
theorem dX0_weave_31 : decode cX0_weave 31 = .ok (.aload_n 0, 1) := dk_42 (dk_at dksX0_weave_1 7 rfl rfl)
theorem dX0_weave_32 : decode cX0_weave 32 = .ok (.aload_n 0, 1) := dk_42 (dk_at dksX0_weave_1 8 rfl rfl)
theorem dX0_weave_33 : decode cX0_weave 33 = .ok (.getfield 16, 3) := dk_180 0 16 (dk_at dksX0_weave_1 9 rfl rfl)
theorem dX0_weave_36 : decode cX0_weave 36 = .ok (.invokevirtual 86, 3) := dk_182 0 86 (dk_at dksX0_weave_1 12 rfl rfl)
theorem dX0_weave_39 : decode cX0_weave 39 = .ok (.invokevirtual 236, 3) := dk_182 0 236 (dk_at dksX0_weave_1 15 rfl rfl)
theorem dX0_weave_42 : decode cX0_weave 42 = .ok (.invokevirtual 232, 3) := dk_182 0 232 (dk_at dksX0_weave_1 18 rfl rfl)
theorem dX0_weave_45 : decode cX0_weave 45 = .ok (.ifCond .le 9, 3) := dk_158 0 9 (dk_at dksX0_weave_1 21 rfl rfl)
theorem dX0_weave_48 : decode cX0_weave 48 = .ok (.iinc 2 1, 3) := dk_132 2 1 (dk_at dksX0_weave_2 0 rfl rfl)
theorem dX0_weave_51 : decode cX0_weave 51 = .ok (.goto (-26), 3) := dk_167 255 230 (dk_at dksX0_weave_2 3 rfl rfl)
theorem dX0_weave_54 : decode cX0_weave 54 = .ok (.iload_n 2, 1) := dk_28 (dk_at dksX0_weave_2 6 rfl rfl)
theorem dX0_weave_55 : decode cX0_weave 55 = .ok (.ireturn, 1) := dk_172 (dk_at dksX0_weave_2 7 rfl rfl)
abbrev cX0_pickOf : ByteArray := prog_1_method_20_code
def yX0_pickOf : MethodName := ⟨RX0, "pickOf", "(I)[LCardLoom$Turning;"⟩
def dkwX0_pickOf_1 : List UInt8 := [44, 190, 185, 0, 133, 4, 0, 83, 132, 3, 1, 167, 255, 231, 44, 176]
abbrev dktX0_pickOf_1 : List UInt8 := dkwX0_pickOf_1 ++ []
def dkwX0_pickOf_0 : List UInt8 := [42, 182, 0, 90, 189, 0, 62, 77, 3, 62, 29, 44, 190, 162, 0, 25, 44, 29, 42, 180, 0, 23, 29, 27]
abbrev dktX0_pickOf_0 : List UInt8 := dkwX0_pickOf_0 ++ dktX0_pickOf_1
theorem dksX0_pickOf_0 : cX0_pickOf.data.toList.drop 0 = dktX0_pickOf_0 := by decide +kernel
theorem dksX0_pickOf_1 : cX0_pickOf.data.toList.drop 24 = dktX0_pickOf_1 := dk_seg dksX0_pickOf_0 24 rfl rfl
theorem dX0_pickOf_0 : decode cX0_pickOf 0 = .ok (.aload_n 0, 1) := dk_42 (dk_at dksX0_pickOf_0 0 rfl rfl)
theorem dX0_pickOf_1 : decode cX0_pickOf 1 = .ok (.invokevirtual 90, 3) := dk_182 0 90 (dk_at dksX0_pickOf_0 1 rfl rfl)
theorem dX0_pickOf_4 : decode cX0_pickOf 4 = .ok (.anewarray 62, 3) := dk_189 0 62 (dk_at dksX0_pickOf_0 4 rfl rfl)
theorem dX0_pickOf_7 : decode cX0_pickOf 7 = .ok (.astore_n 2, 1) := dk_77 (dk_at dksX0_pickOf_0 7 rfl rfl)
theorem dX0_pickOf_8 : decode cX0_pickOf 8 = .ok (.iconst 0, 1) := dk_3 (dk_at dksX0_pickOf_0 8 rfl rfl)
theorem dX0_pickOf_9 : decode cX0_pickOf 9 = .ok (.istore_n 3, 1) := dk_62 (dk_at dksX0_pickOf_0 9 rfl rfl)
theorem dX0_pickOf_10 : decode cX0_pickOf 10 = .ok (.iload_n 3, 1) := dk_29 (dk_at dksX0_pickOf_0 10 rfl rfl)
theorem dX0_pickOf_11 : decode cX0_pickOf 11 = .ok (.aload_n 2, 1) := dk_44 (dk_at dksX0_pickOf_0 11 rfl rfl)
theorem dX0_pickOf_12 : decode cX0_pickOf 12 = .ok (.arraylength, 1) := dk_190 (dk_at dksX0_pickOf_0 12 rfl rfl)
theorem dX0_pickOf_13 : decode cX0_pickOf 13 = .ok (.if_icmp .ge 25, 3) := dk_162 0 25 (dk_at dksX0_pickOf_0 13 rfl rfl)
theorem dX0_pickOf_16 : decode cX0_pickOf 16 = .ok (.aload_n 2, 1) := dk_44 (dk_at dksX0_pickOf_0 16 rfl rfl)
theorem dX0_pickOf_17 : decode cX0_pickOf 17 = .ok (.iload_n 3, 1) := dk_29 (dk_at dksX0_pickOf_0 17 rfl rfl)
theorem dX0_pickOf_18 : decode cX0_pickOf 18 = .ok (.aload_n 0, 1) := dk_42 (dk_at dksX0_pickOf_0 18 rfl rfl)
theorem dX0_pickOf_19 : decode cX0_pickOf 19 = .ok (.getfield 23, 3) := dk_180 0 23 (dk_at dksX0_pickOf_0 19 rfl rfl)
theorem dX0_pickOf_22 : decode cX0_pickOf 22 = .ok (.iload_n 3, 1) := dk_29 (dk_at dksX0_pickOf_0 22 rfl rfl)
theorem dX0_pickOf_23 : decode cX0_pickOf 23 = .ok (.iload_n 1, 1) := dk_27 (dk_at dksX0_pickOf_0 23 rfl rfl)
theorem dX0_pickOf_24 : decode cX0_pickOf 24 = .ok (.aload_n 2, 1) := dk_44 (dk_at dksX0_pickOf_1 0 rfl rfl)
theorem dX0_pickOf_25 : decode cX0_pickOf 25 = .ok (.arraylength, 1) := dk_190 (dk_at dksX0_pickOf_1 1 rfl rfl)
theorem dX0_pickOf_26 : decode cX0_pickOf 26 = .ok (.invokeinterface 133 4, 5) := by decide +kernel
theorem dX0_pickOf_31 : decode cX0_pickOf 31 = .ok (.aastore, 1) := dk_83 (dk_at dksX0_pickOf_1 7 rfl rfl)
theorem dX0_pickOf_32 : decode cX0_pickOf 32 = .ok (.iinc 3 1, 3) := dk_132 3 1 (dk_at dksX0_pickOf_1 8 rfl rfl)
theorem dX0_pickOf_35 : decode cX0_pickOf 35 = .ok (.goto (-25), 3) := dk_167 255 231 (dk_at dksX0_pickOf_1 11 rfl rfl)
theorem dX0_pickOf_38 : decode cX0_pickOf 38 = .ok (.aload_n 2, 1) := dk_44 (dk_at dksX0_pickOf_1 14 rfl rfl)
theorem dX0_pickOf_39 : decode cX0_pickOf 39 = .ok (.areturn, 1) := dk_176 (dk_at dksX0_pickOf_1 15 rfl rfl)
abbrev cX0_unweave : ByteArray := prog_1_method_38_code
def yX0_unweave : MethodName := ⟨RX0, "unweave", "(I)I"⟩
def dkwX0_unweave_4 : List UInt8 := [132, 2, 1, 167, 255, 178, 28, 172]
abbrev dktX0_unweave_4 : List UInt8 := dkwX0_unweave_4 ++ []
def dkwX0_unweave_3 : List UInt8 := [182, 0, 121, 192, 0, 111, 45, 180, 0, 185, 21, 4, 50, 182, 0, 246, 132, 4, 1, 167, 255, 222]
abbrev dktX0_unweave_3 : List UInt8 := dkwX0_unweave_3 ++ dktX0_unweave_4
def dkwX0_unweave_2 : List UInt8 := [192, 0, 144, 78, 3, 54, 4, 21, 4, 42, 182, 0, 90, 162, 0, 31, 42, 180, 0, 10, 21, 4]
abbrev dktX0_unweave_2 : List UInt8 := dkwX0_unweave_2 ++ dktX0_unweave_3
def dkwX0_unweave_1 : List UInt8 := [182, 0, 240, 154, 0, 69, 42, 180, 0, 16, 42, 180, 0, 16, 182, 0, 86, 4, 100, 182, 0, 243]
abbrev dktX0_unweave_1 : List UInt8 := dkwX0_unweave_1 ++ dktX0_unweave_2
def dkwX0_unweave_0 : List UInt8 := [27, 4, 16, 50, 184, 0, 93, 154, 0, 6, 16, 254, 172, 3, 61, 28, 27, 162, 0, 79, 42, 180, 0, 16]
abbrev dktX0_unweave_0 : List UInt8 := dkwX0_unweave_0 ++ dktX0_unweave_1
theorem dksX0_unweave_0 : cX0_unweave.data.toList.drop 0 = dktX0_unweave_0 := by decide +kernel
theorem dksX0_unweave_1 : cX0_unweave.data.toList.drop 24 = dktX0_unweave_1 := dk_seg dksX0_unweave_0 24 rfl rfl
theorem dksX0_unweave_2 : cX0_unweave.data.toList.drop 46 = dktX0_unweave_2 := dk_seg dksX0_unweave_1 22 rfl rfl
theorem dksX0_unweave_3 : cX0_unweave.data.toList.drop 68 = dktX0_unweave_3 := dk_seg dksX0_unweave_2 22 rfl rfl
theorem dksX0_unweave_4 : cX0_unweave.data.toList.drop 90 = dktX0_unweave_4 := dk_seg dksX0_unweave_3 22 rfl rfl
theorem dX0_unweave_0 : decode cX0_unweave 0 = .ok (.iload_n 1, 1) := dk_27 (dk_at dksX0_unweave_0 0 rfl rfl)
theorem dX0_unweave_1 : decode cX0_unweave 1 = .ok (.iconst 1, 1) := dk_4 (dk_at dksX0_unweave_0 1 rfl rfl)
theorem dX0_unweave_2 : decode cX0_unweave 2 = .ok (.bipush 50, 2) := dk_16 50 (dk_at dksX0_unweave_0 2 rfl rfl)
theorem dX0_unweave_4 : decode cX0_unweave 4 = .ok (.invokestatic 93, 3) := dk_184 0 93 (dk_at dksX0_unweave_0 4 rfl rfl)
theorem dX0_unweave_7 : decode cX0_unweave 7 = .ok (.ifCond .ne 6, 3) := dk_154 0 6 (dk_at dksX0_unweave_0 7 rfl rfl)
theorem dX0_unweave_10 : decode cX0_unweave 10 = .ok (.bipush (-2), 2) := dk_16 254 (dk_at dksX0_unweave_0 10 rfl rfl)
theorem dX0_unweave_12 : decode cX0_unweave 12 = .ok (.ireturn, 1) := dk_172 (dk_at dksX0_unweave_0 12 rfl rfl)
theorem dX0_unweave_13 : decode cX0_unweave 13 = .ok (.iconst 0, 1) := dk_3 (dk_at dksX0_unweave_0 13 rfl rfl)
theorem dX0_unweave_14 : decode cX0_unweave 14 = .ok (.istore_n 2, 1) := dk_61 (dk_at dksX0_unweave_0 14 rfl rfl)
theorem dX0_unweave_15 : decode cX0_unweave 15 = .ok (.iload_n 2, 1) := dk_28 (dk_at dksX0_unweave_0 15 rfl rfl)
theorem dX0_unweave_16 : decode cX0_unweave 16 = .ok (.iload_n 1, 1) := dk_27 (dk_at dksX0_unweave_0 16 rfl rfl)
theorem dX0_unweave_17 : decode cX0_unweave 17 = .ok (.if_icmp .ge 79, 3) := dk_162 0 79 (dk_at dksX0_unweave_0 17 rfl rfl)
theorem dX0_unweave_20 : decode cX0_unweave 20 = .ok (.aload_n 0, 1) := dk_42 (dk_at dksX0_unweave_0 20 rfl rfl)
theorem dX0_unweave_21 : decode cX0_unweave 21 = .ok (.getfield 16, 3) := dk_180 0 16 (dk_at dksX0_unweave_0 21 rfl rfl)
theorem dX0_unweave_24 : decode cX0_unweave 24 = .ok (.invokevirtual 240, 3) := dk_182 0 240 (dk_at dksX0_unweave_1 0 rfl rfl)
theorem dX0_unweave_27 : decode cX0_unweave 27 = .ok (.ifCond .ne 69, 3) := dk_154 0 69 (dk_at dksX0_unweave_1 3 rfl rfl)
theorem dX0_unweave_30 : decode cX0_unweave 30 = .ok (.aload_n 0, 1) := dk_42 (dk_at dksX0_unweave_1 6 rfl rfl)
theorem dX0_unweave_31 : decode cX0_unweave 31 = .ok (.getfield 16, 3) := dk_180 0 16 (dk_at dksX0_unweave_1 7 rfl rfl)
theorem dX0_unweave_34 : decode cX0_unweave 34 = .ok (.aload_n 0, 1) := dk_42 (dk_at dksX0_unweave_1 10 rfl rfl)
theorem dX0_unweave_35 : decode cX0_unweave 35 = .ok (.getfield 16, 3) := dk_180 0 16 (dk_at dksX0_unweave_1 11 rfl rfl)
theorem dX0_unweave_38 : decode cX0_unweave 38 = .ok (.invokevirtual 86, 3) := dk_182 0 86 (dk_at dksX0_unweave_1 14 rfl rfl)
theorem dX0_unweave_41 : decode cX0_unweave 41 = .ok (.iconst 1, 1) := dk_4 (dk_at dksX0_unweave_1 17 rfl rfl)
theorem dX0_unweave_42 : decode cX0_unweave 42 = .ok (.isub, 1) := dk_100 (dk_at dksX0_unweave_1 18 rfl rfl)
theorem dX0_unweave_43 : decode cX0_unweave 43 = .ok (.invokevirtual 243, 3) := dk_182 0 243 (dk_at dksX0_unweave_1 19 rfl rfl)
theorem dX0_unweave_46 : decode cX0_unweave 46 = .ok (.checkcast 144, 3) := dk_192 0 144 (dk_at dksX0_unweave_2 0 rfl rfl)
theorem dX0_unweave_49 : decode cX0_unweave 49 = .ok (.astore_n 3, 1) := dk_78 (dk_at dksX0_unweave_2 3 rfl rfl)
theorem dX0_unweave_50 : decode cX0_unweave 50 = .ok (.iconst 0, 1) := dk_3 (dk_at dksX0_unweave_2 4 rfl rfl)
theorem dX0_unweave_51 : decode cX0_unweave 51 = .ok (.istore 4, 2) := dk_54 4 (dk_at dksX0_unweave_2 5 rfl rfl)
theorem dX0_unweave_53 : decode cX0_unweave 53 = .ok (.iload 4, 2) := dk_21 4 (dk_at dksX0_unweave_2 7 rfl rfl)
theorem dX0_unweave_55 : decode cX0_unweave 55 = .ok (.aload_n 0, 1) := dk_42 (dk_at dksX0_unweave_2 9 rfl rfl)
theorem dX0_unweave_56 : decode cX0_unweave 56 = .ok (.invokevirtual 90, 3) := dk_182 0 90 (dk_at dksX0_unweave_2 10 rfl rfl)
theorem dX0_unweave_59 : decode cX0_unweave 59 = .ok (.if_icmp .ge 31, 3) := dk_162 0 31 (dk_at dksX0_unweave_2 13 rfl rfl)
theorem dX0_unweave_62 : decode cX0_unweave 62 = .ok (.aload_n 0, 1) := dk_42 (dk_at dksX0_unweave_2 16 rfl rfl)
theorem dX0_unweave_63 : decode cX0_unweave 63 = .ok (.getfield 10, 3) := dk_180 0 10 (dk_at dksX0_unweave_2 17 rfl rfl)
theorem dX0_unweave_66 : decode cX0_unweave 66 = .ok (.iload 4, 2) := dk_21 4 (dk_at dksX0_unweave_2 20 rfl rfl)
theorem dX0_unweave_68 : decode cX0_unweave 68 = .ok (.invokevirtual 121, 3) := dk_182 0 121 (dk_at dksX0_unweave_3 0 rfl rfl)
theorem dX0_unweave_71 : decode cX0_unweave 71 = .ok (.checkcast 111, 3) := dk_192 0 111 (dk_at dksX0_unweave_3 3 rfl rfl)
theorem dX0_unweave_74 : decode cX0_unweave 74 = .ok (.aload_n 3, 1) := dk_45 (dk_at dksX0_unweave_3 6 rfl rfl)
theorem dX0_unweave_75 : decode cX0_unweave 75 = .ok (.getfield 185, 3) := dk_180 0 185 (dk_at dksX0_unweave_3 7 rfl rfl)
theorem dX0_unweave_78 : decode cX0_unweave 78 = .ok (.iload 4, 2) := dk_21 4 (dk_at dksX0_unweave_3 10 rfl rfl)
theorem dX0_unweave_80 : decode cX0_unweave 80 = .ok (.aaload, 1) := dk_50 (dk_at dksX0_unweave_3 12 rfl rfl)
theorem dX0_unweave_81 : decode cX0_unweave 81 = .ok (.invokevirtual 246, 3) := dk_182 0 246 (dk_at dksX0_unweave_3 13 rfl rfl)
theorem dX0_unweave_84 : decode cX0_unweave 84 = .ok (.iinc 4 1, 3) := dk_132 4 1 (dk_at dksX0_unweave_3 16 rfl rfl)
theorem dX0_unweave_87 : decode cX0_unweave 87 = .ok (.goto (-34), 3) := dk_167 255 222 (dk_at dksX0_unweave_3 19 rfl rfl)
theorem dX0_unweave_90 : decode cX0_unweave 90 = .ok (.iinc 2 1, 3) := dk_132 2 1 (dk_at dksX0_unweave_4 0 rfl rfl)
theorem dX0_unweave_93 : decode cX0_unweave 93 = .ok (.goto (-78), 3) := dk_167 255 178 (dk_at dksX0_unweave_4 3 rfl rfl)
theorem dX0_unweave_96 : decode cX0_unweave 96 = .ok (.iload_n 2, 1) := dk_28 (dk_at dksX0_unweave_4 6 rfl rfl)
theorem dX0_unweave_97 : decode cX0_unweave 97 = .ok (.ireturn, 1) := dk_172 (dk_at dksX0_unweave_4 7 rfl rfl)
abbrev cX0_front : ByteArray := prog_1_method_40_code
def yX0_front : MethodName := ⟨RX0, "front", "(II)I"⟩
def dkwX0_front_1 : List UInt8 := [46, 167, 0, 4, 2, 172]
abbrev dktX0_front_1 : List UInt8 := dkwX0_front_1 ++ []
def dkwX0_front_0 : List UInt8 := [42, 27, 28, 182, 0, 252, 153, 0, 22, 42, 180, 0, 16, 27, 182, 0, 121, 192, 0, 144, 180, 1, 0, 28]
abbrev dktX0_front_0 : List UInt8 := dkwX0_front_0 ++ dktX0_front_1
theorem dksX0_front_0 : cX0_front.data.toList.drop 0 = dktX0_front_0 := by decide +kernel
theorem dksX0_front_1 : cX0_front.data.toList.drop 24 = dktX0_front_1 := dk_seg dksX0_front_0 24 rfl rfl
theorem dX0_front_0 : decode cX0_front 0 = .ok (.aload_n 0, 1) := dk_42 (dk_at dksX0_front_0 0 rfl rfl)
theorem dX0_front_1 : decode cX0_front 1 = .ok (.iload_n 1, 1) := dk_27 (dk_at dksX0_front_0 1 rfl rfl)
theorem dX0_front_2 : decode cX0_front 2 = .ok (.iload_n 2, 1) := dk_28 (dk_at dksX0_front_0 2 rfl rfl)
theorem dX0_front_3 : decode cX0_front 3 = .ok (.invokevirtual 252, 3) := dk_182 0 252 (dk_at dksX0_front_0 3 rfl rfl)
theorem dX0_front_6 : decode cX0_front 6 = .ok (.ifCond .eq 22, 3) := dk_153 0 22 (dk_at dksX0_front_0 6 rfl rfl)
theorem dX0_front_9 : decode cX0_front 9 = .ok (.aload_n 0, 1) := dk_42 (dk_at dksX0_front_0 9 rfl rfl)
theorem dX0_front_10 : decode cX0_front 10 = .ok (.getfield 16, 3) := dk_180 0 16 (dk_at dksX0_front_0 10 rfl rfl)
theorem dX0_front_13 : decode cX0_front 13 = .ok (.iload_n 1, 1) := dk_27 (dk_at dksX0_front_0 13 rfl rfl)
theorem dX0_front_14 : decode cX0_front 14 = .ok (.invokevirtual 121, 3) := dk_182 0 121 (dk_at dksX0_front_0 14 rfl rfl)
theorem dX0_front_17 : decode cX0_front 17 = .ok (.checkcast 144, 3) := dk_192 0 144 (dk_at dksX0_front_0 17 rfl rfl)
theorem dX0_front_20 : decode cX0_front 20 = .ok (.getfield 256, 3) := dk_180 1 0 (dk_at dksX0_front_0 20 rfl rfl)
theorem dX0_front_23 : decode cX0_front 23 = .ok (.iload_n 2, 1) := dk_28 (dk_at dksX0_front_0 23 rfl rfl)
theorem dX0_front_24 : decode cX0_front 24 = .ok (.iaload, 1) := dk_46 (dk_at dksX0_front_1 0 rfl rfl)
theorem dX0_front_25 : decode cX0_front 25 = .ok (.goto 4, 3) := dk_167 0 4 (dk_at dksX0_front_1 1 rfl rfl)
theorem dX0_front_28 : decode cX0_front 28 = .ok (.iconst (-1), 1) := dk_2 (dk_at dksX0_front_1 4 rfl rfl)
theorem dX0_front_29 : decode cX0_front 29 = .ok (.ireturn, 1) := dk_172 (dk_at dksX0_front_1 5 rfl rfl)
abbrev cX0_isThere : ByteArray := prog_1_method_39_code
def yX0_isThere : MethodName := ⟨RX0, "isThere", "(II)Z"⟩
def dkwX0_isThere_0 : List UInt8 := [42, 27, 182, 0, 249, 153, 0, 15, 42, 28, 182, 0, 195, 153, 0, 7, 4, 167, 0, 4, 3, 172]
abbrev dktX0_isThere_0 : List UInt8 := dkwX0_isThere_0 ++ []
theorem dksX0_isThere_0 : cX0_isThere.data.toList.drop 0 = dktX0_isThere_0 := by decide +kernel
theorem dX0_isThere_0 : decode cX0_isThere 0 = .ok (.aload_n 0, 1) := dk_42 (dk_at dksX0_isThere_0 0 rfl rfl)
theorem dX0_isThere_1 : decode cX0_isThere 1 = .ok (.iload_n 1, 1) := dk_27 (dk_at dksX0_isThere_0 1 rfl rfl)
theorem dX0_isThere_2 : decode cX0_isThere 2 = .ok (.invokevirtual 249, 3) := dk_182 0 249 (dk_at dksX0_isThere_0 2 rfl rfl)
theorem dX0_isThere_5 : decode cX0_isThere 5 = .ok (.ifCond .eq 15, 3) := dk_153 0 15 (dk_at dksX0_isThere_0 5 rfl rfl)
theorem dX0_isThere_8 : decode cX0_isThere 8 = .ok (.aload_n 0, 1) := dk_42 (dk_at dksX0_isThere_0 8 rfl rfl)
theorem dX0_isThere_9 : decode cX0_isThere 9 = .ok (.iload_n 2, 1) := dk_28 (dk_at dksX0_isThere_0 9 rfl rfl)
theorem dX0_isThere_10 : decode cX0_isThere 10 = .ok (.invokevirtual 195, 3) := dk_182 0 195 (dk_at dksX0_isThere_0 10 rfl rfl)
theorem dX0_isThere_13 : decode cX0_isThere 13 = .ok (.ifCond .eq 7, 3) := dk_153 0 7 (dk_at dksX0_isThere_0 13 rfl rfl)
theorem dX0_isThere_16 : decode cX0_isThere 16 = .ok (.iconst 1, 1) := dk_4 (dk_at dksX0_isThere_0 16 rfl rfl)
theorem dX0_isThere_17 : decode cX0_isThere 17 = .ok (.goto 4, 3) := dk_167 0 4 (dk_at dksX0_isThere_0 17 rfl rfl)
theorem dX0_isThere_20 : decode cX0_isThere 20 = .ok (.iconst 0, 1) := dk_3 (dk_at dksX0_isThere_0 20 rfl rfl)
theorem dX0_isThere_21 : decode cX0_isThere 21 = .ok (.ireturn, 1) := dk_172 (dk_at dksX0_isThere_0 21 rfl rfl)
abbrev cX0_isRow : ByteArray := prog_1_method_15_code
def yX0_isRow : MethodName := ⟨RX0, "isRow", "(I)Z"⟩
def dkwX0_isRow_0 : List UInt8 := [27, 3, 42, 180, 0, 16, 182, 0, 86, 4, 100, 184, 0, 93, 172]
abbrev dktX0_isRow_0 : List UInt8 := dkwX0_isRow_0 ++ []
theorem dksX0_isRow_0 : cX0_isRow.data.toList.drop 0 = dktX0_isRow_0 := by decide +kernel
theorem dX0_isRow_0 : decode cX0_isRow 0 = .ok (.iload_n 1, 1) := dk_27 (dk_at dksX0_isRow_0 0 rfl rfl)
theorem dX0_isRow_1 : decode cX0_isRow 1 = .ok (.iconst 0, 1) := dk_3 (dk_at dksX0_isRow_0 1 rfl rfl)
theorem dX0_isRow_2 : decode cX0_isRow 2 = .ok (.aload_n 0, 1) := dk_42 (dk_at dksX0_isRow_0 2 rfl rfl)
theorem dX0_isRow_3 : decode cX0_isRow 3 = .ok (.getfield 16, 3) := dk_180 0 16 (dk_at dksX0_isRow_0 3 rfl rfl)
theorem dX0_isRow_6 : decode cX0_isRow 6 = .ok (.invokevirtual 86, 3) := dk_182 0 86 (dk_at dksX0_isRow_0 6 rfl rfl)
theorem dX0_isRow_9 : decode cX0_isRow 9 = .ok (.iconst 1, 1) := dk_4 (dk_at dksX0_isRow_0 9 rfl rfl)
theorem dX0_isRow_10 : decode cX0_isRow 10 = .ok (.isub, 1) := dk_100 (dk_at dksX0_isRow_0 10 rfl rfl)
theorem dX0_isRow_11 : decode cX0_isRow 11 = .ok (.invokestatic 93, 3) := dk_184 0 93 (dk_at dksX0_isRow_0 11 rfl rfl)
theorem dX0_isRow_14 : decode cX0_isRow 14 = .ok (.ireturn, 1) := dk_172 (dk_at dksX0_isRow_0 14 rfl rfl)
abbrev cX0_back : ByteArray := prog_1_method_41_code
def yX0_back : MethodName := ⟨RX0, "back", "(II)I"⟩
def dkwX0_back_1 : List UInt8 := [46, 167, 0, 4, 2, 172]
abbrev dktX0_back_1 : List UInt8 := dkwX0_back_1 ++ []
def dkwX0_back_0 : List UInt8 := [42, 27, 28, 182, 0, 252, 153, 0, 22, 42, 180, 0, 16, 27, 182, 0, 121, 192, 0, 144, 180, 1, 3, 28]
abbrev dktX0_back_0 : List UInt8 := dkwX0_back_0 ++ dktX0_back_1
theorem dksX0_back_0 : cX0_back.data.toList.drop 0 = dktX0_back_0 := by decide +kernel
theorem dksX0_back_1 : cX0_back.data.toList.drop 24 = dktX0_back_1 := dk_seg dksX0_back_0 24 rfl rfl
theorem dX0_back_0 : decode cX0_back 0 = .ok (.aload_n 0, 1) := dk_42 (dk_at dksX0_back_0 0 rfl rfl)
theorem dX0_back_1 : decode cX0_back 1 = .ok (.iload_n 1, 1) := dk_27 (dk_at dksX0_back_0 1 rfl rfl)
theorem dX0_back_2 : decode cX0_back 2 = .ok (.iload_n 2, 1) := dk_28 (dk_at dksX0_back_0 2 rfl rfl)
theorem dX0_back_3 : decode cX0_back 3 = .ok (.invokevirtual 252, 3) := dk_182 0 252 (dk_at dksX0_back_0 3 rfl rfl)
theorem dX0_back_6 : decode cX0_back 6 = .ok (.ifCond .eq 22, 3) := dk_153 0 22 (dk_at dksX0_back_0 6 rfl rfl)
theorem dX0_back_9 : decode cX0_back 9 = .ok (.aload_n 0, 1) := dk_42 (dk_at dksX0_back_0 9 rfl rfl)
theorem dX0_back_10 : decode cX0_back 10 = .ok (.getfield 16, 3) := dk_180 0 16 (dk_at dksX0_back_0 10 rfl rfl)
theorem dX0_back_13 : decode cX0_back 13 = .ok (.iload_n 1, 1) := dk_27 (dk_at dksX0_back_0 13 rfl rfl)
theorem dX0_back_14 : decode cX0_back 14 = .ok (.invokevirtual 121, 3) := dk_182 0 121 (dk_at dksX0_back_0 14 rfl rfl)
theorem dX0_back_17 : decode cX0_back 17 = .ok (.checkcast 144, 3) := dk_192 0 144 (dk_at dksX0_back_0 17 rfl rfl)
theorem dX0_back_20 : decode cX0_back 20 = .ok (.getfield 259, 3) := dk_180 1 3 (dk_at dksX0_back_0 20 rfl rfl)
theorem dX0_back_23 : decode cX0_back 23 = .ok (.iload_n 2, 1) := dk_28 (dk_at dksX0_back_0 23 rfl rfl)
theorem dX0_back_24 : decode cX0_back 24 = .ok (.iaload, 1) := dk_46 (dk_at dksX0_back_1 0 rfl rfl)
theorem dX0_back_25 : decode cX0_back 25 = .ok (.goto 4, 3) := dk_167 0 4 (dk_at dksX0_back_1 1 rfl rfl)
theorem dX0_back_28 : decode cX0_back 28 = .ok (.iconst (-1), 1) := dk_2 (dk_at dksX0_back_1 4 rfl rfl)
theorem dX0_back_29 : decode cX0_back 29 = .ok (.ireturn, 1) := dk_172 (dk_at dksX0_back_1 5 rfl rfl)
abbrev cX0_lean : ByteArray := prog_1_method_42_code
def yX0_lean : MethodName := ⟨RX0, "lean", "(II)I"⟩
def dkwX0_lean_1 : List UInt8 := [46, 167, 0, 4, 2, 172]
abbrev dktX0_lean_1 : List UInt8 := dkwX0_lean_1 ++ []
def dkwX0_lean_0 : List UInt8 := [42, 27, 28, 182, 0, 252, 153, 0, 22, 42, 180, 0, 16, 27, 182, 0, 121, 192, 0, 144, 180, 1, 6, 28]
abbrev dktX0_lean_0 : List UInt8 := dkwX0_lean_0 ++ dktX0_lean_1
theorem dksX0_lean_0 : cX0_lean.data.toList.drop 0 = dktX0_lean_0 := by decide +kernel
theorem dksX0_lean_1 : cX0_lean.data.toList.drop 24 = dktX0_lean_1 := dk_seg dksX0_lean_0 24 rfl rfl
theorem dX0_lean_0 : decode cX0_lean 0 = .ok (.aload_n 0, 1) := dk_42 (dk_at dksX0_lean_0 0 rfl rfl)
theorem dX0_lean_1 : decode cX0_lean 1 = .ok (.iload_n 1, 1) := dk_27 (dk_at dksX0_lean_0 1 rfl rfl)
theorem dX0_lean_2 : decode cX0_lean 2 = .ok (.iload_n 2, 1) := dk_28 (dk_at dksX0_lean_0 2 rfl rfl)
theorem dX0_lean_3 : decode cX0_lean 3 = .ok (.invokevirtual 252, 3) := dk_182 0 252 (dk_at dksX0_lean_0 3 rfl rfl)
theorem dX0_lean_6 : decode cX0_lean 6 = .ok (.ifCond .eq 22, 3) := dk_153 0 22 (dk_at dksX0_lean_0 6 rfl rfl)
theorem dX0_lean_9 : decode cX0_lean 9 = .ok (.aload_n 0, 1) := dk_42 (dk_at dksX0_lean_0 9 rfl rfl)
theorem dX0_lean_10 : decode cX0_lean 10 = .ok (.getfield 16, 3) := dk_180 0 16 (dk_at dksX0_lean_0 10 rfl rfl)
theorem dX0_lean_13 : decode cX0_lean 13 = .ok (.iload_n 1, 1) := dk_27 (dk_at dksX0_lean_0 13 rfl rfl)
theorem dX0_lean_14 : decode cX0_lean 14 = .ok (.invokevirtual 121, 3) := dk_182 0 121 (dk_at dksX0_lean_0 14 rfl rfl)
theorem dX0_lean_17 : decode cX0_lean 17 = .ok (.checkcast 144, 3) := dk_192 0 144 (dk_at dksX0_lean_0 17 rfl rfl)
theorem dX0_lean_20 : decode cX0_lean 20 = .ok (.getfield 262, 3) := dk_180 1 6 (dk_at dksX0_lean_0 20 rfl rfl)
theorem dX0_lean_23 : decode cX0_lean 23 = .ok (.iload_n 2, 1) := dk_28 (dk_at dksX0_lean_0 23 rfl rfl)
theorem dX0_lean_24 : decode cX0_lean 24 = .ok (.iaload, 1) := dk_46 (dk_at dksX0_lean_1 0 rfl rfl)
theorem dX0_lean_25 : decode cX0_lean 25 = .ok (.goto 4, 3) := dk_167 0 4 (dk_at dksX0_lean_1 1 rfl rfl)
theorem dX0_lean_28 : decode cX0_lean 28 = .ok (.iconst (-1), 1) := dk_2 (dk_at dksX0_lean_1 4 rfl rfl)
theorem dX0_lean_29 : decode cX0_lean 29 = .ok (.ireturn, 1) := dk_172 (dk_at dksX0_lean_1 5 rfl rfl)
abbrev cX0_turning : ByteArray := prog_1_method_43_code
def yX0_turning : MethodName := ⟨RX0, "turning", "(II)I"⟩
def dkwX0_turning_1 : List UInt8 := [50, 180, 0, 211, 167, 0, 4, 2, 172]
abbrev dktX0_turning_1 : List UInt8 := dkwX0_turning_1 ++ []
def dkwX0_turning_0 : List UInt8 := [42, 27, 28, 182, 0, 252, 153, 0, 25, 42, 180, 0, 16, 27, 182, 0, 121, 192, 0, 144, 180, 0, 185, 28]
abbrev dktX0_turning_0 : List UInt8 := dkwX0_turning_0 ++ dktX0_turning_1
theorem dksX0_turning_0 : cX0_turning.data.toList.drop 0 = dktX0_turning_0 := by decide +kernel
theorem dksX0_turning_1 : cX0_turning.data.toList.drop 24 = dktX0_turning_1 := dk_seg dksX0_turning_0 24 rfl rfl
theorem dX0_turning_0 : decode cX0_turning 0 = .ok (.aload_n 0, 1) := dk_42 (dk_at dksX0_turning_0 0 rfl rfl)
theorem dX0_turning_1 : decode cX0_turning 1 = .ok (.iload_n 1, 1) := dk_27 (dk_at dksX0_turning_0 1 rfl rfl)
theorem dX0_turning_2 : decode cX0_turning 2 = .ok (.iload_n 2, 1) := dk_28 (dk_at dksX0_turning_0 2 rfl rfl)
theorem dX0_turning_3 : decode cX0_turning 3 = .ok (.invokevirtual 252, 3) := dk_182 0 252 (dk_at dksX0_turning_0 3 rfl rfl)
theorem dX0_turning_6 : decode cX0_turning 6 = .ok (.ifCond .eq 25, 3) := dk_153 0 25 (dk_at dksX0_turning_0 6 rfl rfl)
theorem dX0_turning_9 : decode cX0_turning 9 = .ok (.aload_n 0, 1) := dk_42 (dk_at dksX0_turning_0 9 rfl rfl)
theorem dX0_turning_10 : decode cX0_turning 10 = .ok (.getfield 16, 3) := dk_180 0 16 (dk_at dksX0_turning_0 10 rfl rfl)
theorem dX0_turning_13 : decode cX0_turning 13 = .ok (.iload_n 1, 1) := dk_27 (dk_at dksX0_turning_0 13 rfl rfl)
theorem dX0_turning_14 : decode cX0_turning 14 = .ok (.invokevirtual 121, 3) := dk_182 0 121 (dk_at dksX0_turning_0 14 rfl rfl)
theorem dX0_turning_17 : decode cX0_turning 17 = .ok (.checkcast 144, 3) := dk_192 0 144 (dk_at dksX0_turning_0 17 rfl rfl)
theorem dX0_turning_20 : decode cX0_turning 20 = .ok (.getfield 185, 3) := dk_180 0 185 (dk_at dksX0_turning_0 20 rfl rfl)
theorem dX0_turning_23 : decode cX0_turning 23 = .ok (.iload_n 2, 1) := dk_28 (dk_at dksX0_turning_0 23 rfl rfl)
theorem dX0_turning_24 : decode cX0_turning 24 = .ok (.aaload, 1) := dk_50 (dk_at dksX0_turning_1 0 rfl rfl)
theorem dX0_turning_25 : decode cX0_turning 25 = .ok (.getfield 211, 3) := dk_180 0 211 (dk_at dksX0_turning_1 1 rfl rfl)
theorem dX0_turning_28 : decode cX0_turning 28 = .ok (.goto 4, 3) := dk_167 0 4 (dk_at dksX0_turning_1 4 rfl rfl)
theorem dX0_turning_31 : decode cX0_turning 31 = .ok (.iconst (-1), 1) := dk_2 (dk_at dksX0_turning_1 7 rfl rfl)
theorem dX0_turning_32 : decode cX0_turning 32 = .ok (.ireturn, 1) := dk_172 (dk_at dksX0_turning_1 8 rfl rfl)
abbrev cX0_returns : ByteArray := prog_1_method_47_code
def yX0_returns : MethodName := ⟨RX0, "returns", "()I"⟩
def dkwX0_returns_0 : List UInt8 := [42, 182, 0, 90, 154, 0, 8, 16, 253, 167, 0, 14, 42, 4, 42, 186, 1, 19, 0, 0, 182, 1, 22, 172]
abbrev dktX0_returns_0 : List UInt8 := dkwX0_returns_0 ++ []
theorem dksX0_returns_0 : cX0_returns.data.toList.drop 0 = dktX0_returns_0 := by decide +kernel
theorem dX0_returns_0 : decode cX0_returns 0 = .ok (.aload_n 0, 1) := dk_42 (dk_at dksX0_returns_0 0 rfl rfl)
theorem dX0_returns_1 : decode cX0_returns 1 = .ok (.invokevirtual 90, 3) := dk_182 0 90 (dk_at dksX0_returns_0 1 rfl rfl)
theorem dX0_returns_4 : decode cX0_returns 4 = .ok (.ifCond .ne 8, 3) := dk_154 0 8 (dk_at dksX0_returns_0 4 rfl rfl)
theorem dX0_returns_7 : decode cX0_returns 7 = .ok (.bipush (-3), 2) := dk_16 253 (dk_at dksX0_returns_0 7 rfl rfl)
theorem dX0_returns_9 : decode cX0_returns 9 = .ok (.goto 14, 3) := dk_167 0 14 (dk_at dksX0_returns_0 9 rfl rfl)
theorem dX0_returns_12 : decode cX0_returns 12 = .ok (.aload_n 0, 1) := dk_42 (dk_at dksX0_returns_0 12 rfl rfl)
theorem dX0_returns_13 : decode cX0_returns 13 = .ok (.iconst 1, 1) := dk_4 (dk_at dksX0_returns_0 13 rfl rfl)
theorem dX0_returns_14 : decode cX0_returns 14 = .ok (.aload_n 0, 1) := dk_42 (dk_at dksX0_returns_0 14 rfl rfl)
theorem dX0_returns_15 : decode cX0_returns 15 = .ok (.invokedynamic 275, 5) := by decide +kernel
theorem dX0_returns_20 : decode cX0_returns 20 = .ok (.invokevirtual 278, 3) := dk_182 1 22 (dk_at dksX0_returns_0 20 rfl rfl)
theorem dX0_returns_23 : decode cX0_returns 23 = .ok (.ireturn, 1) := dk_172 (dk_at dksX0_returns_0 23 rfl rfl)
abbrev cX0_areAsNow : ByteArray := prog_1_method_44_code
def yX0_areAsNow : MethodName := ⟨RX0, "areAsNow", "(Ljava/util/ArrayList;)Z"⟩
def dkwX0_areAsNow_2 : List UInt8 := [132, 3, 1, 167, 255, 209, 28, 172]
abbrev dktX0_areAsNow_2 : List UInt8 := dkwX0_areAsNow_2 ++ []
def dkwX0_areAsNow_1 : List UInt8 := [42, 180, 0, 10, 29, 182, 0, 121, 192, 0, 111, 180, 0, 204, 160, 0, 7, 4, 167, 0, 4, 3, 126, 61]
abbrev dktX0_areAsNow_1 : List UInt8 := dkwX0_areAsNow_1 ++ dktX0_areAsNow_2
def dkwX0_areAsNow_0 : List UInt8 := [4, 61, 3, 62, 29, 42, 182, 0, 90, 162, 0, 45, 28, 43, 29, 182, 0, 121, 192, 0, 111, 180, 0, 204]
abbrev dktX0_areAsNow_0 : List UInt8 := dkwX0_areAsNow_0 ++ dktX0_areAsNow_1
theorem dksX0_areAsNow_0 : cX0_areAsNow.data.toList.drop 0 = dktX0_areAsNow_0 := by decide +kernel
theorem dksX0_areAsNow_1 : cX0_areAsNow.data.toList.drop 24 = dktX0_areAsNow_1 := dk_seg dksX0_areAsNow_0 24 rfl rfl
theorem dksX0_areAsNow_2 : cX0_areAsNow.data.toList.drop 48 = dktX0_areAsNow_2 := dk_seg dksX0_areAsNow_1 24 rfl rfl
theorem dX0_areAsNow_0 : decode cX0_areAsNow 0 = .ok (.iconst 1, 1) := dk_4 (dk_at dksX0_areAsNow_0 0 rfl rfl)
theorem dX0_areAsNow_1 : decode cX0_areAsNow 1 = .ok (.istore_n 2, 1) := dk_61 (dk_at dksX0_areAsNow_0 1 rfl rfl)
theorem dX0_areAsNow_2 : decode cX0_areAsNow 2 = .ok (.iconst 0, 1) := dk_3 (dk_at dksX0_areAsNow_0 2 rfl rfl)
theorem dX0_areAsNow_3 : decode cX0_areAsNow 3 = .ok (.istore_n 3, 1) := dk_62 (dk_at dksX0_areAsNow_0 3 rfl rfl)
theorem dX0_areAsNow_4 : decode cX0_areAsNow 4 = .ok (.iload_n 3, 1) := dk_29 (dk_at dksX0_areAsNow_0 4 rfl rfl)
theorem dX0_areAsNow_5 : decode cX0_areAsNow 5 = .ok (.aload_n 0, 1) := dk_42 (dk_at dksX0_areAsNow_0 5 rfl rfl)
theorem dX0_areAsNow_6 : decode cX0_areAsNow 6 = .ok (.invokevirtual 90, 3) := dk_182 0 90 (dk_at dksX0_areAsNow_0 6 rfl rfl)
theorem dX0_areAsNow_9 : decode cX0_areAsNow 9 = .ok (.if_icmp .ge 45, 3) := dk_162 0 45 (dk_at dksX0_areAsNow_0 9 rfl rfl)
theorem dX0_areAsNow_12 : decode cX0_areAsNow 12 = .ok (.iload_n 2, 1) := dk_28 (dk_at dksX0_areAsNow_0 12 rfl rfl)
theorem dX0_areAsNow_13 : decode cX0_areAsNow 13 = .ok (.aload_n 1, 1) := dk_43 (dk_at dksX0_areAsNow_0 13 rfl rfl)
theorem dX0_areAsNow_14 : decode cX0_areAsNow 14 = .ok (.iload_n 3, 1) := dk_29 (dk_at dksX0_areAsNow_0 14 rfl rfl)
theorem dX0_areAsNow_15 : decode cX0_areAsNow 15 = .ok (.invokevirtual 121, 3) := dk_182 0 121 (dk_at dksX0_areAsNow_0 15 rfl rfl)
theorem dX0_areAsNow_18 : decode cX0_areAsNow 18 = .ok (.checkcast 111, 3) := dk_192 0 111 (dk_at dksX0_areAsNow_0 18 rfl rfl)
theorem dX0_areAsNow_21 : decode cX0_areAsNow 21 = .ok (.getfield 204, 3) := dk_180 0 204 (dk_at dksX0_areAsNow_0 21 rfl rfl)
theorem dX0_areAsNow_24 : decode cX0_areAsNow 24 = .ok (.aload_n 0, 1) := dk_42 (dk_at dksX0_areAsNow_1 0 rfl rfl)
theorem dX0_areAsNow_25 : decode cX0_areAsNow 25 = .ok (.getfield 10, 3) := dk_180 0 10 (dk_at dksX0_areAsNow_1 1 rfl rfl)
theorem dX0_areAsNow_28 : decode cX0_areAsNow 28 = .ok (.iload_n 3, 1) := dk_29 (dk_at dksX0_areAsNow_1 4 rfl rfl)
theorem dX0_areAsNow_29 : decode cX0_areAsNow 29 = .ok (.invokevirtual 121, 3) := dk_182 0 121 (dk_at dksX0_areAsNow_1 5 rfl rfl)
theorem dX0_areAsNow_32 : decode cX0_areAsNow 32 = .ok (.checkcast 111, 3) := dk_192 0 111 (dk_at dksX0_areAsNow_1 8 rfl rfl)
theorem dX0_areAsNow_35 : decode cX0_areAsNow 35 = .ok (.getfield 204, 3) := dk_180 0 204 (dk_at dksX0_areAsNow_1 11 rfl rfl)
theorem dX0_areAsNow_38 : decode cX0_areAsNow 38 = .ok (.if_icmp .ne 7, 3) := dk_160 0 7 (dk_at dksX0_areAsNow_1 14 rfl rfl)
theorem dX0_areAsNow_41 : decode cX0_areAsNow 41 = .ok (.iconst 1, 1) := dk_4 (dk_at dksX0_areAsNow_1 17 rfl rfl)
theorem dX0_areAsNow_42 : decode cX0_areAsNow 42 = .ok (.goto 4, 3) := dk_167 0 4 (dk_at dksX0_areAsNow_1 18 rfl rfl)
theorem dX0_areAsNow_45 : decode cX0_areAsNow 45 = .ok (.iconst 0, 1) := dk_3 (dk_at dksX0_areAsNow_1 21 rfl rfl)
theorem dX0_areAsNow_46 : decode cX0_areAsNow 46 = .ok (.iand, 1) := dk_126 (dk_at dksX0_areAsNow_1 22 rfl rfl)
theorem dX0_areAsNow_47 : decode cX0_areAsNow 47 = .ok (.istore_n 2, 1) := dk_61 (dk_at dksX0_areAsNow_1 23 rfl rfl)
theorem dX0_areAsNow_48 : decode cX0_areAsNow 48 = .ok (.iinc 3 1, 3) := dk_132 3 1 (dk_at dksX0_areAsNow_2 0 rfl rfl)
theorem dX0_areAsNow_51 : decode cX0_areAsNow 51 = .ok (.goto (-47), 3) := dk_167 255 209 (dk_at dksX0_areAsNow_2 3 rfl rfl)
theorem dX0_areAsNow_54 : decode cX0_areAsNow 54 = .ok (.iload_n 2, 1) := dk_28 (dk_at dksX0_areAsNow_2 6 rfl rfl)
theorem dX0_areAsNow_55 : decode cX0_areAsNow 55 = .ok (.ireturn, 1) := dk_172 (dk_at dksX0_areAsNow_2 7 rfl rfl)
abbrev cX0_firstOn : ByteArray := prog_1_method_46_code
def yX0_firstOn : MethodName := ⟨RX0, "firstOn", "(ILCardLoom$Asks;)I"⟩
def dkwX0_firstOn_3 : List UInt8 := [184, 0, 141, 132, 4, 1, 167, 255, 192, 16, 251, 172]
abbrev dktX0_firstOn_3 : List UInt8 := dkwX0_firstOn_3 ++ []
def dkwX0_firstOn_2 : List UInt8 := [21, 4, 96, 182, 0, 236, 58, 5, 45, 25, 5, 184, 0, 138, 153, 0, 6, 16, 251, 172, 45, 25, 5]
abbrev dktX0_firstOn_2 : List UInt8 := dkwX0_firstOn_2 ++ dktX0_firstOn_3
def dkwX0_firstOn_1 : List UInt8 := [161, 0, 16, 44, 45, 185, 1, 13, 2, 0, 153, 0, 6, 21, 4, 172, 42, 42, 180, 0, 16, 182, 0, 86]
abbrev dktX0_firstOn_1 : List UInt8 := dkwX0_firstOn_1 ++ dktX0_firstOn_2
def dkwX0_firstOn_0 : List UInt8 := [42, 180, 0, 10, 184, 1, 9, 78, 3, 54, 4, 21, 4, 17, 0, 200, 163, 0, 62, 21, 4, 27]
abbrev dktX0_firstOn_0 : List UInt8 := dkwX0_firstOn_0 ++ dktX0_firstOn_1
theorem dksX0_firstOn_0 : cX0_firstOn.data.toList.drop 0 = dktX0_firstOn_0 := by decide +kernel
theorem dksX0_firstOn_1 : cX0_firstOn.data.toList.drop 22 = dktX0_firstOn_1 := dk_seg dksX0_firstOn_0 22 rfl rfl
theorem dksX0_firstOn_2 : cX0_firstOn.data.toList.drop 46 = dktX0_firstOn_2 := dk_seg dksX0_firstOn_1 24 rfl rfl
theorem dksX0_firstOn_3 : cX0_firstOn.data.toList.drop 69 = dktX0_firstOn_3 := dk_seg dksX0_firstOn_2 23 rfl rfl
theorem dX0_firstOn_0 : decode cX0_firstOn 0 = .ok (.aload_n 0, 1) := dk_42 (dk_at dksX0_firstOn_0 0 rfl rfl)
theorem dX0_firstOn_1 : decode cX0_firstOn 1 = .ok (.getfield 10, 3) := dk_180 0 10 (dk_at dksX0_firstOn_0 1 rfl rfl)
theorem dX0_firstOn_4 : decode cX0_firstOn 4 = .ok (.invokestatic 265, 3) := dk_184 1 9 (dk_at dksX0_firstOn_0 4 rfl rfl)
theorem dX0_firstOn_7 : decode cX0_firstOn 7 = .ok (.astore_n 3, 1) := dk_78 (dk_at dksX0_firstOn_0 7 rfl rfl)
theorem dX0_firstOn_8 : decode cX0_firstOn 8 = .ok (.iconst 0, 1) := dk_3 (dk_at dksX0_firstOn_0 8 rfl rfl)
theorem dX0_firstOn_9 : decode cX0_firstOn 9 = .ok (.istore 4, 2) := dk_54 4 (dk_at dksX0_firstOn_0 9 rfl rfl)
theorem dX0_firstOn_11 : decode cX0_firstOn 11 = .ok (.iload 4, 2) := dk_21 4 (dk_at dksX0_firstOn_0 11 rfl rfl)
theorem dX0_firstOn_13 : decode cX0_firstOn 13 = .ok (.sipush 200, 3) := dk_17 0 200 (dk_at dksX0_firstOn_0 13 rfl rfl)
theorem dX0_firstOn_16 : decode cX0_firstOn 16 = .ok (.if_icmp .gt 62, 3) := dk_163 0 62 (dk_at dksX0_firstOn_0 16 rfl rfl)
theorem dX0_firstOn_19 : decode cX0_firstOn 19 = .ok (.iload 4, 2) := dk_21 4 (dk_at dksX0_firstOn_0 19 rfl rfl)
theorem dX0_firstOn_21 : decode cX0_firstOn 21 = .ok (.iload_n 1, 1) := dk_27 (dk_at dksX0_firstOn_0 21 rfl rfl)
theorem dX0_firstOn_22 : decode cX0_firstOn 22 = .ok (.if_icmp .lt 16, 3) := dk_161 0 16 (dk_at dksX0_firstOn_1 0 rfl rfl)
theorem dX0_firstOn_25 : decode cX0_firstOn 25 = .ok (.aload_n 2, 1) := dk_44 (dk_at dksX0_firstOn_1 3 rfl rfl)
theorem dX0_firstOn_26 : decode cX0_firstOn 26 = .ok (.aload_n 3, 1) := dk_45 (dk_at dksX0_firstOn_1 4 rfl rfl)
theorem dX0_firstOn_27 : decode cX0_firstOn 27 = .ok (.invokeinterface 269 2, 5) := by decide +kernel
theorem dX0_firstOn_32 : decode cX0_firstOn 32 = .ok (.ifCond .eq 6, 3) := dk_153 0 6 (dk_at dksX0_firstOn_1 10 rfl rfl)
theorem dX0_firstOn_35 : decode cX0_firstOn 35 = .ok (.iload 4, 2) := dk_21 4 (dk_at dksX0_firstOn_1 13 rfl rfl)
theorem dX0_firstOn_37 : decode cX0_firstOn 37 = .ok (.ireturn, 1) := dk_172 (dk_at dksX0_firstOn_1 15 rfl rfl)
theorem dX0_firstOn_38 : decode cX0_firstOn 38 = .ok (.aload_n 0, 1) := dk_42 (dk_at dksX0_firstOn_1 16 rfl rfl)
theorem dX0_firstOn_39 : decode cX0_firstOn 39 = .ok (.aload_n 0, 1) := dk_42 (dk_at dksX0_firstOn_1 17 rfl rfl)
theorem dX0_firstOn_40 : decode cX0_firstOn 40 = .ok (.getfield 16, 3) := dk_180 0 16 (dk_at dksX0_firstOn_1 18 rfl rfl)
theorem dX0_firstOn_43 : decode cX0_firstOn 43 = .ok (.invokevirtual 86, 3) := dk_182 0 86 (dk_at dksX0_firstOn_1 21 rfl rfl)
theorem dX0_firstOn_46 : decode cX0_firstOn 46 = .ok (.iload 4, 2) := dk_21 4 (dk_at dksX0_firstOn_2 0 rfl rfl)
theorem dX0_firstOn_48 : decode cX0_firstOn 48 = .ok (.iadd, 1) := dk_96 (dk_at dksX0_firstOn_2 2 rfl rfl)
theorem dX0_firstOn_49 : decode cX0_firstOn 49 = .ok (.invokevirtual 236, 3) := dk_182 0 236 (dk_at dksX0_firstOn_2 3 rfl rfl)
theorem dX0_firstOn_52 : decode cX0_firstOn 52 = .ok (.astore 5, 2) := dk_58 5 (dk_at dksX0_firstOn_2 6 rfl rfl)
theorem dX0_firstOn_54 : decode cX0_firstOn 54 = .ok (.aload_n 3, 1) := dk_45 (dk_at dksX0_firstOn_2 8 rfl rfl)
theorem dX0_firstOn_55 : decode cX0_firstOn 55 = .ok (.aload 5, 2) := dk_25 5 (dk_at dksX0_firstOn_2 9 rfl rfl)
theorem dX0_firstOn_57 : decode cX0_firstOn 57 = .ok (.invokestatic 138, 3) := dk_184 0 138 (dk_at dksX0_firstOn_2 11 rfl rfl)
theorem dX0_firstOn_60 : decode cX0_firstOn 60 = .ok (.ifCond .eq 6, 3) := dk_153 0 6 (dk_at dksX0_firstOn_2 14 rfl rfl)
theorem dX0_firstOn_63 : decode cX0_firstOn 63 = .ok (.bipush (-5), 2) := dk_16 251 (dk_at dksX0_firstOn_2 17 rfl rfl)
theorem dX0_firstOn_65 : decode cX0_firstOn 65 = .ok (.ireturn, 1) := dk_172 (dk_at dksX0_firstOn_2 19 rfl rfl)
theorem dX0_firstOn_66 : decode cX0_firstOn 66 = .ok (.aload_n 3, 1) := dk_45 (dk_at dksX0_firstOn_2 20 rfl rfl)
theorem dX0_firstOn_67 : decode cX0_firstOn 67 = .ok (.aload 5, 2) := dk_25 5 (dk_at dksX0_firstOn_2 21 rfl rfl)
theorem dX0_firstOn_69 : decode cX0_firstOn 69 = .ok (.invokestatic 141, 3) := dk_184 0 141 (dk_at dksX0_firstOn_3 0 rfl rfl)
theorem dX0_firstOn_72 : decode cX0_firstOn 72 = .ok (.iinc 4 1, 3) := dk_132 4 1 (dk_at dksX0_firstOn_3 3 rfl rfl)
theorem dX0_firstOn_75 : decode cX0_firstOn 75 = .ok (.goto (-64), 3) := dk_167 255 192 (dk_at dksX0_firstOn_3 6 rfl rfl)
theorem dX0_firstOn_78 : decode cX0_firstOn 78 = .ok (.bipush (-5), 2) := dk_16 251 (dk_at dksX0_firstOn_3 9 rfl rfl)
theorem dX0_firstOn_80 : decode cX0_firstOn 80 = .ok (.ireturn, 1) := dk_172 (dk_at dksX0_firstOn_3 11 rfl rfl)
abbrev cX0_twins : ByteArray := prog_1_method_17_code
def yX0_twins : MethodName := ⟨RX0, "twins", "(Ljava/util/ArrayList;)Ljava/util/ArrayList;"⟩
def dkwX0_twins_1 : List UInt8 := [185, 0, 107, 1, 0, 192, 0, 111, 78, 43, 45, 182, 0, 113, 182, 0, 117, 87, 167, 255, 228, 43, 176]
abbrev dktX0_twins_1 : List UInt8 := dkwX0_twins_1 ++ []
def dkwX0_twins_0 : List UInt8 := [187, 0, 7, 89, 183, 0, 9, 76, 42, 182, 0, 97, 77, 44, 185, 0, 101, 1, 0, 153, 0, 25, 44]
abbrev dktX0_twins_0 : List UInt8 := dkwX0_twins_0 ++ dktX0_twins_1
theorem dksX0_twins_0 : cX0_twins.data.toList.drop 0 = dktX0_twins_0 := by decide +kernel
theorem dksX0_twins_1 : cX0_twins.data.toList.drop 23 = dktX0_twins_1 := dk_seg dksX0_twins_0 23 rfl rfl
theorem dX0_twins_0 : decode cX0_twins 0 = .ok (.new 7, 3) := dk_187 0 7 (dk_at dksX0_twins_0 0 rfl rfl)
theorem dX0_twins_3 : decode cX0_twins 3 = .ok (.dup, 1) := dk_89 (dk_at dksX0_twins_0 3 rfl rfl)
theorem dX0_twins_4 : decode cX0_twins 4 = .ok (.invokespecial 9, 3) := dk_183 0 9 (dk_at dksX0_twins_0 4 rfl rfl)
theorem dX0_twins_7 : decode cX0_twins 7 = .ok (.astore_n 1, 1) := dk_76 (dk_at dksX0_twins_0 7 rfl rfl)
theorem dX0_twins_8 : decode cX0_twins 8 = .ok (.aload_n 0, 1) := dk_42 (dk_at dksX0_twins_0 8 rfl rfl)
theorem dX0_twins_9 : decode cX0_twins 9 = .ok (.invokevirtual 97, 3) := dk_182 0 97 (dk_at dksX0_twins_0 9 rfl rfl)
theorem dX0_twins_12 : decode cX0_twins 12 = .ok (.astore_n 2, 1) := dk_77 (dk_at dksX0_twins_0 12 rfl rfl)
theorem dX0_twins_13 : decode cX0_twins 13 = .ok (.aload_n 2, 1) := dk_44 (dk_at dksX0_twins_0 13 rfl rfl)
theorem dX0_twins_14 : decode cX0_twins 14 = .ok (.invokeinterface 101 1, 5) := by decide +kernel
theorem dX0_twins_19 : decode cX0_twins 19 = .ok (.ifCond .eq 25, 3) := dk_153 0 25 (dk_at dksX0_twins_0 19 rfl rfl)
theorem dX0_twins_22 : decode cX0_twins 22 = .ok (.aload_n 2, 1) := dk_44 (dk_at dksX0_twins_0 22 rfl rfl)
theorem dX0_twins_23 : decode cX0_twins 23 = .ok (.invokeinterface 107 1, 5) := by decide +kernel
theorem dX0_twins_28 : decode cX0_twins 28 = .ok (.checkcast 111, 3) := dk_192 0 111 (dk_at dksX0_twins_1 5 rfl rfl)
theorem dX0_twins_31 : decode cX0_twins 31 = .ok (.astore_n 3, 1) := dk_78 (dk_at dksX0_twins_1 8 rfl rfl)
theorem dX0_twins_32 : decode cX0_twins 32 = .ok (.aload_n 1, 1) := dk_43 (dk_at dksX0_twins_1 9 rfl rfl)
theorem dX0_twins_33 : decode cX0_twins 33 = .ok (.aload_n 3, 1) := dk_45 (dk_at dksX0_twins_1 10 rfl rfl)
theorem dX0_twins_34 : decode cX0_twins 34 = .ok (.invokevirtual 113, 3) := dk_182 0 113 (dk_at dksX0_twins_1 11 rfl rfl)
theorem dX0_twins_37 : decode cX0_twins 37 = .ok (.invokevirtual 117, 3) := dk_182 0 117 (dk_at dksX0_twins_1 14 rfl rfl)
theorem dX0_twins_40 : decode cX0_twins 40 = .ok (.pop, 1) := dk_87 (dk_at dksX0_twins_1 17 rfl rfl)
theorem dX0_twins_41 : decode cX0_twins 41 = .ok (.goto (-28), 3) := dk_167 255 228 (dk_at dksX0_twins_1 18 rfl rfl)
theorem dX0_twins_44 : decode cX0_twins 44 = .ok (.aload_n 1, 1) := dk_43 (dk_at dksX0_twins_1 21 rfl rfl)
theorem dX0_twins_45 : decode cX0_twins 45 = .ok (.areturn, 1) := dk_176 (dk_at dksX0_twins_1 22 rfl rfl)
abbrev cX0_flat : ByteArray := prog_1_method_48_code
def yX0_flat : MethodName := ⟨RX0, "flat", "()I"⟩
def dkwX0_flat_0 : List UInt8 := [42, 182, 0, 90, 154, 0, 8, 16, 253, 167, 0, 13, 42, 3, 186, 1, 26, 0, 0, 182, 1, 22, 172]
abbrev dktX0_flat_0 : List UInt8 := dkwX0_flat_0 ++ []
theorem dksX0_flat_0 : cX0_flat.data.toList.drop 0 = dktX0_flat_0 := by decide +kernel
theorem dX0_flat_0 : decode cX0_flat 0 = .ok (.aload_n 0, 1) := dk_42 (dk_at dksX0_flat_0 0 rfl rfl)
theorem dX0_flat_1 : decode cX0_flat 1 = .ok (.invokevirtual 90, 3) := dk_182 0 90 (dk_at dksX0_flat_0 1 rfl rfl)
theorem dX0_flat_4 : decode cX0_flat 4 = .ok (.ifCond .ne 8, 3) := dk_154 0 8 (dk_at dksX0_flat_0 4 rfl rfl)
theorem dX0_flat_7 : decode cX0_flat 7 = .ok (.bipush (-3), 2) := dk_16 253 (dk_at dksX0_flat_0 7 rfl rfl)
theorem dX0_flat_9 : decode cX0_flat 9 = .ok (.goto 13, 3) := dk_167 0 13 (dk_at dksX0_flat_0 9 rfl rfl)
theorem dX0_flat_12 : decode cX0_flat 12 = .ok (.aload_n 0, 1) := dk_42 (dk_at dksX0_flat_0 12 rfl rfl)
theorem dX0_flat_13 : decode cX0_flat 13 = .ok (.iconst 0, 1) := dk_3 (dk_at dksX0_flat_0 13 rfl rfl)
theorem dX0_flat_14 : decode cX0_flat 14 = .ok (.invokedynamic 282, 5) := by decide +kernel
theorem dX0_flat_19 : decode cX0_flat 19 = .ok (.invokevirtual 278, 3) := dk_182 1 22 (dk_at dksX0_flat_0 19 rfl rfl)
theorem dX0_flat_22 : decode cX0_flat 22 = .ok (.ireturn, 1) := dk_172 (dk_at dksX0_flat_0 22 rfl rfl)
abbrev cX0_areFlat : ByteArray := prog_1_method_45_code
def yX0_areFlat : MethodName := ⟨RX0, "areFlat", "(Ljava/util/ArrayList;)Z"⟩
def dkwX0_areFlat_1 : List UInt8 := [192, 0, 111, 78, 27, 45, 180, 0, 205, 154, 0, 7, 4, 167, 0, 4, 3, 126, 60, 167, 255, 222, 27, 172]
abbrev dktX0_areFlat_1 : List UInt8 := dkwX0_areFlat_1 ++ []
def dkwX0_areFlat_0 : List UInt8 := [4, 60, 42, 182, 0, 97, 77, 44, 185, 0, 101, 1, 0, 153, 0, 31, 44, 185, 0, 107, 1, 0]
abbrev dktX0_areFlat_0 : List UInt8 := dkwX0_areFlat_0 ++ dktX0_areFlat_1
theorem dksX0_areFlat_0 : cX0_areFlat.data.toList.drop 0 = dktX0_areFlat_0 := by decide +kernel
theorem dksX0_areFlat_1 : cX0_areFlat.data.toList.drop 22 = dktX0_areFlat_1 := dk_seg dksX0_areFlat_0 22 rfl rfl
theorem dX0_areFlat_0 : decode cX0_areFlat 0 = .ok (.iconst 1, 1) := dk_4 (dk_at dksX0_areFlat_0 0 rfl rfl)
theorem dX0_areFlat_1 : decode cX0_areFlat 1 = .ok (.istore_n 1, 1) := dk_60 (dk_at dksX0_areFlat_0 1 rfl rfl)
theorem dX0_areFlat_2 : decode cX0_areFlat 2 = .ok (.aload_n 0, 1) := dk_42 (dk_at dksX0_areFlat_0 2 rfl rfl)
theorem dX0_areFlat_3 : decode cX0_areFlat 3 = .ok (.invokevirtual 97, 3) := dk_182 0 97 (dk_at dksX0_areFlat_0 3 rfl rfl)
theorem dX0_areFlat_6 : decode cX0_areFlat 6 = .ok (.astore_n 2, 1) := dk_77 (dk_at dksX0_areFlat_0 6 rfl rfl)
theorem dX0_areFlat_7 : decode cX0_areFlat 7 = .ok (.aload_n 2, 1) := dk_44 (dk_at dksX0_areFlat_0 7 rfl rfl)
theorem dX0_areFlat_8 : decode cX0_areFlat 8 = .ok (.invokeinterface 101 1, 5) := by decide +kernel
theorem dX0_areFlat_13 : decode cX0_areFlat 13 = .ok (.ifCond .eq 31, 3) := dk_153 0 31 (dk_at dksX0_areFlat_0 13 rfl rfl)
theorem dX0_areFlat_16 : decode cX0_areFlat 16 = .ok (.aload_n 2, 1) := dk_44 (dk_at dksX0_areFlat_0 16 rfl rfl)
theorem dX0_areFlat_17 : decode cX0_areFlat 17 = .ok (.invokeinterface 107 1, 5) := by decide +kernel
theorem dX0_areFlat_22 : decode cX0_areFlat 22 = .ok (.checkcast 111, 3) := dk_192 0 111 (dk_at dksX0_areFlat_1 0 rfl rfl)
theorem dX0_areFlat_25 : decode cX0_areFlat 25 = .ok (.astore_n 3, 1) := dk_78 (dk_at dksX0_areFlat_1 3 rfl rfl)
theorem dX0_areFlat_26 : decode cX0_areFlat 26 = .ok (.iload_n 1, 1) := dk_27 (dk_at dksX0_areFlat_1 4 rfl rfl)
theorem dX0_areFlat_27 : decode cX0_areFlat 27 = .ok (.aload_n 3, 1) := dk_45 (dk_at dksX0_areFlat_1 5 rfl rfl)
theorem dX0_areFlat_28 : decode cX0_areFlat 28 = .ok (.getfield 205, 3) := dk_180 0 205 (dk_at dksX0_areFlat_1 6 rfl rfl)
theorem dX0_areFlat_31 : decode cX0_areFlat 31 = .ok (.ifCond .ne 7, 3) := dk_154 0 7 (dk_at dksX0_areFlat_1 9 rfl rfl)
theorem dX0_areFlat_34 : decode cX0_areFlat 34 = .ok (.iconst 1, 1) := dk_4 (dk_at dksX0_areFlat_1 12 rfl rfl)
theorem dX0_areFlat_35 : decode cX0_areFlat 35 = .ok (.goto 4, 3) := dk_167 0 4 (dk_at dksX0_areFlat_1 13 rfl rfl)
theorem dX0_areFlat_38 : decode cX0_areFlat 38 = .ok (.iconst 0, 1) := dk_3 (dk_at dksX0_areFlat_1 16 rfl rfl)
theorem dX0_areFlat_39 : decode cX0_areFlat 39 = .ok (.iand, 1) := dk_126 (dk_at dksX0_areFlat_1 17 rfl rfl)
theorem dX0_areFlat_40 : decode cX0_areFlat 40 = .ok (.istore_n 1, 1) := dk_60 (dk_at dksX0_areFlat_1 18 rfl rfl)
theorem dX0_areFlat_41 : decode cX0_areFlat 41 = .ok (.goto (-34), 3) := dk_167 255 222 (dk_at dksX0_areFlat_1 19 rfl rfl)
theorem dX0_areFlat_44 : decode cX0_areFlat 44 = .ok (.iload_n 1, 1) := dk_27 (dk_at dksX0_areFlat_1 22 rfl rfl)
theorem dX0_areFlat_45 : decode cX0_areFlat 45 = .ok (.ireturn, 1) := dk_172 (dk_at dksX0_areFlat_1 23 rfl rfl)
abbrev cX0_jam : ByteArray := prog_1_method_49_code
def yX0_jam : MethodName := ⟨RX0, "jam", "()I"⟩
def dkwX0_jam_2 : List UInt8 := [153, 0, 5, 28, 172, 43, 45, 184, 0, 141, 132, 2, 1, 167, 255, 215, 16, 251, 172]
abbrev dktX0_jam_2 : List UInt8 := dkwX0_jam_2 ++ []
def dkwX0_jam_1 : List UInt8 := [163, 0, 40, 42, 42, 180, 0, 16, 182, 0, 86, 28, 96, 4, 100, 182, 0, 236, 78, 43, 45, 184, 0, 138]
abbrev dktX0_jam_1 : List UInt8 := dkwX0_jam_1 ++ dktX0_jam_2
def dkwX0_jam_0 : List UInt8 := [42, 182, 0, 90, 154, 0, 6, 16, 253, 172, 42, 180, 0, 10, 184, 1, 9, 76, 4, 61, 28, 17, 0, 200]
abbrev dktX0_jam_0 : List UInt8 := dkwX0_jam_0 ++ dktX0_jam_1
theorem dksX0_jam_0 : cX0_jam.data.toList.drop 0 = dktX0_jam_0 := by decide +kernel
theorem dksX0_jam_1 : cX0_jam.data.toList.drop 24 = dktX0_jam_1 := dk_seg dksX0_jam_0 24 rfl rfl
theorem dksX0_jam_2 : cX0_jam.data.toList.drop 48 = dktX0_jam_2 := dk_seg dksX0_jam_1 24 rfl rfl
theorem dX0_jam_0 : decode cX0_jam 0 = .ok (.aload_n 0, 1) := dk_42 (dk_at dksX0_jam_0 0 rfl rfl)
theorem dX0_jam_1 : decode cX0_jam 1 = .ok (.invokevirtual 90, 3) := dk_182 0 90 (dk_at dksX0_jam_0 1 rfl rfl)
theorem dX0_jam_4 : decode cX0_jam 4 = .ok (.ifCond .ne 6, 3) := dk_154 0 6 (dk_at dksX0_jam_0 4 rfl rfl)
theorem dX0_jam_7 : decode cX0_jam 7 = .ok (.bipush (-3), 2) := dk_16 253 (dk_at dksX0_jam_0 7 rfl rfl)
theorem dX0_jam_9 : decode cX0_jam 9 = .ok (.ireturn, 1) := dk_172 (dk_at dksX0_jam_0 9 rfl rfl)
theorem dX0_jam_10 : decode cX0_jam 10 = .ok (.aload_n 0, 1) := dk_42 (dk_at dksX0_jam_0 10 rfl rfl)
theorem dX0_jam_11 : decode cX0_jam 11 = .ok (.getfield 10, 3) := dk_180 0 10 (dk_at dksX0_jam_0 11 rfl rfl)
theorem dX0_jam_14 : decode cX0_jam 14 = .ok (.invokestatic 265, 3) := dk_184 1 9 (dk_at dksX0_jam_0 14 rfl rfl)
theorem dX0_jam_17 : decode cX0_jam 17 = .ok (.astore_n 1, 1) := dk_76 (dk_at dksX0_jam_0 17 rfl rfl)
theorem dX0_jam_18 : decode cX0_jam 18 = .ok (.iconst 1, 1) := dk_4 (dk_at dksX0_jam_0 18 rfl rfl)
theorem dX0_jam_19 : decode cX0_jam 19 = .ok (.istore_n 2, 1) := dk_61 (dk_at dksX0_jam_0 19 rfl rfl)
theorem dX0_jam_20 : decode cX0_jam 20 = .ok (.iload_n 2, 1) := dk_28 (dk_at dksX0_jam_0 20 rfl rfl)
theorem dX0_jam_21 : decode cX0_jam 21 = .ok (.sipush 200, 3) := dk_17 0 200 (dk_at dksX0_jam_0 21 rfl rfl)
theorem dX0_jam_24 : decode cX0_jam 24 = .ok (.if_icmp .gt 40, 3) := dk_163 0 40 (dk_at dksX0_jam_1 0 rfl rfl)
theorem dX0_jam_27 : decode cX0_jam 27 = .ok (.aload_n 0, 1) := dk_42 (dk_at dksX0_jam_1 3 rfl rfl)
theorem dX0_jam_28 : decode cX0_jam 28 = .ok (.aload_n 0, 1) := dk_42 (dk_at dksX0_jam_1 4 rfl rfl)
theorem dX0_jam_29 : decode cX0_jam 29 = .ok (.getfield 16, 3) := dk_180 0 16 (dk_at dksX0_jam_1 5 rfl rfl)
theorem dX0_jam_32 : decode cX0_jam 32 = .ok (.invokevirtual 86, 3) := dk_182 0 86 (dk_at dksX0_jam_1 8 rfl rfl)
theorem dX0_jam_35 : decode cX0_jam 35 = .ok (.iload_n 2, 1) := dk_28 (dk_at dksX0_jam_1 11 rfl rfl)
theorem dX0_jam_36 : decode cX0_jam 36 = .ok (.iadd, 1) := dk_96 (dk_at dksX0_jam_1 12 rfl rfl)
theorem dX0_jam_37 : decode cX0_jam 37 = .ok (.iconst 1, 1) := dk_4 (dk_at dksX0_jam_1 13 rfl rfl)
theorem dX0_jam_38 : decode cX0_jam 38 = .ok (.isub, 1) := dk_100 (dk_at dksX0_jam_1 14 rfl rfl)
theorem dX0_jam_39 : decode cX0_jam 39 = .ok (.invokevirtual 236, 3) := dk_182 0 236 (dk_at dksX0_jam_1 15 rfl rfl)
theorem dX0_jam_42 : decode cX0_jam 42 = .ok (.astore_n 3, 1) := dk_78 (dk_at dksX0_jam_1 18 rfl rfl)
theorem dX0_jam_43 : decode cX0_jam 43 = .ok (.aload_n 1, 1) := dk_43 (dk_at dksX0_jam_1 19 rfl rfl)
theorem dX0_jam_44 : decode cX0_jam 44 = .ok (.aload_n 3, 1) := dk_45 (dk_at dksX0_jam_1 20 rfl rfl)
theorem dX0_jam_45 : decode cX0_jam 45 = .ok (.invokestatic 138, 3) := dk_184 0 138 (dk_at dksX0_jam_1 21 rfl rfl)
theorem dX0_jam_48 : decode cX0_jam 48 = .ok (.ifCond .eq 5, 3) := dk_153 0 5 (dk_at dksX0_jam_2 0 rfl rfl)
theorem dX0_jam_51 : decode cX0_jam 51 = .ok (.iload_n 2, 1) := dk_28 (dk_at dksX0_jam_2 3 rfl rfl)
theorem dX0_jam_52 : decode cX0_jam 52 = .ok (.ireturn, 1) := dk_172 (dk_at dksX0_jam_2 4 rfl rfl)
theorem dX0_jam_53 : decode cX0_jam 53 = .ok (.aload_n 1, 1) := dk_43 (dk_at dksX0_jam_2 5 rfl rfl)
theorem dX0_jam_54 : decode cX0_jam 54 = .ok (.aload_n 3, 1) := dk_45 (dk_at dksX0_jam_2 6 rfl rfl)
theorem dX0_jam_55 : decode cX0_jam 55 = .ok (.invokestatic 141, 3) := dk_184 0 141 (dk_at dksX0_jam_2 7 rfl rfl)
theorem dX0_jam_58 : decode cX0_jam 58 = .ok (.iinc 2 1, 3) := dk_132 2 1 (dk_at dksX0_jam_2 10 rfl rfl)
theorem dX0_jam_61 : decode cX0_jam 61 = .ok (.goto (-41), 3) := dk_167 255 215 (dk_at dksX0_jam_2 13 rfl rfl)
theorem dX0_jam_64 : decode cX0_jam 64 = .ok (.bipush (-5), 2) := dk_16 251 (dk_at dksX0_jam_2 16 rfl rfl)
theorem dX0_jam_66 : decode cX0_jam 66 = .ok (.ireturn, 1) := dk_172 (dk_at dksX0_jam_2 18 rfl rfl)
abbrev cX0_undoing : ByteArray := prog_1_method_52_code
def yX0_undoing : MethodName := ⟨RX0, "undoing", "(II)I"⟩
def dkwX0_undoing_4 : List UInt8 := [184, 1, 56, 172]
abbrev dktX0_undoing_4 : List UInt8 := dkwX0_undoing_4 ++ []
def dkwX0_undoing_3 : List UInt8 := [27, 29, 162, 0, 12, 42, 4, 27, 182, 1, 52, 167, 0, 11, 42, 2, 27, 29, 100, 182, 1, 52]
abbrev dktX0_undoing_3 : List UInt8 := dkwX0_undoing_3 ++ dktX0_undoing_4
def dkwX0_undoing_2 : List UInt8 := [160, 0, 24, 27, 29, 162, 0, 12, 178, 1, 46, 180, 0, 211, 167, 0, 9, 178, 1, 49, 180, 0, 211, 172]
abbrev dktX0_undoing_2 : List UInt8 := dkwX0_undoing_2 ++ dktX0_undoing_3
def dkwX0_undoing_1 : List UInt8 := [153, 0, 12, 28, 3, 4, 184, 0, 93, 154, 0, 5, 2, 172, 27, 2, 160, 0, 6, 21, 4, 172, 28, 4]
abbrev dktX0_undoing_1 : List UInt8 := dkwX0_undoing_1 ++ dktX0_undoing_2
def dkwX0_undoing_0 : List UInt8 := [42, 4, 182, 1, 43, 62, 29, 42, 2, 182, 1, 43, 96, 54, 4, 27, 2, 21, 4, 4, 100, 184, 0, 93]
abbrev dktX0_undoing_0 : List UInt8 := dkwX0_undoing_0 ++ dktX0_undoing_1
theorem dksX0_undoing_0 : cX0_undoing.data.toList.drop 0 = dktX0_undoing_0 := by decide +kernel
theorem dksX0_undoing_1 : cX0_undoing.data.toList.drop 24 = dktX0_undoing_1 := dk_seg dksX0_undoing_0 24 rfl rfl
theorem dksX0_undoing_2 : cX0_undoing.data.toList.drop 48 = dktX0_undoing_2 := dk_seg dksX0_undoing_1 24 rfl rfl
theorem dksX0_undoing_3 : cX0_undoing.data.toList.drop 72 = dktX0_undoing_3 := dk_seg dksX0_undoing_2 24 rfl rfl
theorem dksX0_undoing_4 : cX0_undoing.data.toList.drop 94 = dktX0_undoing_4 := dk_seg dksX0_undoing_3 22 rfl rfl
theorem dX0_undoing_0 : decode cX0_undoing 0 = .ok (.aload_n 0, 1) := dk_42 (dk_at dksX0_undoing_0 0 rfl rfl)
theorem dX0_undoing_1 : decode cX0_undoing 1 = .ok (.iconst 1, 1) := dk_4 (dk_at dksX0_undoing_0 1 rfl rfl)
theorem dX0_undoing_2 : decode cX0_undoing 2 = .ok (.invokevirtual 299, 3) := dk_182 1 43 (dk_at dksX0_undoing_0 2 rfl rfl)
theorem dX0_undoing_5 : decode cX0_undoing 5 = .ok (.istore_n 3, 1) := dk_62 (dk_at dksX0_undoing_0 5 rfl rfl)
theorem dX0_undoing_6 : decode cX0_undoing 6 = .ok (.iload_n 3, 1) := dk_29 (dk_at dksX0_undoing_0 6 rfl rfl)
theorem dX0_undoing_7 : decode cX0_undoing 7 = .ok (.aload_n 0, 1) := dk_42 (dk_at dksX0_undoing_0 7 rfl rfl)
theorem dX0_undoing_8 : decode cX0_undoing 8 = .ok (.iconst (-1), 1) := dk_2 (dk_at dksX0_undoing_0 8 rfl rfl)
theorem dX0_undoing_9 : decode cX0_undoing 9 = .ok (.invokevirtual 299, 3) := dk_182 1 43 (dk_at dksX0_undoing_0 9 rfl rfl)
theorem dX0_undoing_12 : decode cX0_undoing 12 = .ok (.iadd, 1) := dk_96 (dk_at dksX0_undoing_0 12 rfl rfl)
theorem dX0_undoing_13 : decode cX0_undoing 13 = .ok (.istore 4, 2) := dk_54 4 (dk_at dksX0_undoing_0 13 rfl rfl)
theorem dX0_undoing_15 : decode cX0_undoing 15 = .ok (.iload_n 1, 1) := dk_27 (dk_at dksX0_undoing_0 15 rfl rfl)
theorem dX0_undoing_16 : decode cX0_undoing 16 = .ok (.iconst (-1), 1) := dk_2 (dk_at dksX0_undoing_0 16 rfl rfl)
theorem dX0_undoing_17 : decode cX0_undoing 17 = .ok (.iload 4, 2) := dk_21 4 (dk_at dksX0_undoing_0 17 rfl rfl)
theorem dX0_undoing_19 : decode cX0_undoing 19 = .ok (.iconst 1, 1) := dk_4 (dk_at dksX0_undoing_0 19 rfl rfl)
theorem dX0_undoing_20 : decode cX0_undoing 20 = .ok (.isub, 1) := dk_100 (dk_at dksX0_undoing_0 20 rfl rfl)
theorem dX0_undoing_21 : decode cX0_undoing 21 = .ok (.invokestatic 93, 3) := dk_184 0 93 (dk_at dksX0_undoing_0 21 rfl rfl)
theorem dX0_undoing_24 : decode cX0_undoing 24 = .ok (.ifCond .eq 12, 3) := dk_153 0 12 (dk_at dksX0_undoing_1 0 rfl rfl)
theorem dX0_undoing_27 : decode cX0_undoing 27 = .ok (.iload_n 2, 1) := dk_28 (dk_at dksX0_undoing_1 3 rfl rfl)
theorem dX0_undoing_28 : decode cX0_undoing 28 = .ok (.iconst 0, 1) := dk_3 (dk_at dksX0_undoing_1 4 rfl rfl)
theorem dX0_undoing_29 : decode cX0_undoing 29 = .ok (.iconst 1, 1) := dk_4 (dk_at dksX0_undoing_1 5 rfl rfl)
theorem dX0_undoing_30 : decode cX0_undoing 30 = .ok (.invokestatic 93, 3) := dk_184 0 93 (dk_at dksX0_undoing_1 6 rfl rfl)
theorem dX0_undoing_33 : decode cX0_undoing 33 = .ok (.ifCond .ne 5, 3) := dk_154 0 5 (dk_at dksX0_undoing_1 9 rfl rfl)
theorem dX0_undoing_36 : decode cX0_undoing 36 = .ok (.iconst (-1), 1) := dk_2 (dk_at dksX0_undoing_1 12 rfl rfl)
theorem dX0_undoing_37 : decode cX0_undoing 37 = .ok (.ireturn, 1) := dk_172 (dk_at dksX0_undoing_1 13 rfl rfl)
theorem dX0_undoing_38 : decode cX0_undoing 38 = .ok (.iload_n 1, 1) := dk_27 (dk_at dksX0_undoing_1 14 rfl rfl)
theorem dX0_undoing_39 : decode cX0_undoing 39 = .ok (.iconst (-1), 1) := dk_2 (dk_at dksX0_undoing_1 15 rfl rfl)
theorem dX0_undoing_40 : decode cX0_undoing 40 = .ok (.if_icmp .ne 6, 3) := dk_160 0 6 (dk_at dksX0_undoing_1 16 rfl rfl)
theorem dX0_undoing_43 : decode cX0_undoing 43 = .ok (.iload 4, 2) := dk_21 4 (dk_at dksX0_undoing_1 19 rfl rfl)
theorem dX0_undoing_45 : decode cX0_undoing 45 = .ok (.ireturn, 1) := dk_172 (dk_at dksX0_undoing_1 21 rfl rfl)
theorem dX0_undoing_46 : decode cX0_undoing 46 = .ok (.iload_n 2, 1) := dk_28 (dk_at dksX0_undoing_1 22 rfl rfl)
theorem dX0_undoing_47 : decode cX0_undoing 47 = .ok (.iconst 1, 1) := dk_4 (dk_at dksX0_undoing_1 23 rfl rfl)
theorem dX0_undoing_48 : decode cX0_undoing 48 = .ok (.if_icmp .ne 24, 3) := dk_160 0 24 (dk_at dksX0_undoing_2 0 rfl rfl)
theorem dX0_undoing_51 : decode cX0_undoing 51 = .ok (.iload_n 1, 1) := dk_27 (dk_at dksX0_undoing_2 3 rfl rfl)
theorem dX0_undoing_52 : decode cX0_undoing 52 = .ok (.iload_n 3, 1) := dk_29 (dk_at dksX0_undoing_2 4 rfl rfl)
theorem dX0_undoing_53 : decode cX0_undoing 53 = .ok (.if_icmp .ge 12, 3) := dk_162 0 12 (dk_at dksX0_undoing_2 5 rfl rfl)
theorem dX0_undoing_56 : decode cX0_undoing 56 = .ok (.getstatic 302, 3) := dk_178 1 46 (dk_at dksX0_undoing_2 8 rfl rfl)
theorem dX0_undoing_59 : decode cX0_undoing 59 = .ok (.getfield 211, 3) := dk_180 0 211 (dk_at dksX0_undoing_2 11 rfl rfl)
theorem dX0_undoing_62 : decode cX0_undoing 62 = .ok (.goto 9, 3) := dk_167 0 9 (dk_at dksX0_undoing_2 14 rfl rfl)
theorem dX0_undoing_65 : decode cX0_undoing 65 = .ok (.getstatic 305, 3) := dk_178 1 49 (dk_at dksX0_undoing_2 17 rfl rfl)
theorem dX0_undoing_68 : decode cX0_undoing 68 = .ok (.getfield 211, 3) := dk_180 0 211 (dk_at dksX0_undoing_2 20 rfl rfl)
theorem dX0_undoing_71 : decode cX0_undoing 71 = .ok (.ireturn, 1) := dk_172 (dk_at dksX0_undoing_2 23 rfl rfl)
theorem dX0_undoing_72 : decode cX0_undoing 72 = .ok (.iload_n 1, 1) := dk_27 (dk_at dksX0_undoing_3 0 rfl rfl)
theorem dX0_undoing_73 : decode cX0_undoing 73 = .ok (.iload_n 3, 1) := dk_29 (dk_at dksX0_undoing_3 1 rfl rfl)
theorem dX0_undoing_74 : decode cX0_undoing 74 = .ok (.if_icmp .ge 12, 3) := dk_162 0 12 (dk_at dksX0_undoing_3 2 rfl rfl)
theorem dX0_undoing_77 : decode cX0_undoing 77 = .ok (.aload_n 0, 1) := dk_42 (dk_at dksX0_undoing_3 5 rfl rfl)
theorem dX0_undoing_78 : decode cX0_undoing 78 = .ok (.iconst 1, 1) := dk_4 (dk_at dksX0_undoing_3 6 rfl rfl)
theorem dX0_undoing_79 : decode cX0_undoing 79 = .ok (.iload_n 1, 1) := dk_27 (dk_at dksX0_undoing_3 7 rfl rfl)
theorem dX0_undoing_80 : decode cX0_undoing 80 = .ok (.invokevirtual 308, 3) := dk_182 1 52 (dk_at dksX0_undoing_3 8 rfl rfl)
theorem dX0_undoing_83 : decode cX0_undoing 83 = .ok (.goto 11, 3) := dk_167 0 11 (dk_at dksX0_undoing_3 11 rfl rfl)
theorem dX0_undoing_86 : decode cX0_undoing 86 = .ok (.aload_n 0, 1) := dk_42 (dk_at dksX0_undoing_3 14 rfl rfl)
theorem dX0_undoing_87 : decode cX0_undoing 87 = .ok (.iconst (-1), 1) := dk_2 (dk_at dksX0_undoing_3 15 rfl rfl)
theorem dX0_undoing_88 : decode cX0_undoing 88 = .ok (.iload_n 1, 1) := dk_27 (dk_at dksX0_undoing_3 16 rfl rfl)
theorem dX0_undoing_89 : decode cX0_undoing 89 = .ok (.iload_n 3, 1) := dk_29 (dk_at dksX0_undoing_3 17 rfl rfl)
theorem dX0_undoing_90 : decode cX0_undoing 90 = .ok (.isub, 1) := dk_100 (dk_at dksX0_undoing_3 18 rfl rfl)
theorem dX0_undoing_91 : decode cX0_undoing 91 = .ok (.invokevirtual 308, 3) := dk_182 1 52 (dk_at dksX0_undoing_3 19 rfl rfl)
theorem dX0_undoing_94 : decode cX0_undoing 94 = .ok (.invokestatic 312, 3) := dk_184 1 56 (dk_at dksX0_undoing_4 0 rfl rfl)
theorem dX0_undoing_97 : decode cX0_undoing 97 = .ok (.ireturn, 1) := dk_172 (dk_at dksX0_undoing_4 3 rfl rfl)
abbrev cX0_mostTwisted : ByteArray := prog_1_method_50_code
def yX0_mostTwisted : MethodName := ⟨RX0, "mostTwisted", "(I)I"⟩
def dkwX0_mostTwisted_3 : List UInt8 := [182, 1, 40, 192, 0, 111, 180, 0, 205, 104, 184, 0, 189, 172]
abbrev dktX0_mostTwisted_3 : List UInt8 := dkwX0_mostTwisted_3 ++ []
def dkwX0_mostTwisted_2 : List UInt8 := [44, 25, 4, 182, 1, 38, 87, 167, 255, 229, 44, 182, 1, 39, 153, 0, 7, 3, 167, 0, 19, 3, 27, 44]
abbrev dktX0_mostTwisted_2 : List UInt8 := dkwX0_mostTwisted_2 ++ dktX0_mostTwisted_3
def dkwX0_mostTwisted_1 : List UInt8 := [182, 0, 97, 78, 45, 185, 0, 101, 1, 0, 153, 0, 24, 45, 185, 0, 107, 1, 0, 192, 0, 111, 58, 4]
abbrev dktX0_mostTwisted_1 : List UInt8 := dkwX0_mostTwisted_1 ++ dktX0_mostTwisted_2
def dkwX0_mostTwisted_0 : List UInt8 := [187, 1, 29, 89, 16, 10, 187, 1, 31, 89, 27, 183, 1, 33, 183, 1, 35, 77, 42, 180, 0, 10]
abbrev dktX0_mostTwisted_0 : List UInt8 := dkwX0_mostTwisted_0 ++ dktX0_mostTwisted_1
theorem dksX0_mostTwisted_0 : cX0_mostTwisted.data.toList.drop 0 = dktX0_mostTwisted_0 := by decide +kernel
theorem dksX0_mostTwisted_1 : cX0_mostTwisted.data.toList.drop 22 = dktX0_mostTwisted_1 := dk_seg dksX0_mostTwisted_0 22 rfl rfl
theorem dksX0_mostTwisted_2 : cX0_mostTwisted.data.toList.drop 46 = dktX0_mostTwisted_2 := dk_seg dksX0_mostTwisted_1 24 rfl rfl
theorem dksX0_mostTwisted_3 : cX0_mostTwisted.data.toList.drop 70 = dktX0_mostTwisted_3 := dk_seg dksX0_mostTwisted_2 24 rfl rfl
theorem dX0_mostTwisted_0 : decode cX0_mostTwisted 0 = .ok (.new 285, 3) := dk_187 1 29 (dk_at dksX0_mostTwisted_0 0 rfl rfl)
theorem dX0_mostTwisted_3 : decode cX0_mostTwisted 3 = .ok (.dup, 1) := dk_89 (dk_at dksX0_mostTwisted_0 3 rfl rfl)
theorem dX0_mostTwisted_4 : decode cX0_mostTwisted 4 = .ok (.bipush 10, 2) := dk_16 10 (dk_at dksX0_mostTwisted_0 4 rfl rfl)
theorem dX0_mostTwisted_6 : decode cX0_mostTwisted 6 = .ok (.new 287, 3) := dk_187 1 31 (dk_at dksX0_mostTwisted_0 6 rfl rfl)
theorem dX0_mostTwisted_9 : decode cX0_mostTwisted 9 = .ok (.dup, 1) := dk_89 (dk_at dksX0_mostTwisted_0 9 rfl rfl)
theorem dX0_mostTwisted_10 : decode cX0_mostTwisted 10 = .ok (.iload_n 1, 1) := dk_27 (dk_at dksX0_mostTwisted_0 10 rfl rfl)
theorem dX0_mostTwisted_11 : decode cX0_mostTwisted 11 = .ok (.invokespecial 289, 3) := dk_183 1 33 (dk_at dksX0_mostTwisted_0 11 rfl rfl)
theorem dX0_mostTwisted_14 : decode cX0_mostTwisted 14 = .ok (.invokespecial 291, 3) := dk_183 1 35 (dk_at dksX0_mostTwisted_0 14 rfl rfl)
theorem dX0_mostTwisted_17 : decode cX0_mostTwisted 17 = .ok (.astore_n 2, 1) := dk_77 (dk_at dksX0_mostTwisted_0 17 rfl rfl)
theorem dX0_mostTwisted_18 : decode cX0_mostTwisted 18 = .ok (.aload_n 0, 1) := dk_42 (dk_at dksX0_mostTwisted_0 18 rfl rfl)
theorem dX0_mostTwisted_19 : decode cX0_mostTwisted 19 = .ok (.getfield 10, 3) := dk_180 0 10 (dk_at dksX0_mostTwisted_0 19 rfl rfl)
theorem dX0_mostTwisted_22 : decode cX0_mostTwisted 22 = .ok (.invokevirtual 97, 3) := dk_182 0 97 (dk_at dksX0_mostTwisted_1 0 rfl rfl)
theorem dX0_mostTwisted_25 : decode cX0_mostTwisted 25 = .ok (.astore_n 3, 1) := dk_78 (dk_at dksX0_mostTwisted_1 3 rfl rfl)
theorem dX0_mostTwisted_26 : decode cX0_mostTwisted 26 = .ok (.aload_n 3, 1) := dk_45 (dk_at dksX0_mostTwisted_1 4 rfl rfl)
theorem dX0_mostTwisted_27 : decode cX0_mostTwisted 27 = .ok (.invokeinterface 101 1, 5) := by decide +kernel
theorem dX0_mostTwisted_32 : decode cX0_mostTwisted 32 = .ok (.ifCond .eq 24, 3) := dk_153 0 24 (dk_at dksX0_mostTwisted_1 10 rfl rfl)
theorem dX0_mostTwisted_35 : decode cX0_mostTwisted 35 = .ok (.aload_n 3, 1) := dk_45 (dk_at dksX0_mostTwisted_1 13 rfl rfl)
theorem dX0_mostTwisted_36 : decode cX0_mostTwisted 36 = .ok (.invokeinterface 107 1, 5) := by decide +kernel
theorem dX0_mostTwisted_41 : decode cX0_mostTwisted 41 = .ok (.checkcast 111, 3) := dk_192 0 111 (dk_at dksX0_mostTwisted_1 19 rfl rfl)
theorem dX0_mostTwisted_44 : decode cX0_mostTwisted 44 = .ok (.astore 4, 2) := dk_58 4 (dk_at dksX0_mostTwisted_1 22 rfl rfl)
theorem dX0_mostTwisted_46 : decode cX0_mostTwisted 46 = .ok (.aload_n 2, 1) := dk_44 (dk_at dksX0_mostTwisted_2 0 rfl rfl)
theorem dX0_mostTwisted_47 : decode cX0_mostTwisted 47 = .ok (.aload 4, 2) := dk_25 4 (dk_at dksX0_mostTwisted_2 1 rfl rfl)
theorem dX0_mostTwisted_49 : decode cX0_mostTwisted 49 = .ok (.invokevirtual 294, 3) := dk_182 1 38 (dk_at dksX0_mostTwisted_2 3 rfl rfl)
theorem dX0_mostTwisted_52 : decode cX0_mostTwisted 52 = .ok (.pop, 1) := dk_87 (dk_at dksX0_mostTwisted_2 6 rfl rfl)
theorem dX0_mostTwisted_53 : decode cX0_mostTwisted 53 = .ok (.goto (-27), 3) := dk_167 255 229 (dk_at dksX0_mostTwisted_2 7 rfl rfl)
theorem dX0_mostTwisted_56 : decode cX0_mostTwisted 56 = .ok (.aload_n 2, 1) := dk_44 (dk_at dksX0_mostTwisted_2 10 rfl rfl)
theorem dX0_mostTwisted_57 : decode cX0_mostTwisted 57 = .ok (.invokevirtual 295, 3) := dk_182 1 39 (dk_at dksX0_mostTwisted_2 11 rfl rfl)
theorem dX0_mostTwisted_60 : decode cX0_mostTwisted 60 = .ok (.ifCond .eq 7, 3) := dk_153 0 7 (dk_at dksX0_mostTwisted_2 14 rfl rfl)
theorem dX0_mostTwisted_63 : decode cX0_mostTwisted 63 = .ok (.iconst 0, 1) := dk_3 (dk_at dksX0_mostTwisted_2 17 rfl rfl)
theorem dX0_mostTwisted_64 : decode cX0_mostTwisted 64 = .ok (.goto 19, 3) := dk_167 0 19 (dk_at dksX0_mostTwisted_2 18 rfl rfl)
theorem dX0_mostTwisted_67 : decode cX0_mostTwisted 67 = .ok (.iconst 0, 1) := dk_3 (dk_at dksX0_mostTwisted_2 21 rfl rfl)
theorem dX0_mostTwisted_68 : decode cX0_mostTwisted 68 = .ok (.iload_n 1, 1) := dk_27 (dk_at dksX0_mostTwisted_2 22 rfl rfl)
theorem dX0_mostTwisted_69 : decode cX0_mostTwisted 69 = .ok (.aload_n 2, 1) := dk_44 (dk_at dksX0_mostTwisted_2 23 rfl rfl)
theorem dX0_mostTwisted_70 : decode cX0_mostTwisted 70 = .ok (.invokevirtual 296, 3) := dk_182 1 40 (dk_at dksX0_mostTwisted_3 0 rfl rfl)
theorem dX0_mostTwisted_73 : decode cX0_mostTwisted 73 = .ok (.checkcast 111, 3) := dk_192 0 111 (dk_at dksX0_mostTwisted_3 3 rfl rfl)
theorem dX0_mostTwisted_76 : decode cX0_mostTwisted 76 = .ok (.getfield 205, 3) := dk_180 0 205 (dk_at dksX0_mostTwisted_3 6 rfl rfl)
theorem dX0_mostTwisted_79 : decode cX0_mostTwisted 79 = .ok (.imul, 1) := dk_104 (dk_at dksX0_mostTwisted_3 9 rfl rfl)
theorem dX0_mostTwisted_80 : decode cX0_mostTwisted 80 = .ok (.invokestatic 189, 3) := dk_184 0 189 (dk_at dksX0_mostTwisted_3 10 rfl rfl)
theorem dX0_mostTwisted_83 : decode cX0_mostTwisted 83 = .ok (.ireturn, 1) := dk_172 (dk_at dksX0_mostTwisted_3 13 rfl rfl)
abbrev cX0_twistedAbove : ByteArray := prog_1_method_51_code
def yX0_twistedAbove : MethodName := ⟨RX0, "twistedAbove", "(II)Ljava/util/BitSet;"⟩
def dkwX0_twistedAbove_2 : List UInt8 := [182, 0, 154, 132, 4, 1, 167, 255, 217, 45, 176]
abbrev dktX0_twistedAbove_2 : List UInt8 := dkwX0_twistedAbove_2 ++ []
def dkwX0_twistedAbove_1 : List UInt8 := [180, 0, 10, 21, 4, 182, 0, 121, 192, 0, 111, 180, 0, 205, 104, 28, 164, 0, 9, 45, 21, 4]
abbrev dktX0_twistedAbove_1 : List UInt8 := dkwX0_twistedAbove_1 ++ dktX0_twistedAbove_2
def dkwX0_twistedAbove_0 : List UInt8 := [187, 0, 149, 89, 183, 0, 153, 78, 3, 54, 4, 21, 4, 42, 182, 0, 90, 162, 0, 36, 27, 42]
abbrev dktX0_twistedAbove_0 : List UInt8 := dkwX0_twistedAbove_0 ++ dktX0_twistedAbove_1
theorem dksX0_twistedAbove_0 : cX0_twistedAbove.data.toList.drop 0 = dktX0_twistedAbove_0 := by decide +kernel
theorem dksX0_twistedAbove_1 : cX0_twistedAbove.data.toList.drop 22 = dktX0_twistedAbove_1 := dk_seg dksX0_twistedAbove_0 22 rfl rfl
theorem dksX0_twistedAbove_2 : cX0_twistedAbove.data.toList.drop 44 = dktX0_twistedAbove_2 := dk_seg dksX0_twistedAbove_1 22 rfl rfl
theorem dX0_twistedAbove_0 : decode cX0_twistedAbove 0 = .ok (.new 149, 3) := dk_187 0 149 (dk_at dksX0_twistedAbove_0 0 rfl rfl)
theorem dX0_twistedAbove_3 : decode cX0_twistedAbove 3 = .ok (.dup, 1) := dk_89 (dk_at dksX0_twistedAbove_0 3 rfl rfl)
theorem dX0_twistedAbove_4 : decode cX0_twistedAbove 4 = .ok (.invokespecial 153, 3) := dk_183 0 153 (dk_at dksX0_twistedAbove_0 4 rfl rfl)
theorem dX0_twistedAbove_7 : decode cX0_twistedAbove 7 = .ok (.astore_n 3, 1) := dk_78 (dk_at dksX0_twistedAbove_0 7 rfl rfl)
theorem dX0_twistedAbove_8 : decode cX0_twistedAbove 8 = .ok (.iconst 0, 1) := dk_3 (dk_at dksX0_twistedAbove_0 8 rfl rfl)
theorem dX0_twistedAbove_9 : decode cX0_twistedAbove 9 = .ok (.istore 4, 2) := dk_54 4 (dk_at dksX0_twistedAbove_0 9 rfl rfl)
theorem dX0_twistedAbove_11 : decode cX0_twistedAbove 11 = .ok (.iload 4, 2) := dk_21 4 (dk_at dksX0_twistedAbove_0 11 rfl rfl)
theorem dX0_twistedAbove_13 : decode cX0_twistedAbove 13 = .ok (.aload_n 0, 1) := dk_42 (dk_at dksX0_twistedAbove_0 13 rfl rfl)
theorem dX0_twistedAbove_14 : decode cX0_twistedAbove 14 = .ok (.invokevirtual 90, 3) := dk_182 0 90 (dk_at dksX0_twistedAbove_0 14 rfl rfl)
theorem dX0_twistedAbove_17 : decode cX0_twistedAbove 17 = .ok (.if_icmp .ge 36, 3) := dk_162 0 36 (dk_at dksX0_twistedAbove_0 17 rfl rfl)
theorem dX0_twistedAbove_20 : decode cX0_twistedAbove 20 = .ok (.iload_n 1, 1) := dk_27 (dk_at dksX0_twistedAbove_0 20 rfl rfl)
theorem dX0_twistedAbove_21 : decode cX0_twistedAbove 21 = .ok (.aload_n 0, 1) := dk_42 (dk_at dksX0_twistedAbove_0 21 rfl rfl)
theorem dX0_twistedAbove_22 : decode cX0_twistedAbove 22 = .ok (.getfield 10, 3) := dk_180 0 10 (dk_at dksX0_twistedAbove_1 0 rfl rfl)
theorem dX0_twistedAbove_25 : decode cX0_twistedAbove 25 = .ok (.iload 4, 2) := dk_21 4 (dk_at dksX0_twistedAbove_1 3 rfl rfl)
theorem dX0_twistedAbove_27 : decode cX0_twistedAbove 27 = .ok (.invokevirtual 121, 3) := dk_182 0 121 (dk_at dksX0_twistedAbove_1 5 rfl rfl)
theorem dX0_twistedAbove_30 : decode cX0_twistedAbove 30 = .ok (.checkcast 111, 3) := dk_192 0 111 (dk_at dksX0_twistedAbove_1 8 rfl rfl)
theorem dX0_twistedAbove_33 : decode cX0_twistedAbove 33 = .ok (.getfield 205, 3) := dk_180 0 205 (dk_at dksX0_twistedAbove_1 11 rfl rfl)
theorem dX0_twistedAbove_36 : decode cX0_twistedAbove 36 = .ok (.imul, 1) := dk_104 (dk_at dksX0_twistedAbove_1 14 rfl rfl)
theorem dX0_twistedAbove_37 : decode cX0_twistedAbove 37 = .ok (.iload_n 2, 1) := dk_28 (dk_at dksX0_twistedAbove_1 15 rfl rfl)
theorem dX0_twistedAbove_38 : decode cX0_twistedAbove 38 = .ok (.if_icmp .le 9, 3) := dk_164 0 9 (dk_at dksX0_twistedAbove_1 16 rfl rfl)
theorem dX0_twistedAbove_41 : decode cX0_twistedAbove 41 = .ok (.aload_n 3, 1) := dk_45 (dk_at dksX0_twistedAbove_1 19 rfl rfl)
theorem dX0_twistedAbove_42 : decode cX0_twistedAbove 42 = .ok (.iload 4, 2) := dk_21 4 (dk_at dksX0_twistedAbove_1 20 rfl rfl)
theorem dX0_twistedAbove_44 : decode cX0_twistedAbove 44 = .ok (.invokevirtual 154, 3) := dk_182 0 154 (dk_at dksX0_twistedAbove_2 0 rfl rfl)
theorem dX0_twistedAbove_47 : decode cX0_twistedAbove 47 = .ok (.iinc 4 1, 3) := dk_132 4 1 (dk_at dksX0_twistedAbove_2 3 rfl rfl)
theorem dX0_twistedAbove_50 : decode cX0_twistedAbove 50 = .ok (.goto (-39), 3) := dk_167 255 217 (dk_at dksX0_twistedAbove_2 6 rfl rfl)
theorem dX0_twistedAbove_53 : decode cX0_twistedAbove 53 = .ok (.aload_n 3, 1) := dk_45 (dk_at dksX0_twistedAbove_2 9 rfl rfl)
theorem dX0_twistedAbove_54 : decode cX0_twistedAbove 54 = .ok (.areturn, 1) := dk_176 (dk_at dksX0_twistedAbove_2 10 rfl rfl)
abbrev cX0_bitsOf : ByteArray := prog_1_method_24_code
def yX0_bitsOf : MethodName := ⟨RX0, "bitsOf", "(Ljava/util/BitSet;)I"⟩
def dkwX0_bitsOf_1 : List UInt8 := [182, 0, 158, 61, 167, 255, 238, 27, 172]
abbrev dktX0_bitsOf_1 : List UInt8 := dkwX0_bitsOf_1 ++ []
def dkwX0_bitsOf_0 : List UInt8 := [3, 60, 42, 3, 182, 0, 158, 61, 28, 155, 0, 20, 27, 4, 28, 120, 128, 60, 42, 28, 4, 96]
abbrev dktX0_bitsOf_0 : List UInt8 := dkwX0_bitsOf_0 ++ dktX0_bitsOf_1
theorem dksX0_bitsOf_0 : cX0_bitsOf.data.toList.drop 0 = dktX0_bitsOf_0 := by decide +kernel
theorem dksX0_bitsOf_1 : cX0_bitsOf.data.toList.drop 22 = dktX0_bitsOf_1 := dk_seg dksX0_bitsOf_0 22 rfl rfl
theorem dX0_bitsOf_0 : decode cX0_bitsOf 0 = .ok (.iconst 0, 1) := dk_3 (dk_at dksX0_bitsOf_0 0 rfl rfl)
theorem dX0_bitsOf_1 : decode cX0_bitsOf 1 = .ok (.istore_n 1, 1) := dk_60 (dk_at dksX0_bitsOf_0 1 rfl rfl)
theorem dX0_bitsOf_2 : decode cX0_bitsOf 2 = .ok (.aload_n 0, 1) := dk_42 (dk_at dksX0_bitsOf_0 2 rfl rfl)
theorem dX0_bitsOf_3 : decode cX0_bitsOf 3 = .ok (.iconst 0, 1) := dk_3 (dk_at dksX0_bitsOf_0 3 rfl rfl)
theorem dX0_bitsOf_4 : decode cX0_bitsOf 4 = .ok (.invokevirtual 158, 3) := dk_182 0 158 (dk_at dksX0_bitsOf_0 4 rfl rfl)
theorem dX0_bitsOf_7 : decode cX0_bitsOf 7 = .ok (.istore_n 2, 1) := dk_61 (dk_at dksX0_bitsOf_0 7 rfl rfl)
theorem dX0_bitsOf_8 : decode cX0_bitsOf 8 = .ok (.iload_n 2, 1) := dk_28 (dk_at dksX0_bitsOf_0 8 rfl rfl)
theorem dX0_bitsOf_9 : decode cX0_bitsOf 9 = .ok (.ifCond .lt 20, 3) := dk_155 0 20 (dk_at dksX0_bitsOf_0 9 rfl rfl)
theorem dX0_bitsOf_12 : decode cX0_bitsOf 12 = .ok (.iload_n 1, 1) := dk_27 (dk_at dksX0_bitsOf_0 12 rfl rfl)
theorem dX0_bitsOf_13 : decode cX0_bitsOf 13 = .ok (.iconst 1, 1) := dk_4 (dk_at dksX0_bitsOf_0 13 rfl rfl)
theorem dX0_bitsOf_14 : decode cX0_bitsOf 14 = .ok (.iload_n 2, 1) := dk_28 (dk_at dksX0_bitsOf_0 14 rfl rfl)
theorem dX0_bitsOf_15 : decode cX0_bitsOf 15 = .ok (.ishl, 1) := dk_120 (dk_at dksX0_bitsOf_0 15 rfl rfl)
theorem dX0_bitsOf_16 : decode cX0_bitsOf 16 = .ok (.ior, 1) := dk_128 (dk_at dksX0_bitsOf_0 16 rfl rfl)
theorem dX0_bitsOf_17 : decode cX0_bitsOf 17 = .ok (.istore_n 1, 1) := dk_60 (dk_at dksX0_bitsOf_0 17 rfl rfl)
theorem dX0_bitsOf_18 : decode cX0_bitsOf 18 = .ok (.aload_n 0, 1) := dk_42 (dk_at dksX0_bitsOf_0 18 rfl rfl)
theorem dX0_bitsOf_19 : decode cX0_bitsOf 19 = .ok (.iload_n 2, 1) := dk_28 (dk_at dksX0_bitsOf_0 19 rfl rfl)
theorem dX0_bitsOf_20 : decode cX0_bitsOf 20 = .ok (.iconst 1, 1) := dk_4 (dk_at dksX0_bitsOf_0 20 rfl rfl)
theorem dX0_bitsOf_21 : decode cX0_bitsOf 21 = .ok (.iadd, 1) := dk_96 (dk_at dksX0_bitsOf_0 21 rfl rfl)
theorem dX0_bitsOf_22 : decode cX0_bitsOf 22 = .ok (.invokevirtual 158, 3) := dk_182 0 158 (dk_at dksX0_bitsOf_1 0 rfl rfl)
theorem dX0_bitsOf_25 : decode cX0_bitsOf 25 = .ok (.istore_n 2, 1) := dk_61 (dk_at dksX0_bitsOf_1 3 rfl rfl)
theorem dX0_bitsOf_26 : decode cX0_bitsOf 26 = .ok (.goto (-18), 3) := dk_167 255 238 (dk_at dksX0_bitsOf_1 4 rfl rfl)
theorem dX0_bitsOf_29 : decode cX0_bitsOf 29 = .ok (.iload_n 1, 1) := dk_27 (dk_at dksX0_bitsOf_1 7 rfl rfl)
theorem dX0_bitsOf_30 : decode cX0_bitsOf 30 = .ok (.ireturn, 1) := dk_172 (dk_at dksX0_bitsOf_1 8 rfl rfl)
abbrev cX0_paint : ByteArray := prog_1_method_53_code
def yX0_paint : MethodName := ⟨RX0, "paint", "(III)I"⟩
def dkwX0_paint_2 : List UInt8 := [180, 0, 33, 27, 50, 28, 29, 79, 21, 4, 172]
abbrev dktX0_paint_2 : List UInt8 := dkwX0_paint_2 ++ []
def dkwX0_paint_1 : List UInt8 := [2, 172, 29, 184, 0, 214, 154, 0, 6, 16, 254, 172, 42, 180, 0, 33, 27, 50, 28, 46, 54, 4, 42]
abbrev dktX0_paint_1 : List UInt8 := dkwX0_paint_1 ++ dktX0_paint_2
def dkwX0_paint_0 : List UInt8 := [27, 3, 42, 180, 1, 60, 4, 100, 184, 0, 93, 153, 0, 13, 28, 3, 16, 9, 184, 0, 93, 154, 0, 5]
abbrev dktX0_paint_0 : List UInt8 := dkwX0_paint_0 ++ dktX0_paint_1
theorem dksX0_paint_0 : cX0_paint.data.toList.drop 0 = dktX0_paint_0 := by decide +kernel
theorem dksX0_paint_1 : cX0_paint.data.toList.drop 24 = dktX0_paint_1 := dk_seg dksX0_paint_0 24 rfl rfl
theorem dksX0_paint_2 : cX0_paint.data.toList.drop 47 = dktX0_paint_2 := dk_seg dksX0_paint_1 23 rfl rfl
theorem dX0_paint_0 : decode cX0_paint 0 = .ok (.iload_n 1, 1) := dk_27 (dk_at dksX0_paint_0 0 rfl rfl)
theorem dX0_paint_1 : decode cX0_paint 1 = .ok (.iconst 0, 1) := dk_3 (dk_at dksX0_paint_0 1 rfl rfl)
theorem dX0_paint_2 : decode cX0_paint 2 = .ok (.aload_n 0, 1) := dk_42 (dk_at dksX0_paint_0 2 rfl rfl)
theorem dX0_paint_3 : decode cX0_paint 3 = .ok (.getfield 316, 3) := dk_180 1 60 (dk_at dksX0_paint_0 3 rfl rfl)
theorem dX0_paint_6 : decode cX0_paint 6 = .ok (.iconst 1, 1) := dk_4 (dk_at dksX0_paint_0 6 rfl rfl)
theorem dX0_paint_7 : decode cX0_paint 7 = .ok (.isub, 1) := dk_100 (dk_at dksX0_paint_0 7 rfl rfl)
theorem dX0_paint_8 : decode cX0_paint 8 = .ok (.invokestatic 93, 3) := dk_184 0 93 (dk_at dksX0_paint_0 8 rfl rfl)
theorem dX0_paint_11 : decode cX0_paint 11 = .ok (.ifCond .eq 13, 3) := dk_153 0 13 (dk_at dksX0_paint_0 11 rfl rfl)
theorem dX0_paint_14 : decode cX0_paint 14 = .ok (.iload_n 2, 1) := dk_28 (dk_at dksX0_paint_0 14 rfl rfl)
theorem dX0_paint_15 : decode cX0_paint 15 = .ok (.iconst 0, 1) := dk_3 (dk_at dksX0_paint_0 15 rfl rfl)
theorem dX0_paint_16 : decode cX0_paint 16 = .ok (.bipush 9, 2) := dk_16 9 (dk_at dksX0_paint_0 16 rfl rfl)
theorem dX0_paint_18 : decode cX0_paint 18 = .ok (.invokestatic 93, 3) := dk_184 0 93 (dk_at dksX0_paint_0 18 rfl rfl)
theorem dX0_paint_21 : decode cX0_paint 21 = .ok (.ifCond .ne 5, 3) := dk_154 0 5 (dk_at dksX0_paint_0 21 rfl rfl)
theorem dX0_paint_24 : decode cX0_paint 24 = .ok (.iconst (-1), 1) := dk_2 (dk_at dksX0_paint_1 0 rfl rfl)
theorem dX0_paint_25 : decode cX0_paint 25 = .ok (.ireturn, 1) := dk_172 (dk_at dksX0_paint_1 1 rfl rfl)
theorem dX0_paint_26 : decode cX0_paint 26 = .ok (.iload_n 3, 1) := dk_29 (dk_at dksX0_paint_1 2 rfl rfl)
theorem dX0_paint_27 : decode cX0_paint 27 = .ok (.invokestatic 214, 3) := dk_184 0 214 (dk_at dksX0_paint_1 3 rfl rfl)
theorem dX0_paint_30 : decode cX0_paint 30 = .ok (.ifCond .ne 6, 3) := dk_154 0 6 (dk_at dksX0_paint_1 6 rfl rfl)
theorem dX0_paint_33 : decode cX0_paint 33 = .ok (.bipush (-2), 2) := dk_16 254 (dk_at dksX0_paint_1 9 rfl rfl)
theorem dX0_paint_35 : decode cX0_paint 35 = .ok (.ireturn, 1) := dk_172 (dk_at dksX0_paint_1 11 rfl rfl)
theorem dX0_paint_36 : decode cX0_paint 36 = .ok (.aload_n 0, 1) := dk_42 (dk_at dksX0_paint_1 12 rfl rfl)
theorem dX0_paint_37 : decode cX0_paint 37 = .ok (.getfield 33, 3) := dk_180 0 33 (dk_at dksX0_paint_1 13 rfl rfl)
theorem dX0_paint_40 : decode cX0_paint 40 = .ok (.iload_n 1, 1) := dk_27 (dk_at dksX0_paint_1 16 rfl rfl)
theorem dX0_paint_41 : decode cX0_paint 41 = .ok (.aaload, 1) := dk_50 (dk_at dksX0_paint_1 17 rfl rfl)
theorem dX0_paint_42 : decode cX0_paint 42 = .ok (.iload_n 2, 1) := dk_28 (dk_at dksX0_paint_1 18 rfl rfl)
theorem dX0_paint_43 : decode cX0_paint 43 = .ok (.iaload, 1) := dk_46 (dk_at dksX0_paint_1 19 rfl rfl)
theorem dX0_paint_44 : decode cX0_paint 44 = .ok (.istore 4, 2) := dk_54 4 (dk_at dksX0_paint_1 20 rfl rfl)
theorem dX0_paint_46 : decode cX0_paint 46 = .ok (.aload_n 0, 1) := dk_42 (dk_at dksX0_paint_1 22 rfl rfl)
theorem dX0_paint_47 : decode cX0_paint 47 = .ok (.getfield 33, 3) := dk_180 0 33 (dk_at dksX0_paint_2 0 rfl rfl)
theorem dX0_paint_50 : decode cX0_paint 50 = .ok (.iload_n 1, 1) := dk_27 (dk_at dksX0_paint_2 3 rfl rfl)
theorem dX0_paint_51 : decode cX0_paint 51 = .ok (.aaload, 1) := dk_50 (dk_at dksX0_paint_2 4 rfl rfl)
theorem dX0_paint_52 : decode cX0_paint 52 = .ok (.iload_n 2, 1) := dk_28 (dk_at dksX0_paint_2 5 rfl rfl)
theorem dX0_paint_53 : decode cX0_paint 53 = .ok (.iload_n 3, 1) := dk_29 (dk_at dksX0_paint_2 6 rfl rfl)
theorem dX0_paint_54 : decode cX0_paint 54 = .ok (.iastore, 1) := dk_79 (dk_at dksX0_paint_2 7 rfl rfl)
theorem dX0_paint_55 : decode cX0_paint 55 = .ok (.iload 4, 2) := dk_21 4 (dk_at dksX0_paint_2 8 rfl rfl)
theorem dX0_paint_57 : decode cX0_paint 57 = .ok (.ireturn, 1) := dk_172 (dk_at dksX0_paint_2 10 rfl rfl)
abbrev cX0_lines : ByteArray := prog_1_method_54_code
def yX0_lines : MethodName := ⟨RX0, "lines", "(I)I"⟩
def dkwX0_lines_2 : List UInt8 := [132, 4, 1, 167, 255, 236, 132, 3, 1, 167, 255, 222, 42, 27, 181, 1, 60, 28, 172]
abbrev dktX0_lines_2 : List UInt8 := dkwX0_lines_2 ++ []
def dkwX0_lines_1 : List UInt8 := [162, 0, 35, 3, 54, 4, 21, 4, 16, 10, 162, 0, 19, 42, 180, 0, 33, 29, 50, 21, 4, 3, 79]
abbrev dktX0_lines_1 : List UInt8 := dkwX0_lines_1 ++ dktX0_lines_2
def dkwX0_lines_0 : List UInt8 := [27, 3, 16, 8, 184, 0, 93, 154, 0, 6, 16, 254, 172, 42, 180, 1, 60, 61, 28, 62, 29, 27]
abbrev dktX0_lines_0 : List UInt8 := dkwX0_lines_0 ++ dktX0_lines_1
theorem dksX0_lines_0 : cX0_lines.data.toList.drop 0 = dktX0_lines_0 := by decide +kernel
theorem dksX0_lines_1 : cX0_lines.data.toList.drop 22 = dktX0_lines_1 := dk_seg dksX0_lines_0 22 rfl rfl
theorem dksX0_lines_2 : cX0_lines.data.toList.drop 45 = dktX0_lines_2 := dk_seg dksX0_lines_1 23 rfl rfl
theorem dX0_lines_0 : decode cX0_lines 0 = .ok (.iload_n 1, 1) := dk_27 (dk_at dksX0_lines_0 0 rfl rfl)
theorem dX0_lines_1 : decode cX0_lines 1 = .ok (.iconst 0, 1) := dk_3 (dk_at dksX0_lines_0 1 rfl rfl)
theorem dX0_lines_2 : decode cX0_lines 2 = .ok (.bipush 8, 2) := dk_16 8 (dk_at dksX0_lines_0 2 rfl rfl)
theorem dX0_lines_4 : decode cX0_lines 4 = .ok (.invokestatic 93, 3) := dk_184 0 93 (dk_at dksX0_lines_0 4 rfl rfl)
theorem dX0_lines_7 : decode cX0_lines 7 = .ok (.ifCond .ne 6, 3) := dk_154 0 6 (dk_at dksX0_lines_0 7 rfl rfl)
theorem dX0_lines_10 : decode cX0_lines 10 = .ok (.bipush (-2), 2) := dk_16 254 (dk_at dksX0_lines_0 10 rfl rfl)
theorem dX0_lines_12 : decode cX0_lines 12 = .ok (.ireturn, 1) := dk_172 (dk_at dksX0_lines_0 12 rfl rfl)
theorem dX0_lines_13 : decode cX0_lines 13 = .ok (.aload_n 0, 1) := dk_42 (dk_at dksX0_lines_0 13 rfl rfl)
theorem dX0_lines_14 : decode cX0_lines 14 = .ok (.getfield 316, 3) := dk_180 1 60 (dk_at dksX0_lines_0 14 rfl rfl)
theorem dX0_lines_17 : decode cX0_lines 17 = .ok (.istore_n 2, 1) := dk_61 (dk_at dksX0_lines_0 17 rfl rfl)
theorem dX0_lines_18 : decode cX0_lines 18 = .ok (.iload_n 2, 1) := dk_28 (dk_at dksX0_lines_0 18 rfl rfl)
theorem dX0_lines_19 : decode cX0_lines 19 = .ok (.istore_n 3, 1) := dk_62 (dk_at dksX0_lines_0 19 rfl rfl)
theorem dX0_lines_20 : decode cX0_lines 20 = .ok (.iload_n 3, 1) := dk_29 (dk_at dksX0_lines_0 20 rfl rfl)
theorem dX0_lines_21 : decode cX0_lines 21 = .ok (.iload_n 1, 1) := dk_27 (dk_at dksX0_lines_0 21 rfl rfl)
theorem dX0_lines_22 : decode cX0_lines 22 = .ok (.if_icmp .ge 35, 3) := dk_162 0 35 (dk_at dksX0_lines_1 0 rfl rfl)
theorem dX0_lines_25 : decode cX0_lines 25 = .ok (.iconst 0, 1) := dk_3 (dk_at dksX0_lines_1 3 rfl rfl)
theorem dX0_lines_26 : decode cX0_lines 26 = .ok (.istore 4, 2) := dk_54 4 (dk_at dksX0_lines_1 4 rfl rfl)
theorem dX0_lines_28 : decode cX0_lines 28 = .ok (.iload 4, 2) := dk_21 4 (dk_at dksX0_lines_1 6 rfl rfl)
theorem dX0_lines_30 : decode cX0_lines 30 = .ok (.bipush 10, 2) := dk_16 10 (dk_at dksX0_lines_1 8 rfl rfl)
theorem dX0_lines_32 : decode cX0_lines 32 = .ok (.if_icmp .ge 19, 3) := dk_162 0 19 (dk_at dksX0_lines_1 10 rfl rfl)
theorem dX0_lines_35 : decode cX0_lines 35 = .ok (.aload_n 0, 1) := dk_42 (dk_at dksX0_lines_1 13 rfl rfl)
theorem dX0_lines_36 : decode cX0_lines 36 = .ok (.getfield 33, 3) := dk_180 0 33 (dk_at dksX0_lines_1 14 rfl rfl)
theorem dX0_lines_39 : decode cX0_lines 39 = .ok (.iload_n 3, 1) := dk_29 (dk_at dksX0_lines_1 17 rfl rfl)
theorem dX0_lines_40 : decode cX0_lines 40 = .ok (.aaload, 1) := dk_50 (dk_at dksX0_lines_1 18 rfl rfl)
theorem dX0_lines_41 : decode cX0_lines 41 = .ok (.iload 4, 2) := dk_21 4 (dk_at dksX0_lines_1 19 rfl rfl)
theorem dX0_lines_43 : decode cX0_lines 43 = .ok (.iconst 0, 1) := dk_3 (dk_at dksX0_lines_1 21 rfl rfl)
theorem dX0_lines_44 : decode cX0_lines 44 = .ok (.iastore, 1) := dk_79 (dk_at dksX0_lines_1 22 rfl rfl)
theorem dX0_lines_45 : decode cX0_lines 45 = .ok (.iinc 4 1, 3) := dk_132 4 1 (dk_at dksX0_lines_2 0 rfl rfl)
theorem dX0_lines_48 : decode cX0_lines 48 = .ok (.goto (-20), 3) := dk_167 255 236 (dk_at dksX0_lines_2 3 rfl rfl)
theorem dX0_lines_51 : decode cX0_lines 51 = .ok (.iinc 3 1, 3) := dk_132 3 1 (dk_at dksX0_lines_2 6 rfl rfl)
theorem dX0_lines_54 : decode cX0_lines 54 = .ok (.goto (-34), 3) := dk_167 255 222 (dk_at dksX0_lines_2 9 rfl rfl)
theorem dX0_lines_57 : decode cX0_lines 57 = .ok (.aload_n 0, 1) := dk_42 (dk_at dksX0_lines_2 12 rfl rfl)
theorem dX0_lines_58 : decode cX0_lines 58 = .ok (.iload_n 1, 1) := dk_27 (dk_at dksX0_lines_2 13 rfl rfl)
theorem dX0_lines_59 : decode cX0_lines 59 = .ok (.putfield 316, 3) := dk_181 1 60 (dk_at dksX0_lines_2 14 rfl rfl)
theorem dX0_lines_62 : decode cX0_lines 62 = .ok (.iload_n 2, 1) := dk_28 (dk_at dksX0_lines_2 17 rfl rfl)
theorem dX0_lines_63 : decode cX0_lines 63 = .ok (.ireturn, 1) := dk_172 (dk_at dksX0_lines_2 18 rfl rfl)
abbrev cX0_draft : ByteArray := prog_1_method_58_code
def yX0_draft : MethodName := ⟨RX0, "draft", "(II)I"⟩
def dkwX0_draft_2 : List UInt8 := [172]
abbrev dktX0_draft_2 : List UInt8 := dkwX0_draft_2 ++ []
def dkwX0_draft_1 : List UInt8 := [42, 27, 28, 182, 1, 85, 78, 42, 28, 182, 1, 88, 153, 0, 8, 16, 251, 167, 0, 7, 45, 180, 0, 211]
abbrev dktX0_draft_1 : List UInt8 := dkwX0_draft_1 ++ dktX0_draft_2
def dkwX0_draft_0 : List UInt8 := [27, 3, 42, 180, 1, 60, 4, 100, 184, 0, 93, 153, 0, 11, 42, 28, 182, 0, 195, 154, 0, 5, 2, 172]
abbrev dktX0_draft_0 : List UInt8 := dkwX0_draft_0 ++ dktX0_draft_1
theorem dksX0_draft_0 : cX0_draft.data.toList.drop 0 = dktX0_draft_0 := by decide +kernel
theorem dksX0_draft_1 : cX0_draft.data.toList.drop 24 = dktX0_draft_1 := dk_seg dksX0_draft_0 24 rfl rfl
theorem dksX0_draft_2 : cX0_draft.data.toList.drop 48 = dktX0_draft_2 := dk_seg dksX0_draft_1 24 rfl rfl
theorem dX0_draft_0 : decode cX0_draft 0 = .ok (.iload_n 1, 1) := dk_27 (dk_at dksX0_draft_0 0 rfl rfl)
theorem dX0_draft_1 : decode cX0_draft 1 = .ok (.iconst 0, 1) := dk_3 (dk_at dksX0_draft_0 1 rfl rfl)
theorem dX0_draft_2 : decode cX0_draft 2 = .ok (.aload_n 0, 1) := dk_42 (dk_at dksX0_draft_0 2 rfl rfl)
theorem dX0_draft_3 : decode cX0_draft 3 = .ok (.getfield 316, 3) := dk_180 1 60 (dk_at dksX0_draft_0 3 rfl rfl)
theorem dX0_draft_6 : decode cX0_draft 6 = .ok (.iconst 1, 1) := dk_4 (dk_at dksX0_draft_0 6 rfl rfl)
theorem dX0_draft_7 : decode cX0_draft 7 = .ok (.isub, 1) := dk_100 (dk_at dksX0_draft_0 7 rfl rfl)
theorem dX0_draft_8 : decode cX0_draft 8 = .ok (.invokestatic 93, 3) := dk_184 0 93 (dk_at dksX0_draft_0 8 rfl rfl)
theorem dX0_draft_11 : decode cX0_draft 11 = .ok (.ifCond .eq 11, 3) := dk_153 0 11 (dk_at dksX0_draft_0 11 rfl rfl)
theorem dX0_draft_14 : decode cX0_draft 14 = .ok (.aload_n 0, 1) := dk_42 (dk_at dksX0_draft_0 14 rfl rfl)
theorem dX0_draft_15 : decode cX0_draft 15 = .ok (.iload_n 2, 1) := dk_28 (dk_at dksX0_draft_0 15 rfl rfl)
theorem dX0_draft_16 : decode cX0_draft 16 = .ok (.invokevirtual 195, 3) := dk_182 0 195 (dk_at dksX0_draft_0 16 rfl rfl)
theorem dX0_draft_19 : decode cX0_draft 19 = .ok (.ifCond .ne 5, 3) := dk_154 0 5 (dk_at dksX0_draft_0 19 rfl rfl)
theorem dX0_draft_22 : decode cX0_draft 22 = .ok (.iconst (-1), 1) := dk_2 (dk_at dksX0_draft_0 22 rfl rfl)
theorem dX0_draft_23 : decode cX0_draft 23 = .ok (.ireturn, 1) := dk_172 (dk_at dksX0_draft_0 23 rfl rfl)
theorem dX0_draft_24 : decode cX0_draft 24 = .ok (.aload_n 0, 1) := dk_42 (dk_at dksX0_draft_1 0 rfl rfl)
theorem dX0_draft_25 : decode cX0_draft 25 = .ok (.iload_n 1, 1) := dk_27 (dk_at dksX0_draft_1 1 rfl rfl)
theorem dX0_draft_26 : decode cX0_draft 26 = .ok (.iload_n 2, 1) := dk_28 (dk_at dksX0_draft_1 2 rfl rfl)
theorem dX0_draft_27 : decode cX0_draft 27 = .ok (.invokevirtual 341, 3) := dk_182 1 85 (dk_at dksX0_draft_1 3 rfl rfl)
theorem dX0_draft_30 : decode cX0_draft 30 = .ok (.astore_n 3, 1) := dk_78 (dk_at dksX0_draft_1 6 rfl rfl)
theorem dX0_draft_31 : decode cX0_draft 31 = .ok (.aload_n 0, 1) := dk_42 (dk_at dksX0_draft_1 7 rfl rfl)
theorem dX0_draft_32 : decode cX0_draft 32 = .ok (.iload_n 2, 1) := dk_28 (dk_at dksX0_draft_1 8 rfl rfl)
theorem dX0_draft_33 : decode cX0_draft 33 = .ok (.invokevirtual 344, 3) := dk_182 1 88 (dk_at dksX0_draft_1 9 rfl rfl)
theorem dX0_draft_36 : decode cX0_draft 36 = .ok (.ifCond .eq 8, 3) := dk_153 0 8 (dk_at dksX0_draft_1 12 rfl rfl)
theorem dX0_draft_39 : decode cX0_draft 39 = .ok (.bipush (-5), 2) := dk_16 251 (dk_at dksX0_draft_1 15 rfl rfl)
theorem dX0_draft_41 : decode cX0_draft 41 = .ok (.goto 7, 3) := dk_167 0 7 (dk_at dksX0_draft_1 17 rfl rfl)
theorem dX0_draft_44 : decode cX0_draft 44 = .ok (.aload_n 3, 1) := dk_45 (dk_at dksX0_draft_1 20 rfl rfl)
theorem dX0_draft_45 : decode cX0_draft 45 = .ok (.getfield 211, 3) := dk_180 0 211 (dk_at dksX0_draft_1 21 rfl rfl)
theorem dX0_draft_48 : decode cX0_draft 48 = .ok (.ireturn, 1) := dk_172 (dk_at dksX0_draft_2 0 rfl rfl)
abbrev cX0_drafted : ByteArray := prog_1_method_57_code
def yX0_drafted : MethodName := ⟨RX0, "drafted", "(II)LCardLoom$Turning;"⟩
def dkwX0_drafted_2 : List UInt8 := [58, 5, 21, 4, 25, 5, 182, 1, 82, 96, 7, 112, 54, 4, 132, 6, 1, 167, 255, 223, 25, 5, 176]
abbrev dktX0_drafted_2 : List UInt8 := dkwX0_drafted_2 ++ []
def dkwX0_drafted_1 : List UInt8 := [178, 0, 61, 58, 5, 3, 54, 6, 21, 6, 27, 163, 0, 33, 45, 21, 6, 21, 4, 185, 1, 78, 3, 0]
abbrev dktX0_drafted_1 : List UInt8 := dkwX0_drafted_1 ++ dktX0_drafted_2
def dkwX0_drafted_0 : List UInt8 := [42, 28, 182, 1, 74, 78, 42, 180, 0, 10, 28, 182, 0, 121, 192, 0, 111, 180, 0, 204, 54, 4]
abbrev dktX0_drafted_0 : List UInt8 := dkwX0_drafted_0 ++ dktX0_drafted_1
theorem dksX0_drafted_0 : cX0_drafted.data.toList.drop 0 = dktX0_drafted_0 := by decide +kernel
theorem dksX0_drafted_1 : cX0_drafted.data.toList.drop 22 = dktX0_drafted_1 := dk_seg dksX0_drafted_0 22 rfl rfl
theorem dksX0_drafted_2 : cX0_drafted.data.toList.drop 46 = dktX0_drafted_2 := dk_seg dksX0_drafted_1 24 rfl rfl
theorem dX0_drafted_0 : decode cX0_drafted 0 = .ok (.aload_n 0, 1) := dk_42 (dk_at dksX0_drafted_0 0 rfl rfl)
theorem dX0_drafted_1 : decode cX0_drafted 1 = .ok (.iload_n 2, 1) := dk_28 (dk_at dksX0_drafted_0 1 rfl rfl)
theorem dX0_drafted_2 : decode cX0_drafted 2 = .ok (.invokevirtual 330, 3) := dk_182 1 74 (dk_at dksX0_drafted_0 2 rfl rfl)
theorem dX0_drafted_5 : decode cX0_drafted 5 = .ok (.astore_n 3, 1) := dk_78 (dk_at dksX0_drafted_0 5 rfl rfl)
theorem dX0_drafted_6 : decode cX0_drafted 6 = .ok (.aload_n 0, 1) := dk_42 (dk_at dksX0_drafted_0 6 rfl rfl)
theorem dX0_drafted_7 : decode cX0_drafted 7 = .ok (.getfield 10, 3) := dk_180 0 10 (dk_at dksX0_drafted_0 7 rfl rfl)
theorem dX0_drafted_10 : decode cX0_drafted 10 = .ok (.iload_n 2, 1) := dk_28 (dk_at dksX0_drafted_0 10 rfl rfl)
theorem dX0_drafted_11 : decode cX0_drafted 11 = .ok (.invokevirtual 121, 3) := dk_182 0 121 (dk_at dksX0_drafted_0 11 rfl rfl)
theorem dX0_drafted_14 : decode cX0_drafted 14 = .ok (.checkcast 111, 3) := dk_192 0 111 (dk_at dksX0_drafted_0 14 rfl rfl)
theorem dX0_drafted_17 : decode cX0_drafted 17 = .ok (.getfield 204, 3) := dk_180 0 204 (dk_at dksX0_drafted_0 17 rfl rfl)
theorem dX0_drafted_20 : decode cX0_drafted 20 = .ok (.istore 4, 2) := dk_54 4 (dk_at dksX0_drafted_0 20 rfl rfl)
theorem dX0_drafted_22 : decode cX0_drafted 22 = .ok (.getstatic 61, 3) := dk_178 0 61 (dk_at dksX0_drafted_1 0 rfl rfl)
theorem dX0_drafted_25 : decode cX0_drafted 25 = .ok (.astore 5, 2) := dk_58 5 (dk_at dksX0_drafted_1 3 rfl rfl)
theorem dX0_drafted_27 : decode cX0_drafted 27 = .ok (.iconst 0, 1) := dk_3 (dk_at dksX0_drafted_1 5 rfl rfl)
theorem dX0_drafted_28 : decode cX0_drafted 28 = .ok (.istore 6, 2) := dk_54 6 (dk_at dksX0_drafted_1 6 rfl rfl)
theorem dX0_drafted_30 : decode cX0_drafted 30 = .ok (.iload 6, 2) := dk_21 6 (dk_at dksX0_drafted_1 8 rfl rfl)
theorem dX0_drafted_32 : decode cX0_drafted 32 = .ok (.iload_n 1, 1) := dk_27 (dk_at dksX0_drafted_1 10 rfl rfl)
theorem dX0_drafted_33 : decode cX0_drafted 33 = .ok (.if_icmp .gt 33, 3) := dk_163 0 33 (dk_at dksX0_drafted_1 11 rfl rfl)
theorem dX0_drafted_36 : decode cX0_drafted 36 = .ok (.aload_n 3, 1) := dk_45 (dk_at dksX0_drafted_1 14 rfl rfl)
theorem dX0_drafted_37 : decode cX0_drafted 37 = .ok (.iload 6, 2) := dk_21 6 (dk_at dksX0_drafted_1 15 rfl rfl)
theorem dX0_drafted_39 : decode cX0_drafted 39 = .ok (.iload 4, 2) := dk_21 4 (dk_at dksX0_drafted_1 17 rfl rfl)
theorem dX0_drafted_41 : decode cX0_drafted 41 = .ok (.invokeinterface 334 3, 5) := by decide +kernel
theorem dX0_drafted_46 : decode cX0_drafted 46 = .ok (.astore 5, 2) := dk_58 5 (dk_at dksX0_drafted_2 0 rfl rfl)
theorem dX0_drafted_48 : decode cX0_drafted 48 = .ok (.iload 4, 2) := dk_21 4 (dk_at dksX0_drafted_2 2 rfl rfl)
theorem dX0_drafted_50 : decode cX0_drafted 50 = .ok (.aload 5, 2) := dk_25 5 (dk_at dksX0_drafted_2 4 rfl rfl)
theorem dX0_drafted_52 : decode cX0_drafted 52 = .ok (.invokevirtual 338, 3) := dk_182 1 82 (dk_at dksX0_drafted_2 6 rfl rfl)
theorem dX0_drafted_55 : decode cX0_drafted 55 = .ok (.iadd, 1) := dk_96 (dk_at dksX0_drafted_2 9 rfl rfl)
theorem dX0_drafted_56 : decode cX0_drafted 56 = .ok (.iconst 4, 1) := dk_7 (dk_at dksX0_drafted_2 10 rfl rfl)
theorem dX0_drafted_57 : decode cX0_drafted 57 = .ok (.irem, 1) := dk_112 (dk_at dksX0_drafted_2 11 rfl rfl)
theorem dX0_drafted_58 : decode cX0_drafted 58 = .ok (.istore 4, 2) := dk_54 4 (dk_at dksX0_drafted_2 12 rfl rfl)
theorem dX0_drafted_60 : decode cX0_drafted 60 = .ok (.iinc 6 1, 3) := dk_132 6 1 (dk_at dksX0_drafted_2 14 rfl rfl)
theorem dX0_drafted_63 : decode cX0_drafted 63 = .ok (.goto (-33), 3) := dk_167 255 223 (dk_at dksX0_drafted_2 17 rfl rfl)
theorem dX0_drafted_66 : decode cX0_drafted 66 = .ok (.aload 5, 2) := dk_25 5 (dk_at dksX0_drafted_2 20 rfl rfl)
theorem dX0_drafted_68 : decode cX0_drafted 68 = .ok (.areturn, 1) := dk_176 (dk_at dksX0_drafted_2 22 rfl rfl)
abbrev cX0_draftOf : ByteArray := prog_1_method_55_code
def yX0_draftOf : MethodName := ⟨RX0, "draftOf", "(I)LCardLoom$Drafting;"⟩
def dkwX0_draftOf_4 : List UInt8 := [132, 5, 1, 167, 255, 227, 132, 4, 255, 167, 255, 213, 45, 176]
abbrev dktX0_draftOf_4 : List UInt8 := dkwX0_draftOf_4 ++ []
def dkwX0_draftOf_3 : List UInt8 := [162, 0, 29, 42, 180, 0, 36, 21, 4, 50, 21, 5, 45, 21, 4, 21, 5, 185, 1, 68, 3, 0, 79]
abbrev dktX0_draftOf_3 : List UInt8 := dkwX0_draftOf_3 ++ dktX0_draftOf_4
def dkwX0_draftOf_2 : List UInt8 := [167, 255, 234, 42, 180, 1, 60, 4, 100, 54, 4, 21, 4, 155, 0, 44, 3, 54, 5, 21, 5, 7]
abbrev dktX0_draftOf_2 : List UInt8 := dkwX0_draftOf_2 ++ dktX0_draftOf_3
def dkwX0_draftOf_1 : List UInt8 := [54, 4, 21, 4, 7, 162, 0, 22, 42, 180, 0, 36, 42, 180, 1, 60, 50, 21, 4, 3, 79, 132, 4, 1]
abbrev dktX0_draftOf_1 : List UInt8 := dkwX0_draftOf_1 ++ dktX0_draftOf_2
def dkwX0_draftOf_0 : List UInt8 := [42, 180, 0, 10, 27, 182, 0, 121, 192, 0, 111, 77, 187, 1, 63, 89, 42, 44, 27, 183, 1, 65, 78, 3]
abbrev dktX0_draftOf_0 : List UInt8 := dkwX0_draftOf_0 ++ dktX0_draftOf_1
theorem dksX0_draftOf_0 : cX0_draftOf.data.toList.drop 0 = dktX0_draftOf_0 := by decide +kernel
theorem dksX0_draftOf_1 : cX0_draftOf.data.toList.drop 24 = dktX0_draftOf_1 := dk_seg dksX0_draftOf_0 24 rfl rfl
theorem dksX0_draftOf_2 : cX0_draftOf.data.toList.drop 48 = dktX0_draftOf_2 := dk_seg dksX0_draftOf_1 24 rfl rfl
theorem dksX0_draftOf_3 : cX0_draftOf.data.toList.drop 70 = dktX0_draftOf_3 := dk_seg dksX0_draftOf_2 22 rfl rfl
theorem dksX0_draftOf_4 : cX0_draftOf.data.toList.drop 93 = dktX0_draftOf_4 := dk_seg dksX0_draftOf_3 23 rfl rfl
theorem dX0_draftOf_0 : decode cX0_draftOf 0 = .ok (.aload_n 0, 1) := dk_42 (dk_at dksX0_draftOf_0 0 rfl rfl)
theorem dX0_draftOf_1 : decode cX0_draftOf 1 = .ok (.getfield 10, 3) := dk_180 0 10 (dk_at dksX0_draftOf_0 1 rfl rfl)
theorem dX0_draftOf_4 : decode cX0_draftOf 4 = .ok (.iload_n 1, 1) := dk_27 (dk_at dksX0_draftOf_0 4 rfl rfl)
theorem dX0_draftOf_5 : decode cX0_draftOf 5 = .ok (.invokevirtual 121, 3) := dk_182 0 121 (dk_at dksX0_draftOf_0 5 rfl rfl)
theorem dX0_draftOf_8 : decode cX0_draftOf 8 = .ok (.checkcast 111, 3) := dk_192 0 111 (dk_at dksX0_draftOf_0 8 rfl rfl)
theorem dX0_draftOf_11 : decode cX0_draftOf 11 = .ok (.astore_n 2, 1) := dk_77 (dk_at dksX0_draftOf_0 11 rfl rfl)
theorem dX0_draftOf_12 : decode cX0_draftOf 12 = .ok (.new 319, 3) := dk_187 1 63 (dk_at dksX0_draftOf_0 12 rfl rfl)
theorem dX0_draftOf_15 : decode cX0_draftOf 15 = .ok (.dup, 1) := dk_89 (dk_at dksX0_draftOf_0 15 rfl rfl)
theorem dX0_draftOf_16 : decode cX0_draftOf 16 = .ok (.aload_n 0, 1) := dk_42 (dk_at dksX0_draftOf_0 16 rfl rfl)
theorem dX0_draftOf_17 : decode cX0_draftOf 17 = .ok (.aload_n 2, 1) := dk_44 (dk_at dksX0_draftOf_0 17 rfl rfl)
theorem dX0_draftOf_18 : decode cX0_draftOf 18 = .ok (.iload_n 1, 1) := dk_27 (dk_at dksX0_draftOf_0 18 rfl rfl)
theorem dX0_draftOf_19 : decode cX0_draftOf 19 = .ok (.invokespecial 321, 3) := dk_183 1 65 (dk_at dksX0_draftOf_0 19 rfl rfl)
theorem dX0_draftOf_22 : decode cX0_draftOf 22 = .ok (.astore_n 3, 1) := dk_78 (dk_at dksX0_draftOf_0 22 rfl rfl)
theorem dX0_draftOf_23 : decode cX0_draftOf 23 = .ok (.iconst 0, 1) := dk_3 (dk_at dksX0_draftOf_0 23 rfl rfl)
theorem dX0_draftOf_24 : decode cX0_draftOf 24 = .ok (.istore 4, 2) := dk_54 4 (dk_at dksX0_draftOf_1 0 rfl rfl)
theorem dX0_draftOf_26 : decode cX0_draftOf 26 = .ok (.iload 4, 2) := dk_21 4 (dk_at dksX0_draftOf_1 2 rfl rfl)
theorem dX0_draftOf_28 : decode cX0_draftOf 28 = .ok (.iconst 4, 1) := dk_7 (dk_at dksX0_draftOf_1 4 rfl rfl)
theorem dX0_draftOf_29 : decode cX0_draftOf 29 = .ok (.if_icmp .ge 22, 3) := dk_162 0 22 (dk_at dksX0_draftOf_1 5 rfl rfl)
theorem dX0_draftOf_32 : decode cX0_draftOf 32 = .ok (.aload_n 0, 1) := dk_42 (dk_at dksX0_draftOf_1 8 rfl rfl)
theorem dX0_draftOf_33 : decode cX0_draftOf 33 = .ok (.getfield 36, 3) := dk_180 0 36 (dk_at dksX0_draftOf_1 9 rfl rfl)
theorem dX0_draftOf_36 : decode cX0_draftOf 36 = .ok (.aload_n 0, 1) := dk_42 (dk_at dksX0_draftOf_1 12 rfl rfl)
theorem dX0_draftOf_37 : decode cX0_draftOf 37 = .ok (.getfield 316, 3) := dk_180 1 60 (dk_at dksX0_draftOf_1 13 rfl rfl)
theorem dX0_draftOf_40 : decode cX0_draftOf 40 = .ok (.aaload, 1) := dk_50 (dk_at dksX0_draftOf_1 16 rfl rfl)
theorem dX0_draftOf_41 : decode cX0_draftOf 41 = .ok (.iload 4, 2) := dk_21 4 (dk_at dksX0_draftOf_1 17 rfl rfl)
theorem dX0_draftOf_43 : decode cX0_draftOf 43 = .ok (.iconst 0, 1) := dk_3 (dk_at dksX0_draftOf_1 19 rfl rfl)
theorem dX0_draftOf_44 : decode cX0_draftOf 44 = .ok (.iastore, 1) := dk_79 (dk_at dksX0_draftOf_1 20 rfl rfl)
theorem dX0_draftOf_45 : decode cX0_draftOf 45 = .ok (.iinc 4 1, 3) := dk_132 4 1 (dk_at dksX0_draftOf_1 21 rfl rfl)
theorem dX0_draftOf_48 : decode cX0_draftOf 48 = .ok (.goto (-22), 3) := dk_167 255 234 (dk_at dksX0_draftOf_2 0 rfl rfl)
theorem dX0_draftOf_51 : decode cX0_draftOf 51 = .ok (.aload_n 0, 1) := dk_42 (dk_at dksX0_draftOf_2 3 rfl rfl)
theorem dX0_draftOf_52 : decode cX0_draftOf 52 = .ok (.getfield 316, 3) := dk_180 1 60 (dk_at dksX0_draftOf_2 4 rfl rfl)
theorem dX0_draftOf_55 : decode cX0_draftOf 55 = .ok (.iconst 1, 1) := dk_4 (dk_at dksX0_draftOf_2 7 rfl rfl)
theorem dX0_draftOf_56 : decode cX0_draftOf 56 = .ok (.isub, 1) := dk_100 (dk_at dksX0_draftOf_2 8 rfl rfl)
theorem dX0_draftOf_57 : decode cX0_draftOf 57 = .ok (.istore 4, 2) := dk_54 4 (dk_at dksX0_draftOf_2 9 rfl rfl)
theorem dX0_draftOf_59 : decode cX0_draftOf 59 = .ok (.iload 4, 2) := dk_21 4 (dk_at dksX0_draftOf_2 11 rfl rfl)
theorem dX0_draftOf_61 : decode cX0_draftOf 61 = .ok (.ifCond .lt 44, 3) := dk_155 0 44 (dk_at dksX0_draftOf_2 13 rfl rfl)
theorem dX0_draftOf_64 : decode cX0_draftOf 64 = .ok (.iconst 0, 1) := dk_3 (dk_at dksX0_draftOf_2 16 rfl rfl)
theorem dX0_draftOf_65 : decode cX0_draftOf 65 = .ok (.istore 5, 2) := dk_54 5 (dk_at dksX0_draftOf_2 17 rfl rfl)
theorem dX0_draftOf_67 : decode cX0_draftOf 67 = .ok (.iload 5, 2) := dk_21 5 (dk_at dksX0_draftOf_2 19 rfl rfl)
theorem dX0_draftOf_69 : decode cX0_draftOf 69 = .ok (.iconst 4, 1) := dk_7 (dk_at dksX0_draftOf_2 21 rfl rfl)
theorem dX0_draftOf_70 : decode cX0_draftOf 70 = .ok (.if_icmp .ge 29, 3) := dk_162 0 29 (dk_at dksX0_draftOf_3 0 rfl rfl)
theorem dX0_draftOf_73 : decode cX0_draftOf 73 = .ok (.aload_n 0, 1) := dk_42 (dk_at dksX0_draftOf_3 3 rfl rfl)
theorem dX0_draftOf_74 : decode cX0_draftOf 74 = .ok (.getfield 36, 3) := dk_180 0 36 (dk_at dksX0_draftOf_3 4 rfl rfl)
theorem dX0_draftOf_77 : decode cX0_draftOf 77 = .ok (.iload 4, 2) := dk_21 4 (dk_at dksX0_draftOf_3 7 rfl rfl)
theorem dX0_draftOf_79 : decode cX0_draftOf 79 = .ok (.aaload, 1) := dk_50 (dk_at dksX0_draftOf_3 9 rfl rfl)
theorem dX0_draftOf_80 : decode cX0_draftOf 80 = .ok (.iload 5, 2) := dk_21 5 (dk_at dksX0_draftOf_3 10 rfl rfl)
theorem dX0_draftOf_82 : decode cX0_draftOf 82 = .ok (.aload_n 3, 1) := dk_45 (dk_at dksX0_draftOf_3 12 rfl rfl)
theorem dX0_draftOf_83 : decode cX0_draftOf 83 = .ok (.iload 4, 2) := dk_21 4 (dk_at dksX0_draftOf_3 13 rfl rfl)
theorem dX0_draftOf_85 : decode cX0_draftOf 85 = .ok (.iload 5, 2) := dk_21 5 (dk_at dksX0_draftOf_3 15 rfl rfl)
theorem dX0_draftOf_87 : decode cX0_draftOf 87 = .ok (.invokeinterface 324 3, 5) := by decide +kernel
theorem dX0_draftOf_92 : decode cX0_draftOf 92 = .ok (.iastore, 1) := dk_79 (dk_at dksX0_draftOf_3 22 rfl rfl)
theorem dX0_draftOf_93 : decode cX0_draftOf 93 = .ok (.iinc 5 1, 3) := dk_132 5 1 (dk_at dksX0_draftOf_4 0 rfl rfl)
theorem dX0_draftOf_96 : decode cX0_draftOf 96 = .ok (.goto (-29), 3) := dk_167 255 227 (dk_at dksX0_draftOf_4 3 rfl rfl)
theorem dX0_draftOf_99 : decode cX0_draftOf 99 = .ok (.iinc 4 (-1), 3) := dk_132 4 255 (dk_at dksX0_draftOf_4 6 rfl rfl)
theorem dX0_draftOf_102 : decode cX0_draftOf 102 = .ok (.goto (-43), 3) := dk_167 255 213 (dk_at dksX0_draftOf_4 9 rfl rfl)
theorem dX0_draftOf_105 : decode cX0_draftOf 105 = .ok (.aload_n 3, 1) := dk_45 (dk_at dksX0_draftOf_4 12 rfl rfl)
theorem dX0_draftOf_106 : decode cX0_draftOf 106 = .ok (.areturn, 1) := dk_176 (dk_at dksX0_draftOf_4 13 rfl rfl)
abbrev cX0_isLost : ByteArray := prog_1_method_56_code
def yX0_isLost : MethodName := ⟨RX0, "isLost", "(I)Z"⟩
def dkwX0_isLost_1 : List UInt8 := [161, 0, 7, 4, 167, 0, 4, 3, 172]
abbrev dktX0_isLost_1 : List UInt8 := dkwX0_isLost_1 ++ []
def dkwX0_isLost_0 : List UInt8 := [42, 180, 0, 36, 3, 50, 42, 180, 0, 10, 27, 182, 0, 121, 192, 0, 111, 180, 0, 204, 46, 19, 1, 73]
abbrev dktX0_isLost_0 : List UInt8 := dkwX0_isLost_0 ++ dktX0_isLost_1
theorem dksX0_isLost_0 : cX0_isLost.data.toList.drop 0 = dktX0_isLost_0 := by decide +kernel
theorem dksX0_isLost_1 : cX0_isLost.data.toList.drop 24 = dktX0_isLost_1 := dk_seg dksX0_isLost_0 24 rfl rfl
theorem dX0_isLost_0 : decode cX0_isLost 0 = .ok (.aload_n 0, 1) := dk_42 (dk_at dksX0_isLost_0 0 rfl rfl)
theorem dX0_isLost_1 : decode cX0_isLost 1 = .ok (.getfield 36, 3) := dk_180 0 36 (dk_at dksX0_isLost_0 1 rfl rfl)
theorem dX0_isLost_4 : decode cX0_isLost 4 = .ok (.iconst 0, 1) := dk_3 (dk_at dksX0_isLost_0 4 rfl rfl)
theorem dX0_isLost_5 : decode cX0_isLost 5 = .ok (.aaload, 1) := dk_50 (dk_at dksX0_isLost_0 5 rfl rfl)
theorem dX0_isLost_6 : decode cX0_isLost 6 = .ok (.aload_n 0, 1) := dk_42 (dk_at dksX0_isLost_0 6 rfl rfl)
theorem dX0_isLost_7 : decode cX0_isLost 7 = .ok (.getfield 10, 3) := dk_180 0 10 (dk_at dksX0_isLost_0 7 rfl rfl)
theorem dX0_isLost_10 : decode cX0_isLost 10 = .ok (.iload_n 1, 1) := dk_27 (dk_at dksX0_isLost_0 10 rfl rfl)
theorem dX0_isLost_11 : decode cX0_isLost 11 = .ok (.invokevirtual 121, 3) := dk_182 0 121 (dk_at dksX0_isLost_0 11 rfl rfl)
theorem dX0_isLost_14 : decode cX0_isLost 14 = .ok (.checkcast 111, 3) := dk_192 0 111 (dk_at dksX0_isLost_0 14 rfl rfl)
theorem dX0_isLost_17 : decode cX0_isLost 17 = .ok (.getfield 204, 3) := dk_180 0 204 (dk_at dksX0_isLost_0 17 rfl rfl)
theorem dX0_isLost_20 : decode cX0_isLost 20 = .ok (.iaload, 1) := dk_46 (dk_at dksX0_isLost_0 20 rfl rfl)
theorem dX0_isLost_21 : decode cX0_isLost 21 = .ok (.ldc_w 329, 3) := dk_19 1 73 (dk_at dksX0_isLost_0 21 rfl rfl)
theorem dX0_isLost_24 : decode cX0_isLost 24 = .ok (.if_icmp .lt 7, 3) := dk_161 0 7 (dk_at dksX0_isLost_1 0 rfl rfl)
theorem dX0_isLost_27 : decode cX0_isLost 27 = .ok (.iconst 1, 1) := dk_4 (dk_at dksX0_isLost_1 3 rfl rfl)
theorem dX0_isLost_28 : decode cX0_isLost 28 = .ok (.goto 4, 3) := dk_167 0 4 (dk_at dksX0_isLost_1 4 rfl rfl)
theorem dX0_isLost_31 : decode cX0_isLost 31 = .ok (.iconst 0, 1) := dk_3 (dk_at dksX0_isLost_1 7 rfl rfl)
theorem dX0_isLost_32 : decode cX0_isLost 32 = .ok (.ireturn, 1) := dk_172 (dk_at dksX0_isLost_1 8 rfl rfl)
abbrev cX0_fewest : ByteArray := prog_1_method_60_code
def yX0_fewest : MethodName := ⟨RX0, "fewest", "(I)I"⟩
def dkwX0_fewest_2 : List UInt8 := [156, 0, 8, 16, 251, 167, 0, 10, 28, 42, 29, 182, 1, 91, 96, 61, 132, 3, 1, 167, 255, 220, 28, 172]
abbrev dktX0_fewest_2 : List UInt8 := dkwX0_fewest_2 ++ []
def dkwX0_fewest_1 : List UInt8 := [172, 3, 61, 3, 62, 29, 42, 182, 0, 90, 162, 0, 34, 28, 155, 0, 30, 42, 29, 182, 1, 91]
abbrev dktX0_fewest_1 : List UInt8 := dkwX0_fewest_1 ++ dktX0_fewest_2
def dkwX0_fewest_0 : List UInt8 := [27, 2, 161, 0, 11, 27, 42, 182, 0, 90, 161, 0, 5, 2, 172, 27, 155, 0, 9, 42, 27, 182, 1, 91]
abbrev dktX0_fewest_0 : List UInt8 := dkwX0_fewest_0 ++ dktX0_fewest_1
theorem dksX0_fewest_0 : cX0_fewest.data.toList.drop 0 = dktX0_fewest_0 := by decide +kernel
theorem dksX0_fewest_1 : cX0_fewest.data.toList.drop 24 = dktX0_fewest_1 := dk_seg dksX0_fewest_0 24 rfl rfl
theorem dksX0_fewest_2 : cX0_fewest.data.toList.drop 46 = dktX0_fewest_2 := dk_seg dksX0_fewest_1 22 rfl rfl
theorem dX0_fewest_0 : decode cX0_fewest 0 = .ok (.iload_n 1, 1) := dk_27 (dk_at dksX0_fewest_0 0 rfl rfl)
theorem dX0_fewest_1 : decode cX0_fewest 1 = .ok (.iconst (-1), 1) := dk_2 (dk_at dksX0_fewest_0 1 rfl rfl)
theorem dX0_fewest_2 : decode cX0_fewest 2 = .ok (.if_icmp .lt 11, 3) := dk_161 0 11 (dk_at dksX0_fewest_0 2 rfl rfl)
theorem dX0_fewest_5 : decode cX0_fewest 5 = .ok (.iload_n 1, 1) := dk_27 (dk_at dksX0_fewest_0 5 rfl rfl)
theorem dX0_fewest_6 : decode cX0_fewest 6 = .ok (.aload_n 0, 1) := dk_42 (dk_at dksX0_fewest_0 6 rfl rfl)
theorem dX0_fewest_7 : decode cX0_fewest 7 = .ok (.invokevirtual 90, 3) := dk_182 0 90 (dk_at dksX0_fewest_0 7 rfl rfl)
theorem dX0_fewest_10 : decode cX0_fewest 10 = .ok (.if_icmp .lt 5, 3) := dk_161 0 5 (dk_at dksX0_fewest_0 10 rfl rfl)
theorem dX0_fewest_13 : decode cX0_fewest 13 = .ok (.iconst (-1), 1) := dk_2 (dk_at dksX0_fewest_0 13 rfl rfl)
theorem dX0_fewest_14 : decode cX0_fewest 14 = .ok (.ireturn, 1) := dk_172 (dk_at dksX0_fewest_0 14 rfl rfl)
theorem dX0_fewest_15 : decode cX0_fewest 15 = .ok (.iload_n 1, 1) := dk_27 (dk_at dksX0_fewest_0 15 rfl rfl)
theorem dX0_fewest_16 : decode cX0_fewest 16 = .ok (.ifCond .lt 9, 3) := dk_155 0 9 (dk_at dksX0_fewest_0 16 rfl rfl)
theorem dX0_fewest_19 : decode cX0_fewest 19 = .ok (.aload_n 0, 1) := dk_42 (dk_at dksX0_fewest_0 19 rfl rfl)
theorem dX0_fewest_20 : decode cX0_fewest 20 = .ok (.iload_n 1, 1) := dk_27 (dk_at dksX0_fewest_0 20 rfl rfl)
theorem dX0_fewest_21 : decode cX0_fewest 21 = .ok (.invokevirtual 347, 3) := dk_182 1 91 (dk_at dksX0_fewest_0 21 rfl rfl)
theorem dX0_fewest_24 : decode cX0_fewest 24 = .ok (.ireturn, 1) := dk_172 (dk_at dksX0_fewest_1 0 rfl rfl)
theorem dX0_fewest_25 : decode cX0_fewest 25 = .ok (.iconst 0, 1) := dk_3 (dk_at dksX0_fewest_1 1 rfl rfl)
theorem dX0_fewest_26 : decode cX0_fewest 26 = .ok (.istore_n 2, 1) := dk_61 (dk_at dksX0_fewest_1 2 rfl rfl)
theorem dX0_fewest_27 : decode cX0_fewest 27 = .ok (.iconst 0, 1) := dk_3 (dk_at dksX0_fewest_1 3 rfl rfl)
theorem dX0_fewest_28 : decode cX0_fewest 28 = .ok (.istore_n 3, 1) := dk_62 (dk_at dksX0_fewest_1 4 rfl rfl)
theorem dX0_fewest_29 : decode cX0_fewest 29 = .ok (.iload_n 3, 1) := dk_29 (dk_at dksX0_fewest_1 5 rfl rfl)
theorem dX0_fewest_30 : decode cX0_fewest 30 = .ok (.aload_n 0, 1) := dk_42 (dk_at dksX0_fewest_1 6 rfl rfl)
theorem dX0_fewest_31 : decode cX0_fewest 31 = .ok (.invokevirtual 90, 3) := dk_182 0 90 (dk_at dksX0_fewest_1 7 rfl rfl)
theorem dX0_fewest_34 : decode cX0_fewest 34 = .ok (.if_icmp .ge 34, 3) := dk_162 0 34 (dk_at dksX0_fewest_1 10 rfl rfl)
theorem dX0_fewest_37 : decode cX0_fewest 37 = .ok (.iload_n 2, 1) := dk_28 (dk_at dksX0_fewest_1 13 rfl rfl)
theorem dX0_fewest_38 : decode cX0_fewest 38 = .ok (.ifCond .lt 30, 3) := dk_155 0 30 (dk_at dksX0_fewest_1 14 rfl rfl)
theorem dX0_fewest_41 : decode cX0_fewest 41 = .ok (.aload_n 0, 1) := dk_42 (dk_at dksX0_fewest_1 17 rfl rfl)
theorem dX0_fewest_42 : decode cX0_fewest 42 = .ok (.iload_n 3, 1) := dk_29 (dk_at dksX0_fewest_1 18 rfl rfl)
theorem dX0_fewest_43 : decode cX0_fewest 43 = .ok (.invokevirtual 347, 3) := dk_182 1 91 (dk_at dksX0_fewest_1 19 rfl rfl)
theorem dX0_fewest_46 : decode cX0_fewest 46 = .ok (.ifCond .ge 8, 3) := dk_156 0 8 (dk_at dksX0_fewest_2 0 rfl rfl)
theorem dX0_fewest_49 : decode cX0_fewest 49 = .ok (.bipush (-5), 2) := dk_16 251 (dk_at dksX0_fewest_2 3 rfl rfl)
theorem dX0_fewest_51 : decode cX0_fewest 51 = .ok (.goto 10, 3) := dk_167 0 10 (dk_at dksX0_fewest_2 5 rfl rfl)
theorem dX0_fewest_54 : decode cX0_fewest 54 = .ok (.iload_n 2, 1) := dk_28 (dk_at dksX0_fewest_2 8 rfl rfl)
theorem dX0_fewest_55 : decode cX0_fewest 55 = .ok (.aload_n 0, 1) := dk_42 (dk_at dksX0_fewest_2 9 rfl rfl)
theorem dX0_fewest_56 : decode cX0_fewest 56 = .ok (.iload_n 3, 1) := dk_29 (dk_at dksX0_fewest_2 10 rfl rfl)
theorem dX0_fewest_57 : decode cX0_fewest 57 = .ok (.invokevirtual 347, 3) := dk_182 1 91 (dk_at dksX0_fewest_2 11 rfl rfl)
theorem dX0_fewest_60 : decode cX0_fewest 60 = .ok (.iadd, 1) := dk_96 (dk_at dksX0_fewest_2 14 rfl rfl)
theorem dX0_fewest_61 : decode cX0_fewest 61 = .ok (.istore_n 2, 1) := dk_61 (dk_at dksX0_fewest_2 15 rfl rfl)
theorem dX0_fewest_62 : decode cX0_fewest 62 = .ok (.iinc 3 1, 3) := dk_132 3 1 (dk_at dksX0_fewest_2 16 rfl rfl)
theorem dX0_fewest_65 : decode cX0_fewest 65 = .ok (.goto (-36), 3) := dk_167 255 220 (dk_at dksX0_fewest_2 19 rfl rfl)
theorem dX0_fewest_68 : decode cX0_fewest 68 = .ok (.iload_n 2, 1) := dk_28 (dk_at dksX0_fewest_2 22 rfl rfl)
theorem dX0_fewest_69 : decode cX0_fewest 69 = .ok (.ireturn, 1) := dk_172 (dk_at dksX0_fewest_2 23 rfl rfl)
abbrev cX0_fewestOf : ByteArray := prog_1_method_59_code
def yX0_fewestOf : MethodName := ⟨RX0, "fewestOf", "(I)I"⟩
def dkwX0_fewestOf_1 : List UInt8 := [50, 42, 180, 0, 10, 27, 182, 0, 121, 192, 0, 111, 180, 0, 204, 46, 172]
abbrev dktX0_fewestOf_1 : List UInt8 := dkwX0_fewestOf_1 ++ []
def dkwX0_fewestOf_0 : List UInt8 := [42, 27, 182, 1, 74, 87, 42, 27, 182, 1, 88, 153, 0, 8, 16, 251, 167, 0, 24, 42, 180, 0, 36, 3]
abbrev dktX0_fewestOf_0 : List UInt8 := dkwX0_fewestOf_0 ++ dktX0_fewestOf_1
theorem dksX0_fewestOf_0 : cX0_fewestOf.data.toList.drop 0 = dktX0_fewestOf_0 := by decide +kernel
theorem dksX0_fewestOf_1 : cX0_fewestOf.data.toList.drop 24 = dktX0_fewestOf_1 := dk_seg dksX0_fewestOf_0 24 rfl rfl
theorem dX0_fewestOf_0 : decode cX0_fewestOf 0 = .ok (.aload_n 0, 1) := dk_42 (dk_at dksX0_fewestOf_0 0 rfl rfl)
theorem dX0_fewestOf_1 : decode cX0_fewestOf 1 = .ok (.iload_n 1, 1) := dk_27 (dk_at dksX0_fewestOf_0 1 rfl rfl)
theorem dX0_fewestOf_2 : decode cX0_fewestOf 2 = .ok (.invokevirtual 330, 3) := dk_182 1 74 (dk_at dksX0_fewestOf_0 2 rfl rfl)
theorem dX0_fewestOf_5 : decode cX0_fewestOf 5 = .ok (.pop, 1) := dk_87 (dk_at dksX0_fewestOf_0 5 rfl rfl)
theorem dX0_fewestOf_6 : decode cX0_fewestOf 6 = .ok (.aload_n 0, 1) := dk_42 (dk_at dksX0_fewestOf_0 6 rfl rfl)
theorem dX0_fewestOf_7 : decode cX0_fewestOf 7 = .ok (.iload_n 1, 1) := dk_27 (dk_at dksX0_fewestOf_0 7 rfl rfl)
theorem dX0_fewestOf_8 : decode cX0_fewestOf 8 = .ok (.invokevirtual 344, 3) := dk_182 1 88 (dk_at dksX0_fewestOf_0 8 rfl rfl)
theorem dX0_fewestOf_11 : decode cX0_fewestOf 11 = .ok (.ifCond .eq 8, 3) := dk_153 0 8 (dk_at dksX0_fewestOf_0 11 rfl rfl)
theorem dX0_fewestOf_14 : decode cX0_fewestOf 14 = .ok (.bipush (-5), 2) := dk_16 251 (dk_at dksX0_fewestOf_0 14 rfl rfl)
theorem dX0_fewestOf_16 : decode cX0_fewestOf 16 = .ok (.goto 24, 3) := dk_167 0 24 (dk_at dksX0_fewestOf_0 16 rfl rfl)
theorem dX0_fewestOf_19 : decode cX0_fewestOf 19 = .ok (.aload_n 0, 1) := dk_42 (dk_at dksX0_fewestOf_0 19 rfl rfl)
theorem dX0_fewestOf_20 : decode cX0_fewestOf 20 = .ok (.getfield 36, 3) := dk_180 0 36 (dk_at dksX0_fewestOf_0 20 rfl rfl)
theorem dX0_fewestOf_23 : decode cX0_fewestOf 23 = .ok (.iconst 0, 1) := dk_3 (dk_at dksX0_fewestOf_0 23 rfl rfl)
theorem dX0_fewestOf_24 : decode cX0_fewestOf 24 = .ok (.aaload, 1) := dk_50 (dk_at dksX0_fewestOf_1 0 rfl rfl)
theorem dX0_fewestOf_25 : decode cX0_fewestOf 25 = .ok (.aload_n 0, 1) := dk_42 (dk_at dksX0_fewestOf_1 1 rfl rfl)
theorem dX0_fewestOf_26 : decode cX0_fewestOf 26 = .ok (.getfield 10, 3) := dk_180 0 10 (dk_at dksX0_fewestOf_1 2 rfl rfl)
theorem dX0_fewestOf_29 : decode cX0_fewestOf 29 = .ok (.iload_n 1, 1) := dk_27 (dk_at dksX0_fewestOf_1 5 rfl rfl)
theorem dX0_fewestOf_30 : decode cX0_fewestOf 30 = .ok (.invokevirtual 121, 3) := dk_182 0 121 (dk_at dksX0_fewestOf_1 6 rfl rfl)
theorem dX0_fewestOf_33 : decode cX0_fewestOf 33 = .ok (.checkcast 111, 3) := dk_192 0 111 (dk_at dksX0_fewestOf_1 9 rfl rfl)
theorem dX0_fewestOf_36 : decode cX0_fewestOf 36 = .ok (.getfield 204, 3) := dk_180 0 204 (dk_at dksX0_fewestOf_1 12 rfl rfl)
theorem dX0_fewestOf_39 : decode cX0_fewestOf 39 = .ok (.iaload, 1) := dk_46 (dk_at dksX0_fewestOf_1 15 rfl rfl)
theorem dX0_fewestOf_40 : decode cX0_fewestOf 40 = .ok (.ireturn, 1) := dk_172 (dk_at dksX0_fewestOf_1 16 rfl rfl)
abbrev cX0_weaveDraft : ByteArray := prog_1_method_62_code
def yX0_weaveDraft : MethodName := ⟨RX0, "weaveDraft", "()I"⟩
def dkwX0_weaveDraft_7 : List UInt8 := [182, 0, 232, 87, 167, 255, 229, 42, 180, 0, 16, 182, 0, 86, 172]
abbrev dktX0_weaveDraft_7 : List UInt8 := dkwX0_weaveDraft_7 ++ []
def dkwX0_weaveDraft_6 : List UInt8 := [185, 0, 101, 1, 0, 153, 0, 24, 45, 185, 0, 107, 1, 0, 192, 1, 99, 58, 4, 42, 25, 4]
abbrev dktX0_weaveDraft_6 : List UInt8 := dkwX0_weaveDraft_6 ++ dktX0_weaveDraft_7
def dkwX0_weaveDraft_5 : List UInt8 := [184, 0, 138, 153, 0, 6, 16, 250, 172, 44, 25, 4, 184, 0, 141, 167, 255, 218, 43, 182, 0, 97, 78, 45]
abbrev dktX0_weaveDraft_5 : List UInt8 := dkwX0_weaveDraft_5 ++ dktX0_weaveDraft_6
def dkwX0_weaveDraft_4 : List UInt8 := [185, 0, 101, 1, 0, 153, 0, 35, 45, 185, 0, 107, 1, 0, 192, 1, 99, 58, 4, 44, 25, 4]
abbrev dktX0_weaveDraft_4 : List UInt8 := dkwX0_weaveDraft_4 ++ dktX0_weaveDraft_5
def dkwX0_weaveDraft_3 : List UInt8 := [87, 132, 2, 1, 167, 255, 235, 42, 180, 0, 10, 184, 1, 9, 77, 43, 182, 0, 97, 78, 45]
abbrev dktX0_weaveDraft_3 : List UInt8 := dkwX0_weaveDraft_3 ++ dktX0_weaveDraft_4
def dkwX0_weaveDraft_2 : List UInt8 := [89, 183, 0, 9, 76, 3, 61, 28, 42, 180, 1, 60, 162, 0, 19, 43, 42, 28, 182, 1, 96, 182, 0, 117]
abbrev dktX0_weaveDraft_2 : List UInt8 := dkwX0_weaveDraft_2 ++ dktX0_weaveDraft_3
def dkwX0_weaveDraft_1 : List UInt8 := [172, 42, 180, 0, 16, 182, 0, 86, 42, 180, 1, 60, 96, 16, 50, 164, 0, 6, 16, 252, 172, 187, 0, 7]
abbrev dktX0_weaveDraft_1 : List UInt8 := dkwX0_weaveDraft_1 ++ dktX0_weaveDraft_2
def dkwX0_weaveDraft_0 : List UInt8 := [42, 182, 0, 90, 153, 0, 18, 42, 180, 1, 60, 153, 0, 11, 42, 2, 182, 1, 94, 156, 0, 6, 16, 253]
abbrev dktX0_weaveDraft_0 : List UInt8 := dkwX0_weaveDraft_0 ++ dktX0_weaveDraft_1
theorem dksX0_weaveDraft_0 : cX0_weaveDraft.data.toList.drop 0 = dktX0_weaveDraft_0 := by decide +kernel
theorem dksX0_weaveDraft_1 : cX0_weaveDraft.data.toList.drop 24 = dktX0_weaveDraft_1 := dk_seg dksX0_weaveDraft_0 24 rfl rfl
theorem dksX0_weaveDraft_2 : cX0_weaveDraft.data.toList.drop 48 = dktX0_weaveDraft_2 := dk_seg dksX0_weaveDraft_1 24 rfl rfl
theorem dksX0_weaveDraft_3 : cX0_weaveDraft.data.toList.drop 72 = dktX0_weaveDraft_3 := dk_seg dksX0_weaveDraft_2 24 rfl rfl
theorem dksX0_weaveDraft_4 : cX0_weaveDraft.data.toList.drop 93 = dktX0_weaveDraft_4 := dk_seg dksX0_weaveDraft_3 21 rfl rfl
theorem dksX0_weaveDraft_5 : cX0_weaveDraft.data.toList.drop 115 = dktX0_weaveDraft_5 := dk_seg dksX0_weaveDraft_4 22 rfl rfl
theorem dksX0_weaveDraft_6 : cX0_weaveDraft.data.toList.drop 139 = dktX0_weaveDraft_6 := dk_seg dksX0_weaveDraft_5 24 rfl rfl
theorem dksX0_weaveDraft_7 : cX0_weaveDraft.data.toList.drop 161 = dktX0_weaveDraft_7 := dk_seg dksX0_weaveDraft_6 22 rfl rfl
theorem dX0_weaveDraft_0 : decode cX0_weaveDraft 0 = .ok (.aload_n 0, 1) := dk_42 (dk_at dksX0_weaveDraft_0 0 rfl rfl)
theorem dX0_weaveDraft_1 : decode cX0_weaveDraft 1 = .ok (.invokevirtual 90, 3) := dk_182 0 90 (dk_at dksX0_weaveDraft_0 1 rfl rfl)
theorem dX0_weaveDraft_4 : decode cX0_weaveDraft 4 = .ok (.ifCond .eq 18, 3) := dk_153 0 18 (dk_at dksX0_weaveDraft_0 4 rfl rfl)
theorem dX0_weaveDraft_7 : decode cX0_weaveDraft 7 = .ok (.aload_n 0, 1) := dk_42 (dk_at dksX0_weaveDraft_0 7 rfl rfl)
theorem dX0_weaveDraft_8 : decode cX0_weaveDraft 8 = .ok (.getfield 316, 3) := dk_180 1 60 (dk_at dksX0_weaveDraft_0 8 rfl rfl)
theorem dX0_weaveDraft_11 : decode cX0_weaveDraft 11 = .ok (.ifCond .eq 11, 3) := dk_153 0 11 (dk_at dksX0_weaveDraft_0 11 rfl rfl)
theorem dX0_weaveDraft_14 : decode cX0_weaveDraft 14 = .ok (.aload_n 0, 1) := dk_42 (dk_at dksX0_weaveDraft_0 14 rfl rfl)
theorem dX0_weaveDraft_15 : decode cX0_weaveDraft 15 = .ok (.iconst (-1), 1) := dk_2 (dk_at dksX0_weaveDraft_0 15 rfl rfl)
theorem dX0_weaveDraft_16 : decode cX0_weaveDraft 16 = .ok (.invokevirtual 350, 3) := dk_182 1 94 (dk_at dksX0_weaveDraft_0 16 rfl rfl)
theorem dX0_weaveDraft_19 : decode cX0_weaveDraft 19 = .ok (.ifCond .ge 6, 3) := dk_156 0 6 (dk_at dksX0_weaveDraft_0 19 rfl rfl)
theorem dX0_weaveDraft_22 : decode cX0_weaveDraft 22 = .ok (.bipush (-3), 2) := dk_16 253 (dk_at dksX0_weaveDraft_0 22 rfl rfl)
theorem dX0_weaveDraft_24 : decode cX0_weaveDraft 24 = .ok (.ireturn, 1) := dk_172 (dk_at dksX0_weaveDraft_1 0 rfl rfl)
theorem dX0_weaveDraft_25 : decode cX0_weaveDraft 25 = .ok (.aload_n 0, 1) := dk_42 (dk_at dksX0_weaveDraft_1 1 rfl rfl)
theorem dX0_weaveDraft_26 : decode cX0_weaveDraft 26 = .ok (.getfield 16, 3) := dk_180 0 16 (dk_at dksX0_weaveDraft_1 2 rfl rfl)
theorem dX0_weaveDraft_29 : decode cX0_weaveDraft 29 = .ok (.invokevirtual 86, 3) := dk_182 0 86 (dk_at dksX0_weaveDraft_1 5 rfl rfl)
theorem dX0_weaveDraft_32 : decode cX0_weaveDraft 32 = .ok (.aload_n 0, 1) := dk_42 (dk_at dksX0_weaveDraft_1 8 rfl rfl)
theorem dX0_weaveDraft_33 : decode cX0_weaveDraft 33 = .ok (.getfield 316, 3) := dk_180 1 60 (dk_at dksX0_weaveDraft_1 9 rfl rfl)
theorem dX0_weaveDraft_36 : decode cX0_weaveDraft 36 = .ok (.iadd, 1) := dk_96 (dk_at dksX0_weaveDraft_1 12 rfl rfl)
theorem dX0_weaveDraft_37 : decode cX0_weaveDraft 37 = .ok (.bipush 50, 2) := dk_16 50 (dk_at dksX0_weaveDraft_1 13 rfl rfl)
theorem dX0_weaveDraft_39 : decode cX0_weaveDraft 39 = .ok (.if_icmp .le 6, 3) := dk_164 0 6 (dk_at dksX0_weaveDraft_1 15 rfl rfl)
theorem dX0_weaveDraft_42 : decode cX0_weaveDraft 42 = .ok (.bipush (-4), 2) := dk_16 252 (dk_at dksX0_weaveDraft_1 18 rfl rfl)
theorem dX0_weaveDraft_44 : decode cX0_weaveDraft 44 = .ok (.ireturn, 1) := dk_172 (dk_at dksX0_weaveDraft_1 20 rfl rfl)
theorem dX0_weaveDraft_45 : decode cX0_weaveDraft 45 = .ok (.new 7, 3) := dk_187 0 7 (dk_at dksX0_weaveDraft_1 21 rfl rfl)
theorem dX0_weaveDraft_48 : decode cX0_weaveDraft 48 = .ok (.dup, 1) := dk_89 (dk_at dksX0_weaveDraft_2 0 rfl rfl)
theorem dX0_weaveDraft_49 : decode cX0_weaveDraft 49 = .ok (.invokespecial 9, 3) := dk_183 0 9 (dk_at dksX0_weaveDraft_2 1 rfl rfl)
theorem dX0_weaveDraft_52 : decode cX0_weaveDraft 52 = .ok (.astore_n 1, 1) := dk_76 (dk_at dksX0_weaveDraft_2 4 rfl rfl)
theorem dX0_weaveDraft_53 : decode cX0_weaveDraft 53 = .ok (.iconst 0, 1) := dk_3 (dk_at dksX0_weaveDraft_2 5 rfl rfl)
theorem dX0_weaveDraft_54 : decode cX0_weaveDraft 54 = .ok (.istore_n 2, 1) := dk_61 (dk_at dksX0_weaveDraft_2 6 rfl rfl)
theorem dX0_weaveDraft_55 : decode cX0_weaveDraft 55 = .ok (.iload_n 2, 1) := dk_28 (dk_at dksX0_weaveDraft_2 7 rfl rfl)
theorem dX0_weaveDraft_56 : decode cX0_weaveDraft 56 = .ok (.aload_n 0, 1) := dk_42 (dk_at dksX0_weaveDraft_2 8 rfl rfl)
theorem dX0_weaveDraft_57 : decode cX0_weaveDraft 57 = .ok (.getfield 316, 3) := dk_180 1 60 (dk_at dksX0_weaveDraft_2 9 rfl rfl)
theorem dX0_weaveDraft_60 : decode cX0_weaveDraft 60 = .ok (.if_icmp .ge 19, 3) := dk_162 0 19 (dk_at dksX0_weaveDraft_2 12 rfl rfl)
theorem dX0_weaveDraft_63 : decode cX0_weaveDraft 63 = .ok (.aload_n 1, 1) := dk_43 (dk_at dksX0_weaveDraft_2 15 rfl rfl)
theorem dX0_weaveDraft_64 : decode cX0_weaveDraft 64 = .ok (.aload_n 0, 1) := dk_42 (dk_at dksX0_weaveDraft_2 16 rfl rfl)
theorem dX0_weaveDraft_65 : decode cX0_weaveDraft 65 = .ok (.iload_n 2, 1) := dk_28 (dk_at dksX0_weaveDraft_2 17 rfl rfl)
theorem dX0_weaveDraft_66 : decode cX0_weaveDraft 66 = .ok (.invokevirtual 352, 3) := dk_182 1 96 (dk_at dksX0_weaveDraft_2 18 rfl rfl)
theorem dX0_weaveDraft_69 : decode cX0_weaveDraft 69 = .ok (.invokevirtual 117, 3) := dk_182 0 117 (dk_at dksX0_weaveDraft_2 21 rfl rfl)
theorem dX0_weaveDraft_72 : decode cX0_weaveDraft 72 = .ok (.pop, 1) := dk_87 (dk_at dksX0_weaveDraft_3 0 rfl rfl)
theorem dX0_weaveDraft_73 : decode cX0_weaveDraft 73 = .ok (.iinc 2 1, 3) := dk_132 2 1 (dk_at dksX0_weaveDraft_3 1 rfl rfl)
theorem dX0_weaveDraft_76 : decode cX0_weaveDraft 76 = .ok (.goto (-21), 3) := dk_167 255 235 (dk_at dksX0_weaveDraft_3 4 rfl rfl)
theorem dX0_weaveDraft_79 : decode cX0_weaveDraft 79 = .ok (.aload_n 0, 1) := dk_42 (dk_at dksX0_weaveDraft_3 7 rfl rfl)
theorem dX0_weaveDraft_80 : decode cX0_weaveDraft 80 = .ok (.getfield 10, 3) := dk_180 0 10 (dk_at dksX0_weaveDraft_3 8 rfl rfl)
theorem dX0_weaveDraft_83 : decode cX0_weaveDraft 83 = .ok (.invokestatic 265, 3) := dk_184 1 9 (dk_at dksX0_weaveDraft_3 11 rfl rfl)
theorem dX0_weaveDraft_86 : decode cX0_weaveDraft 86 = .ok (.astore_n 2, 1) := dk_77 (dk_at dksX0_weaveDraft_3 14 rfl rfl)
theorem dX0_weaveDraft_87 : decode cX0_weaveDraft 87 = .ok (.aload_n 1, 1) := dk_43 (dk_at dksX0_weaveDraft_3 15 rfl rfl)
theorem dX0_weaveDraft_88 : decode cX0_weaveDraft 88 = .ok (.invokevirtual 97, 3) := dk_182 0 97 (dk_at dksX0_weaveDraft_3 16 rfl rfl)
theorem dX0_weaveDraft_91 : decode cX0_weaveDraft 91 = .ok (.astore_n 3, 1) := dk_78 (dk_at dksX0_weaveDraft_3 19 rfl rfl)
theorem dX0_weaveDraft_92 : decode cX0_weaveDraft 92 = .ok (.aload_n 3, 1) := dk_45 (dk_at dksX0_weaveDraft_3 20 rfl rfl)
theorem dX0_weaveDraft_93 : decode cX0_weaveDraft 93 = .ok (.invokeinterface 101 1, 5) := by decide +kernel
theorem dX0_weaveDraft_98 : decode cX0_weaveDraft 98 = .ok (.ifCond .eq 35, 3) := dk_153 0 35 (dk_at dksX0_weaveDraft_4 5 rfl rfl)
theorem dX0_weaveDraft_101 : decode cX0_weaveDraft 101 = .ok (.aload_n 3, 1) := dk_45 (dk_at dksX0_weaveDraft_4 8 rfl rfl)
theorem dX0_weaveDraft_102 : decode cX0_weaveDraft 102 = .ok (.invokeinterface 107 1, 5) := by decide +kernel
theorem dX0_weaveDraft_107 : decode cX0_weaveDraft 107 = .ok (.checkcast 355, 3) := dk_192 1 99 (dk_at dksX0_weaveDraft_4 14 rfl rfl)
theorem dX0_weaveDraft_110 : decode cX0_weaveDraft 110 = .ok (.astore 4, 2) := dk_58 4 (dk_at dksX0_weaveDraft_4 17 rfl rfl)
theorem dX0_weaveDraft_112 : decode cX0_weaveDraft 112 = .ok (.aload_n 2, 1) := dk_44 (dk_at dksX0_weaveDraft_4 19 rfl rfl)
theorem dX0_weaveDraft_113 : decode cX0_weaveDraft 113 = .ok (.aload 4, 2) := dk_25 4 (dk_at dksX0_weaveDraft_4 20 rfl rfl)
theorem dX0_weaveDraft_115 : decode cX0_weaveDraft 115 = .ok (.invokestatic 138, 3) := dk_184 0 138 (dk_at dksX0_weaveDraft_5 0 rfl rfl)
theorem dX0_weaveDraft_118 : decode cX0_weaveDraft 118 = .ok (.ifCond .eq 6, 3) := dk_153 0 6 (dk_at dksX0_weaveDraft_5 3 rfl rfl)
theorem dX0_weaveDraft_121 : decode cX0_weaveDraft 121 = .ok (.bipush (-6), 2) := dk_16 250 (dk_at dksX0_weaveDraft_5 6 rfl rfl)
theorem dX0_weaveDraft_123 : decode cX0_weaveDraft 123 = .ok (.ireturn, 1) := dk_172 (dk_at dksX0_weaveDraft_5 8 rfl rfl)
theorem dX0_weaveDraft_124 : decode cX0_weaveDraft 124 = .ok (.aload_n 2, 1) := dk_44 (dk_at dksX0_weaveDraft_5 9 rfl rfl)
theorem dX0_weaveDraft_125 : decode cX0_weaveDraft 125 = .ok (.aload 4, 2) := dk_25 4 (dk_at dksX0_weaveDraft_5 10 rfl rfl)
theorem dX0_weaveDraft_127 : decode cX0_weaveDraft 127 = .ok (.invokestatic 141, 3) := dk_184 0 141 (dk_at dksX0_weaveDraft_5 12 rfl rfl)
theorem dX0_weaveDraft_130 : decode cX0_weaveDraft 130 = .ok (.goto (-38), 3) := dk_167 255 218 (dk_at dksX0_weaveDraft_5 15 rfl rfl)
theorem dX0_weaveDraft_133 : decode cX0_weaveDraft 133 = .ok (.aload_n 1, 1) := dk_43 (dk_at dksX0_weaveDraft_5 18 rfl rfl)
theorem dX0_weaveDraft_134 : decode cX0_weaveDraft 134 = .ok (.invokevirtual 97, 3) := dk_182 0 97 (dk_at dksX0_weaveDraft_5 19 rfl rfl)
theorem dX0_weaveDraft_137 : decode cX0_weaveDraft 137 = .ok (.astore_n 3, 1) := dk_78 (dk_at dksX0_weaveDraft_5 22 rfl rfl)
theorem dX0_weaveDraft_138 : decode cX0_weaveDraft 138 = .ok (.aload_n 3, 1) := dk_45 (dk_at dksX0_weaveDraft_5 23 rfl rfl)
theorem dX0_weaveDraft_139 : decode cX0_weaveDraft 139 = .ok (.invokeinterface 101 1, 5) := by decide +kernel
theorem dX0_weaveDraft_144 : decode cX0_weaveDraft 144 = .ok (.ifCond .eq 24, 3) := dk_153 0 24 (dk_at dksX0_weaveDraft_6 5 rfl rfl)
theorem dX0_weaveDraft_147 : decode cX0_weaveDraft 147 = .ok (.aload_n 3, 1) := dk_45 (dk_at dksX0_weaveDraft_6 8 rfl rfl)
theorem dX0_weaveDraft_148 : decode cX0_weaveDraft 148 = .ok (.invokeinterface 107 1, 5) := by decide +kernel
theorem dX0_weaveDraft_153 : decode cX0_weaveDraft 153 = .ok (.checkcast 355, 3) := dk_192 1 99 (dk_at dksX0_weaveDraft_6 14 rfl rfl)
theorem dX0_weaveDraft_156 : decode cX0_weaveDraft 156 = .ok (.astore 4, 2) := dk_58 4 (dk_at dksX0_weaveDraft_6 17 rfl rfl)
theorem dX0_weaveDraft_158 : decode cX0_weaveDraft 158 = .ok (.aload_n 0, 1) := dk_42 (dk_at dksX0_weaveDraft_6 19 rfl rfl)
theorem dX0_weaveDraft_159 : decode cX0_weaveDraft 159 = .ok (.aload 4, 2) := dk_25 4 (dk_at dksX0_weaveDraft_6 20 rfl rfl)
theorem dX0_weaveDraft_161 : decode cX0_weaveDraft 161 = .ok (.invokevirtual 232, 3) := dk_182 0 232 (dk_at dksX0_weaveDraft_7 0 rfl rfl)
theorem dX0_weaveDraft_164 : decode cX0_weaveDraft 164 = .ok (.pop, 1) := dk_87 (dk_at dksX0_weaveDraft_7 3 rfl rfl)
theorem dX0_weaveDraft_165 : decode cX0_weaveDraft 165 = .ok (.goto (-27), 3) := dk_167 255 229 (dk_at dksX0_weaveDraft_7 4 rfl rfl)
theorem dX0_weaveDraft_168 : decode cX0_weaveDraft 168 = .ok (.aload_n 0, 1) := dk_42 (dk_at dksX0_weaveDraft_7 7 rfl rfl)
theorem dX0_weaveDraft_169 : decode cX0_weaveDraft 169 = .ok (.getfield 16, 3) := dk_180 0 16 (dk_at dksX0_weaveDraft_7 8 rfl rfl)
theorem dX0_weaveDraft_172 : decode cX0_weaveDraft 172 = .ok (.invokevirtual 86, 3) := dk_182 0 86 (dk_at dksX0_weaveDraft_7 11 rfl rfl)
theorem dX0_weaveDraft_175 : decode cX0_weaveDraft 175 = .ok (.ireturn, 1) := dk_172 (dk_at dksX0_weaveDraft_7 14 rfl rfl)
abbrev cX0_draftedPick : ByteArray := prog_1_method_61_code
def yX0_draftedPick : MethodName := ⟨RX0, "draftedPick", "(I)[LCardLoom$Turning;"⟩
def dkwX0_draftedPick_1 : List UInt8 := [83, 132, 3, 1, 167, 255, 238, 44, 176]
abbrev dktX0_draftedPick_1 : List UInt8 := dkwX0_draftedPick_1 ++ []
def dkwX0_draftedPick_0 : List UInt8 := [42, 182, 0, 90, 189, 0, 62, 77, 3, 62, 29, 44, 190, 162, 0, 18, 44, 29, 42, 27, 29, 182, 1, 85]
abbrev dktX0_draftedPick_0 : List UInt8 := dkwX0_draftedPick_0 ++ dktX0_draftedPick_1
theorem dksX0_draftedPick_0 : cX0_draftedPick.data.toList.drop 0 = dktX0_draftedPick_0 := by decide +kernel
theorem dksX0_draftedPick_1 : cX0_draftedPick.data.toList.drop 24 = dktX0_draftedPick_1 := dk_seg dksX0_draftedPick_0 24 rfl rfl
theorem dX0_draftedPick_0 : decode cX0_draftedPick 0 = .ok (.aload_n 0, 1) := dk_42 (dk_at dksX0_draftedPick_0 0 rfl rfl)
theorem dX0_draftedPick_1 : decode cX0_draftedPick 1 = .ok (.invokevirtual 90, 3) := dk_182 0 90 (dk_at dksX0_draftedPick_0 1 rfl rfl)
theorem dX0_draftedPick_4 : decode cX0_draftedPick 4 = .ok (.anewarray 62, 3) := dk_189 0 62 (dk_at dksX0_draftedPick_0 4 rfl rfl)
theorem dX0_draftedPick_7 : decode cX0_draftedPick 7 = .ok (.astore_n 2, 1) := dk_77 (dk_at dksX0_draftedPick_0 7 rfl rfl)
theorem dX0_draftedPick_8 : decode cX0_draftedPick 8 = .ok (.iconst 0, 1) := dk_3 (dk_at dksX0_draftedPick_0 8 rfl rfl)
theorem dX0_draftedPick_9 : decode cX0_draftedPick 9 = .ok (.istore_n 3, 1) := dk_62 (dk_at dksX0_draftedPick_0 9 rfl rfl)
theorem dX0_draftedPick_10 : decode cX0_draftedPick 10 = .ok (.iload_n 3, 1) := dk_29 (dk_at dksX0_draftedPick_0 10 rfl rfl)
theorem dX0_draftedPick_11 : decode cX0_draftedPick 11 = .ok (.aload_n 2, 1) := dk_44 (dk_at dksX0_draftedPick_0 11 rfl rfl)
theorem dX0_draftedPick_12 : decode cX0_draftedPick 12 = .ok (.arraylength, 1) := dk_190 (dk_at dksX0_draftedPick_0 12 rfl rfl)
theorem dX0_draftedPick_13 : decode cX0_draftedPick 13 = .ok (.if_icmp .ge 18, 3) := dk_162 0 18 (dk_at dksX0_draftedPick_0 13 rfl rfl)
theorem dX0_draftedPick_16 : decode cX0_draftedPick 16 = .ok (.aload_n 2, 1) := dk_44 (dk_at dksX0_draftedPick_0 16 rfl rfl)
theorem dX0_draftedPick_17 : decode cX0_draftedPick 17 = .ok (.iload_n 3, 1) := dk_29 (dk_at dksX0_draftedPick_0 17 rfl rfl)
theorem dX0_draftedPick_18 : decode cX0_draftedPick 18 = .ok (.aload_n 0, 1) := dk_42 (dk_at dksX0_draftedPick_0 18 rfl rfl)
theorem dX0_draftedPick_19 : decode cX0_draftedPick 19 = .ok (.iload_n 1, 1) := dk_27 (dk_at dksX0_draftedPick_0 19 rfl rfl)
theorem dX0_draftedPick_20 : decode cX0_draftedPick 20 = .ok (.iload_n 3, 1) := dk_29 (dk_at dksX0_draftedPick_0 20 rfl rfl)
theorem dX0_draftedPick_21 : decode cX0_draftedPick 21 = .ok (.invokevirtual 341, 3) := dk_182 1 85 (dk_at dksX0_draftedPick_0 21 rfl rfl)
theorem dX0_draftedPick_24 : decode cX0_draftedPick 24 = .ok (.aastore, 1) := dk_83 (dk_at dksX0_draftedPick_1 0 rfl rfl)
theorem dX0_draftedPick_25 : decode cX0_draftedPick 25 = .ok (.iinc 3 1, 3) := dk_132 3 1 (dk_at dksX0_draftedPick_1 1 rfl rfl)
theorem dX0_draftedPick_28 : decode cX0_draftedPick 28 = .ok (.goto (-18), 3) := dk_167 255 238 (dk_at dksX0_draftedPick_1 4 rfl rfl)
theorem dX0_draftedPick_31 : decode cX0_draftedPick 31 = .ok (.aload_n 2, 1) := dk_44 (dk_at dksX0_draftedPick_1 7 rfl rfl)
theorem dX0_draftedPick_32 : decode cX0_draftedPick 32 = .ok (.areturn, 1) := dk_176 (dk_at dksX0_draftedPick_1 8 rfl rfl)
abbrev cX0_matches : ByteArray := prog_1_method_63_code
def yX0_matches : MethodName := ⟨RX0, "matches", "(I)I"⟩
def dkwX0_matches_4 : List UInt8 := [167, 255, 175, 28, 172]
abbrev dktX0_matches_4 : List UInt8 := dkwX0_matches_4 ++ []
def dkwX0_matches_3 : List UInt8 := [50, 21, 4, 46, 160, 0, 7, 4, 167, 0, 4, 3, 96, 61, 132, 4, 1, 167, 255, 205, 132, 3, 1]
abbrev dktX0_matches_3 : List UInt8 := dkwX0_matches_3 ++ dktX0_matches_4
def dkwX0_matches_2 : List UInt8 := [42, 180, 0, 16, 27, 29, 96, 182, 0, 121, 192, 0, 144, 180, 1, 0, 21, 4, 46, 42, 180, 0, 33, 29]
abbrev dktX0_matches_2 : List UInt8 := dkwX0_matches_2 ++ dktX0_matches_3
def dkwX0_matches_1 : List UInt8 := [96, 42, 180, 0, 16, 182, 0, 86, 162, 0, 66, 3, 54, 4, 21, 4, 42, 182, 0, 90, 162, 0, 48, 28]
abbrev dktX0_matches_1 : List UInt8 := dkwX0_matches_1 ++ dktX0_matches_2
def dkwX0_matches_0 : List UInt8 := [42, 27, 182, 0, 249, 154, 0, 5, 2, 172, 3, 61, 3, 62, 29, 42, 180, 1, 60, 162, 0, 79, 27, 29]
abbrev dktX0_matches_0 : List UInt8 := dkwX0_matches_0 ++ dktX0_matches_1
theorem dksX0_matches_0 : cX0_matches.data.toList.drop 0 = dktX0_matches_0 := by decide +kernel
theorem dksX0_matches_1 : cX0_matches.data.toList.drop 24 = dktX0_matches_1 := dk_seg dksX0_matches_0 24 rfl rfl
theorem dksX0_matches_2 : cX0_matches.data.toList.drop 48 = dktX0_matches_2 := dk_seg dksX0_matches_1 24 rfl rfl
theorem dksX0_matches_3 : cX0_matches.data.toList.drop 72 = dktX0_matches_3 := dk_seg dksX0_matches_2 24 rfl rfl
theorem dksX0_matches_4 : cX0_matches.data.toList.drop 95 = dktX0_matches_4 := dk_seg dksX0_matches_3 23 rfl rfl
theorem dX0_matches_0 : decode cX0_matches 0 = .ok (.aload_n 0, 1) := dk_42 (dk_at dksX0_matches_0 0 rfl rfl)
theorem dX0_matches_1 : decode cX0_matches 1 = .ok (.iload_n 1, 1) := dk_27 (dk_at dksX0_matches_0 1 rfl rfl)
theorem dX0_matches_2 : decode cX0_matches 2 = .ok (.invokevirtual 249, 3) := dk_182 0 249 (dk_at dksX0_matches_0 2 rfl rfl)
theorem dX0_matches_5 : decode cX0_matches 5 = .ok (.ifCond .ne 5, 3) := dk_154 0 5 (dk_at dksX0_matches_0 5 rfl rfl)
theorem dX0_matches_8 : decode cX0_matches 8 = .ok (.iconst (-1), 1) := dk_2 (dk_at dksX0_matches_0 8 rfl rfl)
theorem dX0_matches_9 : decode cX0_matches 9 = .ok (.ireturn, 1) := dk_172 (dk_at dksX0_matches_0 9 rfl rfl)
theorem dX0_matches_10 : decode cX0_matches 10 = .ok (.iconst 0, 1) := dk_3 (dk_at dksX0_matches_0 10 rfl rfl)
theorem dX0_matches_11 : decode cX0_matches 11 = .ok (.istore_n 2, 1) := dk_61 (dk_at dksX0_matches_0 11 rfl rfl)
theorem dX0_matches_12 : decode cX0_matches 12 = .ok (.iconst 0, 1) := dk_3 (dk_at dksX0_matches_0 12 rfl rfl)
theorem dX0_matches_13 : decode cX0_matches 13 = .ok (.istore_n 3, 1) := dk_62 (dk_at dksX0_matches_0 13 rfl rfl)
theorem dX0_matches_14 : decode cX0_matches 14 = .ok (.iload_n 3, 1) := dk_29 (dk_at dksX0_matches_0 14 rfl rfl)
theorem dX0_matches_15 : decode cX0_matches 15 = .ok (.aload_n 0, 1) := dk_42 (dk_at dksX0_matches_0 15 rfl rfl)
theorem dX0_matches_16 : decode cX0_matches 16 = .ok (.getfield 316, 3) := dk_180 1 60 (dk_at dksX0_matches_0 16 rfl rfl)
theorem dX0_matches_19 : decode cX0_matches 19 = .ok (.if_icmp .ge 79, 3) := dk_162 0 79 (dk_at dksX0_matches_0 19 rfl rfl)
theorem dX0_matches_22 : decode cX0_matches 22 = .ok (.iload_n 1, 1) := dk_27 (dk_at dksX0_matches_0 22 rfl rfl)
theorem dX0_matches_23 : decode cX0_matches 23 = .ok (.iload_n 3, 1) := dk_29 (dk_at dksX0_matches_0 23 rfl rfl)
theorem dX0_matches_24 : decode cX0_matches 24 = .ok (.iadd, 1) := dk_96 (dk_at dksX0_matches_1 0 rfl rfl)
theorem dX0_matches_25 : decode cX0_matches 25 = .ok (.aload_n 0, 1) := dk_42 (dk_at dksX0_matches_1 1 rfl rfl)
theorem dX0_matches_26 : decode cX0_matches 26 = .ok (.getfield 16, 3) := dk_180 0 16 (dk_at dksX0_matches_1 2 rfl rfl)
theorem dX0_matches_29 : decode cX0_matches 29 = .ok (.invokevirtual 86, 3) := dk_182 0 86 (dk_at dksX0_matches_1 5 rfl rfl)
theorem dX0_matches_32 : decode cX0_matches 32 = .ok (.if_icmp .ge 66, 3) := dk_162 0 66 (dk_at dksX0_matches_1 8 rfl rfl)
theorem dX0_matches_35 : decode cX0_matches 35 = .ok (.iconst 0, 1) := dk_3 (dk_at dksX0_matches_1 11 rfl rfl)
theorem dX0_matches_36 : decode cX0_matches 36 = .ok (.istore 4, 2) := dk_54 4 (dk_at dksX0_matches_1 12 rfl rfl)
theorem dX0_matches_38 : decode cX0_matches 38 = .ok (.iload 4, 2) := dk_21 4 (dk_at dksX0_matches_1 14 rfl rfl)
theorem dX0_matches_40 : decode cX0_matches 40 = .ok (.aload_n 0, 1) := dk_42 (dk_at dksX0_matches_1 16 rfl rfl)
theorem dX0_matches_41 : decode cX0_matches 41 = .ok (.invokevirtual 90, 3) := dk_182 0 90 (dk_at dksX0_matches_1 17 rfl rfl)
theorem dX0_matches_44 : decode cX0_matches 44 = .ok (.if_icmp .ge 48, 3) := dk_162 0 48 (dk_at dksX0_matches_1 20 rfl rfl)
theorem dX0_matches_47 : decode cX0_matches 47 = .ok (.iload_n 2, 1) := dk_28 (dk_at dksX0_matches_1 23 rfl rfl)
theorem dX0_matches_48 : decode cX0_matches 48 = .ok (.aload_n 0, 1) := dk_42 (dk_at dksX0_matches_2 0 rfl rfl)
theorem dX0_matches_49 : decode cX0_matches 49 = .ok (.getfield 16, 3) := dk_180 0 16 (dk_at dksX0_matches_2 1 rfl rfl)
theorem dX0_matches_52 : decode cX0_matches 52 = .ok (.iload_n 1, 1) := dk_27 (dk_at dksX0_matches_2 4 rfl rfl)
theorem dX0_matches_53 : decode cX0_matches 53 = .ok (.iload_n 3, 1) := dk_29 (dk_at dksX0_matches_2 5 rfl rfl)
theorem dX0_matches_54 : decode cX0_matches 54 = .ok (.iadd, 1) := dk_96 (dk_at dksX0_matches_2 6 rfl rfl)
theorem dX0_matches_55 : decode cX0_matches 55 = .ok (.invokevirtual 121, 3) := dk_182 0 121 (dk_at dksX0_matches_2 7 rfl rfl)
theorem dX0_matches_58 : decode cX0_matches 58 = .ok (.checkcast 144, 3) := dk_192 0 144 (dk_at dksX0_matches_2 10 rfl rfl)
theorem dX0_matches_61 : decode cX0_matches 61 = .ok (.getfield 256, 3) := dk_180 1 0 (dk_at dksX0_matches_2 13 rfl rfl)
theorem dX0_matches_64 : decode cX0_matches 64 = .ok (.iload 4, 2) := dk_21 4 (dk_at dksX0_matches_2 16 rfl rfl)
theorem dX0_matches_66 : decode cX0_matches 66 = .ok (.iaload, 1) := dk_46 (dk_at dksX0_matches_2 18 rfl rfl)
theorem dX0_matches_67 : decode cX0_matches 67 = .ok (.aload_n 0, 1) := dk_42 (dk_at dksX0_matches_2 19 rfl rfl)
theorem dX0_matches_68 : decode cX0_matches 68 = .ok (.getfield 33, 3) := dk_180 0 33 (dk_at dksX0_matches_2 20 rfl rfl)
theorem dX0_matches_71 : decode cX0_matches 71 = .ok (.iload_n 3, 1) := dk_29 (dk_at dksX0_matches_2 23 rfl rfl)
theorem dX0_matches_72 : decode cX0_matches 72 = .ok (.aaload, 1) := dk_50 (dk_at dksX0_matches_3 0 rfl rfl)
theorem dX0_matches_73 : decode cX0_matches 73 = .ok (.iload 4, 2) := dk_21 4 (dk_at dksX0_matches_3 1 rfl rfl)
theorem dX0_matches_75 : decode cX0_matches 75 = .ok (.iaload, 1) := dk_46 (dk_at dksX0_matches_3 3 rfl rfl)
theorem dX0_matches_76 : decode cX0_matches 76 = .ok (.if_icmp .ne 7, 3) := dk_160 0 7 (dk_at dksX0_matches_3 4 rfl rfl)
theorem dX0_matches_79 : decode cX0_matches 79 = .ok (.iconst 1, 1) := dk_4 (dk_at dksX0_matches_3 7 rfl rfl)
theorem dX0_matches_80 : decode cX0_matches 80 = .ok (.goto 4, 3) := dk_167 0 4 (dk_at dksX0_matches_3 8 rfl rfl)
theorem dX0_matches_83 : decode cX0_matches 83 = .ok (.iconst 0, 1) := dk_3 (dk_at dksX0_matches_3 11 rfl rfl)
theorem dX0_matches_84 : decode cX0_matches 84 = .ok (.iadd, 1) := dk_96 (dk_at dksX0_matches_3 12 rfl rfl)
theorem dX0_matches_85 : decode cX0_matches 85 = .ok (.istore_n 2, 1) := dk_61 (dk_at dksX0_matches_3 13 rfl rfl)
theorem dX0_matches_86 : decode cX0_matches 86 = .ok (.iinc 4 1, 3) := dk_132 4 1 (dk_at dksX0_matches_3 14 rfl rfl)
theorem dX0_matches_89 : decode cX0_matches 89 = .ok (.goto (-51), 3) := dk_167 255 205 (dk_at dksX0_matches_3 17 rfl rfl)
theorem dX0_matches_92 : decode cX0_matches 92 = .ok (.iinc 3 1, 3) := dk_132 3 1 (dk_at dksX0_matches_3 20 rfl rfl)
theorem dX0_matches_95 : decode cX0_matches 95 = .ok (.goto (-81), 3) := dk_167 255 175 (dk_at dksX0_matches_4 0 rfl rfl)
theorem dX0_matches_98 : decode cX0_matches 98 = .ok (.iload_n 2, 1) := dk_28 (dk_at dksX0_matches_4 3 rfl rfl)
theorem dX0_matches_99 : decode cX0_matches 99 = .ok (.ireturn, 1) := dk_172 (dk_at dksX0_matches_4 4 rfl rfl)
abbrev cX0_period : ByteArray := prog_1_method_65_code
def yX0_period : MethodName := ⟨RX0, "period", "()I"⟩
def dkwX0_period_1 : List UInt8 := [132, 1, 1, 167, 255, 232, 16, 251, 172]
abbrev dktX0_period_1 : List UInt8 := dkwX0_period_1 ++ []
def dkwX0_period_0 : List UInt8 := [4, 60, 27, 42, 180, 0, 16, 182, 0, 86, 162, 0, 19, 42, 27, 182, 1, 104, 153, 0, 5, 27, 172]
abbrev dktX0_period_0 : List UInt8 := dkwX0_period_0 ++ dktX0_period_1
theorem dksX0_period_0 : cX0_period.data.toList.drop 0 = dktX0_period_0 := by decide +kernel
theorem dksX0_period_1 : cX0_period.data.toList.drop 23 = dktX0_period_1 := dk_seg dksX0_period_0 23 rfl rfl
theorem dX0_period_0 : decode cX0_period 0 = .ok (.iconst 1, 1) := dk_4 (dk_at dksX0_period_0 0 rfl rfl)
theorem dX0_period_1 : decode cX0_period 1 = .ok (.istore_n 1, 1) := dk_60 (dk_at dksX0_period_0 1 rfl rfl)
theorem dX0_period_2 : decode cX0_period 2 = .ok (.iload_n 1, 1) := dk_27 (dk_at dksX0_period_0 2 rfl rfl)
theorem dX0_period_3 : decode cX0_period 3 = .ok (.aload_n 0, 1) := dk_42 (dk_at dksX0_period_0 3 rfl rfl)
theorem dX0_period_4 : decode cX0_period 4 = .ok (.getfield 16, 3) := dk_180 0 16 (dk_at dksX0_period_0 4 rfl rfl)
theorem dX0_period_7 : decode cX0_period 7 = .ok (.invokevirtual 86, 3) := dk_182 0 86 (dk_at dksX0_period_0 7 rfl rfl)
theorem dX0_period_10 : decode cX0_period 10 = .ok (.if_icmp .ge 19, 3) := dk_162 0 19 (dk_at dksX0_period_0 10 rfl rfl)
theorem dX0_period_13 : decode cX0_period 13 = .ok (.aload_n 0, 1) := dk_42 (dk_at dksX0_period_0 13 rfl rfl)
theorem dX0_period_14 : decode cX0_period 14 = .ok (.iload_n 1, 1) := dk_27 (dk_at dksX0_period_0 14 rfl rfl)
theorem dX0_period_15 : decode cX0_period 15 = .ok (.invokevirtual 360, 3) := dk_182 1 104 (dk_at dksX0_period_0 15 rfl rfl)
theorem dX0_period_18 : decode cX0_period 18 = .ok (.ifCond .eq 5, 3) := dk_153 0 5 (dk_at dksX0_period_0 18 rfl rfl)
theorem dX0_period_21 : decode cX0_period 21 = .ok (.iload_n 1, 1) := dk_27 (dk_at dksX0_period_0 21 rfl rfl)
theorem dX0_period_22 : decode cX0_period 22 = .ok (.ireturn, 1) := dk_172 (dk_at dksX0_period_0 22 rfl rfl)
theorem dX0_period_23 : decode cX0_period 23 = .ok (.iinc 1 1, 3) := dk_132 1 1 (dk_at dksX0_period_1 0 rfl rfl)
theorem dX0_period_26 : decode cX0_period 26 = .ok (.goto (-24), 3) := dk_167 255 232 (dk_at dksX0_period_1 3 rfl rfl)
theorem dX0_period_29 : decode cX0_period 29 = .ok (.bipush (-5), 2) := dk_16 251 (dk_at dksX0_period_1 6 rfl rfl)
theorem dX0_period_31 : decode cX0_period 31 = .ok (.ireturn, 1) := dk_172 (dk_at dksX0_period_1 8 rfl rfl)
abbrev cX0_isAgainBy : ByteArray := prog_1_method_64_code
def yX0_isAgainBy : MethodName := ⟨RX0, "isAgainBy", "(I)Z"⟩
def dkwX0_isAgainBy_2 : List UInt8 := [132, 2, 1, 167, 255, 208, 4, 172]
abbrev dktX0_isAgainBy_2 : List UInt8 := dkwX0_isAgainBy_2 ++ []
def dkwX0_isAgainBy_1 : List UInt8 := [192, 0, 144, 42, 180, 0, 16, 28, 27, 96, 182, 0, 121, 192, 0, 144, 182, 1, 100, 154, 0, 5, 3, 172]
abbrev dktX0_isAgainBy_1 : List UInt8 := dkwX0_isAgainBy_1 ++ dktX0_isAgainBy_2
def dkwX0_isAgainBy_0 : List UInt8 := [3, 61, 28, 27, 96, 42, 180, 0, 16, 182, 0, 86, 162, 0, 41, 42, 180, 0, 16, 28, 182, 0, 121]
abbrev dktX0_isAgainBy_0 : List UInt8 := dkwX0_isAgainBy_0 ++ dktX0_isAgainBy_1
theorem dksX0_isAgainBy_0 : cX0_isAgainBy.data.toList.drop 0 = dktX0_isAgainBy_0 := by decide +kernel
theorem dksX0_isAgainBy_1 : cX0_isAgainBy.data.toList.drop 23 = dktX0_isAgainBy_1 := dk_seg dksX0_isAgainBy_0 23 rfl rfl
theorem dksX0_isAgainBy_2 : cX0_isAgainBy.data.toList.drop 47 = dktX0_isAgainBy_2 := dk_seg dksX0_isAgainBy_1 24 rfl rfl
theorem dX0_isAgainBy_0 : decode cX0_isAgainBy 0 = .ok (.iconst 0, 1) := dk_3 (dk_at dksX0_isAgainBy_0 0 rfl rfl)
theorem dX0_isAgainBy_1 : decode cX0_isAgainBy 1 = .ok (.istore_n 2, 1) := dk_61 (dk_at dksX0_isAgainBy_0 1 rfl rfl)
theorem dX0_isAgainBy_2 : decode cX0_isAgainBy 2 = .ok (.iload_n 2, 1) := dk_28 (dk_at dksX0_isAgainBy_0 2 rfl rfl)
theorem dX0_isAgainBy_3 : decode cX0_isAgainBy 3 = .ok (.iload_n 1, 1) := dk_27 (dk_at dksX0_isAgainBy_0 3 rfl rfl)
theorem dX0_isAgainBy_4 : decode cX0_isAgainBy 4 = .ok (.iadd, 1) := dk_96 (dk_at dksX0_isAgainBy_0 4 rfl rfl)
theorem dX0_isAgainBy_5 : decode cX0_isAgainBy 5 = .ok (.aload_n 0, 1) := dk_42 (dk_at dksX0_isAgainBy_0 5 rfl rfl)
theorem dX0_isAgainBy_6 : decode cX0_isAgainBy 6 = .ok (.getfield 16, 3) := dk_180 0 16 (dk_at dksX0_isAgainBy_0 6 rfl rfl)
theorem dX0_isAgainBy_9 : decode cX0_isAgainBy 9 = .ok (.invokevirtual 86, 3) := dk_182 0 86 (dk_at dksX0_isAgainBy_0 9 rfl rfl)
theorem dX0_isAgainBy_12 : decode cX0_isAgainBy 12 = .ok (.if_icmp .ge 41, 3) := dk_162 0 41 (dk_at dksX0_isAgainBy_0 12 rfl rfl)
theorem dX0_isAgainBy_15 : decode cX0_isAgainBy 15 = .ok (.aload_n 0, 1) := dk_42 (dk_at dksX0_isAgainBy_0 15 rfl rfl)
theorem dX0_isAgainBy_16 : decode cX0_isAgainBy 16 = .ok (.getfield 16, 3) := dk_180 0 16 (dk_at dksX0_isAgainBy_0 16 rfl rfl)
theorem dX0_isAgainBy_19 : decode cX0_isAgainBy 19 = .ok (.iload_n 2, 1) := dk_28 (dk_at dksX0_isAgainBy_0 19 rfl rfl)
theorem dX0_isAgainBy_20 : decode cX0_isAgainBy 20 = .ok (.invokevirtual 121, 3) := dk_182 0 121 (dk_at dksX0_isAgainBy_0 20 rfl rfl)
theorem dX0_isAgainBy_23 : decode cX0_isAgainBy 23 = .ok (.checkcast 144, 3) := dk_192 0 144 (dk_at dksX0_isAgainBy_1 0 rfl rfl)
theorem dX0_isAgainBy_26 : decode cX0_isAgainBy 26 = .ok (.aload_n 0, 1) := dk_42 (dk_at dksX0_isAgainBy_1 3 rfl rfl)
theorem dX0_isAgainBy_27 : decode cX0_isAgainBy 27 = .ok (.getfield 16, 3) := dk_180 0 16 (dk_at dksX0_isAgainBy_1 4 rfl rfl)
theorem dX0_isAgainBy_30 : decode cX0_isAgainBy 30 = .ok (.iload_n 2, 1) := dk_28 (dk_at dksX0_isAgainBy_1 7 rfl rfl)
theorem dX0_isAgainBy_31 : decode cX0_isAgainBy 31 = .ok (.iload_n 1, 1) := dk_27 (dk_at dksX0_isAgainBy_1 8 rfl rfl)
theorem dX0_isAgainBy_32 : decode cX0_isAgainBy 32 = .ok (.iadd, 1) := dk_96 (dk_at dksX0_isAgainBy_1 9 rfl rfl)
theorem dX0_isAgainBy_33 : decode cX0_isAgainBy 33 = .ok (.invokevirtual 121, 3) := dk_182 0 121 (dk_at dksX0_isAgainBy_1 10 rfl rfl)
theorem dX0_isAgainBy_36 : decode cX0_isAgainBy 36 = .ok (.checkcast 144, 3) := dk_192 0 144 (dk_at dksX0_isAgainBy_1 13 rfl rfl)
theorem dX0_isAgainBy_39 : decode cX0_isAgainBy 39 = .ok (.invokevirtual 356, 3) := dk_182 1 100 (dk_at dksX0_isAgainBy_1 16 rfl rfl)
theorem dX0_isAgainBy_42 : decode cX0_isAgainBy 42 = .ok (.ifCond .ne 5, 3) := dk_154 0 5 (dk_at dksX0_isAgainBy_1 19 rfl rfl)
theorem dX0_isAgainBy_45 : decode cX0_isAgainBy 45 = .ok (.iconst 0, 1) := dk_3 (dk_at dksX0_isAgainBy_1 22 rfl rfl)
theorem dX0_isAgainBy_46 : decode cX0_isAgainBy 46 = .ok (.ireturn, 1) := dk_172 (dk_at dksX0_isAgainBy_1 23 rfl rfl)
theorem dX0_isAgainBy_47 : decode cX0_isAgainBy 47 = .ok (.iinc 2 1, 3) := dk_132 2 1 (dk_at dksX0_isAgainBy_2 0 rfl rfl)
theorem dX0_isAgainBy_50 : decode cX0_isAgainBy 50 = .ok (.goto (-48), 3) := dk_167 255 208 (dk_at dksX0_isAgainBy_2 3 rfl rfl)
theorem dX0_isAgainBy_53 : decode cX0_isAgainBy 53 = .ok (.iconst 1, 1) := dk_4 (dk_at dksX0_isAgainBy_2 6 rfl rfl)
theorem dX0_isAgainBy_54 : decode cX0_isAgainBy 54 = .ok (.ireturn, 1) := dk_172 (dk_at dksX0_isAgainBy_2 7 rfl rfl)
abbrev cX0_mirrors : ByteArray := prog_1_method_66_code
def yX0_mirrors : MethodName := ⟨RX0, "mirrors", "()I"⟩
def dkwX0_mirrors_2 : List UInt8 := [167, 255, 222, 27, 172]
abbrev dktX0_mirrors_2 : List UInt8 := dkwX0_mirrors_2 ++ []
def dkwX0_mirrors_1 : List UInt8 := [185, 0, 107, 1, 0, 192, 0, 144, 78, 27, 45, 182, 1, 107, 153, 0, 7, 4, 167, 0, 4, 3, 96, 60]
abbrev dktX0_mirrors_1 : List UInt8 := dkwX0_mirrors_1 ++ dktX0_mirrors_2
def dkwX0_mirrors_0 : List UInt8 := [3, 60, 42, 180, 0, 16, 182, 0, 97, 77, 44, 185, 0, 101, 1, 0, 153, 0, 31, 44]
abbrev dktX0_mirrors_0 : List UInt8 := dkwX0_mirrors_0 ++ dktX0_mirrors_1
theorem dksX0_mirrors_0 : cX0_mirrors.data.toList.drop 0 = dktX0_mirrors_0 := by decide +kernel
theorem dksX0_mirrors_1 : cX0_mirrors.data.toList.drop 20 = dktX0_mirrors_1 := dk_seg dksX0_mirrors_0 20 rfl rfl
theorem dksX0_mirrors_2 : cX0_mirrors.data.toList.drop 44 = dktX0_mirrors_2 := dk_seg dksX0_mirrors_1 24 rfl rfl
theorem dX0_mirrors_0 : decode cX0_mirrors 0 = .ok (.iconst 0, 1) := dk_3 (dk_at dksX0_mirrors_0 0 rfl rfl)
theorem dX0_mirrors_1 : decode cX0_mirrors 1 = .ok (.istore_n 1, 1) := dk_60 (dk_at dksX0_mirrors_0 1 rfl rfl)
theorem dX0_mirrors_2 : decode cX0_mirrors 2 = .ok (.aload_n 0, 1) := dk_42 (dk_at dksX0_mirrors_0 2 rfl rfl)
theorem dX0_mirrors_3 : decode cX0_mirrors 3 = .ok (.getfield 16, 3) := dk_180 0 16 (dk_at dksX0_mirrors_0 3 rfl rfl)
theorem dX0_mirrors_6 : decode cX0_mirrors 6 = .ok (.invokevirtual 97, 3) := dk_182 0 97 (dk_at dksX0_mirrors_0 6 rfl rfl)
theorem dX0_mirrors_9 : decode cX0_mirrors 9 = .ok (.astore_n 2, 1) := dk_77 (dk_at dksX0_mirrors_0 9 rfl rfl)
theorem dX0_mirrors_10 : decode cX0_mirrors 10 = .ok (.aload_n 2, 1) := dk_44 (dk_at dksX0_mirrors_0 10 rfl rfl)
theorem dX0_mirrors_11 : decode cX0_mirrors 11 = .ok (.invokeinterface 101 1, 5) := by decide +kernel
theorem dX0_mirrors_16 : decode cX0_mirrors 16 = .ok (.ifCond .eq 31, 3) := dk_153 0 31 (dk_at dksX0_mirrors_0 16 rfl rfl)
theorem dX0_mirrors_19 : decode cX0_mirrors 19 = .ok (.aload_n 2, 1) := dk_44 (dk_at dksX0_mirrors_0 19 rfl rfl)
theorem dX0_mirrors_20 : decode cX0_mirrors 20 = .ok (.invokeinterface 107 1, 5) := by decide +kernel
theorem dX0_mirrors_25 : decode cX0_mirrors 25 = .ok (.checkcast 144, 3) := dk_192 0 144 (dk_at dksX0_mirrors_1 5 rfl rfl)
theorem dX0_mirrors_28 : decode cX0_mirrors 28 = .ok (.astore_n 3, 1) := dk_78 (dk_at dksX0_mirrors_1 8 rfl rfl)
theorem dX0_mirrors_29 : decode cX0_mirrors 29 = .ok (.iload_n 1, 1) := dk_27 (dk_at dksX0_mirrors_1 9 rfl rfl)
theorem dX0_mirrors_30 : decode cX0_mirrors 30 = .ok (.aload_n 3, 1) := dk_45 (dk_at dksX0_mirrors_1 10 rfl rfl)
theorem dX0_mirrors_31 : decode cX0_mirrors 31 = .ok (.invokevirtual 363, 3) := dk_182 1 107 (dk_at dksX0_mirrors_1 11 rfl rfl)
theorem dX0_mirrors_34 : decode cX0_mirrors 34 = .ok (.ifCond .eq 7, 3) := dk_153 0 7 (dk_at dksX0_mirrors_1 14 rfl rfl)
theorem dX0_mirrors_37 : decode cX0_mirrors 37 = .ok (.iconst 1, 1) := dk_4 (dk_at dksX0_mirrors_1 17 rfl rfl)
theorem dX0_mirrors_38 : decode cX0_mirrors 38 = .ok (.goto 4, 3) := dk_167 0 4 (dk_at dksX0_mirrors_1 18 rfl rfl)
theorem dX0_mirrors_41 : decode cX0_mirrors 41 = .ok (.iconst 0, 1) := dk_3 (dk_at dksX0_mirrors_1 21 rfl rfl)
theorem dX0_mirrors_42 : decode cX0_mirrors 42 = .ok (.iadd, 1) := dk_96 (dk_at dksX0_mirrors_1 22 rfl rfl)
theorem dX0_mirrors_43 : decode cX0_mirrors 43 = .ok (.istore_n 1, 1) := dk_60 (dk_at dksX0_mirrors_1 23 rfl rfl)
theorem dX0_mirrors_44 : decode cX0_mirrors 44 = .ok (.goto (-34), 3) := dk_167 255 222 (dk_at dksX0_mirrors_2 0 rfl rfl)
theorem dX0_mirrors_47 : decode cX0_mirrors 47 = .ok (.iload_n 1, 1) := dk_27 (dk_at dksX0_mirrors_2 3 rfl rfl)
theorem dX0_mirrors_48 : decode cX0_mirrors 48 = .ok (.ireturn, 1) := dk_172 (dk_at dksX0_mirrors_2 4 rfl rfl)
abbrev cX0_run : ByteArray := prog_1_method_68_code
def yX0_run : MethodName := ⟨RX0, "run", "(I)I"⟩
def dkwX0_run_1 : List UInt8 := [29, 27, 182, 1, 110, 184, 0, 189, 61, 132, 3, 1, 167, 255, 234, 28, 172]
abbrev dktX0_run_1 : List UInt8 := dkwX0_run_1 ++ []
def dkwX0_run_0 : List UInt8 := [27, 184, 0, 214, 154, 0, 6, 16, 254, 172, 3, 61, 3, 62, 29, 42, 182, 0, 90, 162, 0, 20, 28, 42]
abbrev dktX0_run_0 : List UInt8 := dkwX0_run_0 ++ dktX0_run_1
theorem dksX0_run_0 : cX0_run.data.toList.drop 0 = dktX0_run_0 := by decide +kernel
theorem dksX0_run_1 : cX0_run.data.toList.drop 24 = dktX0_run_1 := dk_seg dksX0_run_0 24 rfl rfl
theorem dX0_run_0 : decode cX0_run 0 = .ok (.iload_n 1, 1) := dk_27 (dk_at dksX0_run_0 0 rfl rfl)
theorem dX0_run_1 : decode cX0_run 1 = .ok (.invokestatic 214, 3) := dk_184 0 214 (dk_at dksX0_run_0 1 rfl rfl)
theorem dX0_run_4 : decode cX0_run 4 = .ok (.ifCond .ne 6, 3) := dk_154 0 6 (dk_at dksX0_run_0 4 rfl rfl)
theorem dX0_run_7 : decode cX0_run 7 = .ok (.bipush (-2), 2) := dk_16 254 (dk_at dksX0_run_0 7 rfl rfl)
theorem dX0_run_9 : decode cX0_run 9 = .ok (.ireturn, 1) := dk_172 (dk_at dksX0_run_0 9 rfl rfl)
theorem dX0_run_10 : decode cX0_run 10 = .ok (.iconst 0, 1) := dk_3 (dk_at dksX0_run_0 10 rfl rfl)
theorem dX0_run_11 : decode cX0_run 11 = .ok (.istore_n 2, 1) := dk_61 (dk_at dksX0_run_0 11 rfl rfl)
theorem dX0_run_12 : decode cX0_run 12 = .ok (.iconst 0, 1) := dk_3 (dk_at dksX0_run_0 12 rfl rfl)
theorem dX0_run_13 : decode cX0_run 13 = .ok (.istore_n 3, 1) := dk_62 (dk_at dksX0_run_0 13 rfl rfl)
theorem dX0_run_14 : decode cX0_run 14 = .ok (.iload_n 3, 1) := dk_29 (dk_at dksX0_run_0 14 rfl rfl)
theorem dX0_run_15 : decode cX0_run 15 = .ok (.aload_n 0, 1) := dk_42 (dk_at dksX0_run_0 15 rfl rfl)
theorem dX0_run_16 : decode cX0_run 16 = .ok (.invokevirtual 90, 3) := dk_182 0 90 (dk_at dksX0_run_0 16 rfl rfl)
theorem dX0_run_19 : decode cX0_run 19 = .ok (.if_icmp .ge 20, 3) := dk_162 0 20 (dk_at dksX0_run_0 19 rfl rfl)
theorem dX0_run_22 : decode cX0_run 22 = .ok (.iload_n 2, 1) := dk_28 (dk_at dksX0_run_0 22 rfl rfl)
theorem dX0_run_23 : decode cX0_run 23 = .ok (.aload_n 0, 1) := dk_42 (dk_at dksX0_run_0 23 rfl rfl)
theorem dX0_run_24 : decode cX0_run 24 = .ok (.iload_n 3, 1) := dk_29 (dk_at dksX0_run_1 0 rfl rfl)
theorem dX0_run_25 : decode cX0_run 25 = .ok (.iload_n 1, 1) := dk_27 (dk_at dksX0_run_1 1 rfl rfl)
theorem dX0_run_26 : decode cX0_run 26 = .ok (.invokevirtual 366, 3) := dk_182 1 110 (dk_at dksX0_run_1 2 rfl rfl)
theorem dX0_run_29 : decode cX0_run 29 = .ok (.invokestatic 189, 3) := dk_184 0 189 (dk_at dksX0_run_1 5 rfl rfl)
theorem dX0_run_32 : decode cX0_run 32 = .ok (.istore_n 2, 1) := dk_61 (dk_at dksX0_run_1 8 rfl rfl)
theorem dX0_run_33 : decode cX0_run 33 = .ok (.iinc 3 1, 3) := dk_132 3 1 (dk_at dksX0_run_1 9 rfl rfl)
theorem dX0_run_36 : decode cX0_run 36 = .ok (.goto (-22), 3) := dk_167 255 234 (dk_at dksX0_run_1 12 rfl rfl)
theorem dX0_run_39 : decode cX0_run 39 = .ok (.iload_n 2, 1) := dk_28 (dk_at dksX0_run_1 15 rfl rfl)
theorem dX0_run_40 : decode cX0_run 40 = .ok (.ireturn, 1) := dk_172 (dk_at dksX0_run_1 16 rfl rfl)
abbrev cX0_runOf : ByteArray := prog_1_method_67_code
def yX0_runOf : MethodName := ⟨RX0, "runOf", "(II)I"⟩
def dkwX0_runOf_2 : List UInt8 := [21, 4, 4, 96, 167, 0, 4, 3, 54, 4, 29, 21, 4, 184, 0, 189, 62, 167, 255, 206, 29, 172]
abbrev dktX0_runOf_2 : List UInt8 := dkwX0_runOf_2 ++ []
def dkwX0_runOf_1 : List UInt8 := [25, 5, 185, 0, 107, 1, 0, 192, 0, 144, 58, 6, 25, 6, 180, 1, 0, 27, 46, 28, 160, 0, 10]
abbrev dktX0_runOf_1 : List UInt8 := dkwX0_runOf_1 ++ dktX0_runOf_2
def dkwX0_runOf_0 : List UInt8 := [3, 62, 3, 54, 4, 42, 180, 0, 16, 182, 0, 97, 58, 5, 25, 5, 185, 0, 101, 1, 0, 153, 0, 46]
abbrev dktX0_runOf_0 : List UInt8 := dkwX0_runOf_0 ++ dktX0_runOf_1
theorem dksX0_runOf_0 : cX0_runOf.data.toList.drop 0 = dktX0_runOf_0 := by decide +kernel
theorem dksX0_runOf_1 : cX0_runOf.data.toList.drop 24 = dktX0_runOf_1 := dk_seg dksX0_runOf_0 24 rfl rfl
theorem dksX0_runOf_2 : cX0_runOf.data.toList.drop 47 = dktX0_runOf_2 := dk_seg dksX0_runOf_1 23 rfl rfl
theorem dX0_runOf_0 : decode cX0_runOf 0 = .ok (.iconst 0, 1) := dk_3 (dk_at dksX0_runOf_0 0 rfl rfl)
theorem dX0_runOf_1 : decode cX0_runOf 1 = .ok (.istore_n 3, 1) := dk_62 (dk_at dksX0_runOf_0 1 rfl rfl)
theorem dX0_runOf_2 : decode cX0_runOf 2 = .ok (.iconst 0, 1) := dk_3 (dk_at dksX0_runOf_0 2 rfl rfl)
theorem dX0_runOf_3 : decode cX0_runOf 3 = .ok (.istore 4, 2) := dk_54 4 (dk_at dksX0_runOf_0 3 rfl rfl)
theorem dX0_runOf_5 : decode cX0_runOf 5 = .ok (.aload_n 0, 1) := dk_42 (dk_at dksX0_runOf_0 5 rfl rfl)
theorem dX0_runOf_6 : decode cX0_runOf 6 = .ok (.getfield 16, 3) := dk_180 0 16 (dk_at dksX0_runOf_0 6 rfl rfl)
theorem dX0_runOf_9 : decode cX0_runOf 9 = .ok (.invokevirtual 97, 3) := dk_182 0 97 (dk_at dksX0_runOf_0 9 rfl rfl)
theorem dX0_runOf_12 : decode cX0_runOf 12 = .ok (.astore 5, 2) := dk_58 5 (dk_at dksX0_runOf_0 12 rfl rfl)
theorem dX0_runOf_14 : decode cX0_runOf 14 = .ok (.aload 5, 2) := dk_25 5 (dk_at dksX0_runOf_0 14 rfl rfl)
theorem dX0_runOf_16 : decode cX0_runOf 16 = .ok (.invokeinterface 101 1, 5) := by decide +kernel
theorem dX0_runOf_21 : decode cX0_runOf 21 = .ok (.ifCond .eq 46, 3) := dk_153 0 46 (dk_at dksX0_runOf_0 21 rfl rfl)
theorem dX0_runOf_24 : decode cX0_runOf 24 = .ok (.aload 5, 2) := dk_25 5 (dk_at dksX0_runOf_1 0 rfl rfl)
theorem dX0_runOf_26 : decode cX0_runOf 26 = .ok (.invokeinterface 107 1, 5) := by decide +kernel
theorem dX0_runOf_31 : decode cX0_runOf 31 = .ok (.checkcast 144, 3) := dk_192 0 144 (dk_at dksX0_runOf_1 7 rfl rfl)
theorem dX0_runOf_34 : decode cX0_runOf 34 = .ok (.astore 6, 2) := dk_58 6 (dk_at dksX0_runOf_1 10 rfl rfl)
theorem dX0_runOf_36 : decode cX0_runOf 36 = .ok (.aload 6, 2) := dk_25 6 (dk_at dksX0_runOf_1 12 rfl rfl)
theorem dX0_runOf_38 : decode cX0_runOf 38 = .ok (.getfield 256, 3) := dk_180 1 0 (dk_at dksX0_runOf_1 14 rfl rfl)
theorem dX0_runOf_41 : decode cX0_runOf 41 = .ok (.iload_n 1, 1) := dk_27 (dk_at dksX0_runOf_1 17 rfl rfl)
theorem dX0_runOf_42 : decode cX0_runOf 42 = .ok (.iaload, 1) := dk_46 (dk_at dksX0_runOf_1 18 rfl rfl)
theorem dX0_runOf_43 : decode cX0_runOf 43 = .ok (.iload_n 2, 1) := dk_28 (dk_at dksX0_runOf_1 19 rfl rfl)
theorem dX0_runOf_44 : decode cX0_runOf 44 = .ok (.if_icmp .ne 10, 3) := dk_160 0 10 (dk_at dksX0_runOf_1 20 rfl rfl)
theorem dX0_runOf_47 : decode cX0_runOf 47 = .ok (.iload 4, 2) := dk_21 4 (dk_at dksX0_runOf_2 0 rfl rfl)
theorem dX0_runOf_49 : decode cX0_runOf 49 = .ok (.iconst 1, 1) := dk_4 (dk_at dksX0_runOf_2 2 rfl rfl)
theorem dX0_runOf_50 : decode cX0_runOf 50 = .ok (.iadd, 1) := dk_96 (dk_at dksX0_runOf_2 3 rfl rfl)
theorem dX0_runOf_51 : decode cX0_runOf 51 = .ok (.goto 4, 3) := dk_167 0 4 (dk_at dksX0_runOf_2 4 rfl rfl)
theorem dX0_runOf_54 : decode cX0_runOf 54 = .ok (.iconst 0, 1) := dk_3 (dk_at dksX0_runOf_2 7 rfl rfl)
theorem dX0_runOf_55 : decode cX0_runOf 55 = .ok (.istore 4, 2) := dk_54 4 (dk_at dksX0_runOf_2 8 rfl rfl)
theorem dX0_runOf_57 : decode cX0_runOf 57 = .ok (.iload_n 3, 1) := dk_29 (dk_at dksX0_runOf_2 10 rfl rfl)
theorem dX0_runOf_58 : decode cX0_runOf 58 = .ok (.iload 4, 2) := dk_21 4 (dk_at dksX0_runOf_2 11 rfl rfl)
theorem dX0_runOf_60 : decode cX0_runOf 60 = .ok (.invokestatic 189, 3) := dk_184 0 189 (dk_at dksX0_runOf_2 13 rfl rfl)
theorem dX0_runOf_63 : decode cX0_runOf 63 = .ok (.istore_n 3, 1) := dk_62 (dk_at dksX0_runOf_2 16 rfl rfl)
theorem dX0_runOf_64 : decode cX0_runOf 64 = .ok (.goto (-50), 3) := dk_167 255 206 (dk_at dksX0_runOf_2 17 rfl rfl)
theorem dX0_runOf_67 : decode cX0_runOf 67 = .ok (.iload_n 3, 1) := dk_29 (dk_at dksX0_runOf_2 20 rfl rfl)
theorem dX0_runOf_68 : decode cX0_runOf 68 = .ok (.ireturn, 1) := dk_172 (dk_at dksX0_runOf_2 21 rfl rfl)
abbrev cX0_colours : ByteArray := prog_1_method_71_code
def yX0_colours : MethodName := ⟨RX0, "colours", "(II)I"⟩
def dkwX0_colours_3 : List UInt8 := [45, 180, 1, 131, 172, 45, 180, 1, 134, 172, 45, 180, 1, 137, 172, 2, 172]
abbrev dktX0_colours_3 : List UInt8 := dkwX0_colours_3 ++ []
def dkwX0_colours_2 : List UInt8 := [170, 0, 0, 0, 0, 0, 0, 43, 0, 0, 0, 0, 0, 0, 0, 2, 0, 0, 0, 28, 0, 0, 0, 33, 0, 0, 0, 38]
abbrev dktX0_colours_2 : List UInt8 := dkwX0_colours_2 ++ dktX0_colours_3
def dkwX0_colours_1 : List UInt8 := [192, 1, 119, 78, 28]
abbrev dktX0_colours_1 : List UInt8 := dkwX0_colours_1 ++ dktX0_colours_2
def dkwX0_colours_0 : List UInt8 := [27, 184, 0, 214, 154, 0, 6, 16, 254, 172, 42, 182, 1, 139, 42, 180, 0, 43, 27, 50, 182, 1, 128]
abbrev dktX0_colours_0 : List UInt8 := dkwX0_colours_0 ++ dktX0_colours_1
theorem dksX0_colours_0 : cX0_colours.data.toList.drop 0 = dktX0_colours_0 := by decide +kernel
theorem dksX0_colours_1 : cX0_colours.data.toList.drop 23 = dktX0_colours_1 := dk_seg dksX0_colours_0 23 rfl rfl
theorem dksX0_colours_2 : cX0_colours.data.toList.drop 28 = dktX0_colours_2 := dk_seg dksX0_colours_1 5 rfl rfl
theorem dksX0_colours_3 : cX0_colours.data.toList.drop 56 = dktX0_colours_3 := dk_seg dksX0_colours_2 28 rfl rfl
theorem dX0_colours_0 : decode cX0_colours 0 = .ok (.iload_n 1, 1) := dk_27 (dk_at dksX0_colours_0 0 rfl rfl)
theorem dX0_colours_1 : decode cX0_colours 1 = .ok (.invokestatic 214, 3) := dk_184 0 214 (dk_at dksX0_colours_0 1 rfl rfl)
theorem dX0_colours_4 : decode cX0_colours 4 = .ok (.ifCond .ne 6, 3) := dk_154 0 6 (dk_at dksX0_colours_0 4 rfl rfl)
theorem dX0_colours_7 : decode cX0_colours 7 = .ok (.bipush (-2), 2) := dk_16 254 (dk_at dksX0_colours_0 7 rfl rfl)
theorem dX0_colours_9 : decode cX0_colours 9 = .ok (.ireturn, 1) := dk_172 (dk_at dksX0_colours_0 9 rfl rfl)
theorem dX0_colours_10 : decode cX0_colours 10 = .ok (.aload_n 0, 1) := dk_42 (dk_at dksX0_colours_0 10 rfl rfl)
theorem dX0_colours_11 : decode cX0_colours 11 = .ok (.invokevirtual 395, 3) := dk_182 1 139 (dk_at dksX0_colours_0 11 rfl rfl)
theorem dX0_colours_14 : decode cX0_colours 14 = .ok (.aload_n 0, 1) := dk_42 (dk_at dksX0_colours_0 14 rfl rfl)
theorem dX0_colours_15 : decode cX0_colours 15 = .ok (.getfield 43, 3) := dk_180 0 43 (dk_at dksX0_colours_0 15 rfl rfl)
theorem dX0_colours_18 : decode cX0_colours 18 = .ok (.iload_n 1, 1) := dk_27 (dk_at dksX0_colours_0 18 rfl rfl)
theorem dX0_colours_19 : decode cX0_colours 19 = .ok (.aaload, 1) := dk_50 (dk_at dksX0_colours_0 19 rfl rfl)
theorem dX0_colours_20 : decode cX0_colours 20 = .ok (.invokevirtual 384, 3) := dk_182 1 128 (dk_at dksX0_colours_0 20 rfl rfl)
theorem dX0_colours_23 : decode cX0_colours 23 = .ok (.checkcast 375, 3) := dk_192 1 119 (dk_at dksX0_colours_1 0 rfl rfl)
theorem dX0_colours_26 : decode cX0_colours 26 = .ok (.astore_n 3, 1) := dk_78 (dk_at dksX0_colours_1 3 rfl rfl)
theorem dX0_colours_27 : decode cX0_colours 27 = .ok (.iload_n 2, 1) := dk_28 (dk_at dksX0_colours_1 4 rfl rfl)
theorem dX0_colours_28 : decode cX0_colours 28 = .ok (.tableswitch 43 0 2 #[28, 33, 38], 28) := by decide +kernel
theorem dX0_colours_56 : decode cX0_colours 56 = .ok (.aload_n 3, 1) := dk_45 (dk_at dksX0_colours_3 0 rfl rfl)
theorem dX0_colours_57 : decode cX0_colours 57 = .ok (.getfield 387, 3) := dk_180 1 131 (dk_at dksX0_colours_3 1 rfl rfl)
theorem dX0_colours_60 : decode cX0_colours 60 = .ok (.ireturn, 1) := dk_172 (dk_at dksX0_colours_3 4 rfl rfl)
theorem dX0_colours_61 : decode cX0_colours 61 = .ok (.aload_n 3, 1) := dk_45 (dk_at dksX0_colours_3 5 rfl rfl)
theorem dX0_colours_62 : decode cX0_colours 62 = .ok (.getfield 390, 3) := dk_180 1 134 (dk_at dksX0_colours_3 6 rfl rfl)
theorem dX0_colours_65 : decode cX0_colours 65 = .ok (.ireturn, 1) := dk_172 (dk_at dksX0_colours_3 9 rfl rfl)
theorem dX0_colours_66 : decode cX0_colours 66 = .ok (.aload_n 3, 1) := dk_45 (dk_at dksX0_colours_3 10 rfl rfl)
theorem dX0_colours_67 : decode cX0_colours 67 = .ok (.getfield 393, 3) := dk_180 1 137 (dk_at dksX0_colours_3 11 rfl rfl)
theorem dX0_colours_70 : decode cX0_colours 70 = .ok (.ireturn, 1) := dk_172 (dk_at dksX0_colours_3 14 rfl rfl)
theorem dX0_colours_71 : decode cX0_colours 71 = .ok (.iconst (-1), 1) := dk_2 (dk_at dksX0_colours_3 15 rfl rfl)
theorem dX0_colours_72 : decode cX0_colours 72 = .ok (.ireturn, 1) := dk_172 (dk_at dksX0_colours_3 16 rfl rfl)
abbrev cX0_often : ByteArray := prog_1_method_70_code
def yX0_often : MethodName := ⟨RX0, "often", "()Ljava/util/TreeMap;"⟩
def dkwX0_often_10 : List UInt8 := [132, 6, 1, 167, 255, 216, 167, 255, 180, 43, 176]
abbrev dktX0_often_10 : List UInt8 := dkwX0_often_10 ++ []
def dkwX0_often_9 : List UInt8 := [43, 42, 180, 0, 43, 21, 7, 50, 182, 1, 128, 192, 1, 119, 89, 180, 1, 137, 4, 96, 181, 1, 137]
abbrev dktX0_often_9 : List UInt8 := dkwX0_often_9 ++ dktX0_often_10
def dkwX0_often_8 : List UInt8 := [58, 4, 25, 4, 190, 54, 5, 3, 54, 6, 21, 6, 21, 5, 162, 0, 39, 25, 4, 21, 6, 46, 54, 7]
abbrev dktX0_often_8 : List UInt8 := dkwX0_often_8 ++ dktX0_often_9
def dkwX0_often_7 : List UInt8 := [77, 44, 185, 0, 101, 1, 0, 153, 0, 73, 44, 185, 0, 107, 1, 0, 192, 0, 111, 78, 45, 180, 0, 198]
abbrev dktX0_often_7 : List UInt8 := dkwX0_often_7 ++ dktX0_often_8
def dkwX0_often_6 : List UInt8 := [180, 1, 134, 4, 96, 181, 1, 134, 132, 4, 1, 167, 255, 188, 167, 255, 163, 42, 180, 0, 10, 182, 0, 97]
abbrev dktX0_often_6 : List UInt8 := dkwX0_often_6 ++ dktX0_often_7
def dkwX0_often_5 : List UInt8 := [181, 1, 131, 43, 42, 180, 0, 43, 45, 180, 1, 3, 21, 4, 46, 50, 182, 1, 128, 192, 1, 119, 89]
abbrev dktX0_often_5 : List UInt8 := dkwX0_often_5 ++ dktX0_often_6
def dkwX0_often_4 : List UInt8 := [180, 0, 43, 45, 180, 1, 0, 21, 4, 46, 50, 182, 1, 128, 192, 1, 119, 89, 180, 1, 131, 4, 96]
abbrev dktX0_often_4 : List UInt8 := dkwX0_often_4 ++ dktX0_often_5
def dkwX0_often_3 : List UInt8 := [44, 185, 0, 107, 1, 0, 192, 0, 144, 78, 3, 54, 4, 21, 4, 42, 182, 0, 90, 162, 0, 65, 43, 42]
abbrev dktX0_often_3 : List UInt8 := dkwX0_often_3 ++ dktX0_often_4
def dkwX0_often_2 : List UInt8 := [87, 132, 4, 1, 167, 255, 225, 42, 180, 0, 16, 182, 0, 97, 77, 44, 185, 0, 101, 1, 0, 153, 0, 90]
abbrev dktX0_often_2 : List UInt8 := dkwX0_often_2 ++ dktX0_often_3
def dkwX0_often_1 : List UInt8 := [162, 0, 31, 44, 21, 4, 50, 58, 5, 43, 25, 5, 187, 1, 119, 89, 25, 5, 183, 1, 121, 182, 1, 124]
abbrev dktX0_often_1 : List UInt8 := dkwX0_often_1 ++ dktX0_often_2
def dkwX0_often_0 : List UInt8 := [187, 1, 116, 89, 183, 1, 118, 76, 42, 180, 0, 43, 77, 44, 190, 62, 3, 54, 4, 21, 4, 29]
abbrev dktX0_often_0 : List UInt8 := dkwX0_often_0 ++ dktX0_often_1
theorem dksX0_often_0 : cX0_often.data.toList.drop 0 = dktX0_often_0 := by decide +kernel
theorem dksX0_often_1 : cX0_often.data.toList.drop 22 = dktX0_often_1 := dk_seg dksX0_often_0 22 rfl rfl
theorem dksX0_often_2 : cX0_often.data.toList.drop 46 = dktX0_often_2 := dk_seg dksX0_often_1 24 rfl rfl
theorem dksX0_often_3 : cX0_often.data.toList.drop 70 = dktX0_often_3 := dk_seg dksX0_often_2 24 rfl rfl
theorem dksX0_often_4 : cX0_often.data.toList.drop 94 = dktX0_often_4 := dk_seg dksX0_often_3 24 rfl rfl
theorem dksX0_often_5 : cX0_often.data.toList.drop 117 = dktX0_often_5 := dk_seg dksX0_often_4 23 rfl rfl
theorem dksX0_often_6 : cX0_often.data.toList.drop 140 = dktX0_often_6 := dk_seg dksX0_often_5 23 rfl rfl
theorem dksX0_often_7 : cX0_often.data.toList.drop 164 = dktX0_often_7 := dk_seg dksX0_often_6 24 rfl rfl
theorem dksX0_often_8 : cX0_often.data.toList.drop 188 = dktX0_often_8 := dk_seg dksX0_often_7 24 rfl rfl
theorem dksX0_often_9 : cX0_often.data.toList.drop 212 = dktX0_often_9 := dk_seg dksX0_often_8 24 rfl rfl
theorem dksX0_often_10 : cX0_often.data.toList.drop 235 = dktX0_often_10 := dk_seg dksX0_often_9 23 rfl rfl
theorem dX0_often_0 : decode cX0_often 0 = .ok (.new 372, 3) := dk_187 1 116 (dk_at dksX0_often_0 0 rfl rfl)
theorem dX0_often_3 : decode cX0_often 3 = .ok (.dup, 1) := dk_89 (dk_at dksX0_often_0 3 rfl rfl)
theorem dX0_often_4 : decode cX0_often 4 = .ok (.invokespecial 374, 3) := dk_183 1 118 (dk_at dksX0_often_0 4 rfl rfl)
theorem dX0_often_7 : decode cX0_often 7 = .ok (.astore_n 1, 1) := dk_76 (dk_at dksX0_often_0 7 rfl rfl)
theorem dX0_often_8 : decode cX0_often 8 = .ok (.aload_n 0, 1) := dk_42 (dk_at dksX0_often_0 8 rfl rfl)
theorem dX0_often_9 : decode cX0_often 9 = .ok (.getfield 43, 3) := dk_180 0 43 (dk_at dksX0_often_0 9 rfl rfl)
theorem dX0_often_12 : decode cX0_often 12 = .ok (.astore_n 2, 1) := dk_77 (dk_at dksX0_often_0 12 rfl rfl)
theorem dX0_often_13 : decode cX0_often 13 = .ok (.aload_n 2, 1) := dk_44 (dk_at dksX0_often_0 13 rfl rfl)
theorem dX0_often_14 : decode cX0_often 14 = .ok (.arraylength, 1) := dk_190 (dk_at dksX0_often_0 14 rfl rfl)
theorem dX0_often_15 : decode cX0_often 15 = .ok (.istore_n 3, 1) := dk_62 (dk_at dksX0_often_0 15 rfl rfl)
theorem dX0_often_16 : decode cX0_often 16 = .ok (.iconst 0, 1) := dk_3 (dk_at dksX0_often_0 16 rfl rfl)
theorem dX0_often_17 : decode cX0_often 17 = .ok (.istore 4, 2) := dk_54 4 (dk_at dksX0_often_0 17 rfl rfl)
theorem dX0_often_19 : decode cX0_often 19 = .ok (.iload 4, 2) := dk_21 4 (dk_at dksX0_often_0 19 rfl rfl)
theorem dX0_often_21 : decode cX0_often 21 = .ok (.iload_n 3, 1) := dk_29 (dk_at dksX0_often_0 21 rfl rfl)
theorem dX0_often_22 : decode cX0_often 22 = .ok (.if_icmp .ge 31, 3) := dk_162 0 31 (dk_at dksX0_often_1 0 rfl rfl)
theorem dX0_often_25 : decode cX0_often 25 = .ok (.aload_n 2, 1) := dk_44 (dk_at dksX0_often_1 3 rfl rfl)
theorem dX0_often_26 : decode cX0_often 26 = .ok (.iload 4, 2) := dk_21 4 (dk_at dksX0_often_1 4 rfl rfl)
theorem dX0_often_28 : decode cX0_often 28 = .ok (.aaload, 1) := dk_50 (dk_at dksX0_often_1 6 rfl rfl)
theorem dX0_often_29 : decode cX0_often 29 = .ok (.astore 5, 2) := dk_58 5 (dk_at dksX0_often_1 7 rfl rfl)
theorem dX0_often_31 : decode cX0_often 31 = .ok (.aload_n 1, 1) := dk_43 (dk_at dksX0_often_1 9 rfl rfl)
theorem dX0_often_32 : decode cX0_often 32 = .ok (.aload 5, 2) := dk_25 5 (dk_at dksX0_often_1 10 rfl rfl)
theorem dX0_often_34 : decode cX0_often 34 = .ok (.new 375, 3) := dk_187 1 119 (dk_at dksX0_often_1 12 rfl rfl)
theorem dX0_often_37 : decode cX0_often 37 = .ok (.dup, 1) := dk_89 (dk_at dksX0_often_1 15 rfl rfl)
theorem dX0_often_38 : decode cX0_often 38 = .ok (.aload 5, 2) := dk_25 5 (dk_at dksX0_often_1 16 rfl rfl)
theorem dX0_often_40 : decode cX0_often 40 = .ok (.invokespecial 377, 3) := dk_183 1 121 (dk_at dksX0_often_1 18 rfl rfl)
theorem dX0_often_43 : decode cX0_often 43 = .ok (.invokevirtual 380, 3) := dk_182 1 124 (dk_at dksX0_often_1 21 rfl rfl)
theorem dX0_often_46 : decode cX0_often 46 = .ok (.pop, 1) := dk_87 (dk_at dksX0_often_2 0 rfl rfl)
theorem dX0_often_47 : decode cX0_often 47 = .ok (.iinc 4 1, 3) := dk_132 4 1 (dk_at dksX0_often_2 1 rfl rfl)
theorem dX0_often_50 : decode cX0_often 50 = .ok (.goto (-31), 3) := dk_167 255 225 (dk_at dksX0_often_2 4 rfl rfl)
theorem dX0_often_53 : decode cX0_often 53 = .ok (.aload_n 0, 1) := dk_42 (dk_at dksX0_often_2 7 rfl rfl)
theorem dX0_often_54 : decode cX0_often 54 = .ok (.getfield 16, 3) := dk_180 0 16 (dk_at dksX0_often_2 8 rfl rfl)
theorem dX0_often_57 : decode cX0_often 57 = .ok (.invokevirtual 97, 3) := dk_182 0 97 (dk_at dksX0_often_2 11 rfl rfl)
theorem dX0_often_60 : decode cX0_often 60 = .ok (.astore_n 2, 1) := dk_77 (dk_at dksX0_often_2 14 rfl rfl)
theorem dX0_often_61 : decode cX0_often 61 = .ok (.aload_n 2, 1) := dk_44 (dk_at dksX0_often_2 15 rfl rfl)
theorem dX0_often_62 : decode cX0_often 62 = .ok (.invokeinterface 101 1, 5) := by decide +kernel
theorem dX0_often_67 : decode cX0_often 67 = .ok (.ifCond .eq 90, 3) := dk_153 0 90 (dk_at dksX0_often_2 21 rfl rfl)
theorem dX0_often_70 : decode cX0_often 70 = .ok (.aload_n 2, 1) := dk_44 (dk_at dksX0_often_3 0 rfl rfl)
theorem dX0_often_71 : decode cX0_often 71 = .ok (.invokeinterface 107 1, 5) := by decide +kernel
theorem dX0_often_76 : decode cX0_often 76 = .ok (.checkcast 144, 3) := dk_192 0 144 (dk_at dksX0_often_3 6 rfl rfl)
theorem dX0_often_79 : decode cX0_often 79 = .ok (.astore_n 3, 1) := dk_78 (dk_at dksX0_often_3 9 rfl rfl)
theorem dX0_often_80 : decode cX0_often 80 = .ok (.iconst 0, 1) := dk_3 (dk_at dksX0_often_3 10 rfl rfl)
theorem dX0_often_81 : decode cX0_often 81 = .ok (.istore 4, 2) := dk_54 4 (dk_at dksX0_often_3 11 rfl rfl)
theorem dX0_often_83 : decode cX0_often 83 = .ok (.iload 4, 2) := dk_21 4 (dk_at dksX0_often_3 13 rfl rfl)
theorem dX0_often_85 : decode cX0_often 85 = .ok (.aload_n 0, 1) := dk_42 (dk_at dksX0_often_3 15 rfl rfl)
theorem dX0_often_86 : decode cX0_often 86 = .ok (.invokevirtual 90, 3) := dk_182 0 90 (dk_at dksX0_often_3 16 rfl rfl)
theorem dX0_often_89 : decode cX0_often 89 = .ok (.if_icmp .ge 65, 3) := dk_162 0 65 (dk_at dksX0_often_3 19 rfl rfl)
theorem dX0_often_92 : decode cX0_often 92 = .ok (.aload_n 1, 1) := dk_43 (dk_at dksX0_often_3 22 rfl rfl)
theorem dX0_often_93 : decode cX0_often 93 = .ok (.aload_n 0, 1) := dk_42 (dk_at dksX0_often_3 23 rfl rfl)
theorem dX0_often_94 : decode cX0_often 94 = .ok (.getfield 43, 3) := dk_180 0 43 (dk_at dksX0_often_4 0 rfl rfl)
theorem dX0_often_97 : decode cX0_often 97 = .ok (.aload_n 3, 1) := dk_45 (dk_at dksX0_often_4 3 rfl rfl)
theorem dX0_often_98 : decode cX0_often 98 = .ok (.getfield 256, 3) := dk_180 1 0 (dk_at dksX0_often_4 4 rfl rfl)
theorem dX0_often_101 : decode cX0_often 101 = .ok (.iload 4, 2) := dk_21 4 (dk_at dksX0_often_4 7 rfl rfl)
theorem dX0_often_103 : decode cX0_often 103 = .ok (.iaload, 1) := dk_46 (dk_at dksX0_often_4 9 rfl rfl)
theorem dX0_often_104 : decode cX0_often 104 = .ok (.aaload, 1) := dk_50 (dk_at dksX0_often_4 10 rfl rfl)
theorem dX0_often_105 : decode cX0_often 105 = .ok (.invokevirtual 384, 3) := dk_182 1 128 (dk_at dksX0_often_4 11 rfl rfl)
theorem dX0_often_108 : decode cX0_often 108 = .ok (.checkcast 375, 3) := dk_192 1 119 (dk_at dksX0_often_4 14 rfl rfl)
theorem dX0_often_111 : decode cX0_often 111 = .ok (.dup, 1) := dk_89 (dk_at dksX0_often_4 17 rfl rfl)
theorem dX0_often_112 : decode cX0_often 112 = .ok (.getfield 387, 3) := dk_180 1 131 (dk_at dksX0_often_4 18 rfl rfl)
theorem dX0_often_115 : decode cX0_often 115 = .ok (.iconst 1, 1) := dk_4 (dk_at dksX0_often_4 21 rfl rfl)
theorem dX0_often_116 : decode cX0_often 116 = .ok (.iadd, 1) := dk_96 (dk_at dksX0_often_4 22 rfl rfl)
theorem dX0_often_117 : decode cX0_often 117 = .ok (.putfield 387, 3) := dk_181 1 131 (dk_at dksX0_often_5 0 rfl rfl)
theorem dX0_often_120 : decode cX0_often 120 = .ok (.aload_n 1, 1) := dk_43 (dk_at dksX0_often_5 3 rfl rfl)
theorem dX0_often_121 : decode cX0_often 121 = .ok (.aload_n 0, 1) := dk_42 (dk_at dksX0_often_5 4 rfl rfl)
theorem dX0_often_122 : decode cX0_often 122 = .ok (.getfield 43, 3) := dk_180 0 43 (dk_at dksX0_often_5 5 rfl rfl)
theorem dX0_often_125 : decode cX0_often 125 = .ok (.aload_n 3, 1) := dk_45 (dk_at dksX0_often_5 8 rfl rfl)
theorem dX0_often_126 : decode cX0_often 126 = .ok (.getfield 259, 3) := dk_180 1 3 (dk_at dksX0_often_5 9 rfl rfl)
theorem dX0_often_129 : decode cX0_often 129 = .ok (.iload 4, 2) := dk_21 4 (dk_at dksX0_often_5 12 rfl rfl)
theorem dX0_often_131 : decode cX0_often 131 = .ok (.iaload, 1) := dk_46 (dk_at dksX0_often_5 14 rfl rfl)
theorem dX0_often_132 : decode cX0_often 132 = .ok (.aaload, 1) := dk_50 (dk_at dksX0_often_5 15 rfl rfl)
theorem dX0_often_133 : decode cX0_often 133 = .ok (.invokevirtual 384, 3) := dk_182 1 128 (dk_at dksX0_often_5 16 rfl rfl)
theorem dX0_often_136 : decode cX0_often 136 = .ok (.checkcast 375, 3) := dk_192 1 119 (dk_at dksX0_often_5 19 rfl rfl)
theorem dX0_often_139 : decode cX0_often 139 = .ok (.dup, 1) := dk_89 (dk_at dksX0_often_5 22 rfl rfl)
theorem dX0_often_140 : decode cX0_often 140 = .ok (.getfield 390, 3) := dk_180 1 134 (dk_at dksX0_often_6 0 rfl rfl)
theorem dX0_often_143 : decode cX0_often 143 = .ok (.iconst 1, 1) := dk_4 (dk_at dksX0_often_6 3 rfl rfl)
theorem dX0_often_144 : decode cX0_often 144 = .ok (.iadd, 1) := dk_96 (dk_at dksX0_often_6 4 rfl rfl)
theorem dX0_often_145 : decode cX0_often 145 = .ok (.putfield 390, 3) := dk_181 1 134 (dk_at dksX0_often_6 5 rfl rfl)
theorem dX0_often_148 : decode cX0_often 148 = .ok (.iinc 4 1, 3) := dk_132 4 1 (dk_at dksX0_often_6 8 rfl rfl)
theorem dX0_often_151 : decode cX0_often 151 = .ok (.goto (-68), 3) := dk_167 255 188 (dk_at dksX0_often_6 11 rfl rfl)
theorem dX0_often_154 : decode cX0_often 154 = .ok (.goto (-93), 3) := dk_167 255 163 (dk_at dksX0_often_6 14 rfl rfl)
theorem dX0_often_157 : decode cX0_often 157 = .ok (.aload_n 0, 1) := dk_42 (dk_at dksX0_often_6 17 rfl rfl)
theorem dX0_often_158 : decode cX0_often 158 = .ok (.getfield 10, 3) := dk_180 0 10 (dk_at dksX0_often_6 18 rfl rfl)
theorem dX0_often_161 : decode cX0_often 161 = .ok (.invokevirtual 97, 3) := dk_182 0 97 (dk_at dksX0_often_6 21 rfl rfl)
theorem dX0_often_164 : decode cX0_often 164 = .ok (.astore_n 2, 1) := dk_77 (dk_at dksX0_often_7 0 rfl rfl)
theorem dX0_often_165 : decode cX0_often 165 = .ok (.aload_n 2, 1) := dk_44 (dk_at dksX0_often_7 1 rfl rfl)
theorem dX0_often_166 : decode cX0_often 166 = .ok (.invokeinterface 101 1, 5) := by decide +kernel
theorem dX0_often_171 : decode cX0_often 171 = .ok (.ifCond .eq 73, 3) := dk_153 0 73 (dk_at dksX0_often_7 7 rfl rfl)
theorem dX0_often_174 : decode cX0_often 174 = .ok (.aload_n 2, 1) := dk_44 (dk_at dksX0_often_7 10 rfl rfl)
theorem dX0_often_175 : decode cX0_often 175 = .ok (.invokeinterface 107 1, 5) := by decide +kernel
theorem dX0_often_180 : decode cX0_often 180 = .ok (.checkcast 111, 3) := dk_192 0 111 (dk_at dksX0_often_7 16 rfl rfl)
theorem dX0_often_183 : decode cX0_often 183 = .ok (.astore_n 3, 1) := dk_78 (dk_at dksX0_often_7 19 rfl rfl)
theorem dX0_often_184 : decode cX0_often 184 = .ok (.aload_n 3, 1) := dk_45 (dk_at dksX0_often_7 20 rfl rfl)
theorem dX0_often_185 : decode cX0_often 185 = .ok (.getfield 198, 3) := dk_180 0 198 (dk_at dksX0_often_7 21 rfl rfl)
theorem dX0_often_188 : decode cX0_often 188 = .ok (.astore 4, 2) := dk_58 4 (dk_at dksX0_often_8 0 rfl rfl)
theorem dX0_often_190 : decode cX0_often 190 = .ok (.aload 4, 2) := dk_25 4 (dk_at dksX0_often_8 2 rfl rfl)
theorem dX0_often_192 : decode cX0_often 192 = .ok (.arraylength, 1) := dk_190 (dk_at dksX0_often_8 4 rfl rfl)
theorem dX0_often_193 : decode cX0_often 193 = .ok (.istore 5, 2) := dk_54 5 (dk_at dksX0_often_8 5 rfl rfl)
theorem dX0_often_195 : decode cX0_often 195 = .ok (.iconst 0, 1) := dk_3 (dk_at dksX0_often_8 7 rfl rfl)
theorem dX0_often_196 : decode cX0_often 196 = .ok (.istore 6, 2) := dk_54 6 (dk_at dksX0_often_8 8 rfl rfl)
theorem dX0_often_198 : decode cX0_often 198 = .ok (.iload 6, 2) := dk_21 6 (dk_at dksX0_often_8 10 rfl rfl)
theorem dX0_often_200 : decode cX0_often 200 = .ok (.iload 5, 2) := dk_21 5 (dk_at dksX0_often_8 12 rfl rfl)
theorem dX0_often_202 : decode cX0_often 202 = .ok (.if_icmp .ge 39, 3) := dk_162 0 39 (dk_at dksX0_often_8 14 rfl rfl)
theorem dX0_often_205 : decode cX0_often 205 = .ok (.aload 4, 2) := dk_25 4 (dk_at dksX0_often_8 17 rfl rfl)
theorem dX0_often_207 : decode cX0_often 207 = .ok (.iload 6, 2) := dk_21 6 (dk_at dksX0_often_8 19 rfl rfl)
theorem dX0_often_209 : decode cX0_often 209 = .ok (.iaload, 1) := dk_46 (dk_at dksX0_often_8 21 rfl rfl)
theorem dX0_often_210 : decode cX0_often 210 = .ok (.istore 7, 2) := dk_54 7 (dk_at dksX0_often_8 22 rfl rfl)
theorem dX0_often_212 : decode cX0_often 212 = .ok (.aload_n 1, 1) := dk_43 (dk_at dksX0_often_9 0 rfl rfl)
theorem dX0_often_213 : decode cX0_often 213 = .ok (.aload_n 0, 1) := dk_42 (dk_at dksX0_often_9 1 rfl rfl)
theorem dX0_often_214 : decode cX0_often 214 = .ok (.getfield 43, 3) := dk_180 0 43 (dk_at dksX0_often_9 2 rfl rfl)
theorem dX0_often_217 : decode cX0_often 217 = .ok (.iload 7, 2) := dk_21 7 (dk_at dksX0_often_9 5 rfl rfl)
theorem dX0_often_219 : decode cX0_often 219 = .ok (.aaload, 1) := dk_50 (dk_at dksX0_often_9 7 rfl rfl)
theorem dX0_often_220 : decode cX0_often 220 = .ok (.invokevirtual 384, 3) := dk_182 1 128 (dk_at dksX0_often_9 8 rfl rfl)
theorem dX0_often_223 : decode cX0_often 223 = .ok (.checkcast 375, 3) := dk_192 1 119 (dk_at dksX0_often_9 11 rfl rfl)
theorem dX0_often_226 : decode cX0_often 226 = .ok (.dup, 1) := dk_89 (dk_at dksX0_often_9 14 rfl rfl)
theorem dX0_often_227 : decode cX0_often 227 = .ok (.getfield 393, 3) := dk_180 1 137 (dk_at dksX0_often_9 15 rfl rfl)
theorem dX0_often_230 : decode cX0_often 230 = .ok (.iconst 1, 1) := dk_4 (dk_at dksX0_often_9 18 rfl rfl)
theorem dX0_often_231 : decode cX0_often 231 = .ok (.iadd, 1) := dk_96 (dk_at dksX0_often_9 19 rfl rfl)
theorem dX0_often_232 : decode cX0_often 232 = .ok (.putfield 393, 3) := dk_181 1 137 (dk_at dksX0_often_9 20 rfl rfl)
theorem dX0_often_235 : decode cX0_often 235 = .ok (.iinc 6 1, 3) := dk_132 6 1 (dk_at dksX0_often_10 0 rfl rfl)
theorem dX0_often_238 : decode cX0_often 238 = .ok (.goto (-40), 3) := dk_167 255 216 (dk_at dksX0_often_10 3 rfl rfl)
theorem dX0_often_241 : decode cX0_often 241 = .ok (.goto (-76), 3) := dk_167 255 180 (dk_at dksX0_often_10 6 rfl rfl)
theorem dX0_often_244 : decode cX0_often 244 = .ok (.aload_n 1, 1) := dk_43 (dk_at dksX0_often_10 9 rfl rfl)
theorem dX0_often_245 : decode cX0_often 245 = .ok (.areturn, 1) := dk_176 (dk_at dksX0_often_10 10 rfl rfl)
abbrev cX0_ranked : ByteArray := prog_1_method_72_code
def yX0_ranked : MethodName := ⟨RX0, "ranked", "(I)I"⟩
def dkwX0_ranked_5 : List UInt8 := [132, 3, 1, 167, 255, 217, 2, 172]
abbrev dktX0_ranked_5 : List UInt8 := dkwX0_ranked_5 ++ []
def dkwX0_ranked_4 : List UInt8 := [185, 0, 107, 1, 0, 192, 1, 119, 58, 5, 29, 27, 160, 0, 12, 25, 5, 180, 1, 160, 180, 1, 163, 172]
abbrev dktX0_ranked_4 : List UInt8 := dkwX0_ranked_4 ++ dktX0_ranked_5
def dkwX0_ranked_3 : List UInt8 := [3, 62, 44, 182, 1, 159, 58, 4, 25, 4, 185, 0, 101, 1, 0, 153, 0, 35, 25, 4]
abbrev dktX0_ranked_3 : List UInt8 := dkwX0_ranked_3 ++ dktX0_ranked_4
def dkwX0_ranked_2 : List UInt8 := [153, 0, 24, 45, 185, 0, 107, 1, 0, 192, 1, 119, 58, 4, 44, 25, 4, 182, 1, 158, 87, 167, 255, 229]
abbrev dktX0_ranked_2 : List UInt8 := dkwX0_ranked_2 ++ dktX0_ranked_3
def dkwX0_ranked_1 : List UInt8 := [183, 1, 148, 77, 42, 182, 1, 139, 182, 1, 151, 185, 1, 155, 1, 0, 78, 45, 185, 0, 101, 1, 0]
abbrev dktX0_ranked_1 : List UInt8 := dkwX0_ranked_1 ++ dktX0_ranked_2
def dkwX0_ranked_0 : List UInt8 := [27, 3, 16, 9, 184, 0, 93, 154, 0, 5, 2, 172, 187, 1, 143, 89, 187, 1, 145, 89, 183, 1, 147]
abbrev dktX0_ranked_0 : List UInt8 := dkwX0_ranked_0 ++ dktX0_ranked_1
theorem dksX0_ranked_0 : cX0_ranked.data.toList.drop 0 = dktX0_ranked_0 := by decide +kernel
theorem dksX0_ranked_1 : cX0_ranked.data.toList.drop 23 = dktX0_ranked_1 := dk_seg dksX0_ranked_0 23 rfl rfl
theorem dksX0_ranked_2 : cX0_ranked.data.toList.drop 46 = dktX0_ranked_2 := dk_seg dksX0_ranked_1 23 rfl rfl
theorem dksX0_ranked_3 : cX0_ranked.data.toList.drop 70 = dktX0_ranked_3 := dk_seg dksX0_ranked_2 24 rfl rfl
theorem dksX0_ranked_4 : cX0_ranked.data.toList.drop 90 = dktX0_ranked_4 := dk_seg dksX0_ranked_3 20 rfl rfl
theorem dksX0_ranked_5 : cX0_ranked.data.toList.drop 114 = dktX0_ranked_5 := dk_seg dksX0_ranked_4 24 rfl rfl
theorem dX0_ranked_0 : decode cX0_ranked 0 = .ok (.iload_n 1, 1) := dk_27 (dk_at dksX0_ranked_0 0 rfl rfl)
theorem dX0_ranked_1 : decode cX0_ranked 1 = .ok (.iconst 0, 1) := dk_3 (dk_at dksX0_ranked_0 1 rfl rfl)
theorem dX0_ranked_2 : decode cX0_ranked 2 = .ok (.bipush 9, 2) := dk_16 9 (dk_at dksX0_ranked_0 2 rfl rfl)
theorem dX0_ranked_4 : decode cX0_ranked 4 = .ok (.invokestatic 93, 3) := dk_184 0 93 (dk_at dksX0_ranked_0 4 rfl rfl)
theorem dX0_ranked_7 : decode cX0_ranked 7 = .ok (.ifCond .ne 5, 3) := dk_154 0 5 (dk_at dksX0_ranked_0 7 rfl rfl)
theorem dX0_ranked_10 : decode cX0_ranked 10 = .ok (.iconst (-1), 1) := dk_2 (dk_at dksX0_ranked_0 10 rfl rfl)
theorem dX0_ranked_11 : decode cX0_ranked 11 = .ok (.ireturn, 1) := dk_172 (dk_at dksX0_ranked_0 11 rfl rfl)
theorem dX0_ranked_12 : decode cX0_ranked 12 = .ok (.new 399, 3) := dk_187 1 143 (dk_at dksX0_ranked_0 12 rfl rfl)
theorem dX0_ranked_15 : decode cX0_ranked 15 = .ok (.dup, 1) := dk_89 (dk_at dksX0_ranked_0 15 rfl rfl)
theorem dX0_ranked_16 : decode cX0_ranked 16 = .ok (.new 401, 3) := dk_187 1 145 (dk_at dksX0_ranked_0 16 rfl rfl)
theorem dX0_ranked_19 : decode cX0_ranked 19 = .ok (.dup, 1) := dk_89 (dk_at dksX0_ranked_0 19 rfl rfl)
theorem dX0_ranked_20 : decode cX0_ranked 20 = .ok (.invokespecial 403, 3) := dk_183 1 147 (dk_at dksX0_ranked_0 20 rfl rfl)
theorem dX0_ranked_23 : decode cX0_ranked 23 = .ok (.invokespecial 404, 3) := dk_183 1 148 (dk_at dksX0_ranked_1 0 rfl rfl)
theorem dX0_ranked_26 : decode cX0_ranked 26 = .ok (.astore_n 2, 1) := dk_77 (dk_at dksX0_ranked_1 3 rfl rfl)
theorem dX0_ranked_27 : decode cX0_ranked 27 = .ok (.aload_n 0, 1) := dk_42 (dk_at dksX0_ranked_1 4 rfl rfl)
theorem dX0_ranked_28 : decode cX0_ranked 28 = .ok (.invokevirtual 395, 3) := dk_182 1 139 (dk_at dksX0_ranked_1 5 rfl rfl)
theorem dX0_ranked_31 : decode cX0_ranked 31 = .ok (.invokevirtual 407, 3) := dk_182 1 151 (dk_at dksX0_ranked_1 8 rfl rfl)
theorem dX0_ranked_34 : decode cX0_ranked 34 = .ok (.invokeinterface 411 1, 5) := by decide +kernel
theorem dX0_ranked_39 : decode cX0_ranked 39 = .ok (.astore_n 3, 1) := dk_78 (dk_at dksX0_ranked_1 16 rfl rfl)
theorem dX0_ranked_40 : decode cX0_ranked 40 = .ok (.aload_n 3, 1) := dk_45 (dk_at dksX0_ranked_1 17 rfl rfl)
theorem dX0_ranked_41 : decode cX0_ranked 41 = .ok (.invokeinterface 101 1, 5) := by decide +kernel
theorem dX0_ranked_46 : decode cX0_ranked 46 = .ok (.ifCond .eq 24, 3) := dk_153 0 24 (dk_at dksX0_ranked_2 0 rfl rfl)
theorem dX0_ranked_49 : decode cX0_ranked 49 = .ok (.aload_n 3, 1) := dk_45 (dk_at dksX0_ranked_2 3 rfl rfl)
theorem dX0_ranked_50 : decode cX0_ranked 50 = .ok (.invokeinterface 107 1, 5) := by decide +kernel
theorem dX0_ranked_55 : decode cX0_ranked 55 = .ok (.checkcast 375, 3) := dk_192 1 119 (dk_at dksX0_ranked_2 9 rfl rfl)
theorem dX0_ranked_58 : decode cX0_ranked 58 = .ok (.astore 4, 2) := dk_58 4 (dk_at dksX0_ranked_2 12 rfl rfl)
theorem dX0_ranked_60 : decode cX0_ranked 60 = .ok (.aload_n 2, 1) := dk_44 (dk_at dksX0_ranked_2 14 rfl rfl)
theorem dX0_ranked_61 : decode cX0_ranked 61 = .ok (.aload 4, 2) := dk_25 4 (dk_at dksX0_ranked_2 15 rfl rfl)
theorem dX0_ranked_63 : decode cX0_ranked 63 = .ok (.invokevirtual 414, 3) := dk_182 1 158 (dk_at dksX0_ranked_2 17 rfl rfl)
theorem dX0_ranked_66 : decode cX0_ranked 66 = .ok (.pop, 1) := dk_87 (dk_at dksX0_ranked_2 20 rfl rfl)
theorem dX0_ranked_67 : decode cX0_ranked 67 = .ok (.goto (-27), 3) := dk_167 255 229 (dk_at dksX0_ranked_2 21 rfl rfl)
theorem dX0_ranked_70 : decode cX0_ranked 70 = .ok (.iconst 0, 1) := dk_3 (dk_at dksX0_ranked_3 0 rfl rfl)
theorem dX0_ranked_71 : decode cX0_ranked 71 = .ok (.istore_n 3, 1) := dk_62 (dk_at dksX0_ranked_3 1 rfl rfl)
theorem dX0_ranked_72 : decode cX0_ranked 72 = .ok (.aload_n 2, 1) := dk_44 (dk_at dksX0_ranked_3 2 rfl rfl)
theorem dX0_ranked_73 : decode cX0_ranked 73 = .ok (.invokevirtual 415, 3) := dk_182 1 159 (dk_at dksX0_ranked_3 3 rfl rfl)
theorem dX0_ranked_76 : decode cX0_ranked 76 = .ok (.astore 4, 2) := dk_58 4 (dk_at dksX0_ranked_3 6 rfl rfl)
theorem dX0_ranked_78 : decode cX0_ranked 78 = .ok (.aload 4, 2) := dk_25 4 (dk_at dksX0_ranked_3 8 rfl rfl)
theorem dX0_ranked_80 : decode cX0_ranked 80 = .ok (.invokeinterface 101 1, 5) := by decide +kernel
theorem dX0_ranked_85 : decode cX0_ranked 85 = .ok (.ifCond .eq 35, 3) := dk_153 0 35 (dk_at dksX0_ranked_3 15 rfl rfl)
theorem dX0_ranked_88 : decode cX0_ranked 88 = .ok (.aload 4, 2) := dk_25 4 (dk_at dksX0_ranked_3 18 rfl rfl)
theorem dX0_ranked_90 : decode cX0_ranked 90 = .ok (.invokeinterface 107 1, 5) := by decide +kernel
theorem dX0_ranked_95 : decode cX0_ranked 95 = .ok (.checkcast 375, 3) := dk_192 1 119 (dk_at dksX0_ranked_4 5 rfl rfl)
theorem dX0_ranked_98 : decode cX0_ranked 98 = .ok (.astore 5, 2) := dk_58 5 (dk_at dksX0_ranked_4 8 rfl rfl)
theorem dX0_ranked_100 : decode cX0_ranked 100 = .ok (.iload_n 3, 1) := dk_29 (dk_at dksX0_ranked_4 10 rfl rfl)
theorem dX0_ranked_101 : decode cX0_ranked 101 = .ok (.iload_n 1, 1) := dk_27 (dk_at dksX0_ranked_4 11 rfl rfl)
theorem dX0_ranked_102 : decode cX0_ranked 102 = .ok (.if_icmp .ne 12, 3) := dk_160 0 12 (dk_at dksX0_ranked_4 12 rfl rfl)
theorem dX0_ranked_105 : decode cX0_ranked 105 = .ok (.aload 5, 2) := dk_25 5 (dk_at dksX0_ranked_4 15 rfl rfl)
theorem dX0_ranked_107 : decode cX0_ranked 107 = .ok (.getfield 416, 3) := dk_180 1 160 (dk_at dksX0_ranked_4 17 rfl rfl)
theorem dX0_ranked_110 : decode cX0_ranked 110 = .ok (.getfield 419, 3) := dk_180 1 163 (dk_at dksX0_ranked_4 20 rfl rfl)
theorem dX0_ranked_113 : decode cX0_ranked 113 = .ok (.ireturn, 1) := dk_172 (dk_at dksX0_ranked_4 23 rfl rfl)
theorem dX0_ranked_114 : decode cX0_ranked 114 = .ok (.iinc 3 1, 3) := dk_132 3 1 (dk_at dksX0_ranked_5 0 rfl rfl)
theorem dX0_ranked_117 : decode cX0_ranked 117 = .ok (.goto (-39), 3) := dk_167 255 217 (dk_at dksX0_ranked_5 3 rfl rfl)
theorem dX0_ranked_120 : decode cX0_ranked 120 = .ok (.iconst (-1), 1) := dk_2 (dk_at dksX0_ranked_5 6 rfl rfl)
theorem dX0_ranked_121 : decode cX0_ranked 121 = .ok (.ireturn, 1) := dk_172 (dk_at dksX0_ranked_5 7 rfl rfl)
abbrev cX0_alike : ByteArray := prog_1_method_73_code
def yX0_alike : MethodName := ⟨RX0, "alike", "(II)I"⟩
def dkwX0_alike_1 : List UInt8 := [192, 0, 144, 42, 180, 0, 16, 28, 182, 0, 121, 192, 0, 144, 182, 1, 164, 167, 0, 4, 2, 172]
abbrev dktX0_alike_1 : List UInt8 := dkwX0_alike_1 ++ []
def dkwX0_alike_0 : List UInt8 := [42, 27, 182, 0, 249, 153, 0, 39, 42, 28, 182, 0, 249, 153, 0, 31, 42, 180, 0, 16, 27, 182, 0, 121]
abbrev dktX0_alike_0 : List UInt8 := dkwX0_alike_0 ++ dktX0_alike_1
theorem dksX0_alike_0 : cX0_alike.data.toList.drop 0 = dktX0_alike_0 := by decide +kernel
theorem dksX0_alike_1 : cX0_alike.data.toList.drop 24 = dktX0_alike_1 := dk_seg dksX0_alike_0 24 rfl rfl
theorem dX0_alike_0 : decode cX0_alike 0 = .ok (.aload_n 0, 1) := dk_42 (dk_at dksX0_alike_0 0 rfl rfl)
theorem dX0_alike_1 : decode cX0_alike 1 = .ok (.iload_n 1, 1) := dk_27 (dk_at dksX0_alike_0 1 rfl rfl)
theorem dX0_alike_2 : decode cX0_alike 2 = .ok (.invokevirtual 249, 3) := dk_182 0 249 (dk_at dksX0_alike_0 2 rfl rfl)
theorem dX0_alike_5 : decode cX0_alike 5 = .ok (.ifCond .eq 39, 3) := dk_153 0 39 (dk_at dksX0_alike_0 5 rfl rfl)
theorem dX0_alike_8 : decode cX0_alike 8 = .ok (.aload_n 0, 1) := dk_42 (dk_at dksX0_alike_0 8 rfl rfl)
theorem dX0_alike_9 : decode cX0_alike 9 = .ok (.iload_n 2, 1) := dk_28 (dk_at dksX0_alike_0 9 rfl rfl)
theorem dX0_alike_10 : decode cX0_alike 10 = .ok (.invokevirtual 249, 3) := dk_182 0 249 (dk_at dksX0_alike_0 10 rfl rfl)
theorem dX0_alike_13 : decode cX0_alike 13 = .ok (.ifCond .eq 31, 3) := dk_153 0 31 (dk_at dksX0_alike_0 13 rfl rfl)
theorem dX0_alike_16 : decode cX0_alike 16 = .ok (.aload_n 0, 1) := dk_42 (dk_at dksX0_alike_0 16 rfl rfl)
theorem dX0_alike_17 : decode cX0_alike 17 = .ok (.getfield 16, 3) := dk_180 0 16 (dk_at dksX0_alike_0 17 rfl rfl)
theorem dX0_alike_20 : decode cX0_alike 20 = .ok (.iload_n 1, 1) := dk_27 (dk_at dksX0_alike_0 20 rfl rfl)
theorem dX0_alike_21 : decode cX0_alike 21 = .ok (.invokevirtual 121, 3) := dk_182 0 121 (dk_at dksX0_alike_0 21 rfl rfl)
theorem dX0_alike_24 : decode cX0_alike 24 = .ok (.checkcast 144, 3) := dk_192 0 144 (dk_at dksX0_alike_1 0 rfl rfl)
theorem dX0_alike_27 : decode cX0_alike 27 = .ok (.aload_n 0, 1) := dk_42 (dk_at dksX0_alike_1 3 rfl rfl)
theorem dX0_alike_28 : decode cX0_alike 28 = .ok (.getfield 16, 3) := dk_180 0 16 (dk_at dksX0_alike_1 4 rfl rfl)
theorem dX0_alike_31 : decode cX0_alike 31 = .ok (.iload_n 2, 1) := dk_28 (dk_at dksX0_alike_1 7 rfl rfl)
theorem dX0_alike_32 : decode cX0_alike 32 = .ok (.invokevirtual 121, 3) := dk_182 0 121 (dk_at dksX0_alike_1 8 rfl rfl)
theorem dX0_alike_35 : decode cX0_alike 35 = .ok (.checkcast 144, 3) := dk_192 0 144 (dk_at dksX0_alike_1 11 rfl rfl)
theorem dX0_alike_38 : decode cX0_alike 38 = .ok (.invokevirtual 420, 3) := dk_182 1 164 (dk_at dksX0_alike_1 14 rfl rfl)
theorem dX0_alike_41 : decode cX0_alike 41 = .ok (.goto 4, 3) := dk_167 0 4 (dk_at dksX0_alike_1 17 rfl rfl)
theorem dX0_alike_44 : decode cX0_alike 44 = .ok (.iconst (-1), 1) := dk_2 (dk_at dksX0_alike_1 20 rfl rfl)
theorem dX0_alike_45 : decode cX0_alike 45 = .ok (.ireturn, 1) := dk_172 (dk_at dksX0_alike_1 21 rfl rfl)
abbrev cX0_faces : ByteArray := prog_1_method_74_code
def yX0_faces : MethodName := ⟨RX0, "faces", "(I)I"⟩
def dkwX0_faces_1 : List UInt8 := [167, 0, 4, 2, 172]
abbrev dktX0_faces_1 : List UInt8 := dkwX0_faces_1 ++ []
def dkwX0_faces_0 : List UInt8 := [42, 27, 182, 0, 249, 153, 0, 20, 42, 180, 0, 16, 27, 182, 0, 121, 192, 0, 144, 182, 1, 168]
abbrev dktX0_faces_0 : List UInt8 := dkwX0_faces_0 ++ dktX0_faces_1
theorem dksX0_faces_0 : cX0_faces.data.toList.drop 0 = dktX0_faces_0 := by decide +kernel
theorem dksX0_faces_1 : cX0_faces.data.toList.drop 22 = dktX0_faces_1 := dk_seg dksX0_faces_0 22 rfl rfl
theorem dX0_faces_0 : decode cX0_faces 0 = .ok (.aload_n 0, 1) := dk_42 (dk_at dksX0_faces_0 0 rfl rfl)
theorem dX0_faces_1 : decode cX0_faces 1 = .ok (.iload_n 1, 1) := dk_27 (dk_at dksX0_faces_0 1 rfl rfl)
theorem dX0_faces_2 : decode cX0_faces 2 = .ok (.invokevirtual 249, 3) := dk_182 0 249 (dk_at dksX0_faces_0 2 rfl rfl)
theorem dX0_faces_5 : decode cX0_faces 5 = .ok (.ifCond .eq 20, 3) := dk_153 0 20 (dk_at dksX0_faces_0 5 rfl rfl)
theorem dX0_faces_8 : decode cX0_faces 8 = .ok (.aload_n 0, 1) := dk_42 (dk_at dksX0_faces_0 8 rfl rfl)
theorem dX0_faces_9 : decode cX0_faces 9 = .ok (.getfield 16, 3) := dk_180 0 16 (dk_at dksX0_faces_0 9 rfl rfl)
theorem dX0_faces_12 : decode cX0_faces 12 = .ok (.iload_n 1, 1) := dk_27 (dk_at dksX0_faces_0 12 rfl rfl)
theorem dX0_faces_13 : decode cX0_faces 13 = .ok (.invokevirtual 121, 3) := dk_182 0 121 (dk_at dksX0_faces_0 13 rfl rfl)
theorem dX0_faces_16 : decode cX0_faces 16 = .ok (.checkcast 144, 3) := dk_192 0 144 (dk_at dksX0_faces_0 16 rfl rfl)
theorem dX0_faces_19 : decode cX0_faces 19 = .ok (.invokevirtual 424, 3) := dk_182 1 168 (dk_at dksX0_faces_0 19 rfl rfl)
theorem dX0_faces_22 : decode cX0_faces 22 = .ok (.goto 4, 3) := dk_167 0 4 (dk_at dksX0_faces_1 0 rfl rfl)
theorem dX0_faces_25 : decode cX0_faces 25 = .ok (.iconst (-1), 1) := dk_2 (dk_at dksX0_faces_1 3 rfl rfl)
theorem dX0_faces_26 : decode cX0_faces 26 = .ok (.ireturn, 1) := dk_172 (dk_at dksX0_faces_1 4 rfl rfl)
abbrev cX0_spell : ByteArray := prog_1_method_75_code
def yX0_spell : MethodName := ⟨RX0, "spell", "()I"⟩
def dkwX0_spell_3 : List UInt8 := [42, 180, 0, 49, 182, 1, 191, 172]
abbrev dktX0_spell_3 : List UInt8 := dkwX0_spell_3 ++ []
def dkwX0_spell_2 : List UInt8 := [182, 1, 177, 87, 43, 45, 182, 1, 181, 182, 1, 185, 87, 167, 255, 214, 42, 43, 182, 1, 188, 181, 0, 49]
abbrev dktX0_spell_2 : List UInt8 := dkwX0_spell_2 ++ dktX0_spell_3
def dkwX0_spell_1 : List UInt8 := [153, 0, 39, 44, 185, 0, 107, 1, 0, 192, 0, 111, 78, 43, 182, 1, 174, 158, 0, 10, 43, 16, 59]
abbrev dktX0_spell_1 : List UInt8 := dkwX0_spell_1 ++ dktX0_spell_2
def dkwX0_spell_0 : List UInt8 := [187, 1, 171, 89, 183, 1, 173, 76, 42, 180, 0, 10, 182, 0, 97, 77, 44, 185, 0, 101, 1, 0]
abbrev dktX0_spell_0 : List UInt8 := dkwX0_spell_0 ++ dktX0_spell_1
theorem dksX0_spell_0 : cX0_spell.data.toList.drop 0 = dktX0_spell_0 := by decide +kernel
theorem dksX0_spell_1 : cX0_spell.data.toList.drop 22 = dktX0_spell_1 := dk_seg dksX0_spell_0 22 rfl rfl
theorem dksX0_spell_2 : cX0_spell.data.toList.drop 45 = dktX0_spell_2 := dk_seg dksX0_spell_1 23 rfl rfl
theorem dksX0_spell_3 : cX0_spell.data.toList.drop 69 = dktX0_spell_3 := dk_seg dksX0_spell_2 24 rfl rfl
theorem dX0_spell_0 : decode cX0_spell 0 = .ok (.new 427, 3) := dk_187 1 171 (dk_at dksX0_spell_0 0 rfl rfl)
theorem dX0_spell_3 : decode cX0_spell 3 = .ok (.dup, 1) := dk_89 (dk_at dksX0_spell_0 3 rfl rfl)
theorem dX0_spell_4 : decode cX0_spell 4 = .ok (.invokespecial 429, 3) := dk_183 1 173 (dk_at dksX0_spell_0 4 rfl rfl)
theorem dX0_spell_7 : decode cX0_spell 7 = .ok (.astore_n 1, 1) := dk_76 (dk_at dksX0_spell_0 7 rfl rfl)
theorem dX0_spell_8 : decode cX0_spell 8 = .ok (.aload_n 0, 1) := dk_42 (dk_at dksX0_spell_0 8 rfl rfl)
theorem dX0_spell_9 : decode cX0_spell 9 = .ok (.getfield 10, 3) := dk_180 0 10 (dk_at dksX0_spell_0 9 rfl rfl)
theorem dX0_spell_12 : decode cX0_spell 12 = .ok (.invokevirtual 97, 3) := dk_182 0 97 (dk_at dksX0_spell_0 12 rfl rfl)
theorem dX0_spell_15 : decode cX0_spell 15 = .ok (.astore_n 2, 1) := dk_77 (dk_at dksX0_spell_0 15 rfl rfl)
theorem dX0_spell_16 : decode cX0_spell 16 = .ok (.aload_n 2, 1) := dk_44 (dk_at dksX0_spell_0 16 rfl rfl)
theorem dX0_spell_17 : decode cX0_spell 17 = .ok (.invokeinterface 101 1, 5) := by decide +kernel
theorem dX0_spell_22 : decode cX0_spell 22 = .ok (.ifCond .eq 39, 3) := dk_153 0 39 (dk_at dksX0_spell_1 0 rfl rfl)
theorem dX0_spell_25 : decode cX0_spell 25 = .ok (.aload_n 2, 1) := dk_44 (dk_at dksX0_spell_1 3 rfl rfl)
theorem dX0_spell_26 : decode cX0_spell 26 = .ok (.invokeinterface 107 1, 5) := by decide +kernel
theorem dX0_spell_31 : decode cX0_spell 31 = .ok (.checkcast 111, 3) := dk_192 0 111 (dk_at dksX0_spell_1 9 rfl rfl)
theorem dX0_spell_34 : decode cX0_spell 34 = .ok (.astore_n 3, 1) := dk_78 (dk_at dksX0_spell_1 12 rfl rfl)
theorem dX0_spell_35 : decode cX0_spell 35 = .ok (.aload_n 1, 1) := dk_43 (dk_at dksX0_spell_1 13 rfl rfl)
theorem dX0_spell_36 : decode cX0_spell 36 = .ok (.invokevirtual 430, 3) := dk_182 1 174 (dk_at dksX0_spell_1 14 rfl rfl)
theorem dX0_spell_39 : decode cX0_spell 39 = .ok (.ifCond .le 10, 3) := dk_158 0 10 (dk_at dksX0_spell_1 17 rfl rfl)
theorem dX0_spell_42 : decode cX0_spell 42 = .ok (.aload_n 1, 1) := dk_43 (dk_at dksX0_spell_1 20 rfl rfl)
theorem dX0_spell_43 : decode cX0_spell 43 = .ok (.bipush 59, 2) := dk_16 59 (dk_at dksX0_spell_1 21 rfl rfl)
theorem dX0_spell_45 : decode cX0_spell 45 = .ok (.invokevirtual 433, 3) := dk_182 1 177 (dk_at dksX0_spell_2 0 rfl rfl)
theorem dX0_spell_48 : decode cX0_spell 48 = .ok (.pop, 1) := dk_87 (dk_at dksX0_spell_2 3 rfl rfl)
theorem dX0_spell_49 : decode cX0_spell 49 = .ok (.aload_n 1, 1) := dk_43 (dk_at dksX0_spell_2 4 rfl rfl)
theorem dX0_spell_50 : decode cX0_spell 50 = .ok (.aload_n 3, 1) := dk_45 (dk_at dksX0_spell_2 5 rfl rfl)
theorem dX0_spell_51 : decode cX0_spell 51 = .ok (.invokevirtual 437, 3) := dk_182 1 181 (dk_at dksX0_spell_2 6 rfl rfl)
theorem dX0_spell_54 : decode cX0_spell 54 = .ok (.invokevirtual 441, 3) := dk_182 1 185 (dk_at dksX0_spell_2 9 rfl rfl)
theorem dX0_spell_57 : decode cX0_spell 57 = .ok (.pop, 1) := dk_87 (dk_at dksX0_spell_2 12 rfl rfl)
theorem dX0_spell_58 : decode cX0_spell 58 = .ok (.goto (-42), 3) := dk_167 255 214 (dk_at dksX0_spell_2 13 rfl rfl)
theorem dX0_spell_61 : decode cX0_spell 61 = .ok (.aload_n 0, 1) := dk_42 (dk_at dksX0_spell_2 16 rfl rfl)
theorem dX0_spell_62 : decode cX0_spell 62 = .ok (.aload_n 1, 1) := dk_43 (dk_at dksX0_spell_2 17 rfl rfl)
theorem dX0_spell_63 : decode cX0_spell 63 = .ok (.invokevirtual 444, 3) := dk_182 1 188 (dk_at dksX0_spell_2 18 rfl rfl)
theorem dX0_spell_66 : decode cX0_spell 66 = .ok (.putfield 49, 3) := dk_181 0 49 (dk_at dksX0_spell_2 21 rfl rfl)
theorem dX0_spell_69 : decode cX0_spell 69 = .ok (.aload_n 0, 1) := dk_42 (dk_at dksX0_spell_3 0 rfl rfl)
theorem dX0_spell_70 : decode cX0_spell 70 = .ok (.getfield 49, 3) := dk_180 0 49 (dk_at dksX0_spell_3 1 rfl rfl)
theorem dX0_spell_73 : decode cX0_spell 73 = .ok (.invokevirtual 447, 3) := dk_182 1 191 (dk_at dksX0_spell_3 4 rfl rfl)
theorem dX0_spell_76 : decode cX0_spell 76 = .ok (.ireturn, 1) := dk_172 (dk_at dksX0_spell_3 7 rfl rfl)
abbrev cX0_paper : ByteArray := prog_1_method_76_code
def yX0_paper : MethodName := ⟨RX0, "paper", "(I)I"⟩
def dkwX0_paper_1 : List UInt8 := [182, 1, 194, 167, 0, 4, 2, 172]
abbrev dktX0_paper_1 : List UInt8 := dkwX0_paper_1 ++ []
def dkwX0_paper_0 : List UInt8 := [27, 3, 42, 180, 0, 49, 182, 1, 191, 4, 100, 184, 0, 93, 153, 0, 14, 42, 180, 0, 49, 27]
abbrev dktX0_paper_0 : List UInt8 := dkwX0_paper_0 ++ dktX0_paper_1
theorem dksX0_paper_0 : cX0_paper.data.toList.drop 0 = dktX0_paper_0 := by decide +kernel
theorem dksX0_paper_1 : cX0_paper.data.toList.drop 22 = dktX0_paper_1 := dk_seg dksX0_paper_0 22 rfl rfl
theorem dX0_paper_0 : decode cX0_paper 0 = .ok (.iload_n 1, 1) := dk_27 (dk_at dksX0_paper_0 0 rfl rfl)
theorem dX0_paper_1 : decode cX0_paper 1 = .ok (.iconst 0, 1) := dk_3 (dk_at dksX0_paper_0 1 rfl rfl)
theorem dX0_paper_2 : decode cX0_paper 2 = .ok (.aload_n 0, 1) := dk_42 (dk_at dksX0_paper_0 2 rfl rfl)
theorem dX0_paper_3 : decode cX0_paper 3 = .ok (.getfield 49, 3) := dk_180 0 49 (dk_at dksX0_paper_0 3 rfl rfl)
theorem dX0_paper_6 : decode cX0_paper 6 = .ok (.invokevirtual 447, 3) := dk_182 1 191 (dk_at dksX0_paper_0 6 rfl rfl)
theorem dX0_paper_9 : decode cX0_paper 9 = .ok (.iconst 1, 1) := dk_4 (dk_at dksX0_paper_0 9 rfl rfl)
theorem dX0_paper_10 : decode cX0_paper 10 = .ok (.isub, 1) := dk_100 (dk_at dksX0_paper_0 10 rfl rfl)
theorem dX0_paper_11 : decode cX0_paper 11 = .ok (.invokestatic 93, 3) := dk_184 0 93 (dk_at dksX0_paper_0 11 rfl rfl)
theorem dX0_paper_14 : decode cX0_paper 14 = .ok (.ifCond .eq 14, 3) := dk_153 0 14 (dk_at dksX0_paper_0 14 rfl rfl)
theorem dX0_paper_17 : decode cX0_paper 17 = .ok (.aload_n 0, 1) := dk_42 (dk_at dksX0_paper_0 17 rfl rfl)
theorem dX0_paper_18 : decode cX0_paper 18 = .ok (.getfield 49, 3) := dk_180 0 49 (dk_at dksX0_paper_0 18 rfl rfl)
theorem dX0_paper_21 : decode cX0_paper 21 = .ok (.iload_n 1, 1) := dk_27 (dk_at dksX0_paper_0 21 rfl rfl)
theorem dX0_paper_22 : decode cX0_paper 22 = .ok (.invokevirtual 450, 3) := dk_182 1 194 (dk_at dksX0_paper_1 0 rfl rfl)
theorem dX0_paper_25 : decode cX0_paper 25 = .ok (.goto 4, 3) := dk_167 0 4 (dk_at dksX0_paper_1 3 rfl rfl)
theorem dX0_paper_28 : decode cX0_paper 28 = .ok (.iconst (-1), 1) := dk_2 (dk_at dksX0_paper_1 6 rfl rfl)
theorem dX0_paper_29 : decode cX0_paper 29 = .ok (.ireturn, 1) := dk_172 (dk_at dksX0_paper_1 7 rfl rfl)
abbrev cX0_told : ByteArray := prog_1_method_79_code
def yX0_told : MethodName := ⟨RX0, "told", "(I)I"⟩
def dkwX0_told_3 : List UInt8 := [182, 1, 204, 172, 42, 180, 0, 162, 172, 42, 180, 0, 49, 182, 1, 191, 172, 2, 172]
abbrev dktX0_told_3 : List UInt8 := dkwX0_told_3 ++ []
def dkwX0_told_2 : List UInt8 := [42, 182, 0, 90, 172, 42, 180, 0, 16, 182, 0, 86, 172, 42, 182, 1, 201, 172, 42, 180, 1, 60, 172, 42]
abbrev dktX0_told_2 : List UInt8 := dkwX0_told_2 ++ dktX0_told_3
def dkwX0_told_1 : List UInt8 := [170, 0, 0, 0, 0, 0, 88, 0, 0, 0, 0, 0, 0, 0, 7, 0, 0, 0, 47, 0, 0, 0, 52, 0, 0, 0, 52, 0, 0, 0, 60, 0, 0, 0, 65, 0, 0, 0, 70, 0, 0, 0, 75, 0, 0, 0, 80]
abbrev dktX0_told_1 : List UInt8 := dkwX0_told_1 ++ dktX0_told_2
def dkwX0_told_0 : List UInt8 := [27]
abbrev dktX0_told_0 : List UInt8 := dkwX0_told_0 ++ dktX0_told_1
theorem dksX0_told_0 : cX0_told.data.toList.drop 0 = dktX0_told_0 := by decide +kernel
theorem dksX0_told_1 : cX0_told.data.toList.drop 1 = dktX0_told_1 := dk_seg dksX0_told_0 1 rfl rfl
theorem dksX0_told_2 : cX0_told.data.toList.drop 48 = dktX0_told_2 := dk_seg dksX0_told_1 47 rfl rfl
theorem dksX0_told_3 : cX0_told.data.toList.drop 72 = dktX0_told_3 := dk_seg dksX0_told_2 24 rfl rfl
theorem dX0_told_0 : decode cX0_told 0 = .ok (.iload_n 1, 1) := dk_27 (dk_at dksX0_told_0 0 rfl rfl)
theorem dX0_told_1 : decode cX0_told 1 = .ok (.tableswitch 88 0 7 #[47, 52, 52, 60, 65, 70, 75, 80], 47) := by decide +kernel
theorem dX0_told_48 : decode cX0_told 48 = .ok (.aload_n 0, 1) := dk_42 (dk_at dksX0_told_2 0 rfl rfl)
theorem dX0_told_49 : decode cX0_told 49 = .ok (.invokevirtual 90, 3) := dk_182 0 90 (dk_at dksX0_told_2 1 rfl rfl)
theorem dX0_told_52 : decode cX0_told 52 = .ok (.ireturn, 1) := dk_172 (dk_at dksX0_told_2 4 rfl rfl)
theorem dX0_told_53 : decode cX0_told 53 = .ok (.aload_n 0, 1) := dk_42 (dk_at dksX0_told_2 5 rfl rfl)
theorem dX0_told_54 : decode cX0_told 54 = .ok (.getfield 16, 3) := dk_180 0 16 (dk_at dksX0_told_2 6 rfl rfl)
theorem dX0_told_57 : decode cX0_told 57 = .ok (.invokevirtual 86, 3) := dk_182 0 86 (dk_at dksX0_told_2 9 rfl rfl)
theorem dX0_told_60 : decode cX0_told 60 = .ok (.ireturn, 1) := dk_172 (dk_at dksX0_told_2 12 rfl rfl)
theorem dX0_told_61 : decode cX0_told 61 = .ok (.aload_n 0, 1) := dk_42 (dk_at dksX0_told_2 13 rfl rfl)
theorem dX0_told_62 : decode cX0_told 62 = .ok (.invokevirtual 457, 3) := dk_182 1 201 (dk_at dksX0_told_2 14 rfl rfl)
theorem dX0_told_65 : decode cX0_told 65 = .ok (.ireturn, 1) := dk_172 (dk_at dksX0_told_2 17 rfl rfl)
theorem dX0_told_66 : decode cX0_told 66 = .ok (.aload_n 0, 1) := dk_42 (dk_at dksX0_told_2 18 rfl rfl)
theorem dX0_told_67 : decode cX0_told 67 = .ok (.getfield 316, 3) := dk_180 1 60 (dk_at dksX0_told_2 19 rfl rfl)
theorem dX0_told_70 : decode cX0_told 70 = .ok (.ireturn, 1) := dk_172 (dk_at dksX0_told_2 22 rfl rfl)
theorem dX0_told_71 : decode cX0_told 71 = .ok (.aload_n 0, 1) := dk_42 (dk_at dksX0_told_2 23 rfl rfl)
theorem dX0_told_72 : decode cX0_told 72 = .ok (.invokevirtual 460, 3) := dk_182 1 204 (dk_at dksX0_told_3 0 rfl rfl)
theorem dX0_told_75 : decode cX0_told 75 = .ok (.ireturn, 1) := dk_172 (dk_at dksX0_told_3 3 rfl rfl)
theorem dX0_told_76 : decode cX0_told 76 = .ok (.aload_n 0, 1) := dk_42 (dk_at dksX0_told_3 4 rfl rfl)
theorem dX0_told_77 : decode cX0_told 77 = .ok (.getfield 162, 3) := dk_180 0 162 (dk_at dksX0_told_3 5 rfl rfl)
theorem dX0_told_80 : decode cX0_told 80 = .ok (.ireturn, 1) := dk_172 (dk_at dksX0_told_3 8 rfl rfl)
theorem dX0_told_81 : decode cX0_told 81 = .ok (.aload_n 0, 1) := dk_42 (dk_at dksX0_told_3 9 rfl rfl)
theorem dX0_told_82 : decode cX0_told 82 = .ok (.getfield 49, 3) := dk_180 0 49 (dk_at dksX0_told_3 10 rfl rfl)
theorem dX0_told_85 : decode cX0_told 85 = .ok (.invokevirtual 447, 3) := dk_182 1 191 (dk_at dksX0_told_3 13 rfl rfl)
theorem dX0_told_88 : decode cX0_told 88 = .ok (.ireturn, 1) := dk_172 (dk_at dksX0_told_3 16 rfl rfl)
theorem dX0_told_89 : decode cX0_told 89 = .ok (.iconst (-1), 1) := dk_2 (dk_at dksX0_told_3 17 rfl rfl)
theorem dX0_told_90 : decode cX0_told 90 = .ok (.ireturn, 1) := dk_172 (dk_at dksX0_told_3 18 rfl rfl)
abbrev cX0_twists : ByteArray := prog_1_method_77_code
def yX0_twists : MethodName := ⟨RX0, "twists", "()I"⟩
def dkwX0_twists_1 : List UInt8 := [185, 0, 107, 1, 0, 192, 0, 111, 78, 27, 45, 180, 0, 205, 184, 1, 198, 96, 60, 167, 255, 227, 27, 172]
abbrev dktX0_twists_1 : List UInt8 := dkwX0_twists_1 ++ []
def dkwX0_twists_0 : List UInt8 := [3, 60, 42, 180, 0, 10, 182, 0, 97, 77, 44, 185, 0, 101, 1, 0, 153, 0, 26, 44]
abbrev dktX0_twists_0 : List UInt8 := dkwX0_twists_0 ++ dktX0_twists_1
theorem dksX0_twists_0 : cX0_twists.data.toList.drop 0 = dktX0_twists_0 := by decide +kernel
theorem dksX0_twists_1 : cX0_twists.data.toList.drop 20 = dktX0_twists_1 := dk_seg dksX0_twists_0 20 rfl rfl
theorem dX0_twists_0 : decode cX0_twists 0 = .ok (.iconst 0, 1) := dk_3 (dk_at dksX0_twists_0 0 rfl rfl)
theorem dX0_twists_1 : decode cX0_twists 1 = .ok (.istore_n 1, 1) := dk_60 (dk_at dksX0_twists_0 1 rfl rfl)
theorem dX0_twists_2 : decode cX0_twists 2 = .ok (.aload_n 0, 1) := dk_42 (dk_at dksX0_twists_0 2 rfl rfl)
theorem dX0_twists_3 : decode cX0_twists 3 = .ok (.getfield 10, 3) := dk_180 0 10 (dk_at dksX0_twists_0 3 rfl rfl)
theorem dX0_twists_6 : decode cX0_twists 6 = .ok (.invokevirtual 97, 3) := dk_182 0 97 (dk_at dksX0_twists_0 6 rfl rfl)
theorem dX0_twists_9 : decode cX0_twists 9 = .ok (.astore_n 2, 1) := dk_77 (dk_at dksX0_twists_0 9 rfl rfl)
theorem dX0_twists_10 : decode cX0_twists 10 = .ok (.aload_n 2, 1) := dk_44 (dk_at dksX0_twists_0 10 rfl rfl)
theorem dX0_twists_11 : decode cX0_twists 11 = .ok (.invokeinterface 101 1, 5) := by decide +kernel
theorem dX0_twists_16 : decode cX0_twists 16 = .ok (.ifCond .eq 26, 3) := dk_153 0 26 (dk_at dksX0_twists_0 16 rfl rfl)
theorem dX0_twists_19 : decode cX0_twists 19 = .ok (.aload_n 2, 1) := dk_44 (dk_at dksX0_twists_0 19 rfl rfl)
theorem dX0_twists_20 : decode cX0_twists 20 = .ok (.invokeinterface 107 1, 5) := by decide +kernel
theorem dX0_twists_25 : decode cX0_twists 25 = .ok (.checkcast 111, 3) := dk_192 0 111 (dk_at dksX0_twists_1 5 rfl rfl)
theorem dX0_twists_28 : decode cX0_twists 28 = .ok (.astore_n 3, 1) := dk_78 (dk_at dksX0_twists_1 8 rfl rfl)
theorem dX0_twists_29 : decode cX0_twists 29 = .ok (.iload_n 1, 1) := dk_27 (dk_at dksX0_twists_1 9 rfl rfl)
theorem dX0_twists_30 : decode cX0_twists 30 = .ok (.aload_n 3, 1) := dk_45 (dk_at dksX0_twists_1 10 rfl rfl)
theorem dX0_twists_31 : decode cX0_twists 31 = .ok (.getfield 205, 3) := dk_180 0 205 (dk_at dksX0_twists_1 11 rfl rfl)
theorem dX0_twists_34 : decode cX0_twists 34 = .ok (.invokestatic 454, 3) := dk_184 1 198 (dk_at dksX0_twists_1 14 rfl rfl)
theorem dX0_twists_37 : decode cX0_twists 37 = .ok (.iadd, 1) := dk_96 (dk_at dksX0_twists_1 17 rfl rfl)
theorem dX0_twists_38 : decode cX0_twists 38 = .ok (.istore_n 1, 1) := dk_60 (dk_at dksX0_twists_1 18 rfl rfl)
theorem dX0_twists_39 : decode cX0_twists 39 = .ok (.goto (-29), 3) := dk_167 255 227 (dk_at dksX0_twists_1 19 rfl rfl)
theorem dX0_twists_42 : decode cX0_twists 42 = .ok (.iload_n 1, 1) := dk_27 (dk_at dksX0_twists_1 22 rfl rfl)
theorem dX0_twists_43 : decode cX0_twists 43 = .ok (.ireturn, 1) := dk_172 (dk_at dksX0_twists_1 23 rfl rfl)
abbrev cX0_greatestFloat : ByteArray := prog_1_method_78_code
def yX0_greatestFloat : MethodName := ⟨RX0, "greatestFloat", "()I"⟩
def dkwX0_greatestFloat_1 : List UInt8 := [132, 2, 1, 167, 255, 235, 27, 172]
abbrev dktX0_greatestFloat_1 : List UInt8 := dkwX0_greatestFloat_1 ++ []
def dkwX0_greatestFloat_0 : List UInt8 := [3, 60, 3, 61, 28, 42, 182, 0, 90, 162, 0, 19, 27, 42, 28, 182, 0, 208, 184, 0, 189, 60]
abbrev dktX0_greatestFloat_0 : List UInt8 := dkwX0_greatestFloat_0 ++ dktX0_greatestFloat_1
theorem dksX0_greatestFloat_0 : cX0_greatestFloat.data.toList.drop 0 = dktX0_greatestFloat_0 := by decide +kernel
theorem dksX0_greatestFloat_1 : cX0_greatestFloat.data.toList.drop 22 = dktX0_greatestFloat_1 := dk_seg dksX0_greatestFloat_0 22 rfl rfl
theorem dX0_greatestFloat_0 : decode cX0_greatestFloat 0 = .ok (.iconst 0, 1) := dk_3 (dk_at dksX0_greatestFloat_0 0 rfl rfl)
theorem dX0_greatestFloat_1 : decode cX0_greatestFloat 1 = .ok (.istore_n 1, 1) := dk_60 (dk_at dksX0_greatestFloat_0 1 rfl rfl)
theorem dX0_greatestFloat_2 : decode cX0_greatestFloat 2 = .ok (.iconst 0, 1) := dk_3 (dk_at dksX0_greatestFloat_0 2 rfl rfl)
theorem dX0_greatestFloat_3 : decode cX0_greatestFloat 3 = .ok (.istore_n 2, 1) := dk_61 (dk_at dksX0_greatestFloat_0 3 rfl rfl)
theorem dX0_greatestFloat_4 : decode cX0_greatestFloat 4 = .ok (.iload_n 2, 1) := dk_28 (dk_at dksX0_greatestFloat_0 4 rfl rfl)
theorem dX0_greatestFloat_5 : decode cX0_greatestFloat 5 = .ok (.aload_n 0, 1) := dk_42 (dk_at dksX0_greatestFloat_0 5 rfl rfl)
theorem dX0_greatestFloat_6 : decode cX0_greatestFloat 6 = .ok (.invokevirtual 90, 3) := dk_182 0 90 (dk_at dksX0_greatestFloat_0 6 rfl rfl)
theorem dX0_greatestFloat_9 : decode cX0_greatestFloat 9 = .ok (.if_icmp .ge 19, 3) := dk_162 0 19 (dk_at dksX0_greatestFloat_0 9 rfl rfl)
theorem dX0_greatestFloat_12 : decode cX0_greatestFloat 12 = .ok (.iload_n 1, 1) := dk_27 (dk_at dksX0_greatestFloat_0 12 rfl rfl)
theorem dX0_greatestFloat_13 : decode cX0_greatestFloat 13 = .ok (.aload_n 0, 1) := dk_42 (dk_at dksX0_greatestFloat_0 13 rfl rfl)
theorem dX0_greatestFloat_14 : decode cX0_greatestFloat 14 = .ok (.iload_n 2, 1) := dk_28 (dk_at dksX0_greatestFloat_0 14 rfl rfl)
theorem dX0_greatestFloat_15 : decode cX0_greatestFloat 15 = .ok (.invokevirtual 208, 3) := dk_182 0 208 (dk_at dksX0_greatestFloat_0 15 rfl rfl)
theorem dX0_greatestFloat_18 : decode cX0_greatestFloat 18 = .ok (.invokestatic 189, 3) := dk_184 0 189 (dk_at dksX0_greatestFloat_0 18 rfl rfl)
theorem dX0_greatestFloat_21 : decode cX0_greatestFloat 21 = .ok (.istore_n 1, 1) := dk_60 (dk_at dksX0_greatestFloat_0 21 rfl rfl)
theorem dX0_greatestFloat_22 : decode cX0_greatestFloat 22 = .ok (.iinc 2 1, 3) := dk_132 2 1 (dk_at dksX0_greatestFloat_1 0 rfl rfl)
theorem dX0_greatestFloat_25 : decode cX0_greatestFloat 25 = .ok (.goto (-21), 3) := dk_167 255 235 (dk_at dksX0_greatestFloat_1 3 rfl rfl)
theorem dX0_greatestFloat_28 : decode cX0_greatestFloat 28 = .ok (.iload_n 1, 1) := dk_27 (dk_at dksX0_greatestFloat_1 6 rfl rfl)
theorem dX0_greatestFloat_29 : decode cX0_greatestFloat 29 = .ok (.ireturn, 1) := dk_172 (dk_at dksX0_greatestFloat_1 7 rfl rfl)
abbrev cX0_list : ByteArray := prog_1_method_81_code
def yX0_list : MethodName := ⟨RX0, "list", "(II)I"⟩
def dkwX0_list_1 : List UInt8 := [188, 10, 83, 4, 172, 78, 16, 242, 172]
abbrev dktX0_list_1 : List UInt8 := dkwX0_list_1 ++ []
def dkwX0_list_0 : List UInt8 := [27, 184, 1, 207, 154, 0, 5, 2, 172, 28, 16, 20, 164, 0, 6, 16, 254, 172, 42, 180, 0, 55, 27, 28]
abbrev dktX0_list_0 : List UInt8 := dkwX0_list_0 ++ dktX0_list_1
theorem dksX0_list_0 : cX0_list.data.toList.drop 0 = dktX0_list_0 := by decide +kernel
theorem dksX0_list_1 : cX0_list.data.toList.drop 24 = dktX0_list_1 := dk_seg dksX0_list_0 24 rfl rfl
theorem dX0_list_0 : decode cX0_list 0 = .ok (.iload_n 1, 1) := dk_27 (dk_at dksX0_list_0 0 rfl rfl)
theorem dX0_list_1 : decode cX0_list 1 = .ok (.invokestatic 463, 3) := dk_184 1 207 (dk_at dksX0_list_0 1 rfl rfl)
theorem dX0_list_4 : decode cX0_list 4 = .ok (.ifCond .ne 5, 3) := dk_154 0 5 (dk_at dksX0_list_0 4 rfl rfl)
theorem dX0_list_7 : decode cX0_list 7 = .ok (.iconst (-1), 1) := dk_2 (dk_at dksX0_list_0 7 rfl rfl)
theorem dX0_list_8 : decode cX0_list 8 = .ok (.ireturn, 1) := dk_172 (dk_at dksX0_list_0 8 rfl rfl)
theorem dX0_list_9 : decode cX0_list 9 = .ok (.iload_n 2, 1) := dk_28 (dk_at dksX0_list_0 9 rfl rfl)
theorem dX0_list_10 : decode cX0_list 10 = .ok (.bipush 20, 2) := dk_16 20 (dk_at dksX0_list_0 10 rfl rfl)
theorem dX0_list_12 : decode cX0_list 12 = .ok (.if_icmp .le 6, 3) := dk_164 0 6 (dk_at dksX0_list_0 12 rfl rfl)
theorem dX0_list_15 : decode cX0_list 15 = .ok (.bipush (-2), 2) := dk_16 254 (dk_at dksX0_list_0 15 rfl rfl)
theorem dX0_list_17 : decode cX0_list 17 = .ok (.ireturn, 1) := dk_172 (dk_at dksX0_list_0 17 rfl rfl)
theorem dX0_list_18 : decode cX0_list 18 = .ok (.aload_n 0, 1) := dk_42 (dk_at dksX0_list_0 18 rfl rfl)
theorem dX0_list_19 : decode cX0_list 19 = .ok (.getfield 55, 3) := dk_180 0 55 (dk_at dksX0_list_0 19 rfl rfl)
theorem dX0_list_22 : decode cX0_list 22 = .ok (.iload_n 1, 1) := dk_27 (dk_at dksX0_list_0 22 rfl rfl)
theorem dX0_list_23 : decode cX0_list 23 = .ok (.iload_n 2, 1) := dk_28 (dk_at dksX0_list_0 23 rfl rfl)
theorem dX0_list_24 : decode cX0_list 24 = .ok (.newarray .int, 2) := dk_188_10 (dk_at dksX0_list_1 0 rfl rfl)
theorem dX0_list_26 : decode cX0_list 26 = .ok (.aastore, 1) := dk_83 (dk_at dksX0_list_1 2 rfl rfl)
theorem dX0_list_27 : decode cX0_list 27 = .ok (.iconst 1, 1) := dk_4 (dk_at dksX0_list_1 3 rfl rfl)
theorem dX0_list_28 : decode cX0_list 28 = .ok (.ireturn, 1) := dk_172 (dk_at dksX0_list_1 4 rfl rfl)
theorem dX0_list_29 : decode cX0_list 29 = .ok (.astore_n 3, 1) := dk_78 (dk_at dksX0_list_1 5 rfl rfl)
theorem dX0_list_30 : decode cX0_list 30 = .ok (.bipush (-14), 2) := dk_16 242 (dk_at dksX0_list_1 6 rfl rfl)
theorem dX0_list_32 : decode cX0_list 32 = .ok (.ireturn, 1) := dk_172 (dk_at dksX0_list_1 8 rfl rfl)
abbrev cX0_isList : ByteArray := prog_1_method_80_code
def yX0_isList : MethodName := ⟨RX0, "isList", "(I)Z"⟩
def dkwX0_isList_0 : List UInt8 := [26, 3, 6, 184, 0, 93, 172]
abbrev dktX0_isList_0 : List UInt8 := dkwX0_isList_0 ++ []
theorem dksX0_isList_0 : cX0_isList.data.toList.drop 0 = dktX0_isList_0 := by decide +kernel
theorem dX0_isList_0 : decode cX0_isList 0 = .ok (.iload_n 0, 1) := dk_26 (dk_at dksX0_isList_0 0 rfl rfl)
theorem dX0_isList_1 : decode cX0_isList 1 = .ok (.iconst 0, 1) := dk_3 (dk_at dksX0_isList_0 1 rfl rfl)
theorem dX0_isList_2 : decode cX0_isList 2 = .ok (.iconst 3, 1) := dk_6 (dk_at dksX0_isList_0 2 rfl rfl)
theorem dX0_isList_3 : decode cX0_isList 3 = .ok (.invokestatic 93, 3) := dk_184 0 93 (dk_at dksX0_isList_0 3 rfl rfl)
theorem dX0_isList_6 : decode cX0_isList 6 = .ok (.ireturn, 1) := dk_172 (dk_at dksX0_isList_0 6 rfl rfl)
abbrev cX0_set : ByteArray := prog_1_method_82_code
def yX0_set : MethodName := ⟨RX0, "set", "(III)I"⟩
def dkwX0_set_1 : List UInt8 := [172, 58, 4, 16, 243, 172]
abbrev dktX0_set_1 : List UInt8 := dkwX0_set_1 ++ []
def dkwX0_set_0 : List UInt8 := [27, 184, 1, 207, 154, 0, 5, 2, 172, 42, 180, 0, 55, 27, 50, 28, 29, 79, 4, 172, 58, 4, 16, 245]
abbrev dktX0_set_0 : List UInt8 := dkwX0_set_0 ++ dktX0_set_1
theorem dksX0_set_0 : cX0_set.data.toList.drop 0 = dktX0_set_0 := by decide +kernel
theorem dksX0_set_1 : cX0_set.data.toList.drop 24 = dktX0_set_1 := dk_seg dksX0_set_0 24 rfl rfl
theorem dX0_set_0 : decode cX0_set 0 = .ok (.iload_n 1, 1) := dk_27 (dk_at dksX0_set_0 0 rfl rfl)
theorem dX0_set_1 : decode cX0_set 1 = .ok (.invokestatic 463, 3) := dk_184 1 207 (dk_at dksX0_set_0 1 rfl rfl)
theorem dX0_set_4 : decode cX0_set 4 = .ok (.ifCond .ne 5, 3) := dk_154 0 5 (dk_at dksX0_set_0 4 rfl rfl)
theorem dX0_set_7 : decode cX0_set 7 = .ok (.iconst (-1), 1) := dk_2 (dk_at dksX0_set_0 7 rfl rfl)
theorem dX0_set_8 : decode cX0_set 8 = .ok (.ireturn, 1) := dk_172 (dk_at dksX0_set_0 8 rfl rfl)
theorem dX0_set_9 : decode cX0_set 9 = .ok (.aload_n 0, 1) := dk_42 (dk_at dksX0_set_0 9 rfl rfl)
theorem dX0_set_10 : decode cX0_set 10 = .ok (.getfield 55, 3) := dk_180 0 55 (dk_at dksX0_set_0 10 rfl rfl)
theorem dX0_set_13 : decode cX0_set 13 = .ok (.iload_n 1, 1) := dk_27 (dk_at dksX0_set_0 13 rfl rfl)
theorem dX0_set_14 : decode cX0_set 14 = .ok (.aaload, 1) := dk_50 (dk_at dksX0_set_0 14 rfl rfl)
theorem dX0_set_15 : decode cX0_set 15 = .ok (.iload_n 2, 1) := dk_28 (dk_at dksX0_set_0 15 rfl rfl)
theorem dX0_set_16 : decode cX0_set 16 = .ok (.iload_n 3, 1) := dk_29 (dk_at dksX0_set_0 16 rfl rfl)
theorem dX0_set_17 : decode cX0_set 17 = .ok (.iastore, 1) := dk_79 (dk_at dksX0_set_0 17 rfl rfl)
theorem dX0_set_18 : decode cX0_set 18 = .ok (.iconst 1, 1) := dk_4 (dk_at dksX0_set_0 18 rfl rfl)
theorem dX0_set_19 : decode cX0_set 19 = .ok (.ireturn, 1) := dk_172 (dk_at dksX0_set_0 19 rfl rfl)
theorem dX0_set_20 : decode cX0_set 20 = .ok (.astore 4, 2) := dk_58 4 (dk_at dksX0_set_0 20 rfl rfl)
theorem dX0_set_22 : decode cX0_set 22 = .ok (.bipush (-11), 2) := dk_16 245 (dk_at dksX0_set_0 22 rfl rfl)
theorem dX0_set_24 : decode cX0_set 24 = .ok (.ireturn, 1) := dk_172 (dk_at dksX0_set_1 0 rfl rfl)
theorem dX0_set_25 : decode cX0_set 25 = .ok (.astore 4, 2) := dk_58 4 (dk_at dksX0_set_1 1 rfl rfl)
theorem dX0_set_27 : decode cX0_set 27 = .ok (.bipush (-13), 2) := dk_16 243 (dk_at dksX0_set_1 3 rfl rfl)
theorem dX0_set_29 : decode cX0_set 29 = .ok (.ireturn, 1) := dk_172 (dk_at dksX0_set_1 5 rfl rfl)
abbrev cX0_get : ByteArray := prog_1_method_83_code
def yX0_get : MethodName := ⟨RX0, "get", "(II)I"⟩
def dkwX0_get_1 : List UInt8 := [172]
abbrev dktX0_get_1 : List UInt8 := dkwX0_get_1 ++ []
def dkwX0_get_0 : List UInt8 := [27, 184, 1, 207, 154, 0, 7, 19, 1, 216, 172, 42, 180, 0, 55, 27, 50, 28, 46, 172, 78, 19, 1, 216]
abbrev dktX0_get_0 : List UInt8 := dkwX0_get_0 ++ dktX0_get_1
theorem dksX0_get_0 : cX0_get.data.toList.drop 0 = dktX0_get_0 := by decide +kernel
theorem dksX0_get_1 : cX0_get.data.toList.drop 24 = dktX0_get_1 := dk_seg dksX0_get_0 24 rfl rfl
theorem dX0_get_0 : decode cX0_get 0 = .ok (.iload_n 1, 1) := dk_27 (dk_at dksX0_get_0 0 rfl rfl)
theorem dX0_get_1 : decode cX0_get 1 = .ok (.invokestatic 463, 3) := dk_184 1 207 (dk_at dksX0_get_0 1 rfl rfl)
theorem dX0_get_4 : decode cX0_get 4 = .ok (.ifCond .ne 7, 3) := dk_154 0 7 (dk_at dksX0_get_0 4 rfl rfl)
theorem dX0_get_7 : decode cX0_get 7 = .ok (.ldc_w 472, 3) := dk_19 1 216 (dk_at dksX0_get_0 7 rfl rfl)
theorem dX0_get_10 : decode cX0_get 10 = .ok (.ireturn, 1) := dk_172 (dk_at dksX0_get_0 10 rfl rfl)
theorem dX0_get_11 : decode cX0_get 11 = .ok (.aload_n 0, 1) := dk_42 (dk_at dksX0_get_0 11 rfl rfl)
theorem dX0_get_12 : decode cX0_get 12 = .ok (.getfield 55, 3) := dk_180 0 55 (dk_at dksX0_get_0 12 rfl rfl)
theorem dX0_get_15 : decode cX0_get 15 = .ok (.iload_n 1, 1) := dk_27 (dk_at dksX0_get_0 15 rfl rfl)
theorem dX0_get_16 : decode cX0_get 16 = .ok (.aaload, 1) := dk_50 (dk_at dksX0_get_0 16 rfl rfl)
theorem dX0_get_17 : decode cX0_get 17 = .ok (.iload_n 2, 1) := dk_28 (dk_at dksX0_get_0 17 rfl rfl)
theorem dX0_get_18 : decode cX0_get 18 = .ok (.iaload, 1) := dk_46 (dk_at dksX0_get_0 18 rfl rfl)
theorem dX0_get_19 : decode cX0_get 19 = .ok (.ireturn, 1) := dk_172 (dk_at dksX0_get_0 19 rfl rfl)
theorem dX0_get_20 : decode cX0_get 20 = .ok (.astore_n 3, 1) := dk_78 (dk_at dksX0_get_0 20 rfl rfl)
theorem dX0_get_21 : decode cX0_get 21 = .ok (.ldc_w 472, 3) := dk_19 1 216 (dk_at dksX0_get_0 21 rfl rfl)
theorem dX0_get_24 : decode cX0_get 24 = .ok (.ireturn, 1) := dk_172 (dk_at dksX0_get_1 0 rfl rfl)
abbrev cX0_lay : ByteArray := prog_1_method_84_code
def yX0_lay : MethodName := ⟨RX0, "lay", "(III)I"⟩
def dkwX0_lay_3 : List UInt8 := [16, 245, 172, 58, 4, 16, 243, 172]
abbrev dktX0_lay_3 : List UInt8 := dkwX0_lay_3 ++ []
def dkwX0_lay_2 : List UInt8 := [192, 0, 144, 180, 1, 0, 21, 4, 46, 79, 132, 4, 1, 167, 255, 216, 42, 182, 0, 90, 172, 58, 4]
abbrev dktX0_lay_2 : List UInt8 := dkwX0_lay_2 ++ dktX0_lay_3
def dkwX0_lay_1 : List UInt8 := [182, 0, 90, 162, 0, 37, 42, 180, 0, 55, 27, 50, 28, 21, 4, 96, 42, 180, 0, 16, 29, 182, 0, 121]
abbrev dktX0_lay_1 : List UInt8 := dkwX0_lay_1 ++ dktX0_lay_2
def dkwX0_lay_0 : List UInt8 := [27, 184, 1, 207, 153, 0, 11, 42, 29, 182, 0, 249, 154, 0, 5, 2, 172, 3, 54, 4, 21, 4, 42]
abbrev dktX0_lay_0 : List UInt8 := dkwX0_lay_0 ++ dktX0_lay_1
theorem dksX0_lay_0 : cX0_lay.data.toList.drop 0 = dktX0_lay_0 := by decide +kernel
theorem dksX0_lay_1 : cX0_lay.data.toList.drop 23 = dktX0_lay_1 := dk_seg dksX0_lay_0 23 rfl rfl
theorem dksX0_lay_2 : cX0_lay.data.toList.drop 47 = dktX0_lay_2 := dk_seg dksX0_lay_1 24 rfl rfl
theorem dksX0_lay_3 : cX0_lay.data.toList.drop 70 = dktX0_lay_3 := dk_seg dksX0_lay_2 23 rfl rfl
theorem dX0_lay_0 : decode cX0_lay 0 = .ok (.iload_n 1, 1) := dk_27 (dk_at dksX0_lay_0 0 rfl rfl)
theorem dX0_lay_1 : decode cX0_lay 1 = .ok (.invokestatic 463, 3) := dk_184 1 207 (dk_at dksX0_lay_0 1 rfl rfl)
theorem dX0_lay_4 : decode cX0_lay 4 = .ok (.ifCond .eq 11, 3) := dk_153 0 11 (dk_at dksX0_lay_0 4 rfl rfl)
theorem dX0_lay_7 : decode cX0_lay 7 = .ok (.aload_n 0, 1) := dk_42 (dk_at dksX0_lay_0 7 rfl rfl)
theorem dX0_lay_8 : decode cX0_lay 8 = .ok (.iload_n 3, 1) := dk_29 (dk_at dksX0_lay_0 8 rfl rfl)
theorem dX0_lay_9 : decode cX0_lay 9 = .ok (.invokevirtual 249, 3) := dk_182 0 249 (dk_at dksX0_lay_0 9 rfl rfl)
theorem dX0_lay_12 : decode cX0_lay 12 = .ok (.ifCond .ne 5, 3) := dk_154 0 5 (dk_at dksX0_lay_0 12 rfl rfl)
theorem dX0_lay_15 : decode cX0_lay 15 = .ok (.iconst (-1), 1) := dk_2 (dk_at dksX0_lay_0 15 rfl rfl)
theorem dX0_lay_16 : decode cX0_lay 16 = .ok (.ireturn, 1) := dk_172 (dk_at dksX0_lay_0 16 rfl rfl)
theorem dX0_lay_17 : decode cX0_lay 17 = .ok (.iconst 0, 1) := dk_3 (dk_at dksX0_lay_0 17 rfl rfl)
theorem dX0_lay_18 : decode cX0_lay 18 = .ok (.istore 4, 2) := dk_54 4 (dk_at dksX0_lay_0 18 rfl rfl)
theorem dX0_lay_20 : decode cX0_lay 20 = .ok (.iload 4, 2) := dk_21 4 (dk_at dksX0_lay_0 20 rfl rfl)
theorem dX0_lay_22 : decode cX0_lay 22 = .ok (.aload_n 0, 1) := dk_42 (dk_at dksX0_lay_0 22 rfl rfl)
theorem dX0_lay_23 : decode cX0_lay 23 = .ok (.invokevirtual 90, 3) := dk_182 0 90 (dk_at dksX0_lay_1 0 rfl rfl)
theorem dX0_lay_26 : decode cX0_lay 26 = .ok (.if_icmp .ge 37, 3) := dk_162 0 37 (dk_at dksX0_lay_1 3 rfl rfl)
theorem dX0_lay_29 : decode cX0_lay 29 = .ok (.aload_n 0, 1) := dk_42 (dk_at dksX0_lay_1 6 rfl rfl)
theorem dX0_lay_30 : decode cX0_lay 30 = .ok (.getfield 55, 3) := dk_180 0 55 (dk_at dksX0_lay_1 7 rfl rfl)
theorem dX0_lay_33 : decode cX0_lay 33 = .ok (.iload_n 1, 1) := dk_27 (dk_at dksX0_lay_1 10 rfl rfl)
theorem dX0_lay_34 : decode cX0_lay 34 = .ok (.aaload, 1) := dk_50 (dk_at dksX0_lay_1 11 rfl rfl)
theorem dX0_lay_35 : decode cX0_lay 35 = .ok (.iload_n 2, 1) := dk_28 (dk_at dksX0_lay_1 12 rfl rfl)
theorem dX0_lay_36 : decode cX0_lay 36 = .ok (.iload 4, 2) := dk_21 4 (dk_at dksX0_lay_1 13 rfl rfl)
theorem dX0_lay_38 : decode cX0_lay 38 = .ok (.iadd, 1) := dk_96 (dk_at dksX0_lay_1 15 rfl rfl)
theorem dX0_lay_39 : decode cX0_lay 39 = .ok (.aload_n 0, 1) := dk_42 (dk_at dksX0_lay_1 16 rfl rfl)
theorem dX0_lay_40 : decode cX0_lay 40 = .ok (.getfield 16, 3) := dk_180 0 16 (dk_at dksX0_lay_1 17 rfl rfl)
theorem dX0_lay_43 : decode cX0_lay 43 = .ok (.iload_n 3, 1) := dk_29 (dk_at dksX0_lay_1 20 rfl rfl)
theorem dX0_lay_44 : decode cX0_lay 44 = .ok (.invokevirtual 121, 3) := dk_182 0 121 (dk_at dksX0_lay_1 21 rfl rfl)
theorem dX0_lay_47 : decode cX0_lay 47 = .ok (.checkcast 144, 3) := dk_192 0 144 (dk_at dksX0_lay_2 0 rfl rfl)
theorem dX0_lay_50 : decode cX0_lay 50 = .ok (.getfield 256, 3) := dk_180 1 0 (dk_at dksX0_lay_2 3 rfl rfl)
theorem dX0_lay_53 : decode cX0_lay 53 = .ok (.iload 4, 2) := dk_21 4 (dk_at dksX0_lay_2 6 rfl rfl)
theorem dX0_lay_55 : decode cX0_lay 55 = .ok (.iaload, 1) := dk_46 (dk_at dksX0_lay_2 8 rfl rfl)
theorem dX0_lay_56 : decode cX0_lay 56 = .ok (.iastore, 1) := dk_79 (dk_at dksX0_lay_2 9 rfl rfl)
theorem dX0_lay_57 : decode cX0_lay 57 = .ok (.iinc 4 1, 3) := dk_132 4 1 (dk_at dksX0_lay_2 10 rfl rfl)
theorem dX0_lay_60 : decode cX0_lay 60 = .ok (.goto (-40), 3) := dk_167 255 216 (dk_at dksX0_lay_2 13 rfl rfl)
theorem dX0_lay_63 : decode cX0_lay 63 = .ok (.aload_n 0, 1) := dk_42 (dk_at dksX0_lay_2 16 rfl rfl)
theorem dX0_lay_64 : decode cX0_lay 64 = .ok (.invokevirtual 90, 3) := dk_182 0 90 (dk_at dksX0_lay_2 17 rfl rfl)
theorem dX0_lay_67 : decode cX0_lay 67 = .ok (.ireturn, 1) := dk_172 (dk_at dksX0_lay_2 20 rfl rfl)
theorem dX0_lay_68 : decode cX0_lay 68 = .ok (.astore 4, 2) := dk_58 4 (dk_at dksX0_lay_2 21 rfl rfl)
theorem dX0_lay_70 : decode cX0_lay 70 = .ok (.bipush (-11), 2) := dk_16 245 (dk_at dksX0_lay_3 0 rfl rfl)
theorem dX0_lay_72 : decode cX0_lay 72 = .ok (.ireturn, 1) := dk_172 (dk_at dksX0_lay_3 2 rfl rfl)
theorem dX0_lay_73 : decode cX0_lay 73 = .ok (.astore 4, 2) := dk_58 4 (dk_at dksX0_lay_3 3 rfl rfl)
theorem dX0_lay_75 : decode cX0_lay 75 = .ok (.bipush (-13), 2) := dk_16 243 (dk_at dksX0_lay_3 5 rfl rfl)
theorem dX0_lay_77 : decode cX0_lay 77 = .ok (.ireturn, 1) := dk_172 (dk_at dksX0_lay_3 7 rfl rfl)
abbrev cX0_judge : ByteArray := prog_1_method_85_code
def yX0_judge : MethodName := ⟨RX0, "judge", "(III)I"⟩
def dkwX0_judge_3 : List UInt8 := [16, 251, 172, 58, 5, 16, 245, 172, 58, 5, 16, 100, 21, 4, 96, 172]
abbrev dktX0_judge_3 : List UInt8 := dkwX0_judge_3 ++ []
def dkwX0_judge_2 : List UInt8 := [182, 0, 121, 192, 0, 144, 180, 1, 0, 21, 4, 46, 159, 0, 6, 21, 4, 172, 132, 4, 1, 167, 255, 210]
abbrev dktX0_judge_2 : List UInt8 := dkwX0_judge_2 ++ dktX0_judge_3
def dkwX0_judge_1 : List UInt8 := [182, 0, 90, 162, 0, 43, 42, 180, 0, 55, 27, 50, 28, 21, 4, 96, 46, 42, 180, 0, 16, 29]
abbrev dktX0_judge_1 : List UInt8 := dkwX0_judge_1 ++ dktX0_judge_2
def dkwX0_judge_0 : List UInt8 := [27, 184, 1, 207, 153, 0, 11, 42, 29, 182, 0, 249, 154, 0, 5, 2, 172, 3, 54, 4, 21, 4, 42]
abbrev dktX0_judge_0 : List UInt8 := dkwX0_judge_0 ++ dktX0_judge_1
theorem dksX0_judge_0 : cX0_judge.data.toList.drop 0 = dktX0_judge_0 := by decide +kernel
theorem dksX0_judge_1 : cX0_judge.data.toList.drop 23 = dktX0_judge_1 := dk_seg dksX0_judge_0 23 rfl rfl
theorem dksX0_judge_2 : cX0_judge.data.toList.drop 45 = dktX0_judge_2 := dk_seg dksX0_judge_1 22 rfl rfl
theorem dksX0_judge_3 : cX0_judge.data.toList.drop 69 = dktX0_judge_3 := dk_seg dksX0_judge_2 24 rfl rfl
theorem dX0_judge_0 : decode cX0_judge 0 = .ok (.iload_n 1, 1) := dk_27 (dk_at dksX0_judge_0 0 rfl rfl)
theorem dX0_judge_1 : decode cX0_judge 1 = .ok (.invokestatic 463, 3) := dk_184 1 207 (dk_at dksX0_judge_0 1 rfl rfl)
theorem dX0_judge_4 : decode cX0_judge 4 = .ok (.ifCond .eq 11, 3) := dk_153 0 11 (dk_at dksX0_judge_0 4 rfl rfl)
theorem dX0_judge_7 : decode cX0_judge 7 = .ok (.aload_n 0, 1) := dk_42 (dk_at dksX0_judge_0 7 rfl rfl)
theorem dX0_judge_8 : decode cX0_judge 8 = .ok (.iload_n 3, 1) := dk_29 (dk_at dksX0_judge_0 8 rfl rfl)
theorem dX0_judge_9 : decode cX0_judge 9 = .ok (.invokevirtual 249, 3) := dk_182 0 249 (dk_at dksX0_judge_0 9 rfl rfl)
theorem dX0_judge_12 : decode cX0_judge 12 = .ok (.ifCond .ne 5, 3) := dk_154 0 5 (dk_at dksX0_judge_0 12 rfl rfl)
theorem dX0_judge_15 : decode cX0_judge 15 = .ok (.iconst (-1), 1) := dk_2 (dk_at dksX0_judge_0 15 rfl rfl)
theorem dX0_judge_16 : decode cX0_judge 16 = .ok (.ireturn, 1) := dk_172 (dk_at dksX0_judge_0 16 rfl rfl)
theorem dX0_judge_17 : decode cX0_judge 17 = .ok (.iconst 0, 1) := dk_3 (dk_at dksX0_judge_0 17 rfl rfl)
theorem dX0_judge_18 : decode cX0_judge 18 = .ok (.istore 4, 2) := dk_54 4 (dk_at dksX0_judge_0 18 rfl rfl)
theorem dX0_judge_20 : decode cX0_judge 20 = .ok (.iload 4, 2) := dk_21 4 (dk_at dksX0_judge_0 20 rfl rfl)
theorem dX0_judge_22 : decode cX0_judge 22 = .ok (.aload_n 0, 1) := dk_42 (dk_at dksX0_judge_0 22 rfl rfl)
theorem dX0_judge_23 : decode cX0_judge 23 = .ok (.invokevirtual 90, 3) := dk_182 0 90 (dk_at dksX0_judge_1 0 rfl rfl)
theorem dX0_judge_26 : decode cX0_judge 26 = .ok (.if_icmp .ge 43, 3) := dk_162 0 43 (dk_at dksX0_judge_1 3 rfl rfl)
theorem dX0_judge_29 : decode cX0_judge 29 = .ok (.aload_n 0, 1) := dk_42 (dk_at dksX0_judge_1 6 rfl rfl)
theorem dX0_judge_30 : decode cX0_judge 30 = .ok (.getfield 55, 3) := dk_180 0 55 (dk_at dksX0_judge_1 7 rfl rfl)
theorem dX0_judge_33 : decode cX0_judge 33 = .ok (.iload_n 1, 1) := dk_27 (dk_at dksX0_judge_1 10 rfl rfl)
theorem dX0_judge_34 : decode cX0_judge 34 = .ok (.aaload, 1) := dk_50 (dk_at dksX0_judge_1 11 rfl rfl)
theorem dX0_judge_35 : decode cX0_judge 35 = .ok (.iload_n 2, 1) := dk_28 (dk_at dksX0_judge_1 12 rfl rfl)
theorem dX0_judge_36 : decode cX0_judge 36 = .ok (.iload 4, 2) := dk_21 4 (dk_at dksX0_judge_1 13 rfl rfl)
theorem dX0_judge_38 : decode cX0_judge 38 = .ok (.iadd, 1) := dk_96 (dk_at dksX0_judge_1 15 rfl rfl)
theorem dX0_judge_39 : decode cX0_judge 39 = .ok (.iaload, 1) := dk_46 (dk_at dksX0_judge_1 16 rfl rfl)
theorem dX0_judge_40 : decode cX0_judge 40 = .ok (.aload_n 0, 1) := dk_42 (dk_at dksX0_judge_1 17 rfl rfl)
theorem dX0_judge_41 : decode cX0_judge 41 = .ok (.getfield 16, 3) := dk_180 0 16 (dk_at dksX0_judge_1 18 rfl rfl)
theorem dX0_judge_44 : decode cX0_judge 44 = .ok (.iload_n 3, 1) := dk_29 (dk_at dksX0_judge_1 21 rfl rfl)
theorem dX0_judge_45 : decode cX0_judge 45 = .ok (.invokevirtual 121, 3) := dk_182 0 121 (dk_at dksX0_judge_2 0 rfl rfl)
theorem dX0_judge_48 : decode cX0_judge 48 = .ok (.checkcast 144, 3) := dk_192 0 144 (dk_at dksX0_judge_2 3 rfl rfl)
theorem dX0_judge_51 : decode cX0_judge 51 = .ok (.getfield 256, 3) := dk_180 1 0 (dk_at dksX0_judge_2 6 rfl rfl)
theorem dX0_judge_54 : decode cX0_judge 54 = .ok (.iload 4, 2) := dk_21 4 (dk_at dksX0_judge_2 9 rfl rfl)
theorem dX0_judge_56 : decode cX0_judge 56 = .ok (.iaload, 1) := dk_46 (dk_at dksX0_judge_2 11 rfl rfl)
theorem dX0_judge_57 : decode cX0_judge 57 = .ok (.if_icmp .eq 6, 3) := dk_159 0 6 (dk_at dksX0_judge_2 12 rfl rfl)
theorem dX0_judge_60 : decode cX0_judge 60 = .ok (.iload 4, 2) := dk_21 4 (dk_at dksX0_judge_2 15 rfl rfl)
theorem dX0_judge_62 : decode cX0_judge 62 = .ok (.ireturn, 1) := dk_172 (dk_at dksX0_judge_2 17 rfl rfl)
theorem dX0_judge_63 : decode cX0_judge 63 = .ok (.iinc 4 1, 3) := dk_132 4 1 (dk_at dksX0_judge_2 18 rfl rfl)
theorem dX0_judge_66 : decode cX0_judge 66 = .ok (.goto (-46), 3) := dk_167 255 210 (dk_at dksX0_judge_2 21 rfl rfl)
theorem dX0_judge_69 : decode cX0_judge 69 = .ok (.bipush (-5), 2) := dk_16 251 (dk_at dksX0_judge_3 0 rfl rfl)
theorem dX0_judge_71 : decode cX0_judge 71 = .ok (.ireturn, 1) := dk_172 (dk_at dksX0_judge_3 2 rfl rfl)
theorem dX0_judge_72 : decode cX0_judge 72 = .ok (.astore 5, 2) := dk_58 5 (dk_at dksX0_judge_3 3 rfl rfl)
theorem dX0_judge_74 : decode cX0_judge 74 = .ok (.bipush (-11), 2) := dk_16 245 (dk_at dksX0_judge_3 5 rfl rfl)
theorem dX0_judge_76 : decode cX0_judge 76 = .ok (.ireturn, 1) := dk_172 (dk_at dksX0_judge_3 7 rfl rfl)
theorem dX0_judge_77 : decode cX0_judge 77 = .ok (.astore 5, 2) := dk_58 5 (dk_at dksX0_judge_3 8 rfl rfl)
theorem dX0_judge_79 : decode cX0_judge 79 = .ok (.bipush 100, 2) := dk_16 100 (dk_at dksX0_judge_3 10 rfl rfl)
theorem dX0_judge_81 : decode cX0_judge 81 = .ok (.iload 4, 2) := dk_21 4 (dk_at dksX0_judge_3 12 rfl rfl)
theorem dX0_judge_83 : decode cX0_judge 83 = .ok (.iadd, 1) := dk_96 (dk_at dksX0_judge_3 14 rfl rfl)
theorem dX0_judge_84 : decode cX0_judge 84 = .ok (.ireturn, 1) := dk_172 (dk_at dksX0_judge_3 15 rfl rfl)
abbrev cX0_image : ByteArray := prog_1_method_87_code
def yX0_image : MethodName := ⟨RX0, "image", "()I"⟩
def dkwX0_image_1 : List UInt8 := [180, 0, 23, 181, 0, 58, 42, 180, 0, 16, 182, 0, 86, 172]
abbrev dktX0_image_1 : List UInt8 := dkwX0_image_1 ++ []
def dkwX0_image_0 : List UInt8 := [42, 42, 180, 0, 10, 184, 1, 9, 181, 1, 217, 42, 42, 180, 0, 16, 184, 1, 220, 181, 1, 223, 42, 42]
abbrev dktX0_image_0 : List UInt8 := dkwX0_image_0 ++ dktX0_image_1
theorem dksX0_image_0 : cX0_image.data.toList.drop 0 = dktX0_image_0 := by decide +kernel
theorem dksX0_image_1 : cX0_image.data.toList.drop 24 = dktX0_image_1 := dk_seg dksX0_image_0 24 rfl rfl
theorem dX0_image_0 : decode cX0_image 0 = .ok (.aload_n 0, 1) := dk_42 (dk_at dksX0_image_0 0 rfl rfl)
theorem dX0_image_1 : decode cX0_image 1 = .ok (.aload_n 0, 1) := dk_42 (dk_at dksX0_image_0 1 rfl rfl)
theorem dX0_image_2 : decode cX0_image 2 = .ok (.getfield 10, 3) := dk_180 0 10 (dk_at dksX0_image_0 2 rfl rfl)
theorem dX0_image_5 : decode cX0_image 5 = .ok (.invokestatic 265, 3) := dk_184 1 9 (dk_at dksX0_image_0 5 rfl rfl)
theorem dX0_image_8 : decode cX0_image 8 = .ok (.putfield 473, 3) := dk_181 1 217 (dk_at dksX0_image_0 8 rfl rfl)
theorem dX0_image_11 : decode cX0_image 11 = .ok (.aload_n 0, 1) := dk_42 (dk_at dksX0_image_0 11 rfl rfl)
theorem dX0_image_12 : decode cX0_image 12 = .ok (.aload_n 0, 1) := dk_42 (dk_at dksX0_image_0 12 rfl rfl)
theorem dX0_image_13 : decode cX0_image 13 = .ok (.getfield 16, 3) := dk_180 0 16 (dk_at dksX0_image_0 13 rfl rfl)
theorem dX0_image_16 : decode cX0_image 16 = .ok (.invokestatic 476, 3) := dk_184 1 220 (dk_at dksX0_image_0 16 rfl rfl)
theorem dX0_image_19 : decode cX0_image 19 = .ok (.putfield 479, 3) := dk_181 1 223 (dk_at dksX0_image_0 19 rfl rfl)
theorem dX0_image_22 : decode cX0_image 22 = .ok (.aload_n 0, 1) := dk_42 (dk_at dksX0_image_0 22 rfl rfl)
theorem dX0_image_23 : decode cX0_image 23 = .ok (.aload_n 0, 1) := dk_42 (dk_at dksX0_image_0 23 rfl rfl)
theorem dX0_image_24 : decode cX0_image 24 = .ok (.getfield 23, 3) := dk_180 0 23 (dk_at dksX0_image_1 0 rfl rfl)
theorem dX0_image_27 : decode cX0_image 27 = .ok (.putfield 58, 3) := dk_181 0 58 (dk_at dksX0_image_1 3 rfl rfl)
theorem dX0_image_30 : decode cX0_image 30 = .ok (.aload_n 0, 1) := dk_42 (dk_at dksX0_image_1 6 rfl rfl)
theorem dX0_image_31 : decode cX0_image 31 = .ok (.getfield 16, 3) := dk_180 0 16 (dk_at dksX0_image_1 7 rfl rfl)
theorem dX0_image_34 : decode cX0_image 34 = .ok (.invokevirtual 86, 3) := dk_182 0 86 (dk_at dksX0_image_1 10 rfl rfl)
theorem dX0_image_37 : decode cX0_image 37 = .ok (.ireturn, 1) := dk_172 (dk_at dksX0_image_1 13 rfl rfl)
abbrev cX0_likewise : ByteArray := prog_1_method_86_code
def yX0_likewise : MethodName := ⟨RX0, "likewise", "(Ljava/util/ArrayList;)Ljava/util/ArrayList;"⟩
def dkwX0_likewise_1 : List UInt8 := [185, 0, 107, 1, 0, 192, 0, 144, 78, 43, 45, 182, 0, 117, 87, 167, 255, 231, 43, 176]
abbrev dktX0_likewise_1 : List UInt8 := dkwX0_likewise_1 ++ []
def dkwX0_likewise_0 : List UInt8 := [187, 0, 7, 89, 183, 0, 9, 76, 42, 182, 0, 97, 77, 44, 185, 0, 101, 1, 0, 153, 0, 22, 44]
abbrev dktX0_likewise_0 : List UInt8 := dkwX0_likewise_0 ++ dktX0_likewise_1
theorem dksX0_likewise_0 : cX0_likewise.data.toList.drop 0 = dktX0_likewise_0 := by decide +kernel
theorem dksX0_likewise_1 : cX0_likewise.data.toList.drop 23 = dktX0_likewise_1 := dk_seg dksX0_likewise_0 23 rfl rfl
theorem dX0_likewise_0 : decode cX0_likewise 0 = .ok (.new 7, 3) := dk_187 0 7 (dk_at dksX0_likewise_0 0 rfl rfl)
theorem dX0_likewise_3 : decode cX0_likewise 3 = .ok (.dup, 1) := dk_89 (dk_at dksX0_likewise_0 3 rfl rfl)
theorem dX0_likewise_4 : decode cX0_likewise 4 = .ok (.invokespecial 9, 3) := dk_183 0 9 (dk_at dksX0_likewise_0 4 rfl rfl)
theorem dX0_likewise_7 : decode cX0_likewise 7 = .ok (.astore_n 1, 1) := dk_76 (dk_at dksX0_likewise_0 7 rfl rfl)
theorem dX0_likewise_8 : decode cX0_likewise 8 = .ok (.aload_n 0, 1) := dk_42 (dk_at dksX0_likewise_0 8 rfl rfl)
theorem dX0_likewise_9 : decode cX0_likewise 9 = .ok (.invokevirtual 97, 3) := dk_182 0 97 (dk_at dksX0_likewise_0 9 rfl rfl)
theorem dX0_likewise_12 : decode cX0_likewise 12 = .ok (.astore_n 2, 1) := dk_77 (dk_at dksX0_likewise_0 12 rfl rfl)
theorem dX0_likewise_13 : decode cX0_likewise 13 = .ok (.aload_n 2, 1) := dk_44 (dk_at dksX0_likewise_0 13 rfl rfl)
theorem dX0_likewise_14 : decode cX0_likewise 14 = .ok (.invokeinterface 101 1, 5) := by decide +kernel
theorem dX0_likewise_19 : decode cX0_likewise 19 = .ok (.ifCond .eq 22, 3) := dk_153 0 22 (dk_at dksX0_likewise_0 19 rfl rfl)
theorem dX0_likewise_22 : decode cX0_likewise 22 = .ok (.aload_n 2, 1) := dk_44 (dk_at dksX0_likewise_0 22 rfl rfl)
theorem dX0_likewise_23 : decode cX0_likewise 23 = .ok (.invokeinterface 107 1, 5) := by decide +kernel
theorem dX0_likewise_28 : decode cX0_likewise 28 = .ok (.checkcast 144, 3) := dk_192 0 144 (dk_at dksX0_likewise_1 5 rfl rfl)
theorem dX0_likewise_31 : decode cX0_likewise 31 = .ok (.astore_n 3, 1) := dk_78 (dk_at dksX0_likewise_1 8 rfl rfl)
theorem dX0_likewise_32 : decode cX0_likewise 32 = .ok (.aload_n 1, 1) := dk_43 (dk_at dksX0_likewise_1 9 rfl rfl)
theorem dX0_likewise_33 : decode cX0_likewise 33 = .ok (.aload_n 3, 1) := dk_45 (dk_at dksX0_likewise_1 10 rfl rfl)
theorem dX0_likewise_34 : decode cX0_likewise 34 = .ok (.invokevirtual 117, 3) := dk_182 0 117 (dk_at dksX0_likewise_1 11 rfl rfl)
theorem dX0_likewise_37 : decode cX0_likewise 37 = .ok (.pop, 1) := dk_87 (dk_at dksX0_likewise_1 14 rfl rfl)
theorem dX0_likewise_38 : decode cX0_likewise 38 = .ok (.goto (-25), 3) := dk_167 255 231 (dk_at dksX0_likewise_1 15 rfl rfl)
theorem dX0_likewise_41 : decode cX0_likewise 41 = .ok (.aload_n 1, 1) := dk_43 (dk_at dksX0_likewise_1 18 rfl rfl)
theorem dX0_likewise_42 : decode cX0_likewise 42 = .ok (.areturn, 1) := dk_176 (dk_at dksX0_likewise_1 19 rfl rfl)
abbrev cX0_undo : ByteArray := prog_1_method_88_code
def yX0_undo : MethodName := ⟨RX0, "undo", "()I"⟩
def dkwX0_undo_2 : List UInt8 := [172]
abbrev dktX0_undo_2 : List UInt8 := dkwX0_undo_2 ++ []
def dkwX0_undo_1 : List UInt8 := [180, 1, 223, 184, 1, 220, 181, 0, 16, 42, 42, 180, 0, 58, 181, 0, 23, 42, 180, 0, 16, 182, 0, 86]
abbrev dktX0_undo_1 : List UInt8 := dkwX0_undo_1 ++ dktX0_undo_2
def dkwX0_undo_0 : List UInt8 := [42, 180, 1, 217, 199, 0, 6, 16, 253, 172, 42, 42, 180, 1, 217, 184, 1, 9, 181, 0, 10, 42, 42]
abbrev dktX0_undo_0 : List UInt8 := dkwX0_undo_0 ++ dktX0_undo_1
theorem dksX0_undo_0 : cX0_undo.data.toList.drop 0 = dktX0_undo_0 := by decide +kernel
theorem dksX0_undo_1 : cX0_undo.data.toList.drop 23 = dktX0_undo_1 := dk_seg dksX0_undo_0 23 rfl rfl
theorem dksX0_undo_2 : cX0_undo.data.toList.drop 47 = dktX0_undo_2 := dk_seg dksX0_undo_1 24 rfl rfl
theorem dX0_undo_0 : decode cX0_undo 0 = .ok (.aload_n 0, 1) := dk_42 (dk_at dksX0_undo_0 0 rfl rfl)
theorem dX0_undo_1 : decode cX0_undo 1 = .ok (.getfield 473, 3) := dk_180 1 217 (dk_at dksX0_undo_0 1 rfl rfl)
theorem dX0_undo_4 : decode cX0_undo 4 = .ok (.ifnonnull 6, 3) := dk_199 0 6 (dk_at dksX0_undo_0 4 rfl rfl)
theorem dX0_undo_7 : decode cX0_undo 7 = .ok (.bipush (-3), 2) := dk_16 253 (dk_at dksX0_undo_0 7 rfl rfl)
theorem dX0_undo_9 : decode cX0_undo 9 = .ok (.ireturn, 1) := dk_172 (dk_at dksX0_undo_0 9 rfl rfl)
theorem dX0_undo_10 : decode cX0_undo 10 = .ok (.aload_n 0, 1) := dk_42 (dk_at dksX0_undo_0 10 rfl rfl)
theorem dX0_undo_11 : decode cX0_undo 11 = .ok (.aload_n 0, 1) := dk_42 (dk_at dksX0_undo_0 11 rfl rfl)
theorem dX0_undo_12 : decode cX0_undo 12 = .ok (.getfield 473, 3) := dk_180 1 217 (dk_at dksX0_undo_0 12 rfl rfl)
theorem dX0_undo_15 : decode cX0_undo 15 = .ok (.invokestatic 265, 3) := dk_184 1 9 (dk_at dksX0_undo_0 15 rfl rfl)
theorem dX0_undo_18 : decode cX0_undo 18 = .ok (.putfield 10, 3) := dk_181 0 10 (dk_at dksX0_undo_0 18 rfl rfl)
theorem dX0_undo_21 : decode cX0_undo 21 = .ok (.aload_n 0, 1) := dk_42 (dk_at dksX0_undo_0 21 rfl rfl)
theorem dX0_undo_22 : decode cX0_undo 22 = .ok (.aload_n 0, 1) := dk_42 (dk_at dksX0_undo_0 22 rfl rfl)
theorem dX0_undo_23 : decode cX0_undo 23 = .ok (.getfield 479, 3) := dk_180 1 223 (dk_at dksX0_undo_1 0 rfl rfl)
theorem dX0_undo_26 : decode cX0_undo 26 = .ok (.invokestatic 476, 3) := dk_184 1 220 (dk_at dksX0_undo_1 3 rfl rfl)
theorem dX0_undo_29 : decode cX0_undo 29 = .ok (.putfield 16, 3) := dk_181 0 16 (dk_at dksX0_undo_1 6 rfl rfl)
theorem dX0_undo_32 : decode cX0_undo 32 = .ok (.aload_n 0, 1) := dk_42 (dk_at dksX0_undo_1 9 rfl rfl)
theorem dX0_undo_33 : decode cX0_undo 33 = .ok (.aload_n 0, 1) := dk_42 (dk_at dksX0_undo_1 10 rfl rfl)
theorem dX0_undo_34 : decode cX0_undo 34 = .ok (.getfield 58, 3) := dk_180 0 58 (dk_at dksX0_undo_1 11 rfl rfl)
theorem dX0_undo_37 : decode cX0_undo 37 = .ok (.putfield 23, 3) := dk_181 0 23 (dk_at dksX0_undo_1 14 rfl rfl)
theorem dX0_undo_40 : decode cX0_undo 40 = .ok (.aload_n 0, 1) := dk_42 (dk_at dksX0_undo_1 17 rfl rfl)
theorem dX0_undo_41 : decode cX0_undo 41 = .ok (.getfield 16, 3) := dk_180 0 16 (dk_at dksX0_undo_1 18 rfl rfl)
theorem dX0_undo_44 : decode cX0_undo 44 = .ok (.invokevirtual 86, 3) := dk_182 0 86 (dk_at dksX0_undo_1 21 rfl rfl)
theorem dX0_undo_47 : decode cX0_undo 47 = .ok (.ireturn, 1) := dk_172 (dk_at dksX0_undo_2 0 rfl rfl)
theorem q78 : (Jvm.Cond.initialized "CardLoom") ∈ lw_all := lw_g (lw_at lw_m1 1 rfl) rfl
theorem q137 : (Jvm.Cond.instantiable "CardLoom" (14 : Nat)) ∈ lw_all := lw_g (lw_at lw_m1 60 rfl) rfl
theorem q139 : (Jvm.Cond.instanceMethod ({ cls := "CardLoom", name := "<init>", desc := "()V" } : Jvm.MethodName)) ∈ lw_all := lw_g (lw_at lw_m1 62 rfl) rfl
theorem q140 : (Jvm.Cond.code ({ cls := "CardLoom", name := "<init>", desc := "()V" } : Jvm.MethodName) prog_1_method_1_code (1 : Nat) (Option.none : Option Jvm.ClassFile.FieldType)) ∈ lw_all := lw_g (lw_at lw_m1 63 rfl) rfl
theorem q141 : (Jvm.Cond.methodLink "CardLoom" (1 : Nat) ({ cls := "java/lang/Object", name := "<init>", desc := "()V" } : Jvm.MethodName)) ∈ lw_all := lw_g (lw_at lw_m1 64 rfl) rfl
theorem q144 : (Jvm.Cond.classLink "CardLoom" (7 : Nat) "java/util/ArrayList") ∈ lw_all := lw_g (lw_at lw_m1 67 rfl) rfl
theorem q146 : (Jvm.Cond.methodLink "CardLoom" (9 : Nat) ({ cls := "java/util/ArrayList", name := "<init>", desc := "()V" } : Jvm.MethodName)) ∈ lw_all := lw_g (lw_at lw_m1 69 rfl) rfl
theorem q173 : (Jvm.Cond.static ({ cls := "CardLoom", name := "idle", desc := "(III)LCardLoom$Turning;" } : Jvm.MethodName)) ∈ lw_all := lw_g (lw_at lw_m1 96 rfl) rfl
theorem q174 : (Jvm.Cond.code ({ cls := "CardLoom", name := "idle", desc := "(III)LCardLoom$Turning;" } : Jvm.MethodName) prog_1_method_3_code (3 : Nat) (Option.some (Jvm.ClassFile.FieldType.object "CardLoom$Turning"))) ∈ lw_all := lw_g (lw_at lw_m1 97 rfl) rfl
theorem q175 : (Jvm.Cond.fieldLink "CardLoom" (61 : Nat) "CardLoom$Turning" "IDLE" "LCardLoom$Turning;") ∈ lw_all := lw_g (lw_at lw_m1 98 rfl) rfl
theorem q177 : (Jvm.Cond.classLink "CardLoom" (31 : Nat) "[[I") ∈ lw_all := lw_g (lw_at lw_m1 100 rfl) rfl
theorem q179 : (Jvm.Cond.methodLink "CardLoom" (39 : Nat) ({ cls := "CardLoom", name := "coloursOf", desc := "(I)[LCardLoom$Colour;" } : Jvm.MethodName)) ∈ lw_all := lw_g (lw_at lw_m1 102 rfl) rfl
theorem q180 : (Jvm.Cond.static ({ cls := "CardLoom", name := "coloursOf", desc := "(I)[LCardLoom$Colour;" } : Jvm.MethodName)) ∈ lw_all := lw_g (lw_at lw_m1 103 rfl) rfl
theorem q181 : (Jvm.Cond.code ({ cls := "CardLoom", name := "coloursOf", desc := "(I)[LCardLoom$Colour;" } : Jvm.MethodName) prog_1_method_69_code (3 : Nat) (Option.some (Jvm.ClassFile.FieldType.array (Jvm.ClassFile.FieldType.object "CardLoom$Colour")))) ∈ lw_all := lw_g (lw_at lw_m1 104 rfl) rfl
theorem q182 : (Jvm.Cond.classLink "CardLoom" (369 : Nat) "CardLoom$Colour") ∈ lw_all := lw_g (lw_at lw_m1 105 rfl) rfl
theorem q185 : (Jvm.Cond.methodLink "CardLoom" (371 : Nat) ({ cls := "CardLoom$Colour", name := "<init>", desc := "(I)V" } : Jvm.MethodName)) ∈ lw_all := lw_g (lw_at lw_m1 108 rfl) rfl
theorem q190 : (Jvm.Cond.fieldLinkNest "CardLoom" (419 : Nat) "CardLoom$Colour" "number" "I" "CardLoom") ∈ lw_tbl := lw_at lw_m1 113 rfl
theorem q196 : (Jvm.Cond.stringRef "CardLoom" (47 : Nat) "") ∈ lw_tbl := lw_at lw_m1 119 rfl
theorem q197 : (Jvm.Cond.classLink "CardLoom" (53 : Nat) "[I") ∈ lw_all := lw_g (lw_at lw_m1 120 rfl) rfl
theorem q198 : (Jvm.Cond.fieldLink "CardLoom" (10 : Nat) "CardLoom" "cards" "Ljava/util/ArrayList;") ∈ lw_all := lw_g (lw_at lw_m1 121 rfl) rfl
theorem q199 : (Jvm.Cond.fieldLink "CardLoom" (16 : Nat) "CardLoom" "rows" "Ljava/util/ArrayList;") ∈ lw_all := lw_g (lw_at lw_m1 122 rfl) rfl
theorem q200 : (Jvm.Cond.fieldLink "CardLoom" (23 : Nat) "CardLoom" "law" "LCardLoom$Law;") ∈ lw_all := lw_g (lw_at lw_m1 123 rfl) rfl
theorem q201 : (Jvm.Cond.fieldLink "CardLoom" (27 : Nat) "CardLoom" "tape" "[B") ∈ lw_all := lw_g (lw_at lw_m1 124 rfl) rfl
theorem q204 : (Jvm.Cond.fieldLink "CardLoom" (162 : Nat) "CardLoom" "fed" "I") ∈ lw_all := lw_g (lw_at lw_m1 127 rfl) rfl
theorem q205 : (Jvm.Cond.fieldLink "CardLoom" (33 : Nat) "CardLoom" "picture" "[[I") ∈ lw_all := lw_g (lw_at lw_m1 128 rfl) rfl
theorem q207 : (Jvm.Cond.fieldLink "CardLoom" (316 : Nat) "CardLoom" "lines" "I") ∈ lw_all := lw_g (lw_at lw_m1 130 rfl) rfl
theorem q208 : (Jvm.Cond.fieldLink "CardLoom" (36 : Nat) "CardLoom" "fewest" "[[I") ∈ lw_all := lw_g (lw_at lw_m1 131 rfl) rfl
theorem q210 : (Jvm.Cond.fieldLink "CardLoom" (43 : Nat) "CardLoom" "colour" "[LCardLoom$Colour;") ∈ lw_all := lw_g (lw_at lw_m1 133 rfl) rfl
theorem q211 : (Jvm.Cond.fieldLink "CardLoom" (49 : Nat) "CardLoom" "paper" "Ljava/lang/String;") ∈ lw_all := lw_g (lw_at lw_m1 134 rfl) rfl
theorem q212 : (Jvm.Cond.fieldLink "CardLoom" (55 : Nat) "CardLoom" "lists" "[[I") ∈ lw_all := lw_g (lw_at lw_m1 135 rfl) rfl
theorem q213 : (Jvm.Cond.fieldLink "CardLoom" (473 : Nat) "CardLoom" "keptCards" "Ljava/util/ArrayList;") ∈ lw_all := lw_g (lw_at lw_m1 136 rfl) rfl
theorem q214 : (Jvm.Cond.fieldLink "CardLoom" (479 : Nat) "CardLoom" "keptRows" "Ljava/util/ArrayList;") ∈ lw_all := lw_g (lw_at lw_m1 137 rfl) rfl
theorem q215 : (Jvm.Cond.fieldLink "CardLoom" (58 : Nat) "CardLoom" "keptLaw" "LCardLoom$Law;") ∈ lw_all := lw_g (lw_at lw_m1 138 rfl) rfl
theorem q216 : (Jvm.Cond.lays "CardLoom" "CardLoom" "cards" "Ljava/util/ArrayList;") ∈ lw_all := lw_g (lw_at lw_m1 139 rfl) rfl
theorem q217 : (Jvm.Cond.soleField "CardLoom" "cards") ∈ lw_all := lw_g (lw_at lw_m1 140 rfl) rfl
theorem q218 : (Jvm.Cond.lays "CardLoom" "CardLoom" "rows" "Ljava/util/ArrayList;") ∈ lw_all := lw_g (lw_at lw_m1 141 rfl) rfl
theorem q219 : (Jvm.Cond.soleField "CardLoom" "rows") ∈ lw_all := lw_g (lw_at lw_m1 142 rfl) rfl
theorem q220 : (Jvm.Cond.lays "CardLoom" "CardLoom" "law" "LCardLoom$Law;") ∈ lw_all := lw_g (lw_at lw_m1 143 rfl) rfl
theorem q221 : (Jvm.Cond.soleField "CardLoom" "law") ∈ lw_all := lw_g (lw_at lw_m1 144 rfl) rfl
theorem q222 : (Jvm.Cond.laysFinal "CardLoom" "CardLoom" "tape" "[B") ∈ lw_all := lw_g (lw_at lw_m1 145 rfl) rfl
theorem q223 : (Jvm.Cond.soleField "CardLoom" "tape") ∈ lw_all := lw_g (lw_at lw_m1 146 rfl) rfl
theorem q224 : (Jvm.Cond.lays "CardLoom" "CardLoom" "fed" "I") ∈ lw_all := lw_g (lw_at lw_m1 147 rfl) rfl
theorem q225 : (Jvm.Cond.soleField "CardLoom" "fed") ∈ lw_all := lw_g (lw_at lw_m1 148 rfl) rfl
theorem q226 : (Jvm.Cond.laysFinal "CardLoom" "CardLoom" "picture" "[[I") ∈ lw_all := lw_g (lw_at lw_m1 149 rfl) rfl
theorem q227 : (Jvm.Cond.soleField "CardLoom" "picture") ∈ lw_all := lw_g (lw_at lw_m1 150 rfl) rfl
theorem q228 : (Jvm.Cond.lays "CardLoom" "CardLoom" "lines" "I") ∈ lw_all := lw_g (lw_at lw_m1 151 rfl) rfl
theorem q229 : (Jvm.Cond.soleField "CardLoom" "lines") ∈ lw_all := lw_g (lw_at lw_m1 152 rfl) rfl
theorem q230 : (Jvm.Cond.laysFinal "CardLoom" "CardLoom" "fewest" "[[I") ∈ lw_all := lw_g (lw_at lw_m1 153 rfl) rfl
theorem q231 : (Jvm.Cond.soleField "CardLoom" "fewest") ∈ lw_all := lw_g (lw_at lw_m1 154 rfl) rfl
theorem q232 : (Jvm.Cond.laysFinal "CardLoom" "CardLoom" "colour" "[LCardLoom$Colour;") ∈ lw_all := lw_g (lw_at lw_m1 155 rfl) rfl
theorem q233 : (Jvm.Cond.soleField "CardLoom" "colour") ∈ lw_all := lw_g (lw_at lw_m1 156 rfl) rfl
theorem q234 : (Jvm.Cond.lays "CardLoom" "CardLoom" "paper" "Ljava/lang/String;") ∈ lw_all := lw_g (lw_at lw_m1 157 rfl) rfl
theorem q235 : (Jvm.Cond.soleField "CardLoom" "paper") ∈ lw_all := lw_g (lw_at lw_m1 158 rfl) rfl
theorem q236 : (Jvm.Cond.laysFinal "CardLoom" "CardLoom" "lists" "[[I") ∈ lw_all := lw_g (lw_at lw_m1 159 rfl) rfl
theorem q237 : (Jvm.Cond.soleField "CardLoom" "lists") ∈ lw_all := lw_g (lw_at lw_m1 160 rfl) rfl
theorem q238 : (Jvm.Cond.lays "CardLoom" "CardLoom" "keptCards" "Ljava/util/ArrayList;") ∈ lw_all := lw_g (lw_at lw_m1 161 rfl) rfl
theorem q239 : (Jvm.Cond.soleField "CardLoom" "keptCards") ∈ lw_all := lw_g (lw_at lw_m1 162 rfl) rfl
theorem q240 : (Jvm.Cond.lays "CardLoom" "CardLoom" "keptRows" "Ljava/util/ArrayList;") ∈ lw_all := lw_g (lw_at lw_m1 163 rfl) rfl
theorem q241 : (Jvm.Cond.soleField "CardLoom" "keptRows") ∈ lw_all := lw_g (lw_at lw_m1 164 rfl) rfl
theorem q242 : (Jvm.Cond.lays "CardLoom" "CardLoom" "keptLaw" "LCardLoom$Law;") ∈ lw_all := lw_g (lw_at lw_m1 165 rfl) rfl
theorem q243 : (Jvm.Cond.soleField "CardLoom" "keptLaw") ∈ lw_all := lw_g (lw_at lw_m1 166 rfl) rfl
theorem q244 : (Jvm.Cond.superclass "CardLoom" "java/lang/Object") ∈ lw_all := lw_g (lw_at lw_m1 167 rfl) rfl
theorem q246 : (Jvm.Cond.instanceMethod ({ cls := "CardLoom", name := "feed", desc := "(I)I" } : Jvm.MethodName)) ∈ lw_all := lw_g (lw_at lw_m1 169 rfl) rfl
theorem q247 : (Jvm.Cond.selects "CardLoom" ({ cls := "CardLoom", name := "feed", desc := "(I)I" } : Jvm.MethodName) ({ cls := "CardLoom", name := "feed", desc := "(I)I" } : Jvm.MethodName)) ∈ lw_all := lw_g (lw_at lw_m1 170 rfl) rfl
theorem q248 : (Jvm.Cond.code ({ cls := "CardLoom", name := "feed", desc := "(I)I" } : Jvm.MethodName) prog_1_method_25_code (2 : Nat) (Option.some Jvm.ClassFile.FieldType.int)) ∈ lw_all := lw_g (lw_at lw_m1 171 rfl) rfl
theorem q249 : (Jvm.Cond.methodLink "CardLoom" (93 : Nat) ({ cls := "CardLoom", name := "isIn", desc := "(III)Z" } : Jvm.MethodName)) ∈ lw_all := lw_g (lw_at lw_m1 172 rfl) rfl
theorem q250 : (Jvm.Cond.static ({ cls := "CardLoom", name := "isIn", desc := "(III)Z" } : Jvm.MethodName)) ∈ lw_all := lw_g (lw_at lw_m1 173 rfl) rfl
theorem q251 : (Jvm.Cond.code ({ cls := "CardLoom", name := "isIn", desc := "(III)Z" } : Jvm.MethodName) prog_1_method_2_code (3 : Nat) (Option.some Jvm.ClassFile.FieldType.boolean)) ∈ lw_all := lw_g (lw_at lw_m1 174 rfl) rfl
theorem q253 : (Jvm.Cond.instanceMethod ({ cls := "CardLoom", name := "clear", desc := "()I" } : Jvm.MethodName)) ∈ lw_all := lw_g (lw_at lw_m1 176 rfl) rfl
theorem q254 : (Jvm.Cond.selects "CardLoom" ({ cls := "CardLoom", name := "clear", desc := "()I" } : Jvm.MethodName) ({ cls := "CardLoom", name := "clear", desc := "()I" } : Jvm.MethodName)) ∈ lw_all := lw_g (lw_at lw_m1 177 rfl) rfl
theorem q255 : (Jvm.Cond.code ({ cls := "CardLoom", name := "clear", desc := "()I" } : Jvm.MethodName) prog_1_method_26_code (2 : Nat) (Option.some Jvm.ClassFile.FieldType.int)) ∈ lw_all := lw_g (lw_at lw_m1 178 rfl) rfl
theorem q257 : (Jvm.Cond.instanceMethod ({ cls := "CardLoom", name := "thread", desc := "()I" } : Jvm.MethodName)) ∈ lw_all := lw_g (lw_at lw_m1 180 rfl) rfl
theorem q258 : (Jvm.Cond.selects "CardLoom" ({ cls := "CardLoom", name := "thread", desc := "()I" } : Jvm.MethodName) ({ cls := "CardLoom", name := "thread", desc := "()I" } : Jvm.MethodName)) ∈ lw_all := lw_g (lw_at lw_m1 181 rfl) rfl
theorem q259 : (Jvm.Cond.codeWith ({ cls := "CardLoom", name := "thread", desc := "()I" } : Jvm.MethodName) prog_1_method_27_code (4 : Nat) (Option.some Jvm.ClassFile.FieldType.int) [((0 : Nat), (31 : Nat), (38 : Nat), (175 : Nat)), ((0 : Nat), (31 : Nat), (54 : Nat), (0 : Nat)), ((38 : Nat), (47 : Nat), (54 : Nat), (0 : Nat))]) ∈ lw_all := lw_g (lw_at lw_m1 182 rfl) rfl
theorem q260 : (Jvm.Cond.classLink "CardLoom" (175 : Nat) "CardLoom$Wrong") ∈ lw_all := lw_g (lw_at lw_m1 183 rfl) rfl
theorem q261 : (Jvm.Cond.classLink "CardLoom" (166 : Nat) "CardLoom$Reader") ∈ lw_all := lw_g (lw_at lw_m1 184 rfl) rfl
theorem q263 : (Jvm.Cond.methodLinkNest "CardLoom" (168 : Nat) ({ cls := "CardLoom$Reader", name := "<init>", desc := "(LCardLoom;)V" } : Jvm.MethodName) "CardLoom") ∈ lw_tbl := lw_at lw_m1 186 rfl
theorem q269 : (Jvm.Cond.fieldLinkNest "CardLoom" (182 : Nat) "CardLoom$Reader" "letters" "I" "CardLoom") ∈ lw_tbl := lw_at lw_m1 192 rfl
theorem q278 : (Jvm.Cond.methodLink "CardLoom" (171 : Nat) ({ cls := "CardLoom$Reader", name := "threading", desc := "()Ljava/util/ArrayList;" } : Jvm.MethodName)) ∈ lw_all := lw_g (lw_at lw_m1 201 rfl) rfl
theorem q356 : (Jvm.Cond.fieldLinkNest "CardLoom" (177 : Nat) "CardLoom$Wrong" "place" "I" "CardLoom") ∈ lw_tbl := lw_at lw_m2 39 rfl
theorem q380 : (Jvm.Cond.fieldLinkNest "CardLoom" (198 : Nat) "CardLoom$Card" "holes" "[I" "CardLoom") ∈ lw_tbl := lw_at lw_m2 63 rfl
theorem q384 : (Jvm.Cond.fieldLinkNest "CardLoom" (201 : Nat) "CardLoom$Card" "slant" "I" "CardLoom") ∈ lw_tbl := lw_at lw_m2 67 rfl
theorem q386 : (Jvm.Cond.fieldLinkNest "CardLoom" (204 : Nat) "CardLoom$Card" "place" "I" "CardLoom") ∈ lw_tbl := lw_at lw_m2 69 rfl
theorem q389 : (Jvm.Cond.fieldLinkNest "CardLoom" (205 : Nat) "CardLoom$Card" "twist" "I" "CardLoom") ∈ lw_tbl := lw_at lw_m2 72 rfl
theorem q431 : (Jvm.Cond.selects "CardLoom" ({ cls := "java/lang/Object", name := "getClass", desc := "()Ljava/lang/Class;" } : Jvm.MethodName) ({ cls := "java/lang/Object", name := "getClass", desc := "()Ljava/lang/Class;" } : Jvm.MethodName)) ∈ lw_all := lw_g (lw_at lw_m2 114 rfl) rfl
theorem q483 : (Jvm.Cond.methodLink "CardLoom" (90 : Nat) ({ cls := "CardLoom", name := "many", desc := "()I" } : Jvm.MethodName)) ∈ lw_all := lw_g (lw_at lw_m2 166 rfl) rfl
theorem q484 : (Jvm.Cond.privateMethod ({ cls := "CardLoom", name := "many", desc := "()I" } : Jvm.MethodName)) ∈ lw_tbl := lw_at lw_m2 167 rfl
theorem q485 : (Jvm.Cond.instanceMethod ({ cls := "CardLoom", name := "many", desc := "()I" } : Jvm.MethodName)) ∈ lw_all := lw_g (lw_at lw_m2 168 rfl) rfl
theorem q486 : (Jvm.Cond.code ({ cls := "CardLoom", name := "many", desc := "()I" } : Jvm.MethodName) prog_1_method_13_code (1 : Nat) (Option.some Jvm.ClassFile.FieldType.int)) ∈ lw_all := lw_g (lw_at lw_m2 169 rfl) rfl
theorem q487 : (Jvm.Cond.methodLink "CardLoom" (86 : Nat) ({ cls := "java/util/ArrayList", name := "size", desc := "()I" } : Jvm.MethodName)) ∈ lw_all := lw_g (lw_at lw_m2 170 rfl) rfl
theorem q489 : (Jvm.Cond.instanceMethod ({ cls := "CardLoom", name := "law", desc := "()I" } : Jvm.MethodName)) ∈ lw_all := lw_g (lw_at lw_m2 172 rfl) rfl
theorem q490 : (Jvm.Cond.selects "CardLoom" ({ cls := "CardLoom", name := "law", desc := "()I" } : Jvm.MethodName) ({ cls := "CardLoom", name := "law", desc := "()I" } : Jvm.MethodName)) ∈ lw_all := lw_g (lw_at lw_m2 173 rfl) rfl
theorem q491 : (Jvm.Cond.codeWith ({ cls := "CardLoom", name := "law", desc := "()I" } : Jvm.MethodName) prog_1_method_28_code (4 : Nat) (Option.some Jvm.ClassFile.FieldType.int) [((0 : Nat), (22 : Nat), (29 : Nat), (175 : Nat)), ((0 : Nat), (22 : Nat), (45 : Nat), (0 : Nat)), ((29 : Nat), (38 : Nat), (45 : Nat), (0 : Nat))]) ∈ lw_all := lw_g (lw_at lw_m2 174 rfl) rfl
theorem q492 : (Jvm.Cond.methodLink "CardLoom" (180 : Nat) ({ cls := "CardLoom$Reader", name := "law", desc := "()LCardLoom$Law;" } : Jvm.MethodName)) ∈ lw_all := lw_g (lw_at lw_m2 175 rfl) rfl
theorem q596 : (Jvm.Cond.static ({ cls := "CardLoom", name := "inTurn", desc := "(ILCardLoom$Law;LCardLoom$Law;)LCardLoom$Law;" } : Jvm.MethodName)) ∈ lw_all := lw_g (lw_at lw_m3 39 rfl) rfl
theorem q597 : (Jvm.Cond.code ({ cls := "CardLoom", name := "inTurn", desc := "(ILCardLoom$Law;LCardLoom$Law;)LCardLoom$Law;" } : Jvm.MethodName) prog_1_method_5_code (3 : Nat) (Option.some (Jvm.ClassFile.FieldType.object "CardLoom$Law"))) ∈ lw_all := lw_g (lw_at lw_m3 40 rfl) rfl
theorem q598 : (Jvm.Cond.static ({ cls := "CardLoom", name := "lambda$inTurn$1", desc := "(ILCardLoom$Law;LCardLoom$Law;III)LCardLoom$Turning;" } : Jvm.MethodName)) ∈ lw_all := lw_g (lw_at lw_m3 41 rfl) rfl
theorem q599 : (Jvm.Cond.code ({ cls := "CardLoom", name := "lambda$inTurn$1", desc := "(ILCardLoom$Law;LCardLoom$Law;III)LCardLoom$Turning;" } : Jvm.MethodName) prog_1_method_96_code (6 : Nat) (Option.some (Jvm.ClassFile.FieldType.object "CardLoom$Turning"))) ∈ lw_all := lw_g (lw_at lw_m3 42 rfl) rfl
theorem q600 : (Jvm.Cond.interfaceEntry "CardLoom" (133 : Nat)) ∈ lw_tbl := lw_at lw_m3 43 rfl
theorem q601 : (Jvm.Cond.methodLink "CardLoom" (133 : Nat) ({ cls := "CardLoom$Law", name := "of", desc := "(III)LCardLoom$Turning;" } : Jvm.MethodName)) ∈ lw_all := lw_g (lw_at lw_m3 44 rfl) rfl
theorem q605 : (Jvm.Cond.static ({ cls := "CardLoom", name := "byCards", desc := "(ILCardLoom$Law;LCardLoom$Law;)LCardLoom$Law;" } : Jvm.MethodName)) ∈ lw_all := lw_g (lw_at lw_m3 48 rfl) rfl
theorem q606 : (Jvm.Cond.code ({ cls := "CardLoom", name := "byCards", desc := "(ILCardLoom$Law;LCardLoom$Law;)LCardLoom$Law;" } : Jvm.MethodName) prog_1_method_6_code (3 : Nat) (Option.some (Jvm.ClassFile.FieldType.object "CardLoom$Law"))) ∈ lw_all := lw_g (lw_at lw_m3 49 rfl) rfl
theorem q607 : (Jvm.Cond.static ({ cls := "CardLoom", name := "lambda$byCards$2", desc := "(ILCardLoom$Law;LCardLoom$Law;III)LCardLoom$Turning;" } : Jvm.MethodName)) ∈ lw_all := lw_g (lw_at lw_m3 50 rfl) rfl
theorem q608 : (Jvm.Cond.code ({ cls := "CardLoom", name := "lambda$byCards$2", desc := "(ILCardLoom$Law;LCardLoom$Law;III)LCardLoom$Turning;" } : Jvm.MethodName) prog_1_method_95_code (6 : Nat) (Option.some (Jvm.ClassFile.FieldType.object "CardLoom$Turning"))) ∈ lw_all := lw_g (lw_at lw_m3 51 rfl) rfl
theorem q610 : (Jvm.Cond.static ({ cls := "CardLoom", name := "eachOf", desc := "(ILCardLoom$Law;LCardLoom$Law;)LCardLoom$Law;" } : Jvm.MethodName)) ∈ lw_all := lw_g (lw_at lw_m3 53 rfl) rfl
theorem q611 : (Jvm.Cond.code ({ cls := "CardLoom", name := "eachOf", desc := "(ILCardLoom$Law;LCardLoom$Law;)LCardLoom$Law;" } : Jvm.MethodName) prog_1_method_7_code (3 : Nat) (Option.some (Jvm.ClassFile.FieldType.object "CardLoom$Law"))) ∈ lw_all := lw_g (lw_at lw_m3 54 rfl) rfl
theorem q612 : (Jvm.Cond.static ({ cls := "CardLoom", name := "lambda$eachOf$3", desc := "(ILCardLoom$Law;LCardLoom$Law;III)LCardLoom$Turning;" } : Jvm.MethodName)) ∈ lw_all := lw_g (lw_at lw_m3 55 rfl) rfl
theorem q613 : (Jvm.Cond.code ({ cls := "CardLoom", name := "lambda$eachOf$3", desc := "(ILCardLoom$Law;LCardLoom$Law;III)LCardLoom$Turning;" } : Jvm.MethodName) prog_1_method_94_code (6 : Nat) (Option.some (Jvm.ClassFile.FieldType.object "CardLoom$Turning"))) ∈ lw_all := lw_g (lw_at lw_m3 56 rfl) rfl
theorem q615 : (Jvm.Cond.static ({ cls := "CardLoom", name := "first", desc := "(LCardLoom$Law;LCardLoom$Law;)LCardLoom$Law;" } : Jvm.MethodName)) ∈ lw_all := lw_g (lw_at lw_m3 58 rfl) rfl
theorem q616 : (Jvm.Cond.code ({ cls := "CardLoom", name := "first", desc := "(LCardLoom$Law;LCardLoom$Law;)LCardLoom$Law;" } : Jvm.MethodName) prog_1_method_12_code (2 : Nat) (Option.some (Jvm.ClassFile.FieldType.object "CardLoom$Law"))) ∈ lw_all := lw_g (lw_at lw_m3 59 rfl) rfl
theorem q617 : (Jvm.Cond.static ({ cls := "CardLoom", name := "lambda$first$8", desc := "(LCardLoom$Law;LCardLoom$Law;III)LCardLoom$Turning;" } : Jvm.MethodName)) ∈ lw_all := lw_g (lw_at lw_m3 60 rfl) rfl
theorem q618 : (Jvm.Cond.code ({ cls := "CardLoom", name := "lambda$first$8", desc := "(LCardLoom$Law;LCardLoom$Law;III)LCardLoom$Turning;" } : Jvm.MethodName) prog_1_method_89_code (6 : Nat) (Option.some (Jvm.ClassFile.FieldType.object "CardLoom$Turning"))) ∈ lw_all := lw_g (lw_at lw_m3 61 rfl) rfl
theorem q628 : (Jvm.Cond.static ({ cls := "CardLoom", name := "later", desc := "(ILCardLoom$Law;)LCardLoom$Law;" } : Jvm.MethodName)) ∈ lw_all := lw_g (lw_at lw_m3 71 rfl) rfl
theorem q629 : (Jvm.Cond.code ({ cls := "CardLoom", name := "later", desc := "(ILCardLoom$Law;)LCardLoom$Law;" } : Jvm.MethodName) prog_1_method_8_code (2 : Nat) (Option.some (Jvm.ClassFile.FieldType.object "CardLoom$Law"))) ∈ lw_all := lw_g (lw_at lw_m3 72 rfl) rfl
theorem q630 : (Jvm.Cond.static ({ cls := "CardLoom", name := "lambda$later$4", desc := "(LCardLoom$Law;IIII)LCardLoom$Turning;" } : Jvm.MethodName)) ∈ lw_all := lw_g (lw_at lw_m3 73 rfl) rfl
theorem q631 : (Jvm.Cond.code ({ cls := "CardLoom", name := "lambda$later$4", desc := "(LCardLoom$Law;IIII)LCardLoom$Turning;" } : Jvm.MethodName) prog_1_method_93_code (5 : Nat) (Option.some (Jvm.ClassFile.FieldType.object "CardLoom$Turning"))) ∈ lw_all := lw_g (lw_at lw_m3 74 rfl) rfl
theorem q633 : (Jvm.Cond.static ({ cls := "CardLoom", name := "slanting", desc := "(LCardLoom$Law;)LCardLoom$Law;" } : Jvm.MethodName)) ∈ lw_all := lw_g (lw_at lw_m3 76 rfl) rfl
theorem q634 : (Jvm.Cond.code ({ cls := "CardLoom", name := "slanting", desc := "(LCardLoom$Law;)LCardLoom$Law;" } : Jvm.MethodName) prog_1_method_9_code (1 : Nat) (Option.some (Jvm.ClassFile.FieldType.object "CardLoom$Law"))) ∈ lw_all := lw_g (lw_at lw_m3 77 rfl) rfl
theorem q635 : (Jvm.Cond.static ({ cls := "CardLoom", name := "lambda$slanting$5", desc := "(LCardLoom$Law;III)LCardLoom$Turning;" } : Jvm.MethodName)) ∈ lw_all := lw_g (lw_at lw_m3 78 rfl) rfl
theorem q636 : (Jvm.Cond.code ({ cls := "CardLoom", name := "lambda$slanting$5", desc := "(LCardLoom$Law;III)LCardLoom$Turning;" } : Jvm.MethodName) prog_1_method_92_code (4 : Nat) (Option.some (Jvm.ClassFile.FieldType.object "CardLoom$Turning"))) ∈ lw_all := lw_g (lw_at lw_m3 79 rfl) rfl
theorem q638 : (Jvm.Cond.static ({ cls := "CardLoom", name := "reversed", desc := "(LCardLoom$Law;)LCardLoom$Law;" } : Jvm.MethodName)) ∈ lw_all := lw_g (lw_at lw_m3 81 rfl) rfl
theorem q639 : (Jvm.Cond.code ({ cls := "CardLoom", name := "reversed", desc := "(LCardLoom$Law;)LCardLoom$Law;" } : Jvm.MethodName) prog_1_method_10_code (1 : Nat) (Option.some (Jvm.ClassFile.FieldType.object "CardLoom$Law"))) ∈ lw_all := lw_g (lw_at lw_m3 82 rfl) rfl
theorem q640 : (Jvm.Cond.static ({ cls := "CardLoom", name := "lambda$reversed$6", desc := "(LCardLoom$Law;III)LCardLoom$Turning;" } : Jvm.MethodName)) ∈ lw_all := lw_g (lw_at lw_m3 83 rfl) rfl
theorem q641 : (Jvm.Cond.code ({ cls := "CardLoom", name := "lambda$reversed$6", desc := "(LCardLoom$Law;III)LCardLoom$Turning;" } : Jvm.MethodName) prog_1_method_91_code (4 : Nat) (Option.some (Jvm.ClassFile.FieldType.object "CardLoom$Turning"))) ∈ lw_all := lw_g (lw_at lw_m3 84 rfl) rfl
theorem q642 : (Jvm.Cond.methodLink "CardLoom" (482 : Nat) ({ cls := "CardLoom$Turning", name := "other", desc := "()LCardLoom$Turning;" } : Jvm.MethodName)) ∈ lw_all := lw_g (lw_at lw_m3 85 rfl) rfl
theorem q661 : (Jvm.Cond.static ({ cls := "CardLoom", name := "mirrored", desc := "(LCardLoom$Law;)LCardLoom$Law;" } : Jvm.MethodName)) ∈ lw_all := lw_g (lw_at lw_m3 104 rfl) rfl
theorem q662 : (Jvm.Cond.code ({ cls := "CardLoom", name := "mirrored", desc := "(LCardLoom$Law;)LCardLoom$Law;" } : Jvm.MethodName) prog_1_method_11_code (1 : Nat) (Option.some (Jvm.ClassFile.FieldType.object "CardLoom$Law"))) ∈ lw_all := lw_g (lw_at lw_m3 105 rfl) rfl
theorem q663 : (Jvm.Cond.static ({ cls := "CardLoom", name := "lambda$mirrored$7", desc := "(LCardLoom$Law;III)LCardLoom$Turning;" } : Jvm.MethodName)) ∈ lw_all := lw_g (lw_at lw_m3 106 rfl) rfl
theorem q664 : (Jvm.Cond.code ({ cls := "CardLoom", name := "lambda$mirrored$7", desc := "(LCardLoom$Law;III)LCardLoom$Turning;" } : Jvm.MethodName) prog_1_method_90_code (4 : Nat) (Option.some (Jvm.ClassFile.FieldType.object "CardLoom$Turning"))) ∈ lw_all := lw_g (lw_at lw_m3 107 rfl) rfl
theorem q674 : (Jvm.Cond.static ({ cls := "CardLoom", name := "always", desc := "(LCardLoom$Turning;)LCardLoom$Law;" } : Jvm.MethodName)) ∈ lw_all := lw_g (lw_at lw_m3 117 rfl) rfl
theorem q675 : (Jvm.Cond.code ({ cls := "CardLoom", name := "always", desc := "(LCardLoom$Turning;)LCardLoom$Law;" } : Jvm.MethodName) prog_1_method_4_code (1 : Nat) (Option.some (Jvm.ClassFile.FieldType.object "CardLoom$Law"))) ∈ lw_all := lw_g (lw_at lw_m3 118 rfl) rfl
theorem q676 : (Jvm.Cond.static ({ cls := "CardLoom", name := "lambda$always$0", desc := "(LCardLoom$Turning;III)LCardLoom$Turning;" } : Jvm.MethodName)) ∈ lw_all := lw_g (lw_at lw_m3 119 rfl) rfl
theorem q677 : (Jvm.Cond.code ({ cls := "CardLoom", name := "lambda$always$0", desc := "(LCardLoom$Turning;III)LCardLoom$Turning;" } : Jvm.MethodName) prog_1_method_97_code (4 : Nat) (Option.some (Jvm.ClassFile.FieldType.object "CardLoom$Turning"))) ∈ lw_all := lw_g (lw_at lw_m3 120 rfl) rfl
theorem q679 : (Jvm.Cond.instanceMethod ({ cls := "CardLoom", name := "card", desc := "(II)I" } : Jvm.MethodName)) ∈ lw_all := lw_g (lw_at lw_m3 122 rfl) rfl
theorem q680 : (Jvm.Cond.selects "CardLoom" ({ cls := "CardLoom", name := "card", desc := "(II)I" } : Jvm.MethodName) ({ cls := "CardLoom", name := "card", desc := "(II)I" } : Jvm.MethodName)) ∈ lw_all := lw_g (lw_at lw_m3 123 rfl) rfl
theorem q681 : (Jvm.Cond.code ({ cls := "CardLoom", name := "card", desc := "(II)I" } : Jvm.MethodName) prog_1_method_30_code (4 : Nat) (Option.some Jvm.ClassFile.FieldType.int)) ∈ lw_all := lw_g (lw_at lw_m3 124 rfl) rfl
theorem q682 : (Jvm.Cond.methodLink "CardLoom" (195 : Nat) ({ cls := "CardLoom", name := "isCard", desc := "(I)Z" } : Jvm.MethodName)) ∈ lw_all := lw_g (lw_at lw_m3 125 rfl) rfl
theorem q683 : (Jvm.Cond.privateMethod ({ cls := "CardLoom", name := "isCard", desc := "(I)Z" } : Jvm.MethodName)) ∈ lw_tbl := lw_at lw_m3 126 rfl
theorem q684 : (Jvm.Cond.instanceMethod ({ cls := "CardLoom", name := "isCard", desc := "(I)Z" } : Jvm.MethodName)) ∈ lw_all := lw_g (lw_at lw_m3 127 rfl) rfl
theorem q685 : (Jvm.Cond.code ({ cls := "CardLoom", name := "isCard", desc := "(I)Z" } : Jvm.MethodName) prog_1_method_14_code (2 : Nat) (Option.some Jvm.ClassFile.FieldType.boolean)) ∈ lw_all := lw_g (lw_at lw_m3 128 rfl) rfl
theorem q686 : (Jvm.Cond.methodLink "CardLoom" (121 : Nat) ({ cls := "java/util/ArrayList", name := "get", desc := "(I)Ljava/lang/Object;" } : Jvm.MethodName)) ∈ lw_all := lw_g (lw_at lw_m3 129 rfl) rfl
theorem q700 : (Jvm.Cond.classLink "CardLoom" (111 : Nat) "CardLoom$Card") ∈ lw_all := lw_g (lw_at lw_m3 143 rfl) rfl
theorem q701 : (Jvm.Cond.methodLink "CardLoom" (208 : Nat) ({ cls := "CardLoom", name := "floatOf", desc := "(I)I" } : Jvm.MethodName)) ∈ lw_all := lw_g (lw_at lw_m3 144 rfl) rfl
theorem q702 : (Jvm.Cond.privateMethod ({ cls := "CardLoom", name := "floatOf", desc := "(I)I" } : Jvm.MethodName)) ∈ lw_tbl := lw_at lw_m3 145 rfl
theorem q703 : (Jvm.Cond.instanceMethod ({ cls := "CardLoom", name := "floatOf", desc := "(I)I" } : Jvm.MethodName)) ∈ lw_all := lw_g (lw_at lw_m3 146 rfl) rfl
theorem q704 : (Jvm.Cond.code ({ cls := "CardLoom", name := "floatOf", desc := "(I)I" } : Jvm.MethodName) prog_1_method_29_code (6 : Nat) (Option.some Jvm.ClassFile.FieldType.int)) ∈ lw_all := lw_g (lw_at lw_m3 147 rfl) rfl
theorem q705 : (Jvm.Cond.methodLink "CardLoom" (97 : Nat) ({ cls := "java/util/ArrayList", name := "iterator", desc := "()Ljava/util/Iterator;" } : Jvm.MethodName)) ∈ lw_all := lw_g (lw_at lw_m3 148 rfl) rfl
theorem q728 : (Jvm.Cond.interfaceEntry "CardLoom" (101 : Nat)) ∈ lw_tbl := lw_at lw_m3 171 rfl
theorem q729 : (Jvm.Cond.methodLink "CardLoom" (101 : Nat) ({ cls := "java/util/Iterator", name := "hasNext", desc := "()Z" } : Jvm.MethodName)) ∈ lw_all := lw_g (lw_at lw_m3 172 rfl) rfl
theorem q757 : (Jvm.Cond.interfaceEntry "CardLoom" (107 : Nat)) ∈ lw_tbl := lw_at lw_m3 200 rfl
theorem q758 : (Jvm.Cond.methodLink "CardLoom" (107 : Nat) ({ cls := "java/util/Iterator", name := "next", desc := "()Ljava/lang/Object;" } : Jvm.MethodName)) ∈ lw_all := lw_g (lw_at lw_m3 201 rfl) rfl
theorem q811 : (Jvm.Cond.classLink "CardLoom" (144 : Nat) "CardLoom$Row") ∈ lw_all := lw_g (lw_at lw_m4 14 rfl) rfl
theorem q812 : (Jvm.Cond.methodLink "CardLoom" (189 : Nat) ({ cls := "java/lang/Math", name := "max", desc := "(II)I" } : Jvm.MethodName)) ∈ lw_all := lw_g (lw_at lw_m4 15 rfl) rfl
theorem q814 : (Jvm.Cond.instanceMethod ({ cls := "CardLoom", name := "slant", desc := "(I)I" } : Jvm.MethodName)) ∈ lw_all := lw_g (lw_at lw_m4 17 rfl) rfl
theorem q815 : (Jvm.Cond.selects "CardLoom" ({ cls := "CardLoom", name := "slant", desc := "(I)I" } : Jvm.MethodName) ({ cls := "CardLoom", name := "slant", desc := "(I)I" } : Jvm.MethodName)) ∈ lw_all := lw_g (lw_at lw_m4 18 rfl) rfl
theorem q816 : (Jvm.Cond.code ({ cls := "CardLoom", name := "slant", desc := "(I)I" } : Jvm.MethodName) prog_1_method_31_code (3 : Nat) (Option.some Jvm.ClassFile.FieldType.int)) ∈ lw_all := lw_g (lw_at lw_m4 19 rfl) rfl
theorem q818 : (Jvm.Cond.instanceMethod ({ cls := "CardLoom", name := "place", desc := "(II)I" } : Jvm.MethodName)) ∈ lw_all := lw_g (lw_at lw_m4 21 rfl) rfl
theorem q819 : (Jvm.Cond.selects "CardLoom" ({ cls := "CardLoom", name := "place", desc := "(II)I" } : Jvm.MethodName) ({ cls := "CardLoom", name := "place", desc := "(II)I" } : Jvm.MethodName)) ∈ lw_all := lw_g (lw_at lw_m4 22 rfl) rfl
theorem q820 : (Jvm.Cond.code ({ cls := "CardLoom", name := "place", desc := "(II)I" } : Jvm.MethodName) prog_1_method_32_code (4 : Nat) (Option.some Jvm.ClassFile.FieldType.int)) ∈ lw_all := lw_g (lw_at lw_m4 23 rfl) rfl
theorem q822 : (Jvm.Cond.instanceMethod ({ cls := "CardLoom", name := "recolour", desc := "(III)I" } : Jvm.MethodName)) ∈ lw_all := lw_g (lw_at lw_m4 25 rfl) rfl
theorem q823 : (Jvm.Cond.selects "CardLoom" ({ cls := "CardLoom", name := "recolour", desc := "(III)I" } : Jvm.MethodName) ({ cls := "CardLoom", name := "recolour", desc := "(III)I" } : Jvm.MethodName)) ∈ lw_all := lw_g (lw_at lw_m4 26 rfl) rfl
theorem q824 : (Jvm.Cond.code ({ cls := "CardLoom", name := "recolour", desc := "(III)I" } : Jvm.MethodName) prog_1_method_34_code (5 : Nat) (Option.some Jvm.ClassFile.FieldType.int)) ∈ lw_all := lw_g (lw_at lw_m4 27 rfl) rfl
theorem q825 : (Jvm.Cond.methodLink "CardLoom" (214 : Nat) ({ cls := "CardLoom", name := "isColour", desc := "(I)Z" } : Jvm.MethodName)) ∈ lw_all := lw_g (lw_at lw_m4 28 rfl) rfl
theorem q826 : (Jvm.Cond.static ({ cls := "CardLoom", name := "isColour", desc := "(I)Z" } : Jvm.MethodName)) ∈ lw_all := lw_g (lw_at lw_m4 29 rfl) rfl
theorem q827 : (Jvm.Cond.code ({ cls := "CardLoom", name := "isColour", desc := "(I)Z" } : Jvm.MethodName) prog_1_method_33_code (1 : Nat) (Option.some Jvm.ClassFile.FieldType.boolean)) ∈ lw_all := lw_g (lw_at lw_m4 30 rfl) rfl
theorem q829 : (Jvm.Cond.instanceMethod ({ cls := "CardLoom", name := "turn", desc := "(II)I" } : Jvm.MethodName)) ∈ lw_all := lw_g (lw_at lw_m4 32 rfl) rfl
theorem q830 : (Jvm.Cond.selects "CardLoom" ({ cls := "CardLoom", name := "turn", desc := "(II)I" } : Jvm.MethodName) ({ cls := "CardLoom", name := "turn", desc := "(II)I" } : Jvm.MethodName)) ∈ lw_all := lw_g (lw_at lw_m4 33 rfl) rfl
theorem q831 : (Jvm.Cond.code ({ cls := "CardLoom", name := "turn", desc := "(II)I" } : Jvm.MethodName) prog_1_method_35_code (3 : Nat) (Option.some Jvm.ClassFile.FieldType.int)) ∈ lw_all := lw_g (lw_at lw_m4 34 rfl) rfl
theorem q832 : (Jvm.Cond.methodLink "CardLoom" (217 : Nat) ({ cls := "CardLoom", name := "isTurning", desc := "(I)Z" } : Jvm.MethodName)) ∈ lw_all := lw_g (lw_at lw_m4 35 rfl) rfl
theorem q833 : (Jvm.Cond.static ({ cls := "CardLoom", name := "isTurning", desc := "(I)Z" } : Jvm.MethodName)) ∈ lw_all := lw_g (lw_at lw_m4 36 rfl) rfl
theorem q834 : (Jvm.Cond.code ({ cls := "CardLoom", name := "isTurning", desc := "(I)Z" } : Jvm.MethodName) prog_1_method_16_code (1 : Nat) (Option.some Jvm.ClassFile.FieldType.boolean)) ∈ lw_all := lw_g (lw_at lw_m4 37 rfl) rfl
theorem q835 : (Jvm.Cond.methodLink "CardLoom" (220 : Nat) ({ cls := "CardLoom", name := "setOf", desc := "(I)Ljava/util/BitSet;" } : Jvm.MethodName)) ∈ lw_all := lw_g (lw_at lw_m4 38 rfl) rfl
theorem q836 : (Jvm.Cond.static ({ cls := "CardLoom", name := "setOf", desc := "(I)Ljava/util/BitSet;" } : Jvm.MethodName)) ∈ lw_all := lw_g (lw_at lw_m4 39 rfl) rfl
theorem q837 : (Jvm.Cond.code ({ cls := "CardLoom", name := "setOf", desc := "(I)Ljava/util/BitSet;" } : Jvm.MethodName) prog_1_method_23_code (3 : Nat) (Option.some (Jvm.ClassFile.FieldType.object "java/util/BitSet"))) ∈ lw_all := lw_g (lw_at lw_m4 40 rfl) rfl
theorem q838 : (Jvm.Cond.classLink "CardLoom" (149 : Nat) "java/util/BitSet") ∈ lw_all := lw_g (lw_at lw_m4 41 rfl) rfl
theorem q840 : (Jvm.Cond.methodLink "CardLoom" (153 : Nat) ({ cls := "java/util/BitSet", name := "<init>", desc := "()V" } : Jvm.MethodName)) ∈ lw_all := lw_g (lw_at lw_m4 43 rfl) rfl
theorem q862 : (Jvm.Cond.methodLink "CardLoom" (154 : Nat) ({ cls := "java/util/BitSet", name := "set", desc := "(I)V" } : Jvm.MethodName)) ∈ lw_all := lw_g (lw_at lw_m4 65 rfl) rfl
theorem q891 : (Jvm.Cond.methodLink "CardLoom" (224 : Nat) ({ cls := "CardLoom$Turning", name := "at", desc := "(I)LCardLoom$Turning;" } : Jvm.MethodName)) ∈ lw_all := lw_g (lw_at lw_m4 94 rfl) rfl
theorem q892 : (Jvm.Cond.methodLink "CardLoom" (228 : Nat) ({ cls := "CardLoom", name := "ofSet", desc := "(Ljava/util/BitSet;LCardLoom$Turning;)[LCardLoom$Turning;" } : Jvm.MethodName)) ∈ lw_all := lw_g (lw_at lw_m4 95 rfl) rfl
theorem q893 : (Jvm.Cond.privateMethod ({ cls := "CardLoom", name := "ofSet", desc := "(Ljava/util/BitSet;LCardLoom$Turning;)[LCardLoom$Turning;" } : Jvm.MethodName)) ∈ lw_tbl := lw_at lw_m4 96 rfl
theorem q894 : (Jvm.Cond.instanceMethod ({ cls := "CardLoom", name := "ofSet", desc := "(Ljava/util/BitSet;LCardLoom$Turning;)[LCardLoom$Turning;" } : Jvm.MethodName)) ∈ lw_all := lw_g (lw_at lw_m4 97 rfl) rfl
theorem q895 : (Jvm.Cond.code ({ cls := "CardLoom", name := "ofSet", desc := "(Ljava/util/BitSet;LCardLoom$Turning;)[LCardLoom$Turning;" } : Jvm.MethodName) prog_1_method_22_code (5 : Nat) (Option.some (Jvm.ClassFile.FieldType.array (Jvm.ClassFile.FieldType.object "CardLoom$Turning")))) ∈ lw_all := lw_g (lw_at lw_m4 98 rfl) rfl
theorem q896 : (Jvm.Cond.classLink "CardLoom" (62 : Nat) "CardLoom$Turning") ∈ lw_all := lw_g (lw_at lw_m4 99 rfl) rfl
theorem q898 : (Jvm.Cond.methodLink "CardLoom" (148 : Nat) ({ cls := "java/util/BitSet", name := "get", desc := "(I)Z" } : Jvm.MethodName)) ∈ lw_all := lw_g (lw_at lw_m4 101 rfl) rfl
theorem q902 : (Jvm.Cond.methodLink "CardLoom" (232 : Nat) ({ cls := "CardLoom", name := "picks", desc := "([LCardLoom$Turning;)I" } : Jvm.MethodName)) ∈ lw_all := lw_g (lw_at lw_m4 105 rfl) rfl
theorem q903 : (Jvm.Cond.privateMethod ({ cls := "CardLoom", name := "picks", desc := "([LCardLoom$Turning;)I" } : Jvm.MethodName)) ∈ lw_tbl := lw_at lw_m4 106 rfl
theorem q904 : (Jvm.Cond.instanceMethod ({ cls := "CardLoom", name := "picks", desc := "([LCardLoom$Turning;)I" } : Jvm.MethodName)) ∈ lw_all := lw_g (lw_at lw_m4 107 rfl) rfl
theorem q905 : (Jvm.Cond.code ({ cls := "CardLoom", name := "picks", desc := "([LCardLoom$Turning;)I" } : Jvm.MethodName) prog_1_method_21_code (2 : Nat) (Option.some Jvm.ClassFile.FieldType.int)) ∈ lw_all := lw_g (lw_at lw_m4 108 rfl) rfl
theorem q906 : (Jvm.Cond.methodLink "CardLoom" (138 : Nat) ({ cls := "CardLoom", name := "jams", desc := "(Ljava/util/ArrayList;[LCardLoom$Turning;)Z" } : Jvm.MethodName)) ∈ lw_all := lw_g (lw_at lw_m4 109 rfl) rfl
theorem q907 : (Jvm.Cond.static ({ cls := "CardLoom", name := "jams", desc := "(Ljava/util/ArrayList;[LCardLoom$Turning;)Z" } : Jvm.MethodName)) ∈ lw_all := lw_g (lw_at lw_m4 110 rfl) rfl
theorem q908 : (Jvm.Cond.code ({ cls := "CardLoom", name := "jams", desc := "(Ljava/util/ArrayList;[LCardLoom$Turning;)Z" } : Jvm.MethodName) prog_1_method_18_code (4 : Nat) (Option.some Jvm.ClassFile.FieldType.boolean)) ∈ lw_all := lw_g (lw_at lw_m4 111 rfl) rfl
theorem q909 : (Jvm.Cond.methodLink "CardLoom" (125 : Nat) ({ cls := "CardLoom$Card", name := "jams", desc := "(LCardLoom$Turning;)Z" } : Jvm.MethodName)) ∈ lw_all := lw_g (lw_at lw_m4 112 rfl) rfl
theorem q939 : (Jvm.Cond.methodLink "CardLoom" (141 : Nat) ({ cls := "CardLoom", name := "turns", desc := "(Ljava/util/ArrayList;[LCardLoom$Turning;)V" } : Jvm.MethodName)) ∈ lw_all := lw_g (lw_at lw_m4 142 rfl) rfl
theorem q940 : (Jvm.Cond.static ({ cls := "CardLoom", name := "turns", desc := "(Ljava/util/ArrayList;[LCardLoom$Turning;)V" } : Jvm.MethodName)) ∈ lw_all := lw_g (lw_at lw_m4 143 rfl) rfl
theorem q941 : (Jvm.Cond.code ({ cls := "CardLoom", name := "turns", desc := "(Ljava/util/ArrayList;[LCardLoom$Turning;)V" } : Jvm.MethodName) prog_1_method_19_code (3 : Nat) (Option.none : Option Jvm.ClassFile.FieldType)) ∈ lw_all := lw_g (lw_at lw_m4 144 rfl) rfl
theorem q942 : (Jvm.Cond.methodLink "CardLoom" (129 : Nat) ({ cls := "CardLoom$Card", name := "turns", desc := "(LCardLoom$Turning;)V" } : Jvm.MethodName)) ∈ lw_all := lw_g (lw_at lw_m4 145 rfl) rfl
theorem q948 : (Jvm.Cond.methodLink "CardLoom" (146 : Nat) ({ cls := "CardLoom$Row", name := "<init>", desc := "(Ljava/util/ArrayList;[LCardLoom$Turning;)V" } : Jvm.MethodName)) ∈ lw_all := lw_g (lw_at lw_m4 151 rfl) rfl
theorem q978 : (Jvm.Cond.fieldLinkNest "CardLoom" (256 : Nat) "CardLoom$Row" "front" "[I" "CardLoom") ∈ lw_tbl := lw_at lw_m4 181 rfl
theorem q980 : (Jvm.Cond.fieldLinkNest "CardLoom" (259 : Nat) "CardLoom$Row" "back" "[I" "CardLoom") ∈ lw_tbl := lw_at lw_m4 183 rfl
theorem q982 : (Jvm.Cond.fieldLinkNest "CardLoom" (262 : Nat) "CardLoom$Row" "lean" "[I" "CardLoom") ∈ lw_tbl := lw_at lw_m4 185 rfl
theorem q984 : (Jvm.Cond.fieldLinkNest "CardLoom" (185 : Nat) "CardLoom$Row" "turnings" "[LCardLoom$Turning;" "CardLoom") ∈ lw_tbl := lw_at lw_m4 187 rfl
theorem q994 : (Jvm.Cond.methodLink "CardLoom" (117 : Nat) ({ cls := "java/util/ArrayList", name := "add", desc := "(Ljava/lang/Object;)Z" } : Jvm.MethodName)) ∈ lw_all := lw_g (lw_at lw_m4 197 rfl) rfl
theorem q996 : (Jvm.Cond.instanceMethod ({ cls := "CardLoom", name := "pack", desc := "(II)I" } : Jvm.MethodName)) ∈ lw_all := lw_g (lw_at lw_m4 199 rfl) rfl
theorem q997 : (Jvm.Cond.selects "CardLoom" ({ cls := "CardLoom", name := "pack", desc := "(II)I" } : Jvm.MethodName) ({ cls := "CardLoom", name := "pack", desc := "(II)I" } : Jvm.MethodName)) ∈ lw_all := lw_g (lw_at lw_m4 200 rfl) rfl
theorem q998 : (Jvm.Cond.code ({ cls := "CardLoom", name := "pack", desc := "(II)I" } : Jvm.MethodName) prog_1_method_36_code (3 : Nat) (Option.some Jvm.ClassFile.FieldType.int)) ∈ lw_all := lw_g (lw_at lw_m4 201 rfl) rfl
theorem q1000 : (Jvm.Cond.instanceMethod ({ cls := "CardLoom", name := "weave", desc := "(I)I" } : Jvm.MethodName)) ∈ lw_all := lw_g (lw_at lw_m4 203 rfl) rfl
theorem q1001 : (Jvm.Cond.selects "CardLoom" ({ cls := "CardLoom", name := "weave", desc := "(I)I" } : Jvm.MethodName) ({ cls := "CardLoom", name := "weave", desc := "(I)I" } : Jvm.MethodName)) ∈ lw_all := lw_g (lw_at lw_m4 204 rfl) rfl
theorem q1002 : (Jvm.Cond.code ({ cls := "CardLoom", name := "weave", desc := "(I)I" } : Jvm.MethodName) prog_1_method_37_code (3 : Nat) (Option.some Jvm.ClassFile.FieldType.int)) ∈ lw_all := lw_g (lw_at lw_m4 205 rfl) rfl
theorem q1003 : (Jvm.Cond.methodLink "CardLoom" (236 : Nat) ({ cls := "CardLoom", name := "pickOf", desc := "(I)[LCardLoom$Turning;" } : Jvm.MethodName)) ∈ lw_all := lw_g (lw_at lw_m4 206 rfl) rfl
theorem q1004 : (Jvm.Cond.privateMethod ({ cls := "CardLoom", name := "pickOf", desc := "(I)[LCardLoom$Turning;" } : Jvm.MethodName)) ∈ lw_tbl := lw_at lw_m4 207 rfl
theorem q1005 : (Jvm.Cond.instanceMethod ({ cls := "CardLoom", name := "pickOf", desc := "(I)[LCardLoom$Turning;" } : Jvm.MethodName)) ∈ lw_all := lw_g (lw_at lw_m4 208 rfl) rfl
theorem q1006 : (Jvm.Cond.code ({ cls := "CardLoom", name := "pickOf", desc := "(I)[LCardLoom$Turning;" } : Jvm.MethodName) prog_1_method_20_code (4 : Nat) (Option.some (Jvm.ClassFile.FieldType.array (Jvm.ClassFile.FieldType.object "CardLoom$Turning")))) ∈ lw_all := lw_g (lw_at lw_m4 209 rfl) rfl
theorem q1008 : (Jvm.Cond.instanceMethod ({ cls := "CardLoom", name := "unweave", desc := "(I)I" } : Jvm.MethodName)) ∈ lw_all := lw_g (lw_at lw_m4 211 rfl) rfl
theorem q1009 : (Jvm.Cond.selects "CardLoom" ({ cls := "CardLoom", name := "unweave", desc := "(I)I" } : Jvm.MethodName) ({ cls := "CardLoom", name := "unweave", desc := "(I)I" } : Jvm.MethodName)) ∈ lw_all := lw_g (lw_at lw_m4 212 rfl) rfl
theorem q1010 : (Jvm.Cond.code ({ cls := "CardLoom", name := "unweave", desc := "(I)I" } : Jvm.MethodName) prog_1_method_38_code (5 : Nat) (Option.some Jvm.ClassFile.FieldType.int)) ∈ lw_all := lw_g (lw_at lw_m4 213 rfl) rfl
theorem q1011 : (Jvm.Cond.methodLink "CardLoom" (240 : Nat) ({ cls := "java/util/ArrayList", name := "isEmpty", desc := "()Z" } : Jvm.MethodName)) ∈ lw_all := lw_g (lw_at lw_m4 214 rfl) rfl
theorem q1015 : (Jvm.Cond.methodLink "CardLoom" (243 : Nat) ({ cls := "java/util/ArrayList", name := "remove", desc := "(I)Ljava/lang/Object;" } : Jvm.MethodName)) ∈ lw_all := lw_g (lw_at lw_m4 218 rfl) rfl
theorem q1024 : (Jvm.Cond.methodLink "CardLoom" (246 : Nat) ({ cls := "CardLoom$Card", name := "turnsBack", desc := "(LCardLoom$Turning;)V" } : Jvm.MethodName)) ∈ lw_all := lw_g (lw_at lw_m4 227 rfl) rfl
theorem q1029 : (Jvm.Cond.instanceMethod ({ cls := "CardLoom", name := "front", desc := "(II)I" } : Jvm.MethodName)) ∈ lw_all := lw_g (lw_at lw_m4 232 rfl) rfl
theorem q1030 : (Jvm.Cond.selects "CardLoom" ({ cls := "CardLoom", name := "front", desc := "(II)I" } : Jvm.MethodName) ({ cls := "CardLoom", name := "front", desc := "(II)I" } : Jvm.MethodName)) ∈ lw_all := lw_g (lw_at lw_m4 233 rfl) rfl
theorem q1031 : (Jvm.Cond.code ({ cls := "CardLoom", name := "front", desc := "(II)I" } : Jvm.MethodName) prog_1_method_40_code (3 : Nat) (Option.some Jvm.ClassFile.FieldType.int)) ∈ lw_all := lw_g (lw_at lw_m4 234 rfl) rfl
theorem q1032 : (Jvm.Cond.methodLink "CardLoom" (252 : Nat) ({ cls := "CardLoom", name := "isThere", desc := "(II)Z" } : Jvm.MethodName)) ∈ lw_all := lw_g (lw_at lw_m4 235 rfl) rfl
theorem q1033 : (Jvm.Cond.privateMethod ({ cls := "CardLoom", name := "isThere", desc := "(II)Z" } : Jvm.MethodName)) ∈ lw_tbl := lw_at lw_m4 236 rfl
theorem q1034 : (Jvm.Cond.instanceMethod ({ cls := "CardLoom", name := "isThere", desc := "(II)Z" } : Jvm.MethodName)) ∈ lw_all := lw_g (lw_at lw_m4 237 rfl) rfl
theorem q1035 : (Jvm.Cond.code ({ cls := "CardLoom", name := "isThere", desc := "(II)Z" } : Jvm.MethodName) prog_1_method_39_code (3 : Nat) (Option.some Jvm.ClassFile.FieldType.boolean)) ∈ lw_all := lw_g (lw_at lw_m4 238 rfl) rfl
theorem q1036 : (Jvm.Cond.methodLink "CardLoom" (249 : Nat) ({ cls := "CardLoom", name := "isRow", desc := "(I)Z" } : Jvm.MethodName)) ∈ lw_all := lw_g (lw_at lw_m4 239 rfl) rfl
theorem q1037 : (Jvm.Cond.privateMethod ({ cls := "CardLoom", name := "isRow", desc := "(I)Z" } : Jvm.MethodName)) ∈ lw_tbl := lw_at lw_m5 0 rfl
theorem q1038 : (Jvm.Cond.instanceMethod ({ cls := "CardLoom", name := "isRow", desc := "(I)Z" } : Jvm.MethodName)) ∈ lw_all := lw_g (lw_at lw_m5 1 rfl) rfl
theorem q1039 : (Jvm.Cond.code ({ cls := "CardLoom", name := "isRow", desc := "(I)Z" } : Jvm.MethodName) prog_1_method_15_code (2 : Nat) (Option.some Jvm.ClassFile.FieldType.boolean)) ∈ lw_all := lw_g (lw_at lw_m5 2 rfl) rfl
theorem q1041 : (Jvm.Cond.instanceMethod ({ cls := "CardLoom", name := "back", desc := "(II)I" } : Jvm.MethodName)) ∈ lw_all := lw_g (lw_at lw_m5 4 rfl) rfl
theorem q1042 : (Jvm.Cond.selects "CardLoom" ({ cls := "CardLoom", name := "back", desc := "(II)I" } : Jvm.MethodName) ({ cls := "CardLoom", name := "back", desc := "(II)I" } : Jvm.MethodName)) ∈ lw_all := lw_g (lw_at lw_m5 5 rfl) rfl
theorem q1043 : (Jvm.Cond.code ({ cls := "CardLoom", name := "back", desc := "(II)I" } : Jvm.MethodName) prog_1_method_41_code (3 : Nat) (Option.some Jvm.ClassFile.FieldType.int)) ∈ lw_all := lw_g (lw_at lw_m5 6 rfl) rfl
theorem q1045 : (Jvm.Cond.instanceMethod ({ cls := "CardLoom", name := "lean", desc := "(II)I" } : Jvm.MethodName)) ∈ lw_all := lw_g (lw_at lw_m5 8 rfl) rfl
theorem q1046 : (Jvm.Cond.selects "CardLoom" ({ cls := "CardLoom", name := "lean", desc := "(II)I" } : Jvm.MethodName) ({ cls := "CardLoom", name := "lean", desc := "(II)I" } : Jvm.MethodName)) ∈ lw_all := lw_g (lw_at lw_m5 9 rfl) rfl
theorem q1047 : (Jvm.Cond.code ({ cls := "CardLoom", name := "lean", desc := "(II)I" } : Jvm.MethodName) prog_1_method_42_code (3 : Nat) (Option.some Jvm.ClassFile.FieldType.int)) ∈ lw_all := lw_g (lw_at lw_m5 10 rfl) rfl
theorem q1049 : (Jvm.Cond.instanceMethod ({ cls := "CardLoom", name := "turning", desc := "(II)I" } : Jvm.MethodName)) ∈ lw_all := lw_g (lw_at lw_m5 12 rfl) rfl
theorem q1050 : (Jvm.Cond.selects "CardLoom" ({ cls := "CardLoom", name := "turning", desc := "(II)I" } : Jvm.MethodName) ({ cls := "CardLoom", name := "turning", desc := "(II)I" } : Jvm.MethodName)) ∈ lw_all := lw_g (lw_at lw_m5 13 rfl) rfl
theorem q1051 : (Jvm.Cond.code ({ cls := "CardLoom", name := "turning", desc := "(II)I" } : Jvm.MethodName) prog_1_method_43_code (3 : Nat) (Option.some Jvm.ClassFile.FieldType.int)) ∈ lw_all := lw_g (lw_at lw_m5 14 rfl) rfl
theorem q1053 : (Jvm.Cond.instanceMethod ({ cls := "CardLoom", name := "returns", desc := "()I" } : Jvm.MethodName)) ∈ lw_all := lw_g (lw_at lw_m5 16 rfl) rfl
theorem q1054 : (Jvm.Cond.selects "CardLoom" ({ cls := "CardLoom", name := "returns", desc := "()I" } : Jvm.MethodName) ({ cls := "CardLoom", name := "returns", desc := "()I" } : Jvm.MethodName)) ∈ lw_all := lw_g (lw_at lw_m5 17 rfl) rfl
theorem q1055 : (Jvm.Cond.code ({ cls := "CardLoom", name := "returns", desc := "()I" } : Jvm.MethodName) prog_1_method_47_code (1 : Nat) (Option.some Jvm.ClassFile.FieldType.int)) ∈ lw_all := lw_g (lw_at lw_m5 18 rfl) rfl
theorem q1056 : (Jvm.Cond.privateMethod ({ cls := "CardLoom", name := "areAsNow", desc := "(Ljava/util/ArrayList;)Z" } : Jvm.MethodName)) ∈ lw_tbl := lw_at lw_m5 19 rfl
theorem q1057 : (Jvm.Cond.instanceMethod ({ cls := "CardLoom", name := "areAsNow", desc := "(Ljava/util/ArrayList;)Z" } : Jvm.MethodName)) ∈ lw_all := lw_g (lw_at lw_m5 20 rfl) rfl
theorem q1058 : (Jvm.Cond.code ({ cls := "CardLoom", name := "areAsNow", desc := "(Ljava/util/ArrayList;)Z" } : Jvm.MethodName) prog_1_method_44_code (4 : Nat) (Option.some Jvm.ClassFile.FieldType.boolean)) ∈ lw_all := lw_g (lw_at lw_m5 21 rfl) rfl
theorem q1059 : (Jvm.Cond.methodLink "CardLoom" (278 : Nat) ({ cls := "CardLoom", name := "firstOn", desc := "(ILCardLoom$Asks;)I" } : Jvm.MethodName)) ∈ lw_all := lw_g (lw_at lw_m5 22 rfl) rfl
theorem q1060 : (Jvm.Cond.privateMethod ({ cls := "CardLoom", name := "firstOn", desc := "(ILCardLoom$Asks;)I" } : Jvm.MethodName)) ∈ lw_tbl := lw_at lw_m5 23 rfl
theorem q1061 : (Jvm.Cond.instanceMethod ({ cls := "CardLoom", name := "firstOn", desc := "(ILCardLoom$Asks;)I" } : Jvm.MethodName)) ∈ lw_all := lw_g (lw_at lw_m5 24 rfl) rfl
theorem q1062 : (Jvm.Cond.code ({ cls := "CardLoom", name := "firstOn", desc := "(ILCardLoom$Asks;)I" } : Jvm.MethodName) prog_1_method_46_code (6 : Nat) (Option.some Jvm.ClassFile.FieldType.int)) ∈ lw_all := lw_g (lw_at lw_m5 25 rfl) rfl
theorem q1063 : (Jvm.Cond.methodLink "CardLoom" (265 : Nat) ({ cls := "CardLoom", name := "twins", desc := "(Ljava/util/ArrayList;)Ljava/util/ArrayList;" } : Jvm.MethodName)) ∈ lw_all := lw_g (lw_at lw_m5 26 rfl) rfl
theorem q1064 : (Jvm.Cond.static ({ cls := "CardLoom", name := "twins", desc := "(Ljava/util/ArrayList;)Ljava/util/ArrayList;" } : Jvm.MethodName)) ∈ lw_all := lw_g (lw_at lw_m5 27 rfl) rfl
theorem q1065 : (Jvm.Cond.code ({ cls := "CardLoom", name := "twins", desc := "(Ljava/util/ArrayList;)Ljava/util/ArrayList;" } : Jvm.MethodName) prog_1_method_17_code (4 : Nat) (Option.some (Jvm.ClassFile.FieldType.object "java/util/ArrayList"))) ∈ lw_all := lw_g (lw_at lw_m5 28 rfl) rfl
theorem q1066 : (Jvm.Cond.methodLink "CardLoom" (113 : Nat) ({ cls := "CardLoom$Card", name := "twin", desc := "()LCardLoom$Card;" } : Jvm.MethodName)) ∈ lw_all := lw_g (lw_at lw_m5 29 rfl) rfl
theorem q1077 : (Jvm.Cond.interfaceEntry "CardLoom" (269 : Nat)) ∈ lw_tbl := lw_at lw_m5 40 rfl
theorem q1078 : (Jvm.Cond.methodLink "CardLoom" (269 : Nat) ({ cls := "CardLoom$Asks", name := "isSo", desc := "(Ljava/util/ArrayList;)Z" } : Jvm.MethodName)) ∈ lw_all := lw_g (lw_at lw_m5 41 rfl) rfl
theorem q1082 : (Jvm.Cond.instanceMethod ({ cls := "CardLoom", name := "flat", desc := "()I" } : Jvm.MethodName)) ∈ lw_all := lw_g (lw_at lw_m5 45 rfl) rfl
theorem q1083 : (Jvm.Cond.selects "CardLoom" ({ cls := "CardLoom", name := "flat", desc := "()I" } : Jvm.MethodName) ({ cls := "CardLoom", name := "flat", desc := "()I" } : Jvm.MethodName)) ∈ lw_all := lw_g (lw_at lw_m5 46 rfl) rfl
theorem q1084 : (Jvm.Cond.code ({ cls := "CardLoom", name := "flat", desc := "()I" } : Jvm.MethodName) prog_1_method_48_code (1 : Nat) (Option.some Jvm.ClassFile.FieldType.int)) ∈ lw_all := lw_g (lw_at lw_m5 47 rfl) rfl
theorem q1085 : (Jvm.Cond.static ({ cls := "CardLoom", name := "areFlat", desc := "(Ljava/util/ArrayList;)Z" } : Jvm.MethodName)) ∈ lw_all := lw_g (lw_at lw_m5 48 rfl) rfl
theorem q1086 : (Jvm.Cond.code ({ cls := "CardLoom", name := "areFlat", desc := "(Ljava/util/ArrayList;)Z" } : Jvm.MethodName) prog_1_method_45_code (4 : Nat) (Option.some Jvm.ClassFile.FieldType.boolean)) ∈ lw_all := lw_g (lw_at lw_m5 49 rfl) rfl
theorem q1088 : (Jvm.Cond.instanceMethod ({ cls := "CardLoom", name := "jam", desc := "()I" } : Jvm.MethodName)) ∈ lw_all := lw_g (lw_at lw_m5 51 rfl) rfl
theorem q1089 : (Jvm.Cond.selects "CardLoom" ({ cls := "CardLoom", name := "jam", desc := "()I" } : Jvm.MethodName) ({ cls := "CardLoom", name := "jam", desc := "()I" } : Jvm.MethodName)) ∈ lw_all := lw_g (lw_at lw_m5 52 rfl) rfl
theorem q1090 : (Jvm.Cond.code ({ cls := "CardLoom", name := "jam", desc := "()I" } : Jvm.MethodName) prog_1_method_49_code (4 : Nat) (Option.some Jvm.ClassFile.FieldType.int)) ∈ lw_all := lw_g (lw_at lw_m5 53 rfl) rfl
theorem q1092 : (Jvm.Cond.instanceMethod ({ cls := "CardLoom", name := "undoing", desc := "(II)I" } : Jvm.MethodName)) ∈ lw_all := lw_g (lw_at lw_m5 55 rfl) rfl
theorem q1093 : (Jvm.Cond.selects "CardLoom" ({ cls := "CardLoom", name := "undoing", desc := "(II)I" } : Jvm.MethodName) ({ cls := "CardLoom", name := "undoing", desc := "(II)I" } : Jvm.MethodName)) ∈ lw_all := lw_g (lw_at lw_m5 56 rfl) rfl
theorem q1094 : (Jvm.Cond.code ({ cls := "CardLoom", name := "undoing", desc := "(II)I" } : Jvm.MethodName) prog_1_method_52_code (5 : Nat) (Option.some Jvm.ClassFile.FieldType.int)) ∈ lw_all := lw_g (lw_at lw_m5 57 rfl) rfl
theorem q1095 : (Jvm.Cond.methodLink "CardLoom" (299 : Nat) ({ cls := "CardLoom", name := "mostTwisted", desc := "(I)I" } : Jvm.MethodName)) ∈ lw_all := lw_g (lw_at lw_m5 58 rfl) rfl
theorem q1096 : (Jvm.Cond.privateMethod ({ cls := "CardLoom", name := "mostTwisted", desc := "(I)I" } : Jvm.MethodName)) ∈ lw_tbl := lw_at lw_m5 59 rfl
theorem q1097 : (Jvm.Cond.instanceMethod ({ cls := "CardLoom", name := "mostTwisted", desc := "(I)I" } : Jvm.MethodName)) ∈ lw_all := lw_g (lw_at lw_m5 60 rfl) rfl
theorem q1098 : (Jvm.Cond.code ({ cls := "CardLoom", name := "mostTwisted", desc := "(I)I" } : Jvm.MethodName) prog_1_method_50_code (5 : Nat) (Option.some Jvm.ClassFile.FieldType.int)) ∈ lw_all := lw_g (lw_at lw_m5 61 rfl) rfl
theorem q1099 : (Jvm.Cond.classLink "CardLoom" (285 : Nat) "java/util/PriorityQueue") ∈ lw_all := lw_g (lw_at lw_m5 62 rfl) rfl
theorem q1101 : (Jvm.Cond.classLink "CardLoom" (287 : Nat) "CardLoom$ByTwist") ∈ lw_all := lw_g (lw_at lw_m5 64 rfl) rfl
theorem q1103 : (Jvm.Cond.methodLink "CardLoom" (289 : Nat) ({ cls := "CardLoom$ByTwist", name := "<init>", desc := "(I)V" } : Jvm.MethodName)) ∈ lw_all := lw_g (lw_at lw_m5 66 rfl) rfl
theorem q1111 : (Jvm.Cond.methodLink "CardLoom" (291 : Nat) ({ cls := "java/util/PriorityQueue", name := "<init>", desc := "(ILjava/util/Comparator;)V" } : Jvm.MethodName)) ∈ lw_all := lw_g (lw_at lw_m5 74 rfl) rfl
theorem q1135 : (Jvm.Cond.methodLink "CardLoom" (294 : Nat) ({ cls := "java/util/PriorityQueue", name := "add", desc := "(Ljava/lang/Object;)Z" } : Jvm.MethodName)) ∈ lw_all := lw_g (lw_at lw_m5 98 rfl) rfl
theorem q1446 : (Jvm.Cond.methodLink "CardLoom" (295 : Nat) ({ cls := "java/util/PriorityQueue", name := "isEmpty", desc := "()Z" } : Jvm.MethodName)) ∈ lw_all := lw_g (lw_at lw_m6 169 rfl) rfl
theorem q1478 : (Jvm.Cond.methodLink "CardLoom" (296 : Nat) ({ cls := "java/util/PriorityQueue", name := "peek", desc := "()Ljava/lang/Object;" } : Jvm.MethodName)) ∈ lw_all := lw_g (lw_at lw_m6 201 rfl) rfl
theorem q1482 : (Jvm.Cond.fieldLink "CardLoom" (302 : Nat) "CardLoom$Turning" "BACK" "LCardLoom$Turning;") ∈ lw_all := lw_g (lw_at lw_m6 205 rfl) rfl
theorem q1483 : (Jvm.Cond.fieldLink "CardLoom" (305 : Nat) "CardLoom$Turning" "FORWARD" "LCardLoom$Turning;") ∈ lw_all := lw_g (lw_at lw_m6 206 rfl) rfl
theorem q1484 : (Jvm.Cond.methodLink "CardLoom" (308 : Nat) ({ cls := "CardLoom", name := "twistedAbove", desc := "(II)Ljava/util/BitSet;" } : Jvm.MethodName)) ∈ lw_all := lw_g (lw_at lw_m6 207 rfl) rfl
theorem q1485 : (Jvm.Cond.privateMethod ({ cls := "CardLoom", name := "twistedAbove", desc := "(II)Ljava/util/BitSet;" } : Jvm.MethodName)) ∈ lw_tbl := lw_at lw_m6 208 rfl
theorem q1486 : (Jvm.Cond.instanceMethod ({ cls := "CardLoom", name := "twistedAbove", desc := "(II)Ljava/util/BitSet;" } : Jvm.MethodName)) ∈ lw_all := lw_g (lw_at lw_m6 209 rfl) rfl
theorem q1487 : (Jvm.Cond.code ({ cls := "CardLoom", name := "twistedAbove", desc := "(II)Ljava/util/BitSet;" } : Jvm.MethodName) prog_1_method_51_code (5 : Nat) (Option.some (Jvm.ClassFile.FieldType.object "java/util/BitSet"))) ∈ lw_all := lw_g (lw_at lw_m6 210 rfl) rfl
theorem q1488 : (Jvm.Cond.methodLink "CardLoom" (312 : Nat) ({ cls := "CardLoom", name := "bitsOf", desc := "(Ljava/util/BitSet;)I" } : Jvm.MethodName)) ∈ lw_all := lw_g (lw_at lw_m6 211 rfl) rfl
theorem q1489 : (Jvm.Cond.static ({ cls := "CardLoom", name := "bitsOf", desc := "(Ljava/util/BitSet;)I" } : Jvm.MethodName)) ∈ lw_all := lw_g (lw_at lw_m6 212 rfl) rfl
theorem q1490 : (Jvm.Cond.code ({ cls := "CardLoom", name := "bitsOf", desc := "(Ljava/util/BitSet;)I" } : Jvm.MethodName) prog_1_method_24_code (3 : Nat) (Option.some Jvm.ClassFile.FieldType.int)) ∈ lw_all := lw_g (lw_at lw_m6 213 rfl) rfl
theorem q1491 : (Jvm.Cond.methodLink "CardLoom" (158 : Nat) ({ cls := "java/util/BitSet", name := "nextSetBit", desc := "(I)I" } : Jvm.MethodName)) ∈ lw_all := lw_g (lw_at lw_m6 214 rfl) rfl
theorem q1498 : (Jvm.Cond.instanceMethod ({ cls := "CardLoom", name := "paint", desc := "(III)I" } : Jvm.MethodName)) ∈ lw_all := lw_g (lw_at lw_m6 221 rfl) rfl
theorem q1499 : (Jvm.Cond.selects "CardLoom" ({ cls := "CardLoom", name := "paint", desc := "(III)I" } : Jvm.MethodName) ({ cls := "CardLoom", name := "paint", desc := "(III)I" } : Jvm.MethodName)) ∈ lw_all := lw_g (lw_at lw_m6 222 rfl) rfl
theorem q1500 : (Jvm.Cond.code ({ cls := "CardLoom", name := "paint", desc := "(III)I" } : Jvm.MethodName) prog_1_method_53_code (5 : Nat) (Option.some Jvm.ClassFile.FieldType.int)) ∈ lw_all := lw_g (lw_at lw_m6 223 rfl) rfl
theorem q1502 : (Jvm.Cond.instanceMethod ({ cls := "CardLoom", name := "lines", desc := "(I)I" } : Jvm.MethodName)) ∈ lw_all := lw_g (lw_at lw_m6 225 rfl) rfl
theorem q1503 : (Jvm.Cond.selects "CardLoom" ({ cls := "CardLoom", name := "lines", desc := "(I)I" } : Jvm.MethodName) ({ cls := "CardLoom", name := "lines", desc := "(I)I" } : Jvm.MethodName)) ∈ lw_all := lw_g (lw_at lw_m6 226 rfl) rfl
theorem q1504 : (Jvm.Cond.code ({ cls := "CardLoom", name := "lines", desc := "(I)I" } : Jvm.MethodName) prog_1_method_54_code (5 : Nat) (Option.some Jvm.ClassFile.FieldType.int)) ∈ lw_all := lw_g (lw_at lw_m6 227 rfl) rfl
theorem q1506 : (Jvm.Cond.instanceMethod ({ cls := "CardLoom", name := "draft", desc := "(II)I" } : Jvm.MethodName)) ∈ lw_all := lw_g (lw_at lw_m6 229 rfl) rfl
theorem q1507 : (Jvm.Cond.selects "CardLoom" ({ cls := "CardLoom", name := "draft", desc := "(II)I" } : Jvm.MethodName) ({ cls := "CardLoom", name := "draft", desc := "(II)I" } : Jvm.MethodName)) ∈ lw_all := lw_g (lw_at lw_m6 230 rfl) rfl
theorem q1508 : (Jvm.Cond.code ({ cls := "CardLoom", name := "draft", desc := "(II)I" } : Jvm.MethodName) prog_1_method_58_code (4 : Nat) (Option.some Jvm.ClassFile.FieldType.int)) ∈ lw_all := lw_g (lw_at lw_m6 231 rfl) rfl
theorem q1509 : (Jvm.Cond.methodLink "CardLoom" (341 : Nat) ({ cls := "CardLoom", name := "drafted", desc := "(II)LCardLoom$Turning;" } : Jvm.MethodName)) ∈ lw_all := lw_g (lw_at lw_m6 232 rfl) rfl
theorem q1510 : (Jvm.Cond.privateMethod ({ cls := "CardLoom", name := "drafted", desc := "(II)LCardLoom$Turning;" } : Jvm.MethodName)) ∈ lw_tbl := lw_at lw_m6 233 rfl
theorem q1511 : (Jvm.Cond.instanceMethod ({ cls := "CardLoom", name := "drafted", desc := "(II)LCardLoom$Turning;" } : Jvm.MethodName)) ∈ lw_all := lw_g (lw_at lw_m6 234 rfl) rfl
theorem q1512 : (Jvm.Cond.code ({ cls := "CardLoom", name := "drafted", desc := "(II)LCardLoom$Turning;" } : Jvm.MethodName) prog_1_method_57_code (7 : Nat) (Option.some (Jvm.ClassFile.FieldType.object "CardLoom$Turning"))) ∈ lw_all := lw_g (lw_at lw_m6 235 rfl) rfl
theorem q1513 : (Jvm.Cond.methodLink "CardLoom" (330 : Nat) ({ cls := "CardLoom", name := "draftOf", desc := "(I)LCardLoom$Drafting;" } : Jvm.MethodName)) ∈ lw_all := lw_g (lw_at lw_m6 236 rfl) rfl
theorem q1514 : (Jvm.Cond.privateMethod ({ cls := "CardLoom", name := "draftOf", desc := "(I)LCardLoom$Drafting;" } : Jvm.MethodName)) ∈ lw_tbl := lw_at lw_m6 237 rfl
theorem q1515 : (Jvm.Cond.instanceMethod ({ cls := "CardLoom", name := "draftOf", desc := "(I)LCardLoom$Drafting;" } : Jvm.MethodName)) ∈ lw_all := lw_g (lw_at lw_m6 238 rfl) rfl
theorem q1516 : (Jvm.Cond.code ({ cls := "CardLoom", name := "draftOf", desc := "(I)LCardLoom$Drafting;" } : Jvm.MethodName) prog_1_method_55_code (6 : Nat) (Option.some (Jvm.ClassFile.FieldType.object "CardLoom$Drafting"))) ∈ lw_all := lw_g (lw_at lw_m6 239 rfl) rfl
theorem q1517 : (Jvm.Cond.classLink "CardLoom" (319 : Nat) "CardLoom$1") ∈ lw_all := lw_g (lw_at lw_m7 0 rfl) rfl
theorem q1519 : (Jvm.Cond.methodLink "CardLoom" (321 : Nat) ({ cls := "CardLoom$1", name := "<init>", desc := "(LCardLoom;LCardLoom$Card;I)V" } : Jvm.MethodName)) ∈ lw_all := lw_g (lw_at lw_m7 2 rfl) rfl
theorem q1533 : (Jvm.Cond.interfaceEntry "CardLoom" (324 : Nat)) ∈ lw_tbl := lw_at lw_m7 16 rfl
theorem q1534 : (Jvm.Cond.methodLink "CardLoom" (324 : Nat) ({ cls := "CardLoom$Drafting", name := "least", desc := "(II)I" } : Jvm.MethodName)) ∈ lw_all := lw_g (lw_at lw_m7 17 rfl) rfl
theorem q1557 : (Jvm.Cond.interfaceEntry "CardLoom" (334 : Nat)) ∈ lw_tbl := lw_at lw_m7 40 rfl
theorem q1558 : (Jvm.Cond.methodLink "CardLoom" (334 : Nat) ({ cls := "CardLoom$Drafting", name := "best", desc := "(II)LCardLoom$Turning;" } : Jvm.MethodName)) ∈ lw_all := lw_g (lw_at lw_m7 41 rfl) rfl
theorem q1564 : (Jvm.Cond.methodLink "CardLoom" (338 : Nat) ({ cls := "CardLoom$Turning", name := "quarters", desc := "()I" } : Jvm.MethodName)) ∈ lw_all := lw_g (lw_at lw_m7 47 rfl) rfl
theorem q1565 : (Jvm.Cond.methodLink "CardLoom" (344 : Nat) ({ cls := "CardLoom", name := "isLost", desc := "(I)Z" } : Jvm.MethodName)) ∈ lw_all := lw_g (lw_at lw_m7 48 rfl) rfl
theorem q1566 : (Jvm.Cond.privateMethod ({ cls := "CardLoom", name := "isLost", desc := "(I)Z" } : Jvm.MethodName)) ∈ lw_tbl := lw_at lw_m7 49 rfl
theorem q1567 : (Jvm.Cond.instanceMethod ({ cls := "CardLoom", name := "isLost", desc := "(I)Z" } : Jvm.MethodName)) ∈ lw_all := lw_g (lw_at lw_m7 50 rfl) rfl
theorem q1568 : (Jvm.Cond.code ({ cls := "CardLoom", name := "isLost", desc := "(I)Z" } : Jvm.MethodName) prog_1_method_56_code (2 : Nat) (Option.some Jvm.ClassFile.FieldType.boolean)) ∈ lw_all := lw_g (lw_at lw_m7 51 rfl) rfl
theorem q1569 : (Jvm.Cond.constant "CardLoom" (329 : Nat) (1000000 : Int32)) ∈ lw_all := lw_g (lw_at lw_m7 52 rfl) rfl
theorem q1571 : (Jvm.Cond.instanceMethod ({ cls := "CardLoom", name := "fewest", desc := "(I)I" } : Jvm.MethodName)) ∈ lw_all := lw_g (lw_at lw_m7 54 rfl) rfl
theorem q1572 : (Jvm.Cond.selects "CardLoom" ({ cls := "CardLoom", name := "fewest", desc := "(I)I" } : Jvm.MethodName) ({ cls := "CardLoom", name := "fewest", desc := "(I)I" } : Jvm.MethodName)) ∈ lw_all := lw_g (lw_at lw_m7 55 rfl) rfl
theorem q1573 : (Jvm.Cond.code ({ cls := "CardLoom", name := "fewest", desc := "(I)I" } : Jvm.MethodName) prog_1_method_60_code (4 : Nat) (Option.some Jvm.ClassFile.FieldType.int)) ∈ lw_all := lw_g (lw_at lw_m7 56 rfl) rfl
theorem q1574 : (Jvm.Cond.methodLink "CardLoom" (347 : Nat) ({ cls := "CardLoom", name := "fewestOf", desc := "(I)I" } : Jvm.MethodName)) ∈ lw_all := lw_g (lw_at lw_m7 57 rfl) rfl
theorem q1575 : (Jvm.Cond.privateMethod ({ cls := "CardLoom", name := "fewestOf", desc := "(I)I" } : Jvm.MethodName)) ∈ lw_tbl := lw_at lw_m7 58 rfl
theorem q1576 : (Jvm.Cond.instanceMethod ({ cls := "CardLoom", name := "fewestOf", desc := "(I)I" } : Jvm.MethodName)) ∈ lw_all := lw_g (lw_at lw_m7 59 rfl) rfl
theorem q1577 : (Jvm.Cond.code ({ cls := "CardLoom", name := "fewestOf", desc := "(I)I" } : Jvm.MethodName) prog_1_method_59_code (2 : Nat) (Option.some Jvm.ClassFile.FieldType.int)) ∈ lw_all := lw_g (lw_at lw_m7 60 rfl) rfl
theorem q1579 : (Jvm.Cond.instanceMethod ({ cls := "CardLoom", name := "weaveDraft", desc := "()I" } : Jvm.MethodName)) ∈ lw_all := lw_g (lw_at lw_m7 62 rfl) rfl
theorem q1580 : (Jvm.Cond.selects "CardLoom" ({ cls := "CardLoom", name := "weaveDraft", desc := "()I" } : Jvm.MethodName) ({ cls := "CardLoom", name := "weaveDraft", desc := "()I" } : Jvm.MethodName)) ∈ lw_all := lw_g (lw_at lw_m7 63 rfl) rfl
theorem q1581 : (Jvm.Cond.code ({ cls := "CardLoom", name := "weaveDraft", desc := "()I" } : Jvm.MethodName) prog_1_method_62_code (5 : Nat) (Option.some Jvm.ClassFile.FieldType.int)) ∈ lw_all := lw_g (lw_at lw_m7 64 rfl) rfl
theorem q1582 : (Jvm.Cond.methodLink "CardLoom" (350 : Nat) ({ cls := "CardLoom", name := "fewest", desc := "(I)I" } : Jvm.MethodName)) ∈ lw_all := lw_g (lw_at lw_m7 65 rfl) rfl
theorem q1583 : (Jvm.Cond.methodLink "CardLoom" (352 : Nat) ({ cls := "CardLoom", name := "draftedPick", desc := "(I)[LCardLoom$Turning;" } : Jvm.MethodName)) ∈ lw_all := lw_g (lw_at lw_m7 66 rfl) rfl
theorem q1584 : (Jvm.Cond.privateMethod ({ cls := "CardLoom", name := "draftedPick", desc := "(I)[LCardLoom$Turning;" } : Jvm.MethodName)) ∈ lw_tbl := lw_at lw_m7 67 rfl
theorem q1585 : (Jvm.Cond.instanceMethod ({ cls := "CardLoom", name := "draftedPick", desc := "(I)[LCardLoom$Turning;" } : Jvm.MethodName)) ∈ lw_all := lw_g (lw_at lw_m7 68 rfl) rfl
theorem q1586 : (Jvm.Cond.code ({ cls := "CardLoom", name := "draftedPick", desc := "(I)[LCardLoom$Turning;" } : Jvm.MethodName) prog_1_method_61_code (4 : Nat) (Option.some (Jvm.ClassFile.FieldType.array (Jvm.ClassFile.FieldType.object "CardLoom$Turning")))) ∈ lw_all := lw_g (lw_at lw_m7 69 rfl) rfl
theorem q1587 : (Jvm.Cond.classLink "CardLoom" (355 : Nat) "[LCardLoom$Turning;") ∈ lw_all := lw_g (lw_at lw_m7 70 rfl) rfl
theorem q1589 : (Jvm.Cond.instanceMethod ({ cls := "CardLoom", name := "matches", desc := "(I)I" } : Jvm.MethodName)) ∈ lw_all := lw_g (lw_at lw_m7 72 rfl) rfl
theorem q1590 : (Jvm.Cond.selects "CardLoom" ({ cls := "CardLoom", name := "matches", desc := "(I)I" } : Jvm.MethodName) ({ cls := "CardLoom", name := "matches", desc := "(I)I" } : Jvm.MethodName)) ∈ lw_all := lw_g (lw_at lw_m7 73 rfl) rfl
theorem q1591 : (Jvm.Cond.code ({ cls := "CardLoom", name := "matches", desc := "(I)I" } : Jvm.MethodName) prog_1_method_63_code (5 : Nat) (Option.some Jvm.ClassFile.FieldType.int)) ∈ lw_all := lw_g (lw_at lw_m7 74 rfl) rfl
theorem q1593 : (Jvm.Cond.instanceMethod ({ cls := "CardLoom", name := "period", desc := "()I" } : Jvm.MethodName)) ∈ lw_all := lw_g (lw_at lw_m7 76 rfl) rfl
theorem q1594 : (Jvm.Cond.selects "CardLoom" ({ cls := "CardLoom", name := "period", desc := "()I" } : Jvm.MethodName) ({ cls := "CardLoom", name := "period", desc := "()I" } : Jvm.MethodName)) ∈ lw_all := lw_g (lw_at lw_m7 77 rfl) rfl
theorem q1595 : (Jvm.Cond.code ({ cls := "CardLoom", name := "period", desc := "()I" } : Jvm.MethodName) prog_1_method_65_code (2 : Nat) (Option.some Jvm.ClassFile.FieldType.int)) ∈ lw_all := lw_g (lw_at lw_m7 78 rfl) rfl
theorem q1596 : (Jvm.Cond.methodLink "CardLoom" (360 : Nat) ({ cls := "CardLoom", name := "isAgainBy", desc := "(I)Z" } : Jvm.MethodName)) ∈ lw_all := lw_g (lw_at lw_m7 79 rfl) rfl
theorem q1597 : (Jvm.Cond.privateMethod ({ cls := "CardLoom", name := "isAgainBy", desc := "(I)Z" } : Jvm.MethodName)) ∈ lw_tbl := lw_at lw_m7 80 rfl
theorem q1598 : (Jvm.Cond.instanceMethod ({ cls := "CardLoom", name := "isAgainBy", desc := "(I)Z" } : Jvm.MethodName)) ∈ lw_all := lw_g (lw_at lw_m7 81 rfl) rfl
theorem q1599 : (Jvm.Cond.code ({ cls := "CardLoom", name := "isAgainBy", desc := "(I)Z" } : Jvm.MethodName) prog_1_method_64_code (3 : Nat) (Option.some Jvm.ClassFile.FieldType.boolean)) ∈ lw_all := lw_g (lw_at lw_m7 82 rfl) rfl
theorem q1600 : (Jvm.Cond.methodLink "CardLoom" (356 : Nat) ({ cls := "CardLoom$Row", name := "isLike", desc := "(LCardLoom$Row;)Z" } : Jvm.MethodName)) ∈ lw_all := lw_g (lw_at lw_m7 83 rfl) rfl
theorem q1613 : (Jvm.Cond.instanceMethod ({ cls := "CardLoom", name := "mirrors", desc := "()I" } : Jvm.MethodName)) ∈ lw_all := lw_g (lw_at lw_m7 96 rfl) rfl
theorem q1614 : (Jvm.Cond.selects "CardLoom" ({ cls := "CardLoom", name := "mirrors", desc := "()I" } : Jvm.MethodName) ({ cls := "CardLoom", name := "mirrors", desc := "()I" } : Jvm.MethodName)) ∈ lw_all := lw_g (lw_at lw_m7 97 rfl) rfl
theorem q1615 : (Jvm.Cond.code ({ cls := "CardLoom", name := "mirrors", desc := "()I" } : Jvm.MethodName) prog_1_method_66_code (4 : Nat) (Option.some Jvm.ClassFile.FieldType.int)) ∈ lw_all := lw_g (lw_at lw_m7 98 rfl) rfl
theorem q1616 : (Jvm.Cond.methodLink "CardLoom" (363 : Nat) ({ cls := "CardLoom$Row", name := "isMirror", desc := "()Z" } : Jvm.MethodName)) ∈ lw_all := lw_g (lw_at lw_m7 99 rfl) rfl
theorem q1621 : (Jvm.Cond.instanceMethod ({ cls := "CardLoom", name := "run", desc := "(I)I" } : Jvm.MethodName)) ∈ lw_all := lw_g (lw_at lw_m7 104 rfl) rfl
theorem q1622 : (Jvm.Cond.selects "CardLoom" ({ cls := "CardLoom", name := "run", desc := "(I)I" } : Jvm.MethodName) ({ cls := "CardLoom", name := "run", desc := "(I)I" } : Jvm.MethodName)) ∈ lw_all := lw_g (lw_at lw_m7 105 rfl) rfl
theorem q1623 : (Jvm.Cond.code ({ cls := "CardLoom", name := "run", desc := "(I)I" } : Jvm.MethodName) prog_1_method_68_code (4 : Nat) (Option.some Jvm.ClassFile.FieldType.int)) ∈ lw_all := lw_g (lw_at lw_m7 106 rfl) rfl
theorem q1624 : (Jvm.Cond.methodLink "CardLoom" (366 : Nat) ({ cls := "CardLoom", name := "runOf", desc := "(II)I" } : Jvm.MethodName)) ∈ lw_all := lw_g (lw_at lw_m7 107 rfl) rfl
theorem q1625 : (Jvm.Cond.privateMethod ({ cls := "CardLoom", name := "runOf", desc := "(II)I" } : Jvm.MethodName)) ∈ lw_tbl := lw_at lw_m7 108 rfl
theorem q1626 : (Jvm.Cond.instanceMethod ({ cls := "CardLoom", name := "runOf", desc := "(II)I" } : Jvm.MethodName)) ∈ lw_all := lw_g (lw_at lw_m7 109 rfl) rfl
theorem q1627 : (Jvm.Cond.code ({ cls := "CardLoom", name := "runOf", desc := "(II)I" } : Jvm.MethodName) prog_1_method_67_code (7 : Nat) (Option.some Jvm.ClassFile.FieldType.int)) ∈ lw_all := lw_g (lw_at lw_m7 110 rfl) rfl
theorem q1629 : (Jvm.Cond.instanceMethod ({ cls := "CardLoom", name := "colours", desc := "(II)I" } : Jvm.MethodName)) ∈ lw_all := lw_g (lw_at lw_m7 112 rfl) rfl
theorem q1630 : (Jvm.Cond.selects "CardLoom" ({ cls := "CardLoom", name := "colours", desc := "(II)I" } : Jvm.MethodName) ({ cls := "CardLoom", name := "colours", desc := "(II)I" } : Jvm.MethodName)) ∈ lw_all := lw_g (lw_at lw_m7 113 rfl) rfl
theorem q1631 : (Jvm.Cond.code ({ cls := "CardLoom", name := "colours", desc := "(II)I" } : Jvm.MethodName) prog_1_method_71_code (4 : Nat) (Option.some Jvm.ClassFile.FieldType.int)) ∈ lw_all := lw_g (lw_at lw_m7 114 rfl) rfl
theorem q1632 : (Jvm.Cond.methodLink "CardLoom" (395 : Nat) ({ cls := "CardLoom", name := "often", desc := "()Ljava/util/TreeMap;" } : Jvm.MethodName)) ∈ lw_all := lw_g (lw_at lw_m7 115 rfl) rfl
theorem q1633 : (Jvm.Cond.privateMethod ({ cls := "CardLoom", name := "often", desc := "()Ljava/util/TreeMap;" } : Jvm.MethodName)) ∈ lw_tbl := lw_at lw_m7 116 rfl
theorem q1634 : (Jvm.Cond.instanceMethod ({ cls := "CardLoom", name := "often", desc := "()Ljava/util/TreeMap;" } : Jvm.MethodName)) ∈ lw_all := lw_g (lw_at lw_m7 117 rfl) rfl
theorem q1635 : (Jvm.Cond.code ({ cls := "CardLoom", name := "often", desc := "()Ljava/util/TreeMap;" } : Jvm.MethodName) prog_1_method_70_code (8 : Nat) (Option.some (Jvm.ClassFile.FieldType.object "java/util/TreeMap"))) ∈ lw_all := lw_g (lw_at lw_m7 118 rfl) rfl
theorem q1636 : (Jvm.Cond.classLink "CardLoom" (372 : Nat) "java/util/TreeMap") ∈ lw_all := lw_g (lw_at lw_m7 119 rfl) rfl
theorem q1638 : (Jvm.Cond.methodLink "CardLoom" (374 : Nat) ({ cls := "java/util/TreeMap", name := "<init>", desc := "()V" } : Jvm.MethodName)) ∈ lw_all := lw_g (lw_at lw_m7 121 rfl) rfl
theorem q1672 : (Jvm.Cond.classLink "CardLoom" (375 : Nat) "CardLoom$Often") ∈ lw_all := lw_g (lw_at lw_m7 155 rfl) rfl
theorem q1674 : (Jvm.Cond.methodLink "CardLoom" (377 : Nat) ({ cls := "CardLoom$Often", name := "<init>", desc := "(LCardLoom$Colour;)V" } : Jvm.MethodName)) ∈ lw_all := lw_g (lw_at lw_m7 157 rfl) rfl
theorem q1680 : (Jvm.Cond.fieldLinkNest "CardLoom" (416 : Nat) "CardLoom$Often" "of" "LCardLoom$Colour;" "CardLoom") ∈ lw_tbl := lw_at lw_m7 163 rfl
theorem q1682 : (Jvm.Cond.fieldLinkNest "CardLoom" (387 : Nat) "CardLoom$Often" "fronts" "I" "CardLoom") ∈ lw_tbl := lw_at lw_m7 165 rfl
theorem q1684 : (Jvm.Cond.fieldLinkNest "CardLoom" (390 : Nat) "CardLoom$Often" "backs" "I" "CardLoom") ∈ lw_tbl := lw_at lw_m7 167 rfl
theorem q1685 : (Jvm.Cond.fieldLinkNest "CardLoom" (393 : Nat) "CardLoom$Often" "holes" "I" "CardLoom") ∈ lw_tbl := lw_at lw_m7 168 rfl
theorem q1695 : (Jvm.Cond.methodLink "CardLoom" (380 : Nat) ({ cls := "java/util/TreeMap", name := "put", desc := "(Ljava/lang/Object;Ljava/lang/Object;)Ljava/lang/Object;" } : Jvm.MethodName)) ∈ lw_all := lw_g (lw_at lw_m7 178 rfl) rfl
theorem q1783 : (Jvm.Cond.methodLink "CardLoom" (384 : Nat) ({ cls := "java/util/TreeMap", name := "get", desc := "(Ljava/lang/Object;)Ljava/lang/Object;" } : Jvm.MethodName)) ∈ lw_all := lw_g (lw_at lw_m8 26 rfl) rfl
theorem q1796 : (Jvm.Cond.instanceMethod ({ cls := "CardLoom", name := "ranked", desc := "(I)I" } : Jvm.MethodName)) ∈ lw_all := lw_g (lw_at lw_m8 39 rfl) rfl
theorem q1797 : (Jvm.Cond.selects "CardLoom" ({ cls := "CardLoom", name := "ranked", desc := "(I)I" } : Jvm.MethodName) ({ cls := "CardLoom", name := "ranked", desc := "(I)I" } : Jvm.MethodName)) ∈ lw_all := lw_g (lw_at lw_m8 40 rfl) rfl
theorem q1798 : (Jvm.Cond.code ({ cls := "CardLoom", name := "ranked", desc := "(I)I" } : Jvm.MethodName) prog_1_method_72_code (6 : Nat) (Option.some Jvm.ClassFile.FieldType.int)) ∈ lw_all := lw_g (lw_at lw_m8 41 rfl) rfl
theorem q1799 : (Jvm.Cond.classLink "CardLoom" (399 : Nat) "java/util/TreeSet") ∈ lw_all := lw_g (lw_at lw_m8 42 rfl) rfl
theorem q1801 : (Jvm.Cond.classLink "CardLoom" (401 : Nat) "CardLoom$ByOften") ∈ lw_all := lw_g (lw_at lw_m8 44 rfl) rfl
theorem q1803 : (Jvm.Cond.methodLinkNest "CardLoom" (403 : Nat) ({ cls := "CardLoom$ByOften", name := "<init>", desc := "()V" } : Jvm.MethodName) "CardLoom") ∈ lw_tbl := lw_at lw_m8 46 rfl
theorem q1808 : (Jvm.Cond.methodLink "CardLoom" (404 : Nat) ({ cls := "java/util/TreeSet", name := "<init>", desc := "(Ljava/util/Comparator;)V" } : Jvm.MethodName)) ∈ lw_all := lw_g (lw_at lw_m8 51 rfl) rfl
theorem q1826 : (Jvm.Cond.methodLink "CardLoom" (407 : Nat) ({ cls := "java/util/TreeMap", name := "values", desc := "()Ljava/util/Collection;" } : Jvm.MethodName)) ∈ lw_all := lw_g (lw_at lw_m8 69 rfl) rfl
theorem q1840 : (Jvm.Cond.interfaceEntry "CardLoom" (411 : Nat)) ∈ lw_tbl := lw_at lw_m8 83 rfl
theorem q1841 : (Jvm.Cond.methodLink "CardLoom" (411 : Nat) ({ cls := "java/util/Collection", name := "iterator", desc := "()Ljava/util/Iterator;" } : Jvm.MethodName)) ∈ lw_all := lw_g (lw_at lw_m8 84 rfl) rfl
theorem q1971 : (Jvm.Cond.methodLink "CardLoom" (414 : Nat) ({ cls := "java/util/TreeSet", name := "add", desc := "(Ljava/lang/Object;)Z" } : Jvm.MethodName)) ∈ lw_all := lw_g (lw_at lw_m8 214 rfl) rfl
theorem q1982 : (Jvm.Cond.methodLink "CardLoom" (415 : Nat) ({ cls := "java/util/TreeSet", name := "iterator", desc := "()Ljava/util/Iterator;" } : Jvm.MethodName)) ∈ lw_all := lw_g (lw_at lw_m8 225 rfl) rfl
theorem q1984 : (Jvm.Cond.instanceMethod ({ cls := "CardLoom", name := "alike", desc := "(II)I" } : Jvm.MethodName)) ∈ lw_all := lw_g (lw_at lw_m8 227 rfl) rfl
theorem q1985 : (Jvm.Cond.selects "CardLoom" ({ cls := "CardLoom", name := "alike", desc := "(II)I" } : Jvm.MethodName) ({ cls := "CardLoom", name := "alike", desc := "(II)I" } : Jvm.MethodName)) ∈ lw_all := lw_g (lw_at lw_m8 228 rfl) rfl
theorem q1986 : (Jvm.Cond.code ({ cls := "CardLoom", name := "alike", desc := "(II)I" } : Jvm.MethodName) prog_1_method_73_code (3 : Nat) (Option.some Jvm.ClassFile.FieldType.int)) ∈ lw_all := lw_g (lw_at lw_m8 229 rfl) rfl
theorem q1987 : (Jvm.Cond.methodLink "CardLoom" (420 : Nat) ({ cls := "CardLoom$Row", name := "alike", desc := "(LCardLoom$Row;)I" } : Jvm.MethodName)) ∈ lw_all := lw_g (lw_at lw_m8 230 rfl) rfl
theorem q1989 : (Jvm.Cond.instanceMethod ({ cls := "CardLoom", name := "faces", desc := "(I)I" } : Jvm.MethodName)) ∈ lw_all := lw_g (lw_at lw_m8 232 rfl) rfl
theorem q1990 : (Jvm.Cond.selects "CardLoom" ({ cls := "CardLoom", name := "faces", desc := "(I)I" } : Jvm.MethodName) ({ cls := "CardLoom", name := "faces", desc := "(I)I" } : Jvm.MethodName)) ∈ lw_all := lw_g (lw_at lw_m8 233 rfl) rfl
theorem q1991 : (Jvm.Cond.code ({ cls := "CardLoom", name := "faces", desc := "(I)I" } : Jvm.MethodName) prog_1_method_74_code (2 : Nat) (Option.some Jvm.ClassFile.FieldType.int)) ∈ lw_all := lw_g (lw_at lw_m8 234 rfl) rfl
theorem q1992 : (Jvm.Cond.methodLink "CardLoom" (424 : Nat) ({ cls := "CardLoom$Row", name := "faces", desc := "()I" } : Jvm.MethodName)) ∈ lw_all := lw_g (lw_at lw_m8 235 rfl) rfl
theorem q1997 : (Jvm.Cond.instanceMethod ({ cls := "CardLoom", name := "spell", desc := "()I" } : Jvm.MethodName)) ∈ lw_all := lw_g (lw_at lw_m9 0 rfl) rfl
theorem q1998 : (Jvm.Cond.selects "CardLoom" ({ cls := "CardLoom", name := "spell", desc := "()I" } : Jvm.MethodName) ({ cls := "CardLoom", name := "spell", desc := "()I" } : Jvm.MethodName)) ∈ lw_all := lw_g (lw_at lw_m9 1 rfl) rfl
theorem q1999 : (Jvm.Cond.code ({ cls := "CardLoom", name := "spell", desc := "()I" } : Jvm.MethodName) prog_1_method_75_code (4 : Nat) (Option.some Jvm.ClassFile.FieldType.int)) ∈ lw_all := lw_g (lw_at lw_m9 2 rfl) rfl
theorem q2000 : (Jvm.Cond.classLink "CardLoom" (427 : Nat) "java/lang/StringBuilder") ∈ lw_all := lw_g (lw_at lw_m9 3 rfl) rfl
theorem q2002 : (Jvm.Cond.methodLink "CardLoom" (429 : Nat) ({ cls := "java/lang/StringBuilder", name := "<init>", desc := "()V" } : Jvm.MethodName)) ∈ lw_all := lw_g (lw_at lw_m9 5 rfl) rfl
theorem q2043 : (Jvm.Cond.methodLink "CardLoom" (430 : Nat) ({ cls := "java/lang/StringBuilder", name := "length", desc := "()I" } : Jvm.MethodName)) ∈ lw_all := lw_g (lw_at lw_m9 46 rfl) rfl
theorem q2050 : (Jvm.Cond.methodLink "CardLoom" (433 : Nat) ({ cls := "java/lang/StringBuilder", name := "append", desc := "(C)Ljava/lang/StringBuilder;" } : Jvm.MethodName)) ∈ lw_all := lw_g (lw_at lw_m9 53 rfl) rfl
theorem q2110 : (Jvm.Cond.methodLink "CardLoom" (437 : Nat) ({ cls := "CardLoom$Card", name := "told", desc := "()Ljava/lang/String;" } : Jvm.MethodName)) ∈ lw_all := lw_g (lw_at lw_m9 113 rfl) rfl
theorem q2167 : (Jvm.Cond.methodLink "CardLoom" (441 : Nat) ({ cls := "java/lang/StringBuilder", name := "append", desc := "(Ljava/lang/String;)Ljava/lang/StringBuilder;" } : Jvm.MethodName)) ∈ lw_all := lw_g (lw_at lw_m9 170 rfl) rfl
theorem q2197 : (Jvm.Cond.methodLink "CardLoom" (444 : Nat) ({ cls := "java/lang/StringBuilder", name := "toString", desc := "()Ljava/lang/String;" } : Jvm.MethodName)) ∈ lw_all := lw_g (lw_at lw_m9 200 rfl) rfl
theorem q2198 : (Jvm.Cond.methodLink "CardLoom" (447 : Nat) ({ cls := "java/lang/String", name := "length", desc := "()I" } : Jvm.MethodName)) ∈ lw_all := lw_g (lw_at lw_m9 201 rfl) rfl
theorem q2200 : (Jvm.Cond.instanceMethod ({ cls := "CardLoom", name := "paper", desc := "(I)I" } : Jvm.MethodName)) ∈ lw_all := lw_g (lw_at lw_m9 203 rfl) rfl
theorem q2201 : (Jvm.Cond.selects "CardLoom" ({ cls := "CardLoom", name := "paper", desc := "(I)I" } : Jvm.MethodName) ({ cls := "CardLoom", name := "paper", desc := "(I)I" } : Jvm.MethodName)) ∈ lw_all := lw_g (lw_at lw_m9 204 rfl) rfl
theorem q2202 : (Jvm.Cond.code ({ cls := "CardLoom", name := "paper", desc := "(I)I" } : Jvm.MethodName) prog_1_method_76_code (2 : Nat) (Option.some Jvm.ClassFile.FieldType.int)) ∈ lw_all := lw_g (lw_at lw_m9 205 rfl) rfl
theorem q2203 : (Jvm.Cond.methodLink "CardLoom" (450 : Nat) ({ cls := "java/lang/String", name := "charAt", desc := "(I)C" } : Jvm.MethodName)) ∈ lw_all := lw_g (lw_at lw_m9 206 rfl) rfl
theorem q2215 : (Jvm.Cond.instanceMethod ({ cls := "CardLoom", name := "told", desc := "(I)I" } : Jvm.MethodName)) ∈ lw_all := lw_g (lw_at lw_m9 218 rfl) rfl
theorem q2216 : (Jvm.Cond.selects "CardLoom" ({ cls := "CardLoom", name := "told", desc := "(I)I" } : Jvm.MethodName) ({ cls := "CardLoom", name := "told", desc := "(I)I" } : Jvm.MethodName)) ∈ lw_all := lw_g (lw_at lw_m9 219 rfl) rfl
theorem q2217 : (Jvm.Cond.code ({ cls := "CardLoom", name := "told", desc := "(I)I" } : Jvm.MethodName) prog_1_method_79_code (2 : Nat) (Option.some Jvm.ClassFile.FieldType.int)) ∈ lw_all := lw_g (lw_at lw_m9 220 rfl) rfl
theorem q2218 : (Jvm.Cond.methodLink "CardLoom" (457 : Nat) ({ cls := "CardLoom", name := "twists", desc := "()I" } : Jvm.MethodName)) ∈ lw_all := lw_g (lw_at lw_m9 221 rfl) rfl
theorem q2219 : (Jvm.Cond.privateMethod ({ cls := "CardLoom", name := "twists", desc := "()I" } : Jvm.MethodName)) ∈ lw_tbl := lw_at lw_m9 222 rfl
theorem q2220 : (Jvm.Cond.instanceMethod ({ cls := "CardLoom", name := "twists", desc := "()I" } : Jvm.MethodName)) ∈ lw_all := lw_g (lw_at lw_m9 223 rfl) rfl
theorem q2221 : (Jvm.Cond.code ({ cls := "CardLoom", name := "twists", desc := "()I" } : Jvm.MethodName) prog_1_method_77_code (4 : Nat) (Option.some Jvm.ClassFile.FieldType.int)) ∈ lw_all := lw_g (lw_at lw_m9 224 rfl) rfl
theorem q2222 : (Jvm.Cond.methodLink "CardLoom" (454 : Nat) ({ cls := "java/lang/Math", name := "abs", desc := "(I)I" } : Jvm.MethodName)) ∈ lw_all := lw_g (lw_at lw_m9 225 rfl) rfl
theorem q2225 : (Jvm.Cond.methodLink "CardLoom" (460 : Nat) ({ cls := "CardLoom", name := "greatestFloat", desc := "()I" } : Jvm.MethodName)) ∈ lw_all := lw_g (lw_at lw_m9 228 rfl) rfl
theorem q2226 : (Jvm.Cond.privateMethod ({ cls := "CardLoom", name := "greatestFloat", desc := "()I" } : Jvm.MethodName)) ∈ lw_tbl := lw_at lw_m9 229 rfl
theorem q2227 : (Jvm.Cond.instanceMethod ({ cls := "CardLoom", name := "greatestFloat", desc := "()I" } : Jvm.MethodName)) ∈ lw_all := lw_g (lw_at lw_m9 230 rfl) rfl
theorem q2228 : (Jvm.Cond.code ({ cls := "CardLoom", name := "greatestFloat", desc := "()I" } : Jvm.MethodName) prog_1_method_78_code (3 : Nat) (Option.some Jvm.ClassFile.FieldType.int)) ∈ lw_all := lw_g (lw_at lw_m9 231 rfl) rfl
theorem q2230 : (Jvm.Cond.instanceMethod ({ cls := "CardLoom", name := "list", desc := "(II)I" } : Jvm.MethodName)) ∈ lw_all := lw_g (lw_at lw_m9 233 rfl) rfl
theorem q2231 : (Jvm.Cond.selects "CardLoom" ({ cls := "CardLoom", name := "list", desc := "(II)I" } : Jvm.MethodName) ({ cls := "CardLoom", name := "list", desc := "(II)I" } : Jvm.MethodName)) ∈ lw_all := lw_g (lw_at lw_m9 234 rfl) rfl
theorem q2232 : (Jvm.Cond.codeWith ({ cls := "CardLoom", name := "list", desc := "(II)I" } : Jvm.MethodName) prog_1_method_81_code (4 : Nat) (Option.some Jvm.ClassFile.FieldType.int) [((18 : Nat), (28 : Nat), (29 : Nat), (466 : Nat))]) ∈ lw_all := lw_g (lw_at lw_m9 235 rfl) rfl
theorem q2233 : (Jvm.Cond.classLink "CardLoom" (466 : Nat) "java/lang/NegativeArraySizeException") ∈ lw_all := lw_g (lw_at lw_m9 236 rfl) rfl
theorem q2245 : (Jvm.Cond.methodLink "CardLoom" (463 : Nat) ({ cls := "CardLoom", name := "isList", desc := "(I)Z" } : Jvm.MethodName)) ∈ lw_all := lw_g (lw_at lw_m10 8 rfl) rfl
theorem q2246 : (Jvm.Cond.static ({ cls := "CardLoom", name := "isList", desc := "(I)Z" } : Jvm.MethodName)) ∈ lw_all := lw_g (lw_at lw_m10 9 rfl) rfl
theorem q2247 : (Jvm.Cond.code ({ cls := "CardLoom", name := "isList", desc := "(I)Z" } : Jvm.MethodName) prog_1_method_80_code (1 : Nat) (Option.some Jvm.ClassFile.FieldType.boolean)) ∈ lw_all := lw_g (lw_at lw_m10 10 rfl) rfl
theorem q2249 : (Jvm.Cond.instanceMethod ({ cls := "CardLoom", name := "set", desc := "(III)I" } : Jvm.MethodName)) ∈ lw_all := lw_g (lw_at lw_m10 12 rfl) rfl
theorem q2250 : (Jvm.Cond.selects "CardLoom" ({ cls := "CardLoom", name := "set", desc := "(III)I" } : Jvm.MethodName) ({ cls := "CardLoom", name := "set", desc := "(III)I" } : Jvm.MethodName)) ∈ lw_all := lw_g (lw_at lw_m10 13 rfl) rfl
theorem q2251 : (Jvm.Cond.codeWith ({ cls := "CardLoom", name := "set", desc := "(III)I" } : Jvm.MethodName) prog_1_method_82_code (5 : Nat) (Option.some Jvm.ClassFile.FieldType.int) [((9 : Nat), (19 : Nat), (20 : Nat), (468 : Nat)), ((9 : Nat), (19 : Nat), (25 : Nat), (470 : Nat))]) ∈ lw_all := lw_g (lw_at lw_m10 14 rfl) rfl
theorem q2252 : (Jvm.Cond.classLink "CardLoom" (468 : Nat) "java/lang/NullPointerException") ∈ lw_all := lw_g (lw_at lw_m10 15 rfl) rfl
theorem q2254 : (Jvm.Cond.classLink "CardLoom" (470 : Nat) "java/lang/ArrayIndexOutOfBoundsException") ∈ lw_all := lw_g (lw_at lw_m10 17 rfl) rfl
theorem q2274 : (Jvm.Cond.instanceMethod ({ cls := "CardLoom", name := "get", desc := "(II)I" } : Jvm.MethodName)) ∈ lw_all := lw_g (lw_at lw_m10 37 rfl) rfl
theorem q2275 : (Jvm.Cond.selects "CardLoom" ({ cls := "CardLoom", name := "get", desc := "(II)I" } : Jvm.MethodName) ({ cls := "CardLoom", name := "get", desc := "(II)I" } : Jvm.MethodName)) ∈ lw_all := lw_g (lw_at lw_m10 38 rfl) rfl
theorem q2276 : (Jvm.Cond.codeWith ({ cls := "CardLoom", name := "get", desc := "(II)I" } : Jvm.MethodName) prog_1_method_83_code (4 : Nat) (Option.some Jvm.ClassFile.FieldType.int) [((11 : Nat), (19 : Nat), (20 : Nat), (468 : Nat)), ((11 : Nat), (19 : Nat), (20 : Nat), (470 : Nat))]) ∈ lw_all := lw_g (lw_at lw_m10 39 rfl) rfl
theorem q2277 : (Jvm.Cond.constant "CardLoom" (472 : Nat) (-2000000000 : Int32)) ∈ lw_all := lw_g (lw_at lw_m10 40 rfl) rfl
theorem q2279 : (Jvm.Cond.instanceMethod ({ cls := "CardLoom", name := "lay", desc := "(III)I" } : Jvm.MethodName)) ∈ lw_all := lw_g (lw_at lw_m10 42 rfl) rfl
theorem q2280 : (Jvm.Cond.selects "CardLoom" ({ cls := "CardLoom", name := "lay", desc := "(III)I" } : Jvm.MethodName) ({ cls := "CardLoom", name := "lay", desc := "(III)I" } : Jvm.MethodName)) ∈ lw_all := lw_g (lw_at lw_m10 43 rfl) rfl
theorem q2281 : (Jvm.Cond.codeWith ({ cls := "CardLoom", name := "lay", desc := "(III)I" } : Jvm.MethodName) prog_1_method_84_code (5 : Nat) (Option.some Jvm.ClassFile.FieldType.int) [((17 : Nat), (67 : Nat), (68 : Nat), (468 : Nat)), ((17 : Nat), (67 : Nat), (73 : Nat), (470 : Nat))]) ∈ lw_all := lw_g (lw_at lw_m10 44 rfl) rfl
theorem q2283 : (Jvm.Cond.instanceMethod ({ cls := "CardLoom", name := "judge", desc := "(III)I" } : Jvm.MethodName)) ∈ lw_all := lw_g (lw_at lw_m10 46 rfl) rfl
theorem q2284 : (Jvm.Cond.selects "CardLoom" ({ cls := "CardLoom", name := "judge", desc := "(III)I" } : Jvm.MethodName) ({ cls := "CardLoom", name := "judge", desc := "(III)I" } : Jvm.MethodName)) ∈ lw_all := lw_g (lw_at lw_m10 47 rfl) rfl
theorem q2285 : (Jvm.Cond.codeWith ({ cls := "CardLoom", name := "judge", desc := "(III)I" } : Jvm.MethodName) prog_1_method_85_code (6 : Nat) (Option.some Jvm.ClassFile.FieldType.int) [((20 : Nat), (62 : Nat), (72 : Nat), (468 : Nat)), ((63 : Nat), (71 : Nat), (72 : Nat), (468 : Nat)), ((20 : Nat), (62 : Nat), (77 : Nat), (470 : Nat)), ((63 : Nat), (71 : Nat), (77 : Nat), (470 : Nat))]) ∈ lw_all := lw_g (lw_at lw_m10 48 rfl) rfl
theorem q2287 : (Jvm.Cond.instanceMethod ({ cls := "CardLoom", name := "image", desc := "()I" } : Jvm.MethodName)) ∈ lw_all := lw_g (lw_at lw_m10 50 rfl) rfl
theorem q2288 : (Jvm.Cond.selects "CardLoom" ({ cls := "CardLoom", name := "image", desc := "()I" } : Jvm.MethodName) ({ cls := "CardLoom", name := "image", desc := "()I" } : Jvm.MethodName)) ∈ lw_all := lw_g (lw_at lw_m10 51 rfl) rfl
theorem q2289 : (Jvm.Cond.code ({ cls := "CardLoom", name := "image", desc := "()I" } : Jvm.MethodName) prog_1_method_87_code (1 : Nat) (Option.some Jvm.ClassFile.FieldType.int)) ∈ lw_all := lw_g (lw_at lw_m10 52 rfl) rfl
theorem q2290 : (Jvm.Cond.methodLink "CardLoom" (476 : Nat) ({ cls := "CardLoom", name := "likewise", desc := "(Ljava/util/ArrayList;)Ljava/util/ArrayList;" } : Jvm.MethodName)) ∈ lw_all := lw_g (lw_at lw_m10 53 rfl) rfl
theorem q2291 : (Jvm.Cond.static ({ cls := "CardLoom", name := "likewise", desc := "(Ljava/util/ArrayList;)Ljava/util/ArrayList;" } : Jvm.MethodName)) ∈ lw_all := lw_g (lw_at lw_m10 54 rfl) rfl
theorem q2292 : (Jvm.Cond.code ({ cls := "CardLoom", name := "likewise", desc := "(Ljava/util/ArrayList;)Ljava/util/ArrayList;" } : Jvm.MethodName) prog_1_method_86_code (4 : Nat) (Option.some (Jvm.ClassFile.FieldType.object "java/util/ArrayList"))) ∈ lw_all := lw_g (lw_at lw_m10 55 rfl) rfl
theorem q2294 : (Jvm.Cond.instanceMethod ({ cls := "CardLoom", name := "undo", desc := "()I" } : Jvm.MethodName)) ∈ lw_all := lw_g (lw_at lw_m10 57 rfl) rfl
theorem q2295 : (Jvm.Cond.selects "CardLoom" ({ cls := "CardLoom", name := "undo", desc := "()I" } : Jvm.MethodName) ({ cls := "CardLoom", name := "undo", desc := "()I" } : Jvm.MethodName)) ∈ lw_all := lw_g (lw_at lw_m10 58 rfl) rfl
theorem q2296 : (Jvm.Cond.code ({ cls := "CardLoom", name := "undo", desc := "()I" } : Jvm.MethodName) prog_1_method_88_code (1 : Nat) (Option.some Jvm.ClassFile.FieldType.int)) ∈ lw_all := lw_g (lw_at lw_m10 59 rfl) rfl
theorem q2755 : (Jvm.Cond.castable "CardLoom" "java/lang/Object") ∈ lw_tbl := lw_at lw_m12 38 rfl
theorem q2806 : (Jvm.Cond.fieldLinkNest "CardLoom" (211 : Nat) "CardLoom$Turning" "number" "I" "CardLoom") ∈ lw_tbl := lw_at lw_m12 89 rfl
theorem in_X0 : ∀ w ∈ wsX00, w ∈ lw_all := lw_in wsX00 [216, 218, 220, 222, 224, 226, 228, 230, 232, 234, 236, 238, 240, 242] (by decide +kernel) (by decide +kernel)
