/-! java/util/TreeMap -/
set_option maxRecDepth 100000
def RJ18 : String := "java/util/TreeMap"
def TJ18 : u_T := fun k => match k with
  | 0 => ("java/util/AbstractMap", "keySet", "Ljava/util/Set;", false)
  | 1 => ("java/util/AbstractMap", "values", "Ljava/util/Collection;", false)
  | 2 => ("java/util/TreeMap", "comparator", "Ljava/util/Comparator;", true)
  | 3 => ("java/util/TreeMap", "root", "Ljava/util/TreeMap$Entry;", false)
  | 4 => ("java/util/TreeMap", "size", "I", false)
  | 5 => ("java/util/TreeMap", "modCount", "I", false)
  | 6 => ("java/util/TreeMap", "entrySet", "Ljava/util/TreeMap$EntrySet;", false)
  | 7 => ("java/util/TreeMap", "navigableKeySet", "Ljava/util/TreeMap$KeySet;", false)
  | _ => ("java/util/TreeMap", "descendingMap", "Ljava/util/NavigableMap;", false)
def tyJ18 : Nat → FieldType := fun k => match k with
  | 0 => .object "java/util/Set"
  | 1 => .object "java/util/Collection"
  | 2 => .object "java/util/Comparator"
  | 3 => .object "java/util/TreeMap$Entry"
  | 4 => .int
  | 5 => .int
  | 6 => .object "java/util/TreeMap$EntrySet"
  | 7 => .object "java/util/TreeMap$KeySet"
  | _ => .object "java/util/NavigableMap"
abbrev wsJ180 : List Cond := u_ws RJ18 TJ18 9
theorem nmJ18 : ∀ a, a < 9 → ∀ b, b < 9 → a ≠ b → (TJ18 a).2.1 ≠ (TJ18 b).2.1 := by decide +kernel
theorem tyJ18_ok : ∀ k, k < 9 → parseFieldDescriptor (TJ18 k).2.2.1 = some (tyJ18 k) := by decide +kernel
abbrev cJ18_successor : ByteArray := prog_77_method_74_code
def yJ18_successor : MethodName := ⟨RJ18, "successor", "(Ljava/util/TreeMap$Entry;)Ljava/util/TreeMap$Entry;"⟩
def dkwJ18_successor_2 : List UInt8 := [44, 43, 180, 0, 114, 166, 0, 13, 43, 77, 43, 180, 0, 124, 76, 167, 255, 237, 43, 176]
abbrev dktJ18_successor_2 : List UInt8 := dkwJ18_successor_2 ++ []
def dkwJ18_successor_1 : List UInt8 := [198, 0, 11, 43, 180, 0, 111, 76, 167, 255, 244, 43, 176, 42, 180, 0, 124, 76, 42, 77, 43, 198, 0, 21]
abbrev dktJ18_successor_1 : List UInt8 := dkwJ18_successor_1 ++ dktJ18_successor_2
def dkwJ18_successor_0 : List UInt8 := [42, 199, 0, 5, 1, 176, 42, 180, 0, 114, 198, 0, 25, 42, 180, 0, 114, 76, 43, 180, 0, 111]
abbrev dktJ18_successor_0 : List UInt8 := dkwJ18_successor_0 ++ dktJ18_successor_1
theorem dksJ18_successor_0 : cJ18_successor.data.toList.drop 0 = dktJ18_successor_0 := by decide +kernel
theorem dksJ18_successor_1 : cJ18_successor.data.toList.drop 22 = dktJ18_successor_1 := dk_seg dksJ18_successor_0 22 rfl rfl
theorem dksJ18_successor_2 : cJ18_successor.data.toList.drop 46 = dktJ18_successor_2 := dk_seg dksJ18_successor_1 24 rfl rfl
theorem dJ18_successor_0 : decode cJ18_successor 0 = .ok (.aload_n 0, 1) := dk_42 (dk_at dksJ18_successor_0 0 rfl rfl)
theorem dJ18_successor_1 : decode cJ18_successor 1 = .ok (.ifnonnull 5, 3) := dk_199 0 5 (dk_at dksJ18_successor_0 1 rfl rfl)
theorem dJ18_successor_4 : decode cJ18_successor 4 = .ok (.aconst_null, 1) := dk_1 (dk_at dksJ18_successor_0 4 rfl rfl)
theorem dJ18_successor_5 : decode cJ18_successor 5 = .ok (.areturn, 1) := dk_176 (dk_at dksJ18_successor_0 5 rfl rfl)
theorem dJ18_successor_6 : decode cJ18_successor 6 = .ok (.aload_n 0, 1) := dk_42 (dk_at dksJ18_successor_0 6 rfl rfl)
theorem dJ18_successor_7 : decode cJ18_successor 7 = .ok (.getfield 114, 3) := dk_180 0 114 (dk_at dksJ18_successor_0 7 rfl rfl)
theorem dJ18_successor_10 : decode cJ18_successor 10 = .ok (.ifnull 25, 3) := dk_198 0 25 (dk_at dksJ18_successor_0 10 rfl rfl)
theorem dJ18_successor_13 : decode cJ18_successor 13 = .ok (.aload_n 0, 1) := dk_42 (dk_at dksJ18_successor_0 13 rfl rfl)
theorem dJ18_successor_14 : decode cJ18_successor 14 = .ok (.getfield 114, 3) := dk_180 0 114 (dk_at dksJ18_successor_0 14 rfl rfl)
theorem dJ18_successor_17 : decode cJ18_successor 17 = .ok (.astore_n 1, 1) := dk_76 (dk_at dksJ18_successor_0 17 rfl rfl)
theorem dJ18_successor_18 : decode cJ18_successor 18 = .ok (.aload_n 1, 1) := dk_43 (dk_at dksJ18_successor_0 18 rfl rfl)
theorem dJ18_successor_19 : decode cJ18_successor 19 = .ok (.getfield 111, 3) := dk_180 0 111 (dk_at dksJ18_successor_0 19 rfl rfl)
theorem dJ18_successor_22 : decode cJ18_successor 22 = .ok (.ifnull 11, 3) := dk_198 0 11 (dk_at dksJ18_successor_1 0 rfl rfl)
theorem dJ18_successor_25 : decode cJ18_successor 25 = .ok (.aload_n 1, 1) := dk_43 (dk_at dksJ18_successor_1 3 rfl rfl)
theorem dJ18_successor_26 : decode cJ18_successor 26 = .ok (.getfield 111, 3) := dk_180 0 111 (dk_at dksJ18_successor_1 4 rfl rfl)
theorem dJ18_successor_29 : decode cJ18_successor 29 = .ok (.astore_n 1, 1) := dk_76 (dk_at dksJ18_successor_1 7 rfl rfl)
theorem dJ18_successor_30 : decode cJ18_successor 30 = .ok (.goto (-12), 3) := dk_167 255 244 (dk_at dksJ18_successor_1 8 rfl rfl)
theorem dJ18_successor_33 : decode cJ18_successor 33 = .ok (.aload_n 1, 1) := dk_43 (dk_at dksJ18_successor_1 11 rfl rfl)
theorem dJ18_successor_34 : decode cJ18_successor 34 = .ok (.areturn, 1) := dk_176 (dk_at dksJ18_successor_1 12 rfl rfl)
theorem dJ18_successor_35 : decode cJ18_successor 35 = .ok (.aload_n 0, 1) := dk_42 (dk_at dksJ18_successor_1 13 rfl rfl)
theorem dJ18_successor_36 : decode cJ18_successor 36 = .ok (.getfield 124, 3) := dk_180 0 124 (dk_at dksJ18_successor_1 14 rfl rfl)
theorem dJ18_successor_39 : decode cJ18_successor 39 = .ok (.astore_n 1, 1) := dk_76 (dk_at dksJ18_successor_1 17 rfl rfl)
theorem dJ18_successor_40 : decode cJ18_successor 40 = .ok (.aload_n 0, 1) := dk_42 (dk_at dksJ18_successor_1 18 rfl rfl)
theorem dJ18_successor_41 : decode cJ18_successor 41 = .ok (.astore_n 2, 1) := dk_77 (dk_at dksJ18_successor_1 19 rfl rfl)
theorem dJ18_successor_42 : decode cJ18_successor 42 = .ok (.aload_n 1, 1) := dk_43 (dk_at dksJ18_successor_1 20 rfl rfl)
theorem dJ18_successor_43 : decode cJ18_successor 43 = .ok (.ifnull 21, 3) := dk_198 0 21 (dk_at dksJ18_successor_1 21 rfl rfl)
theorem dJ18_successor_46 : decode cJ18_successor 46 = .ok (.aload_n 2, 1) := dk_44 (dk_at dksJ18_successor_2 0 rfl rfl)
theorem dJ18_successor_47 : decode cJ18_successor 47 = .ok (.aload_n 1, 1) := dk_43 (dk_at dksJ18_successor_2 1 rfl rfl)
theorem dJ18_successor_48 : decode cJ18_successor 48 = .ok (.getfield 114, 3) := dk_180 0 114 (dk_at dksJ18_successor_2 2 rfl rfl)
theorem dJ18_successor_51 : decode cJ18_successor 51 = .ok (.if_acmp .ne 13, 3) := dk_166 0 13 (dk_at dksJ18_successor_2 5 rfl rfl)
theorem dJ18_successor_54 : decode cJ18_successor 54 = .ok (.aload_n 1, 1) := dk_43 (dk_at dksJ18_successor_2 8 rfl rfl)
theorem dJ18_successor_55 : decode cJ18_successor 55 = .ok (.astore_n 2, 1) := dk_77 (dk_at dksJ18_successor_2 9 rfl rfl)
theorem dJ18_successor_56 : decode cJ18_successor 56 = .ok (.aload_n 1, 1) := dk_43 (dk_at dksJ18_successor_2 10 rfl rfl)
theorem dJ18_successor_57 : decode cJ18_successor 57 = .ok (.getfield 124, 3) := dk_180 0 124 (dk_at dksJ18_successor_2 11 rfl rfl)
theorem dJ18_successor_60 : decode cJ18_successor 60 = .ok (.astore_n 1, 1) := dk_76 (dk_at dksJ18_successor_2 14 rfl rfl)
theorem dJ18_successor_61 : decode cJ18_successor 61 = .ok (.goto (-19), 3) := dk_167 255 237 (dk_at dksJ18_successor_2 15 rfl rfl)
theorem dJ18_successor_64 : decode cJ18_successor 64 = .ok (.aload_n 1, 1) := dk_43 (dk_at dksJ18_successor_2 18 rfl rfl)
theorem dJ18_successor_65 : decode cJ18_successor 65 = .ok (.areturn, 1) := dk_176 (dk_at dksJ18_successor_2 19 rfl rfl)
abbrev cJ18_size : ByteArray := prog_77_method_5_code
def yJ18_size : MethodName := ⟨RJ18, "size", "()I"⟩
theorem dJ18_size_0 : decode cJ18_size 0 = .ok (.aload_n 0, 1) := by decide +kernel
theorem dJ18_size_1 : decode cJ18_size 1 = .ok (.getfield 7, 3) := by decide +kernel
theorem dJ18_size_4 : decode cJ18_size 4 = .ok (.ireturn, 1) := by decide +kernel
abbrev cJ18_init : ByteArray := prog_77_method_1_code
def yJ18_init : MethodName := ⟨RJ18, "<init>", "()V"⟩
def dkwJ18_init_0 : List UInt8 := [42, 183, 0, 1, 42, 3, 181, 0, 7, 42, 3, 181, 0, 13, 42, 1, 181, 0, 16, 177]
abbrev dktJ18_init_0 : List UInt8 := dkwJ18_init_0 ++ []
theorem dksJ18_init_0 : cJ18_init.data.toList.drop 0 = dktJ18_init_0 := by decide +kernel
theorem dJ18_init_0 : decode cJ18_init 0 = .ok (.aload_n 0, 1) := dk_42 (dk_at dksJ18_init_0 0 rfl rfl)
theorem dJ18_init_1 : decode cJ18_init 1 = .ok (.invokespecial 1, 3) := dk_183 0 1 (dk_at dksJ18_init_0 1 rfl rfl)
theorem dJ18_init_4 : decode cJ18_init 4 = .ok (.aload_n 0, 1) := dk_42 (dk_at dksJ18_init_0 4 rfl rfl)
theorem dJ18_init_5 : decode cJ18_init 5 = .ok (.iconst 0, 1) := dk_3 (dk_at dksJ18_init_0 5 rfl rfl)
theorem dJ18_init_6 : decode cJ18_init 6 = .ok (.putfield 7, 3) := dk_181 0 7 (dk_at dksJ18_init_0 6 rfl rfl)
theorem dJ18_init_9 : decode cJ18_init 9 = .ok (.aload_n 0, 1) := dk_42 (dk_at dksJ18_init_0 9 rfl rfl)
theorem dJ18_init_10 : decode cJ18_init 10 = .ok (.iconst 0, 1) := dk_3 (dk_at dksJ18_init_0 10 rfl rfl)
theorem dJ18_init_11 : decode cJ18_init 11 = .ok (.putfield 13, 3) := dk_181 0 13 (dk_at dksJ18_init_0 11 rfl rfl)
theorem dJ18_init_14 : decode cJ18_init 14 = .ok (.aload_n 0, 1) := dk_42 (dk_at dksJ18_init_0 14 rfl rfl)
theorem dJ18_init_15 : decode cJ18_init 15 = .ok (.aconst_null, 1) := dk_1 (dk_at dksJ18_init_0 15 rfl rfl)
theorem dJ18_init_16 : decode cJ18_init 16 = .ok (.putfield 16, 3) := dk_181 0 16 (dk_at dksJ18_init_0 16 rfl rfl)
theorem dJ18_init_19 : decode cJ18_init 19 = .ok (.return_, 1) := dk_177 (dk_at dksJ18_init_0 19 rfl rfl)
abbrev cJ18_put : ByteArray := prog_77_method_21_code
def yJ18_put : MethodName := ⟨RJ18, "put", "(Ljava/lang/Object;Ljava/lang/Object;)Ljava/lang/Object;"⟩
def dkwJ18_put_0 : List UInt8 := [42, 43, 44, 4, 182, 0, 127, 176]
abbrev dktJ18_put_0 : List UInt8 := dkwJ18_put_0 ++ []
theorem dksJ18_put_0 : cJ18_put.data.toList.drop 0 = dktJ18_put_0 := by decide +kernel
theorem dJ18_put_0 : decode cJ18_put 0 = .ok (.aload_n 0, 1) := dk_42 (dk_at dksJ18_put_0 0 rfl rfl)
theorem dJ18_put_1 : decode cJ18_put 1 = .ok (.aload_n 1, 1) := dk_43 (dk_at dksJ18_put_0 1 rfl rfl)
theorem dJ18_put_2 : decode cJ18_put 2 = .ok (.aload_n 2, 1) := dk_44 (dk_at dksJ18_put_0 2 rfl rfl)
theorem dJ18_put_3 : decode cJ18_put 3 = .ok (.iconst 1, 1) := dk_4 (dk_at dksJ18_put_0 3 rfl rfl)
theorem dJ18_put_4 : decode cJ18_put 4 = .ok (.invokevirtual 127, 3) := dk_182 0 127 (dk_at dksJ18_put_0 4 rfl rfl)
theorem dJ18_put_7 : decode cJ18_put 7 = .ok (.areturn, 1) := dk_176 (dk_at dksJ18_put_0 7 rfl rfl)
abbrev cJ18_put_2 : ByteArray := prog_77_method_31_code
def yJ18_put_2 : MethodName := ⟨RJ18, "put", "(Ljava/lang/Object;Ljava/lang/Object;Z)Ljava/lang/Object;"⟩
def dkwJ18_put_2_9 : List UInt8 := [4, 167, 0, 4, 3, 182, 0, 139, 1, 176]
abbrev dktJ18_put_2_9 : List UInt8 := dkwJ18_put_2_9 ++ []
def dkwJ18_put_2_8 : List UInt8 := [25, 4, 44, 181, 0, 58, 25, 9, 176, 25, 4, 199, 255, 181, 42, 43, 44, 25, 6, 21, 5, 156, 0, 7]
abbrev dktJ18_put_2_8 : List UInt8 := dkwJ18_put_2_8 ++ dktJ18_put_2_9
def dkwJ18_put_2_7 : List UInt8 := [180, 0, 114, 58, 4, 167, 0, 28, 25, 4, 180, 0, 58, 58, 9, 29, 154, 0, 8, 25, 9, 199, 0, 9]
abbrev dktJ18_put_2_7 : List UInt8 := dkwJ18_put_2_7 ++ dktJ18_put_2_8
def dkwJ18_put_2_6 : List UInt8 := [21, 5, 156, 0, 13, 25, 4, 180, 0, 111, 58, 4, 167, 0, 43, 21, 5, 158, 0, 13, 25, 4]
abbrev dktJ18_put_2_6 : List UInt8 := dkwJ18_put_2_6 ++ dktJ18_put_2_7
def dkwJ18_put_2_5 : List UInt8 := [192, 0, 99, 58, 8, 25, 4, 58, 6, 25, 8, 25, 4, 180, 0, 105, 185, 0, 107, 2, 0, 54, 5]
abbrev dktJ18_put_2_5 : List UInt8 := dkwJ18_put_2_5 ++ dktJ18_put_2_6
def dkwJ18_put_2_4 : List UInt8 := [25, 4, 44, 181, 0, 58, 25, 8, 176, 25, 4, 199, 255, 180, 167, 0, 92, 43, 184, 0, 95, 87, 43]
abbrev dktJ18_put_2_4 : List UInt8 := dkwJ18_put_2_4 ++ dktJ18_put_2_5
def dkwJ18_put_2_3 : List UInt8 := [180, 0, 114, 58, 4, 167, 0, 28, 25, 4, 180, 0, 58, 58, 8, 29, 154, 0, 8, 25, 8, 199, 0, 9]
abbrev dktJ18_put_2_3 : List UInt8 := dkwJ18_put_2_3 ++ dktJ18_put_2_4
def dkwJ18_put_2_2 : List UInt8 := [54, 5, 21, 5, 156, 0, 13, 25, 4, 180, 0, 111, 58, 4, 167, 0, 43, 21, 5, 158, 0, 13, 25, 4]
abbrev dktJ18_put_2_2 : List UInt8 := dkwJ18_put_2_2 ++ dktJ18_put_2_3
def dkwJ18_put_2_1 : List UInt8 := [58, 7, 25, 7, 198, 0, 85, 25, 4, 58, 6, 25, 7, 43, 25, 4, 180, 0, 105, 185, 0, 117, 3, 0]
abbrev dktJ18_put_2_1 : List UInt8 := dkwJ18_put_2_1 ++ dktJ18_put_2_2
def dkwJ18_put_2_0 : List UInt8 := [42, 180, 0, 101, 58, 4, 25, 4, 199, 0, 11, 42, 43, 44, 182, 0, 135, 1, 176, 42, 180, 0, 16]
abbrev dktJ18_put_2_0 : List UInt8 := dkwJ18_put_2_0 ++ dktJ18_put_2_1
theorem dksJ18_put_2_0 : cJ18_put_2.data.toList.drop 0 = dktJ18_put_2_0 := by decide +kernel
theorem dksJ18_put_2_1 : cJ18_put_2.data.toList.drop 23 = dktJ18_put_2_1 := dk_seg dksJ18_put_2_0 23 rfl rfl
theorem dksJ18_put_2_2 : cJ18_put_2.data.toList.drop 47 = dktJ18_put_2_2 := dk_seg dksJ18_put_2_1 24 rfl rfl
theorem dksJ18_put_2_3 : cJ18_put_2.data.toList.drop 71 = dktJ18_put_2_3 := dk_seg dksJ18_put_2_2 24 rfl rfl
theorem dksJ18_put_2_4 : cJ18_put_2.data.toList.drop 95 = dktJ18_put_2_4 := dk_seg dksJ18_put_2_3 24 rfl rfl
theorem dksJ18_put_2_5 : cJ18_put_2.data.toList.drop 118 = dktJ18_put_2_5 := dk_seg dksJ18_put_2_4 23 rfl rfl
theorem dksJ18_put_2_6 : cJ18_put_2.data.toList.drop 141 = dktJ18_put_2_6 := dk_seg dksJ18_put_2_5 23 rfl rfl
theorem dksJ18_put_2_7 : cJ18_put_2.data.toList.drop 163 = dktJ18_put_2_7 := dk_seg dksJ18_put_2_6 22 rfl rfl
theorem dksJ18_put_2_8 : cJ18_put_2.data.toList.drop 187 = dktJ18_put_2_8 := dk_seg dksJ18_put_2_7 24 rfl rfl
theorem dksJ18_put_2_9 : cJ18_put_2.data.toList.drop 211 = dktJ18_put_2_9 := dk_seg dksJ18_put_2_8 24 rfl rfl
theorem dJ18_put_2_0 : decode cJ18_put_2 0 = .ok (.aload_n 0, 1) := dk_42 (dk_at dksJ18_put_2_0 0 rfl rfl)
theorem dJ18_put_2_1 : decode cJ18_put_2 1 = .ok (.getfield 101, 3) := dk_180 0 101 (dk_at dksJ18_put_2_0 1 rfl rfl)
theorem dJ18_put_2_4 : decode cJ18_put_2 4 = .ok (.astore 4, 2) := dk_58 4 (dk_at dksJ18_put_2_0 4 rfl rfl)
theorem dJ18_put_2_6 : decode cJ18_put_2 6 = .ok (.aload 4, 2) := dk_25 4 (dk_at dksJ18_put_2_0 6 rfl rfl)
theorem dJ18_put_2_8 : decode cJ18_put_2 8 = .ok (.ifnonnull 11, 3) := dk_199 0 11 (dk_at dksJ18_put_2_0 8 rfl rfl)
theorem dJ18_put_2_11 : decode cJ18_put_2 11 = .ok (.aload_n 0, 1) := dk_42 (dk_at dksJ18_put_2_0 11 rfl rfl)
theorem dJ18_put_2_12 : decode cJ18_put_2 12 = .ok (.aload_n 1, 1) := dk_43 (dk_at dksJ18_put_2_0 12 rfl rfl)
theorem dJ18_put_2_13 : decode cJ18_put_2 13 = .ok (.aload_n 2, 1) := dk_44 (dk_at dksJ18_put_2_0 13 rfl rfl)
theorem dJ18_put_2_14 : decode cJ18_put_2 14 = .ok (.invokevirtual 135, 3) := dk_182 0 135 (dk_at dksJ18_put_2_0 14 rfl rfl)
theorem dJ18_put_2_17 : decode cJ18_put_2 17 = .ok (.aconst_null, 1) := dk_1 (dk_at dksJ18_put_2_0 17 rfl rfl)
theorem dJ18_put_2_18 : decode cJ18_put_2 18 = .ok (.areturn, 1) := dk_176 (dk_at dksJ18_put_2_0 18 rfl rfl)
theorem dJ18_put_2_19 : decode cJ18_put_2 19 = .ok (.aload_n 0, 1) := dk_42 (dk_at dksJ18_put_2_0 19 rfl rfl)
theorem dJ18_put_2_20 : decode cJ18_put_2 20 = .ok (.getfield 16, 3) := dk_180 0 16 (dk_at dksJ18_put_2_0 20 rfl rfl)
theorem dJ18_put_2_23 : decode cJ18_put_2 23 = .ok (.astore 7, 2) := dk_58 7 (dk_at dksJ18_put_2_1 0 rfl rfl)
theorem dJ18_put_2_25 : decode cJ18_put_2 25 = .ok (.aload 7, 2) := dk_25 7 (dk_at dksJ18_put_2_1 2 rfl rfl)
theorem dJ18_put_2_27 : decode cJ18_put_2 27 = .ok (.ifnull 85, 3) := dk_198 0 85 (dk_at dksJ18_put_2_1 4 rfl rfl)
theorem dJ18_put_2_30 : decode cJ18_put_2 30 = .ok (.aload 4, 2) := dk_25 4 (dk_at dksJ18_put_2_1 7 rfl rfl)
theorem dJ18_put_2_32 : decode cJ18_put_2 32 = .ok (.astore 6, 2) := dk_58 6 (dk_at dksJ18_put_2_1 9 rfl rfl)
theorem dJ18_put_2_34 : decode cJ18_put_2 34 = .ok (.aload 7, 2) := dk_25 7 (dk_at dksJ18_put_2_1 11 rfl rfl)
theorem dJ18_put_2_36 : decode cJ18_put_2 36 = .ok (.aload_n 1, 1) := dk_43 (dk_at dksJ18_put_2_1 13 rfl rfl)
theorem dJ18_put_2_37 : decode cJ18_put_2 37 = .ok (.aload 4, 2) := dk_25 4 (dk_at dksJ18_put_2_1 14 rfl rfl)
theorem dJ18_put_2_39 : decode cJ18_put_2 39 = .ok (.getfield 105, 3) := dk_180 0 105 (dk_at dksJ18_put_2_1 16 rfl rfl)
theorem dJ18_put_2_42 : decode cJ18_put_2 42 = .ok (.invokeinterface 117 3, 5) := by decide +kernel
theorem dJ18_put_2_47 : decode cJ18_put_2 47 = .ok (.istore 5, 2) := dk_54 5 (dk_at dksJ18_put_2_2 0 rfl rfl)
theorem dJ18_put_2_49 : decode cJ18_put_2 49 = .ok (.iload 5, 2) := dk_21 5 (dk_at dksJ18_put_2_2 2 rfl rfl)
theorem dJ18_put_2_51 : decode cJ18_put_2 51 = .ok (.ifCond .ge 13, 3) := dk_156 0 13 (dk_at dksJ18_put_2_2 4 rfl rfl)
theorem dJ18_put_2_54 : decode cJ18_put_2 54 = .ok (.aload 4, 2) := dk_25 4 (dk_at dksJ18_put_2_2 7 rfl rfl)
theorem dJ18_put_2_56 : decode cJ18_put_2 56 = .ok (.getfield 111, 3) := dk_180 0 111 (dk_at dksJ18_put_2_2 9 rfl rfl)
theorem dJ18_put_2_59 : decode cJ18_put_2 59 = .ok (.astore 4, 2) := dk_58 4 (dk_at dksJ18_put_2_2 12 rfl rfl)
theorem dJ18_put_2_61 : decode cJ18_put_2 61 = .ok (.goto 43, 3) := dk_167 0 43 (dk_at dksJ18_put_2_2 14 rfl rfl)
theorem dJ18_put_2_64 : decode cJ18_put_2 64 = .ok (.iload 5, 2) := dk_21 5 (dk_at dksJ18_put_2_2 17 rfl rfl)
theorem dJ18_put_2_66 : decode cJ18_put_2 66 = .ok (.ifCond .le 13, 3) := dk_158 0 13 (dk_at dksJ18_put_2_2 19 rfl rfl)
theorem dJ18_put_2_69 : decode cJ18_put_2 69 = .ok (.aload 4, 2) := dk_25 4 (dk_at dksJ18_put_2_2 22 rfl rfl)
theorem dJ18_put_2_71 : decode cJ18_put_2 71 = .ok (.getfield 114, 3) := dk_180 0 114 (dk_at dksJ18_put_2_3 0 rfl rfl)
theorem dJ18_put_2_74 : decode cJ18_put_2 74 = .ok (.astore 4, 2) := dk_58 4 (dk_at dksJ18_put_2_3 3 rfl rfl)
theorem dJ18_put_2_76 : decode cJ18_put_2 76 = .ok (.goto 28, 3) := dk_167 0 28 (dk_at dksJ18_put_2_3 5 rfl rfl)
theorem dJ18_put_2_79 : decode cJ18_put_2 79 = .ok (.aload 4, 2) := dk_25 4 (dk_at dksJ18_put_2_3 8 rfl rfl)
theorem dJ18_put_2_81 : decode cJ18_put_2 81 = .ok (.getfield 58, 3) := dk_180 0 58 (dk_at dksJ18_put_2_3 10 rfl rfl)
theorem dJ18_put_2_84 : decode cJ18_put_2 84 = .ok (.astore 8, 2) := dk_58 8 (dk_at dksJ18_put_2_3 13 rfl rfl)
theorem dJ18_put_2_86 : decode cJ18_put_2 86 = .ok (.iload_n 3, 1) := dk_29 (dk_at dksJ18_put_2_3 15 rfl rfl)
theorem dJ18_put_2_87 : decode cJ18_put_2 87 = .ok (.ifCond .ne 8, 3) := dk_154 0 8 (dk_at dksJ18_put_2_3 16 rfl rfl)
theorem dJ18_put_2_90 : decode cJ18_put_2 90 = .ok (.aload 8, 2) := dk_25 8 (dk_at dksJ18_put_2_3 19 rfl rfl)
theorem dJ18_put_2_92 : decode cJ18_put_2 92 = .ok (.ifnonnull 9, 3) := dk_199 0 9 (dk_at dksJ18_put_2_3 21 rfl rfl)
theorem dJ18_put_2_95 : decode cJ18_put_2 95 = .ok (.aload 4, 2) := dk_25 4 (dk_at dksJ18_put_2_4 0 rfl rfl)
theorem dJ18_put_2_97 : decode cJ18_put_2 97 = .ok (.aload_n 2, 1) := dk_44 (dk_at dksJ18_put_2_4 2 rfl rfl)
theorem dJ18_put_2_98 : decode cJ18_put_2 98 = .ok (.putfield 58, 3) := dk_181 0 58 (dk_at dksJ18_put_2_4 3 rfl rfl)
theorem dJ18_put_2_101 : decode cJ18_put_2 101 = .ok (.aload 8, 2) := dk_25 8 (dk_at dksJ18_put_2_4 6 rfl rfl)
theorem dJ18_put_2_103 : decode cJ18_put_2 103 = .ok (.areturn, 1) := dk_176 (dk_at dksJ18_put_2_4 8 rfl rfl)
theorem dJ18_put_2_104 : decode cJ18_put_2 104 = .ok (.aload 4, 2) := dk_25 4 (dk_at dksJ18_put_2_4 9 rfl rfl)
theorem dJ18_put_2_106 : decode cJ18_put_2 106 = .ok (.ifnonnull (-76), 3) := dk_199 255 180 (dk_at dksJ18_put_2_4 11 rfl rfl)
theorem dJ18_put_2_109 : decode cJ18_put_2 109 = .ok (.goto 92, 3) := dk_167 0 92 (dk_at dksJ18_put_2_4 14 rfl rfl)
theorem dJ18_put_2_112 : decode cJ18_put_2 112 = .ok (.aload_n 1, 1) := dk_43 (dk_at dksJ18_put_2_4 17 rfl rfl)
theorem dJ18_put_2_113 : decode cJ18_put_2 113 = .ok (.invokestatic 95, 3) := dk_184 0 95 (dk_at dksJ18_put_2_4 18 rfl rfl)
theorem dJ18_put_2_116 : decode cJ18_put_2 116 = .ok (.pop, 1) := dk_87 (dk_at dksJ18_put_2_4 21 rfl rfl)
theorem dJ18_put_2_117 : decode cJ18_put_2 117 = .ok (.aload_n 1, 1) := dk_43 (dk_at dksJ18_put_2_4 22 rfl rfl)
theorem dJ18_put_2_118 : decode cJ18_put_2 118 = .ok (.checkcast 99, 3) := dk_192 0 99 (dk_at dksJ18_put_2_5 0 rfl rfl)
theorem dJ18_put_2_121 : decode cJ18_put_2 121 = .ok (.astore 8, 2) := dk_58 8 (dk_at dksJ18_put_2_5 3 rfl rfl)
theorem dJ18_put_2_123 : decode cJ18_put_2 123 = .ok (.aload 4, 2) := dk_25 4 (dk_at dksJ18_put_2_5 5 rfl rfl)
theorem dJ18_put_2_125 : decode cJ18_put_2 125 = .ok (.astore 6, 2) := dk_58 6 (dk_at dksJ18_put_2_5 7 rfl rfl)
theorem dJ18_put_2_127 : decode cJ18_put_2 127 = .ok (.aload 8, 2) := dk_25 8 (dk_at dksJ18_put_2_5 9 rfl rfl)
theorem dJ18_put_2_129 : decode cJ18_put_2 129 = .ok (.aload 4, 2) := dk_25 4 (dk_at dksJ18_put_2_5 11 rfl rfl)
theorem dJ18_put_2_131 : decode cJ18_put_2 131 = .ok (.getfield 105, 3) := dk_180 0 105 (dk_at dksJ18_put_2_5 13 rfl rfl)
theorem dJ18_put_2_134 : decode cJ18_put_2 134 = .ok (.invokeinterface 107 2, 5) := by decide +kernel
theorem dJ18_put_2_139 : decode cJ18_put_2 139 = .ok (.istore 5, 2) := dk_54 5 (dk_at dksJ18_put_2_5 21 rfl rfl)
theorem dJ18_put_2_141 : decode cJ18_put_2 141 = .ok (.iload 5, 2) := dk_21 5 (dk_at dksJ18_put_2_6 0 rfl rfl)
theorem dJ18_put_2_143 : decode cJ18_put_2 143 = .ok (.ifCond .ge 13, 3) := dk_156 0 13 (dk_at dksJ18_put_2_6 2 rfl rfl)
theorem dJ18_put_2_146 : decode cJ18_put_2 146 = .ok (.aload 4, 2) := dk_25 4 (dk_at dksJ18_put_2_6 5 rfl rfl)
theorem dJ18_put_2_148 : decode cJ18_put_2 148 = .ok (.getfield 111, 3) := dk_180 0 111 (dk_at dksJ18_put_2_6 7 rfl rfl)
theorem dJ18_put_2_151 : decode cJ18_put_2 151 = .ok (.astore 4, 2) := dk_58 4 (dk_at dksJ18_put_2_6 10 rfl rfl)
theorem dJ18_put_2_153 : decode cJ18_put_2 153 = .ok (.goto 43, 3) := dk_167 0 43 (dk_at dksJ18_put_2_6 12 rfl rfl)
theorem dJ18_put_2_156 : decode cJ18_put_2 156 = .ok (.iload 5, 2) := dk_21 5 (dk_at dksJ18_put_2_6 15 rfl rfl)
theorem dJ18_put_2_158 : decode cJ18_put_2 158 = .ok (.ifCond .le 13, 3) := dk_158 0 13 (dk_at dksJ18_put_2_6 17 rfl rfl)
theorem dJ18_put_2_161 : decode cJ18_put_2 161 = .ok (.aload 4, 2) := dk_25 4 (dk_at dksJ18_put_2_6 20 rfl rfl)
theorem dJ18_put_2_163 : decode cJ18_put_2 163 = .ok (.getfield 114, 3) := dk_180 0 114 (dk_at dksJ18_put_2_7 0 rfl rfl)
theorem dJ18_put_2_166 : decode cJ18_put_2 166 = .ok (.astore 4, 2) := dk_58 4 (dk_at dksJ18_put_2_7 3 rfl rfl)
theorem dJ18_put_2_168 : decode cJ18_put_2 168 = .ok (.goto 28, 3) := dk_167 0 28 (dk_at dksJ18_put_2_7 5 rfl rfl)
theorem dJ18_put_2_171 : decode cJ18_put_2 171 = .ok (.aload 4, 2) := dk_25 4 (dk_at dksJ18_put_2_7 8 rfl rfl)
theorem dJ18_put_2_173 : decode cJ18_put_2 173 = .ok (.getfield 58, 3) := dk_180 0 58 (dk_at dksJ18_put_2_7 10 rfl rfl)
theorem dJ18_put_2_176 : decode cJ18_put_2 176 = .ok (.astore 9, 2) := dk_58 9 (dk_at dksJ18_put_2_7 13 rfl rfl)
theorem dJ18_put_2_178 : decode cJ18_put_2 178 = .ok (.iload_n 3, 1) := dk_29 (dk_at dksJ18_put_2_7 15 rfl rfl)
theorem dJ18_put_2_179 : decode cJ18_put_2 179 = .ok (.ifCond .ne 8, 3) := dk_154 0 8 (dk_at dksJ18_put_2_7 16 rfl rfl)
theorem dJ18_put_2_182 : decode cJ18_put_2 182 = .ok (.aload 9, 2) := dk_25 9 (dk_at dksJ18_put_2_7 19 rfl rfl)
theorem dJ18_put_2_184 : decode cJ18_put_2 184 = .ok (.ifnonnull 9, 3) := dk_199 0 9 (dk_at dksJ18_put_2_7 21 rfl rfl)
theorem dJ18_put_2_187 : decode cJ18_put_2 187 = .ok (.aload 4, 2) := dk_25 4 (dk_at dksJ18_put_2_8 0 rfl rfl)
theorem dJ18_put_2_189 : decode cJ18_put_2 189 = .ok (.aload_n 2, 1) := dk_44 (dk_at dksJ18_put_2_8 2 rfl rfl)
theorem dJ18_put_2_190 : decode cJ18_put_2 190 = .ok (.putfield 58, 3) := dk_181 0 58 (dk_at dksJ18_put_2_8 3 rfl rfl)
theorem dJ18_put_2_193 : decode cJ18_put_2 193 = .ok (.aload 9, 2) := dk_25 9 (dk_at dksJ18_put_2_8 6 rfl rfl)
theorem dJ18_put_2_195 : decode cJ18_put_2 195 = .ok (.areturn, 1) := dk_176 (dk_at dksJ18_put_2_8 8 rfl rfl)
theorem dJ18_put_2_196 : decode cJ18_put_2 196 = .ok (.aload 4, 2) := dk_25 4 (dk_at dksJ18_put_2_8 9 rfl rfl)
theorem dJ18_put_2_198 : decode cJ18_put_2 198 = .ok (.ifnonnull (-75), 3) := dk_199 255 181 (dk_at dksJ18_put_2_8 11 rfl rfl)
theorem dJ18_put_2_201 : decode cJ18_put_2 201 = .ok (.aload_n 0, 1) := dk_42 (dk_at dksJ18_put_2_8 14 rfl rfl)
theorem dJ18_put_2_202 : decode cJ18_put_2 202 = .ok (.aload_n 1, 1) := dk_43 (dk_at dksJ18_put_2_8 15 rfl rfl)
theorem dJ18_put_2_203 : decode cJ18_put_2 203 = .ok (.aload_n 2, 1) := dk_44 (dk_at dksJ18_put_2_8 16 rfl rfl)
theorem dJ18_put_2_204 : decode cJ18_put_2 204 = .ok (.aload 6, 2) := dk_25 6 (dk_at dksJ18_put_2_8 17 rfl rfl)
theorem dJ18_put_2_206 : decode cJ18_put_2 206 = .ok (.iload 5, 2) := dk_21 5 (dk_at dksJ18_put_2_8 19 rfl rfl)
theorem dJ18_put_2_208 : decode cJ18_put_2 208 = .ok (.ifCond .ge 7, 3) := dk_156 0 7 (dk_at dksJ18_put_2_8 21 rfl rfl)
theorem dJ18_put_2_211 : decode cJ18_put_2 211 = .ok (.iconst 1, 1) := dk_4 (dk_at dksJ18_put_2_9 0 rfl rfl)
theorem dJ18_put_2_212 : decode cJ18_put_2 212 = .ok (.goto 4, 3) := dk_167 0 4 (dk_at dksJ18_put_2_9 1 rfl rfl)
theorem dJ18_put_2_215 : decode cJ18_put_2 215 = .ok (.iconst 0, 1) := dk_3 (dk_at dksJ18_put_2_9 4 rfl rfl)
theorem dJ18_put_2_216 : decode cJ18_put_2 216 = .ok (.invokevirtual 139, 3) := dk_182 0 139 (dk_at dksJ18_put_2_9 5 rfl rfl)
theorem dJ18_put_2_219 : decode cJ18_put_2 219 = .ok (.aconst_null, 1) := dk_1 (dk_at dksJ18_put_2_9 8 rfl rfl)
theorem dJ18_put_2_220 : decode cJ18_put_2 220 = .ok (.areturn, 1) := dk_176 (dk_at dksJ18_put_2_9 9 rfl rfl)
abbrev cJ18_addEntryToEmptyMap : ByteArray := prog_77_method_30_code
def yJ18_addEntryToEmptyMap : MethodName := ⟨RJ18, "addEntryToEmptyMap", "(Ljava/lang/Object;Ljava/lang/Object;)V"⟩
def dkwJ18_addEntryToEmptyMap_1 : List UInt8 := [181, 0, 7, 42, 89, 180, 0, 13, 4, 96, 181, 0, 13, 177]
abbrev dktJ18_addEntryToEmptyMap_1 : List UInt8 := dkwJ18_addEntryToEmptyMap_1 ++ []
def dkwJ18_addEntryToEmptyMap_0 : List UInt8 := [42, 43, 43, 182, 0, 123, 87, 42, 187, 0, 59, 89, 43, 44, 1, 183, 0, 167, 181, 0, 101, 42, 4]
abbrev dktJ18_addEntryToEmptyMap_0 : List UInt8 := dkwJ18_addEntryToEmptyMap_0 ++ dktJ18_addEntryToEmptyMap_1
theorem dksJ18_addEntryToEmptyMap_0 : cJ18_addEntryToEmptyMap.data.toList.drop 0 = dktJ18_addEntryToEmptyMap_0 := by decide +kernel
theorem dksJ18_addEntryToEmptyMap_1 : cJ18_addEntryToEmptyMap.data.toList.drop 23 = dktJ18_addEntryToEmptyMap_1 := dk_seg dksJ18_addEntryToEmptyMap_0 23 rfl rfl
theorem dJ18_addEntryToEmptyMap_0 : decode cJ18_addEntryToEmptyMap 0 = .ok (.aload_n 0, 1) := dk_42 (dk_at dksJ18_addEntryToEmptyMap_0 0 rfl rfl)
theorem dJ18_addEntryToEmptyMap_1 : decode cJ18_addEntryToEmptyMap 1 = .ok (.aload_n 1, 1) := dk_43 (dk_at dksJ18_addEntryToEmptyMap_0 1 rfl rfl)
theorem dJ18_addEntryToEmptyMap_2 : decode cJ18_addEntryToEmptyMap 2 = .ok (.aload_n 1, 1) := dk_43 (dk_at dksJ18_addEntryToEmptyMap_0 2 rfl rfl)
theorem dJ18_addEntryToEmptyMap_3 : decode cJ18_addEntryToEmptyMap 3 = .ok (.invokevirtual 123, 3) := dk_182 0 123 (dk_at dksJ18_addEntryToEmptyMap_0 3 rfl rfl)
theorem dJ18_addEntryToEmptyMap_6 : decode cJ18_addEntryToEmptyMap 6 = .ok (.pop, 1) := dk_87 (dk_at dksJ18_addEntryToEmptyMap_0 6 rfl rfl)
theorem dJ18_addEntryToEmptyMap_7 : decode cJ18_addEntryToEmptyMap 7 = .ok (.aload_n 0, 1) := dk_42 (dk_at dksJ18_addEntryToEmptyMap_0 7 rfl rfl)
theorem dJ18_addEntryToEmptyMap_8 : decode cJ18_addEntryToEmptyMap 8 = .ok (.new 59, 3) := dk_187 0 59 (dk_at dksJ18_addEntryToEmptyMap_0 8 rfl rfl)
theorem dJ18_addEntryToEmptyMap_11 : decode cJ18_addEntryToEmptyMap 11 = .ok (.dup, 1) := dk_89 (dk_at dksJ18_addEntryToEmptyMap_0 11 rfl rfl)
theorem dJ18_addEntryToEmptyMap_12 : decode cJ18_addEntryToEmptyMap 12 = .ok (.aload_n 1, 1) := dk_43 (dk_at dksJ18_addEntryToEmptyMap_0 12 rfl rfl)
theorem dJ18_addEntryToEmptyMap_13 : decode cJ18_addEntryToEmptyMap 13 = .ok (.aload_n 2, 1) := dk_44 (dk_at dksJ18_addEntryToEmptyMap_0 13 rfl rfl)
theorem dJ18_addEntryToEmptyMap_14 : decode cJ18_addEntryToEmptyMap 14 = .ok (.aconst_null, 1) := dk_1 (dk_at dksJ18_addEntryToEmptyMap_0 14 rfl rfl)
theorem dJ18_addEntryToEmptyMap_15 : decode cJ18_addEntryToEmptyMap 15 = .ok (.invokespecial 167, 3) := dk_183 0 167 (dk_at dksJ18_addEntryToEmptyMap_0 15 rfl rfl)
theorem dJ18_addEntryToEmptyMap_18 : decode cJ18_addEntryToEmptyMap 18 = .ok (.putfield 101, 3) := dk_181 0 101 (dk_at dksJ18_addEntryToEmptyMap_0 18 rfl rfl)
theorem dJ18_addEntryToEmptyMap_21 : decode cJ18_addEntryToEmptyMap 21 = .ok (.aload_n 0, 1) := dk_42 (dk_at dksJ18_addEntryToEmptyMap_0 21 rfl rfl)
theorem dJ18_addEntryToEmptyMap_22 : decode cJ18_addEntryToEmptyMap 22 = .ok (.iconst 1, 1) := dk_4 (dk_at dksJ18_addEntryToEmptyMap_0 22 rfl rfl)
theorem dJ18_addEntryToEmptyMap_23 : decode cJ18_addEntryToEmptyMap 23 = .ok (.putfield 7, 3) := dk_181 0 7 (dk_at dksJ18_addEntryToEmptyMap_1 0 rfl rfl)
theorem dJ18_addEntryToEmptyMap_26 : decode cJ18_addEntryToEmptyMap 26 = .ok (.aload_n 0, 1) := dk_42 (dk_at dksJ18_addEntryToEmptyMap_1 3 rfl rfl)
theorem dJ18_addEntryToEmptyMap_27 : decode cJ18_addEntryToEmptyMap 27 = .ok (.dup, 1) := dk_89 (dk_at dksJ18_addEntryToEmptyMap_1 4 rfl rfl)
theorem dJ18_addEntryToEmptyMap_28 : decode cJ18_addEntryToEmptyMap 28 = .ok (.getfield 13, 3) := dk_180 0 13 (dk_at dksJ18_addEntryToEmptyMap_1 5 rfl rfl)
theorem dJ18_addEntryToEmptyMap_31 : decode cJ18_addEntryToEmptyMap 31 = .ok (.iconst 1, 1) := dk_4 (dk_at dksJ18_addEntryToEmptyMap_1 8 rfl rfl)
theorem dJ18_addEntryToEmptyMap_32 : decode cJ18_addEntryToEmptyMap 32 = .ok (.iadd, 1) := dk_96 (dk_at dksJ18_addEntryToEmptyMap_1 9 rfl rfl)
theorem dJ18_addEntryToEmptyMap_33 : decode cJ18_addEntryToEmptyMap 33 = .ok (.putfield 13, 3) := dk_181 0 13 (dk_at dksJ18_addEntryToEmptyMap_1 10 rfl rfl)
theorem dJ18_addEntryToEmptyMap_36 : decode cJ18_addEntryToEmptyMap 36 = .ok (.return_, 1) := dk_177 (dk_at dksJ18_addEntryToEmptyMap_1 13 rfl rfl)
abbrev cJ18_compare : ByteArray := prog_77_method_67_code
def yJ18_compare : MethodName := ⟨RJ18, "compare", "(Ljava/lang/Object;Ljava/lang/Object;)I"⟩
def dkwJ18_compare_1 : List UInt8 := [43, 44, 185, 0, 117, 3, 0, 172]
abbrev dktJ18_compare_1 : List UInt8 := dkwJ18_compare_1 ++ []
def dkwJ18_compare_0 : List UInt8 := [42, 180, 0, 16, 199, 0, 16, 43, 192, 0, 99, 44, 185, 0, 107, 2, 0, 167, 0, 14, 42, 180, 0, 16]
abbrev dktJ18_compare_0 : List UInt8 := dkwJ18_compare_0 ++ dktJ18_compare_1
theorem dksJ18_compare_0 : cJ18_compare.data.toList.drop 0 = dktJ18_compare_0 := by decide +kernel
theorem dksJ18_compare_1 : cJ18_compare.data.toList.drop 24 = dktJ18_compare_1 := dk_seg dksJ18_compare_0 24 rfl rfl
theorem dJ18_compare_0 : decode cJ18_compare 0 = .ok (.aload_n 0, 1) := dk_42 (dk_at dksJ18_compare_0 0 rfl rfl)
theorem dJ18_compare_1 : decode cJ18_compare 1 = .ok (.getfield 16, 3) := dk_180 0 16 (dk_at dksJ18_compare_0 1 rfl rfl)
theorem dJ18_compare_4 : decode cJ18_compare 4 = .ok (.ifnonnull 16, 3) := dk_199 0 16 (dk_at dksJ18_compare_0 4 rfl rfl)
theorem dJ18_compare_7 : decode cJ18_compare 7 = .ok (.aload_n 1, 1) := dk_43 (dk_at dksJ18_compare_0 7 rfl rfl)
theorem dJ18_compare_8 : decode cJ18_compare 8 = .ok (.checkcast 99, 3) := dk_192 0 99 (dk_at dksJ18_compare_0 8 rfl rfl)
theorem dJ18_compare_11 : decode cJ18_compare 11 = .ok (.aload_n 2, 1) := dk_44 (dk_at dksJ18_compare_0 11 rfl rfl)
theorem dJ18_compare_12 : decode cJ18_compare 12 = .ok (.invokeinterface 107 2, 5) := by decide +kernel
theorem dJ18_compare_17 : decode cJ18_compare 17 = .ok (.goto 14, 3) := dk_167 0 14 (dk_at dksJ18_compare_0 17 rfl rfl)
theorem dJ18_compare_20 : decode cJ18_compare 20 = .ok (.aload_n 0, 1) := dk_42 (dk_at dksJ18_compare_0 20 rfl rfl)
theorem dJ18_compare_21 : decode cJ18_compare 21 = .ok (.getfield 16, 3) := dk_180 0 16 (dk_at dksJ18_compare_0 21 rfl rfl)
theorem dJ18_compare_24 : decode cJ18_compare 24 = .ok (.aload_n 1, 1) := dk_43 (dk_at dksJ18_compare_1 0 rfl rfl)
theorem dJ18_compare_25 : decode cJ18_compare 25 = .ok (.aload_n 2, 1) := dk_44 (dk_at dksJ18_compare_1 1 rfl rfl)
theorem dJ18_compare_26 : decode cJ18_compare 26 = .ok (.invokeinterface 117 3, 5) := by decide +kernel
theorem dJ18_compare_31 : decode cJ18_compare 31 = .ok (.ireturn, 1) := dk_172 (dk_at dksJ18_compare_1 7 rfl rfl)
abbrev cJ18_addEntry : ByteArray := prog_77_method_29_code
def yJ18_addEntry : MethodName := ⟨RJ18, "addEntry", "(Ljava/lang/Object;Ljava/lang/Object;Ljava/util/TreeMap$Entry;Z)V"⟩
def dkwJ18_addEntry_2 : List UInt8 := [181, 0, 7, 42, 89, 180, 0, 13, 4, 96, 181, 0, 13, 177]
abbrev dktJ18_addEntry_2 : List UInt8 := dkwJ18_addEntry_2 ++ []
def dkwJ18_addEntry_1 : List UInt8 := [167, 0, 9, 45, 25, 5, 181, 0, 114, 42, 25, 5, 182, 0, 170, 42, 89, 180, 0, 7, 4, 96]
abbrev dktJ18_addEntry_1 : List UInt8 := dkwJ18_addEntry_1 ++ dktJ18_addEntry_2
def dkwJ18_addEntry_0 : List UInt8 := [187, 0, 59, 89, 43, 44, 45, 183, 0, 167, 58, 5, 21, 4, 153, 0, 12, 45, 25, 5, 181, 0, 111]
abbrev dktJ18_addEntry_0 : List UInt8 := dkwJ18_addEntry_0 ++ dktJ18_addEntry_1
theorem dksJ18_addEntry_0 : cJ18_addEntry.data.toList.drop 0 = dktJ18_addEntry_0 := by decide +kernel
theorem dksJ18_addEntry_1 : cJ18_addEntry.data.toList.drop 23 = dktJ18_addEntry_1 := dk_seg dksJ18_addEntry_0 23 rfl rfl
theorem dksJ18_addEntry_2 : cJ18_addEntry.data.toList.drop 45 = dktJ18_addEntry_2 := dk_seg dksJ18_addEntry_1 22 rfl rfl
theorem dJ18_addEntry_0 : decode cJ18_addEntry 0 = .ok (.new 59, 3) := dk_187 0 59 (dk_at dksJ18_addEntry_0 0 rfl rfl)
theorem dJ18_addEntry_3 : decode cJ18_addEntry 3 = .ok (.dup, 1) := dk_89 (dk_at dksJ18_addEntry_0 3 rfl rfl)
theorem dJ18_addEntry_4 : decode cJ18_addEntry 4 = .ok (.aload_n 1, 1) := dk_43 (dk_at dksJ18_addEntry_0 4 rfl rfl)
theorem dJ18_addEntry_5 : decode cJ18_addEntry 5 = .ok (.aload_n 2, 1) := dk_44 (dk_at dksJ18_addEntry_0 5 rfl rfl)
theorem dJ18_addEntry_6 : decode cJ18_addEntry 6 = .ok (.aload_n 3, 1) := dk_45 (dk_at dksJ18_addEntry_0 6 rfl rfl)
theorem dJ18_addEntry_7 : decode cJ18_addEntry 7 = .ok (.invokespecial 167, 3) := dk_183 0 167 (dk_at dksJ18_addEntry_0 7 rfl rfl)
theorem dJ18_addEntry_10 : decode cJ18_addEntry 10 = .ok (.astore 5, 2) := dk_58 5 (dk_at dksJ18_addEntry_0 10 rfl rfl)
theorem dJ18_addEntry_12 : decode cJ18_addEntry 12 = .ok (.iload 4, 2) := dk_21 4 (dk_at dksJ18_addEntry_0 12 rfl rfl)
theorem dJ18_addEntry_14 : decode cJ18_addEntry 14 = .ok (.ifCond .eq 12, 3) := dk_153 0 12 (dk_at dksJ18_addEntry_0 14 rfl rfl)
theorem dJ18_addEntry_17 : decode cJ18_addEntry 17 = .ok (.aload_n 3, 1) := dk_45 (dk_at dksJ18_addEntry_0 17 rfl rfl)
theorem dJ18_addEntry_18 : decode cJ18_addEntry 18 = .ok (.aload 5, 2) := dk_25 5 (dk_at dksJ18_addEntry_0 18 rfl rfl)
theorem dJ18_addEntry_20 : decode cJ18_addEntry 20 = .ok (.putfield 111, 3) := dk_181 0 111 (dk_at dksJ18_addEntry_0 20 rfl rfl)
theorem dJ18_addEntry_23 : decode cJ18_addEntry 23 = .ok (.goto 9, 3) := dk_167 0 9 (dk_at dksJ18_addEntry_1 0 rfl rfl)
theorem dJ18_addEntry_26 : decode cJ18_addEntry 26 = .ok (.aload_n 3, 1) := dk_45 (dk_at dksJ18_addEntry_1 3 rfl rfl)
theorem dJ18_addEntry_27 : decode cJ18_addEntry 27 = .ok (.aload 5, 2) := dk_25 5 (dk_at dksJ18_addEntry_1 4 rfl rfl)
theorem dJ18_addEntry_29 : decode cJ18_addEntry 29 = .ok (.putfield 114, 3) := dk_181 0 114 (dk_at dksJ18_addEntry_1 6 rfl rfl)
theorem dJ18_addEntry_32 : decode cJ18_addEntry 32 = .ok (.aload_n 0, 1) := dk_42 (dk_at dksJ18_addEntry_1 9 rfl rfl)
theorem dJ18_addEntry_33 : decode cJ18_addEntry 33 = .ok (.aload 5, 2) := dk_25 5 (dk_at dksJ18_addEntry_1 10 rfl rfl)
theorem dJ18_addEntry_35 : decode cJ18_addEntry 35 = .ok (.invokevirtual 170, 3) := dk_182 0 170 (dk_at dksJ18_addEntry_1 12 rfl rfl)
theorem dJ18_addEntry_38 : decode cJ18_addEntry 38 = .ok (.aload_n 0, 1) := dk_42 (dk_at dksJ18_addEntry_1 15 rfl rfl)
theorem dJ18_addEntry_39 : decode cJ18_addEntry 39 = .ok (.dup, 1) := dk_89 (dk_at dksJ18_addEntry_1 16 rfl rfl)
theorem dJ18_addEntry_40 : decode cJ18_addEntry 40 = .ok (.getfield 7, 3) := dk_180 0 7 (dk_at dksJ18_addEntry_1 17 rfl rfl)
theorem dJ18_addEntry_43 : decode cJ18_addEntry 43 = .ok (.iconst 1, 1) := dk_4 (dk_at dksJ18_addEntry_1 20 rfl rfl)
theorem dJ18_addEntry_44 : decode cJ18_addEntry 44 = .ok (.iadd, 1) := dk_96 (dk_at dksJ18_addEntry_1 21 rfl rfl)
theorem dJ18_addEntry_45 : decode cJ18_addEntry 45 = .ok (.putfield 7, 3) := dk_181 0 7 (dk_at dksJ18_addEntry_2 0 rfl rfl)
theorem dJ18_addEntry_48 : decode cJ18_addEntry 48 = .ok (.aload_n 0, 1) := dk_42 (dk_at dksJ18_addEntry_2 3 rfl rfl)
theorem dJ18_addEntry_49 : decode cJ18_addEntry 49 = .ok (.dup, 1) := dk_89 (dk_at dksJ18_addEntry_2 4 rfl rfl)
theorem dJ18_addEntry_50 : decode cJ18_addEntry 50 = .ok (.getfield 13, 3) := dk_180 0 13 (dk_at dksJ18_addEntry_2 5 rfl rfl)
theorem dJ18_addEntry_53 : decode cJ18_addEntry 53 = .ok (.iconst 1, 1) := dk_4 (dk_at dksJ18_addEntry_2 8 rfl rfl)
theorem dJ18_addEntry_54 : decode cJ18_addEntry 54 = .ok (.iadd, 1) := dk_96 (dk_at dksJ18_addEntry_2 9 rfl rfl)
theorem dJ18_addEntry_55 : decode cJ18_addEntry 55 = .ok (.putfield 13, 3) := dk_181 0 13 (dk_at dksJ18_addEntry_2 10 rfl rfl)
theorem dJ18_addEntry_58 : decode cJ18_addEntry 58 = .ok (.return_, 1) := dk_177 (dk_at dksJ18_addEntry_2 13 rfl rfl)
abbrev cJ18_fixAfterInsertion : ByteArray := prog_77_method_83_code
def yJ18_fixAfterInsertion : MethodName := ⟨RJ18, "fixAfterInsertion", "(Ljava/util/TreeMap$Entry;)V"⟩
def dkwJ18_fixAfterInsertion_11 : List UInt8 := [42, 180, 0, 101, 4, 181, 1, 34, 177]
abbrev dktJ18_fixAfterInsertion_11 : List UInt8 := dkwJ18_fixAfterInsertion_11 ++ []
def dkwJ18_fixAfterInsertion_10 : List UInt8 := [184, 1, 38, 184, 1, 38, 3, 184, 1, 51, 42, 43, 184, 1, 38, 184, 1, 38, 182, 1, 55, 167, 255, 6]
abbrev dktJ18_fixAfterInsertion_10 : List UInt8 := dkwJ18_fixAfterInsertion_10 ++ dktJ18_fixAfterInsertion_11
def dkwJ18_fixAfterInsertion_9 : List UInt8 := [166, 0, 13, 43, 184, 1, 38, 76, 42, 43, 182, 1, 58, 43, 184, 1, 38, 4, 184, 1, 51, 43]
abbrev dktJ18_fixAfterInsertion_9 : List UInt8 := dkwJ18_fixAfterInsertion_9 ++ dktJ18_fixAfterInsertion_10
def dkwJ18_fixAfterInsertion_8 : List UInt8 := [184, 1, 51, 43, 184, 1, 38, 184, 1, 38, 76, 167, 0, 54, 43, 43, 184, 1, 38, 184, 1, 41]
abbrev dktJ18_fixAfterInsertion_8 : List UInt8 := dkwJ18_fixAfterInsertion_8 ++ dktJ18_fixAfterInsertion_9
def dkwJ18_fixAfterInsertion_7 : List UInt8 := [154, 0, 38, 43, 184, 1, 38, 4, 184, 1, 51, 44, 4, 184, 1, 51, 43, 184, 1, 38, 184, 1, 38, 3]
abbrev dktJ18_fixAfterInsertion_7 : List UInt8 := dkwJ18_fixAfterInsertion_7 ++ dktJ18_fixAfterInsertion_8
def dkwJ18_fixAfterInsertion_6 : List UInt8 := [184, 1, 38, 182, 1, 58, 167, 255, 113, 43, 184, 1, 38, 184, 1, 38, 184, 1, 41, 77, 44, 184, 1, 47]
abbrev dktJ18_fixAfterInsertion_6 : List UInt8 := dkwJ18_fixAfterInsertion_6 ++ dktJ18_fixAfterInsertion_7
def dkwJ18_fixAfterInsertion_5 : List UInt8 := [43, 184, 1, 38, 4, 184, 1, 51, 43, 184, 1, 38, 184, 1, 38, 3, 184, 1, 51, 42, 43, 184, 1, 38]
abbrev dktJ18_fixAfterInsertion_5 : List UInt8 := dkwJ18_fixAfterInsertion_5 ++ dktJ18_fixAfterInsertion_6
def dkwJ18_fixAfterInsertion_4 : List UInt8 := [167, 0, 54, 43, 43, 184, 1, 38, 184, 1, 44, 166, 0, 13, 43, 184, 1, 38, 76, 42, 43, 182, 1, 55]
abbrev dktJ18_fixAfterInsertion_4 : List UInt8 := dkwJ18_fixAfterInsertion_4 ++ dktJ18_fixAfterInsertion_5
def dkwJ18_fixAfterInsertion_3 : List UInt8 := [184, 1, 51, 43, 184, 1, 38, 184, 1, 38, 3, 184, 1, 51, 43, 184, 1, 38, 184, 1, 38, 76]
abbrev dktJ18_fixAfterInsertion_3 : List UInt8 := dkwJ18_fixAfterInsertion_3 ++ dktJ18_fixAfterInsertion_4
def dkwJ18_fixAfterInsertion_2 : List UInt8 := [184, 1, 38, 184, 1, 44, 77, 44, 184, 1, 47, 154, 0, 38, 43, 184, 1, 38, 4, 184, 1, 51, 44, 4]
abbrev dktJ18_fixAfterInsertion_2 : List UInt8 := dkwJ18_fixAfterInsertion_2 ++ dktJ18_fixAfterInsertion_3
def dkwJ18_fixAfterInsertion_1 : List UInt8 := [154, 0, 234, 43, 184, 1, 38, 43, 184, 1, 38, 184, 1, 38, 184, 1, 41, 166, 0, 110, 43, 184, 1, 38]
abbrev dktJ18_fixAfterInsertion_1 : List UInt8 := dkwJ18_fixAfterInsertion_1 ++ dktJ18_fixAfterInsertion_2
def dkwJ18_fixAfterInsertion_0 : List UInt8 := [43, 3, 181, 1, 34, 43, 198, 0, 252, 43, 42, 180, 0, 101, 165, 0, 244, 43, 180, 0, 124, 180, 1, 34]
abbrev dktJ18_fixAfterInsertion_0 : List UInt8 := dkwJ18_fixAfterInsertion_0 ++ dktJ18_fixAfterInsertion_1
theorem dksJ18_fixAfterInsertion_0 : cJ18_fixAfterInsertion.data.toList.drop 0 = dktJ18_fixAfterInsertion_0 := by decide +kernel
theorem dksJ18_fixAfterInsertion_1 : cJ18_fixAfterInsertion.data.toList.drop 24 = dktJ18_fixAfterInsertion_1 := dk_seg dksJ18_fixAfterInsertion_0 24 rfl rfl
theorem dksJ18_fixAfterInsertion_2 : cJ18_fixAfterInsertion.data.toList.drop 48 = dktJ18_fixAfterInsertion_2 := dk_seg dksJ18_fixAfterInsertion_1 24 rfl rfl
theorem dksJ18_fixAfterInsertion_3 : cJ18_fixAfterInsertion.data.toList.drop 72 = dktJ18_fixAfterInsertion_3 := dk_seg dksJ18_fixAfterInsertion_2 24 rfl rfl
theorem dksJ18_fixAfterInsertion_4 : cJ18_fixAfterInsertion.data.toList.drop 94 = dktJ18_fixAfterInsertion_4 := dk_seg dksJ18_fixAfterInsertion_3 22 rfl rfl
theorem dksJ18_fixAfterInsertion_5 : cJ18_fixAfterInsertion.data.toList.drop 118 = dktJ18_fixAfterInsertion_5 := dk_seg dksJ18_fixAfterInsertion_4 24 rfl rfl
theorem dksJ18_fixAfterInsertion_6 : cJ18_fixAfterInsertion.data.toList.drop 142 = dktJ18_fixAfterInsertion_6 := dk_seg dksJ18_fixAfterInsertion_5 24 rfl rfl
theorem dksJ18_fixAfterInsertion_7 : cJ18_fixAfterInsertion.data.toList.drop 166 = dktJ18_fixAfterInsertion_7 := dk_seg dksJ18_fixAfterInsertion_6 24 rfl rfl
theorem dksJ18_fixAfterInsertion_8 : cJ18_fixAfterInsertion.data.toList.drop 190 = dktJ18_fixAfterInsertion_8 := dk_seg dksJ18_fixAfterInsertion_7 24 rfl rfl
theorem dksJ18_fixAfterInsertion_9 : cJ18_fixAfterInsertion.data.toList.drop 212 = dktJ18_fixAfterInsertion_9 := dk_seg dksJ18_fixAfterInsertion_8 22 rfl rfl
theorem dksJ18_fixAfterInsertion_10 : cJ18_fixAfterInsertion.data.toList.drop 234 = dktJ18_fixAfterInsertion_10 := dk_seg dksJ18_fixAfterInsertion_9 22 rfl rfl
theorem dksJ18_fixAfterInsertion_11 : cJ18_fixAfterInsertion.data.toList.drop 258 = dktJ18_fixAfterInsertion_11 := dk_seg dksJ18_fixAfterInsertion_10 24 rfl rfl
theorem dJ18_fixAfterInsertion_0 : decode cJ18_fixAfterInsertion 0 = .ok (.aload_n 1, 1) := dk_43 (dk_at dksJ18_fixAfterInsertion_0 0 rfl rfl)
theorem dJ18_fixAfterInsertion_1 : decode cJ18_fixAfterInsertion 1 = .ok (.iconst 0, 1) := dk_3 (dk_at dksJ18_fixAfterInsertion_0 1 rfl rfl)
theorem dJ18_fixAfterInsertion_2 : decode cJ18_fixAfterInsertion 2 = .ok (.putfield 290, 3) := dk_181 1 34 (dk_at dksJ18_fixAfterInsertion_0 2 rfl rfl)
theorem dJ18_fixAfterInsertion_5 : decode cJ18_fixAfterInsertion 5 = .ok (.aload_n 1, 1) := dk_43 (dk_at dksJ18_fixAfterInsertion_0 5 rfl rfl)
theorem dJ18_fixAfterInsertion_6 : decode cJ18_fixAfterInsertion 6 = .ok (.ifnull 252, 3) := dk_198 0 252 (dk_at dksJ18_fixAfterInsertion_0 6 rfl rfl)
theorem dJ18_fixAfterInsertion_9 : decode cJ18_fixAfterInsertion 9 = .ok (.aload_n 1, 1) := dk_43 (dk_at dksJ18_fixAfterInsertion_0 9 rfl rfl)
theorem dJ18_fixAfterInsertion_10 : decode cJ18_fixAfterInsertion 10 = .ok (.aload_n 0, 1) := dk_42 (dk_at dksJ18_fixAfterInsertion_0 10 rfl rfl)
theorem dJ18_fixAfterInsertion_11 : decode cJ18_fixAfterInsertion 11 = .ok (.getfield 101, 3) := dk_180 0 101 (dk_at dksJ18_fixAfterInsertion_0 11 rfl rfl)
theorem dJ18_fixAfterInsertion_14 : decode cJ18_fixAfterInsertion 14 = .ok (.if_acmp .eq 244, 3) := dk_165 0 244 (dk_at dksJ18_fixAfterInsertion_0 14 rfl rfl)
theorem dJ18_fixAfterInsertion_17 : decode cJ18_fixAfterInsertion 17 = .ok (.aload_n 1, 1) := dk_43 (dk_at dksJ18_fixAfterInsertion_0 17 rfl rfl)
theorem dJ18_fixAfterInsertion_18 : decode cJ18_fixAfterInsertion 18 = .ok (.getfield 124, 3) := dk_180 0 124 (dk_at dksJ18_fixAfterInsertion_0 18 rfl rfl)
theorem dJ18_fixAfterInsertion_21 : decode cJ18_fixAfterInsertion 21 = .ok (.getfield 290, 3) := dk_180 1 34 (dk_at dksJ18_fixAfterInsertion_0 21 rfl rfl)
theorem dJ18_fixAfterInsertion_24 : decode cJ18_fixAfterInsertion 24 = .ok (.ifCond .ne 234, 3) := dk_154 0 234 (dk_at dksJ18_fixAfterInsertion_1 0 rfl rfl)
theorem dJ18_fixAfterInsertion_27 : decode cJ18_fixAfterInsertion 27 = .ok (.aload_n 1, 1) := dk_43 (dk_at dksJ18_fixAfterInsertion_1 3 rfl rfl)
theorem dJ18_fixAfterInsertion_28 : decode cJ18_fixAfterInsertion 28 = .ok (.invokestatic 294, 3) := dk_184 1 38 (dk_at dksJ18_fixAfterInsertion_1 4 rfl rfl)
theorem dJ18_fixAfterInsertion_31 : decode cJ18_fixAfterInsertion 31 = .ok (.aload_n 1, 1) := dk_43 (dk_at dksJ18_fixAfterInsertion_1 7 rfl rfl)
theorem dJ18_fixAfterInsertion_32 : decode cJ18_fixAfterInsertion 32 = .ok (.invokestatic 294, 3) := dk_184 1 38 (dk_at dksJ18_fixAfterInsertion_1 8 rfl rfl)
theorem dJ18_fixAfterInsertion_35 : decode cJ18_fixAfterInsertion 35 = .ok (.invokestatic 294, 3) := dk_184 1 38 (dk_at dksJ18_fixAfterInsertion_1 11 rfl rfl)
theorem dJ18_fixAfterInsertion_38 : decode cJ18_fixAfterInsertion 38 = .ok (.invokestatic 297, 3) := dk_184 1 41 (dk_at dksJ18_fixAfterInsertion_1 14 rfl rfl)
theorem dJ18_fixAfterInsertion_41 : decode cJ18_fixAfterInsertion 41 = .ok (.if_acmp .ne 110, 3) := dk_166 0 110 (dk_at dksJ18_fixAfterInsertion_1 17 rfl rfl)
theorem dJ18_fixAfterInsertion_44 : decode cJ18_fixAfterInsertion 44 = .ok (.aload_n 1, 1) := dk_43 (dk_at dksJ18_fixAfterInsertion_1 20 rfl rfl)
theorem dJ18_fixAfterInsertion_45 : decode cJ18_fixAfterInsertion 45 = .ok (.invokestatic 294, 3) := dk_184 1 38 (dk_at dksJ18_fixAfterInsertion_1 21 rfl rfl)
theorem dJ18_fixAfterInsertion_48 : decode cJ18_fixAfterInsertion 48 = .ok (.invokestatic 294, 3) := dk_184 1 38 (dk_at dksJ18_fixAfterInsertion_2 0 rfl rfl)
theorem dJ18_fixAfterInsertion_51 : decode cJ18_fixAfterInsertion 51 = .ok (.invokestatic 300, 3) := dk_184 1 44 (dk_at dksJ18_fixAfterInsertion_2 3 rfl rfl)
theorem dJ18_fixAfterInsertion_54 : decode cJ18_fixAfterInsertion 54 = .ok (.astore_n 2, 1) := dk_77 (dk_at dksJ18_fixAfterInsertion_2 6 rfl rfl)
theorem dJ18_fixAfterInsertion_55 : decode cJ18_fixAfterInsertion 55 = .ok (.aload_n 2, 1) := dk_44 (dk_at dksJ18_fixAfterInsertion_2 7 rfl rfl)
theorem dJ18_fixAfterInsertion_56 : decode cJ18_fixAfterInsertion 56 = .ok (.invokestatic 303, 3) := dk_184 1 47 (dk_at dksJ18_fixAfterInsertion_2 8 rfl rfl)
theorem dJ18_fixAfterInsertion_59 : decode cJ18_fixAfterInsertion 59 = .ok (.ifCond .ne 38, 3) := dk_154 0 38 (dk_at dksJ18_fixAfterInsertion_2 11 rfl rfl)
theorem dJ18_fixAfterInsertion_62 : decode cJ18_fixAfterInsertion 62 = .ok (.aload_n 1, 1) := dk_43 (dk_at dksJ18_fixAfterInsertion_2 14 rfl rfl)
theorem dJ18_fixAfterInsertion_63 : decode cJ18_fixAfterInsertion 63 = .ok (.invokestatic 294, 3) := dk_184 1 38 (dk_at dksJ18_fixAfterInsertion_2 15 rfl rfl)
theorem dJ18_fixAfterInsertion_66 : decode cJ18_fixAfterInsertion 66 = .ok (.iconst 1, 1) := dk_4 (dk_at dksJ18_fixAfterInsertion_2 18 rfl rfl)
theorem dJ18_fixAfterInsertion_67 : decode cJ18_fixAfterInsertion 67 = .ok (.invokestatic 307, 3) := dk_184 1 51 (dk_at dksJ18_fixAfterInsertion_2 19 rfl rfl)
theorem dJ18_fixAfterInsertion_70 : decode cJ18_fixAfterInsertion 70 = .ok (.aload_n 2, 1) := dk_44 (dk_at dksJ18_fixAfterInsertion_2 22 rfl rfl)
theorem dJ18_fixAfterInsertion_71 : decode cJ18_fixAfterInsertion 71 = .ok (.iconst 1, 1) := dk_4 (dk_at dksJ18_fixAfterInsertion_2 23 rfl rfl)
theorem dJ18_fixAfterInsertion_72 : decode cJ18_fixAfterInsertion 72 = .ok (.invokestatic 307, 3) := dk_184 1 51 (dk_at dksJ18_fixAfterInsertion_3 0 rfl rfl)
theorem dJ18_fixAfterInsertion_75 : decode cJ18_fixAfterInsertion 75 = .ok (.aload_n 1, 1) := dk_43 (dk_at dksJ18_fixAfterInsertion_3 3 rfl rfl)
theorem dJ18_fixAfterInsertion_76 : decode cJ18_fixAfterInsertion 76 = .ok (.invokestatic 294, 3) := dk_184 1 38 (dk_at dksJ18_fixAfterInsertion_3 4 rfl rfl)
theorem dJ18_fixAfterInsertion_79 : decode cJ18_fixAfterInsertion 79 = .ok (.invokestatic 294, 3) := dk_184 1 38 (dk_at dksJ18_fixAfterInsertion_3 7 rfl rfl)
theorem dJ18_fixAfterInsertion_82 : decode cJ18_fixAfterInsertion 82 = .ok (.iconst 0, 1) := dk_3 (dk_at dksJ18_fixAfterInsertion_3 10 rfl rfl)
theorem dJ18_fixAfterInsertion_83 : decode cJ18_fixAfterInsertion 83 = .ok (.invokestatic 307, 3) := dk_184 1 51 (dk_at dksJ18_fixAfterInsertion_3 11 rfl rfl)
theorem dJ18_fixAfterInsertion_86 : decode cJ18_fixAfterInsertion 86 = .ok (.aload_n 1, 1) := dk_43 (dk_at dksJ18_fixAfterInsertion_3 14 rfl rfl)
theorem dJ18_fixAfterInsertion_87 : decode cJ18_fixAfterInsertion 87 = .ok (.invokestatic 294, 3) := dk_184 1 38 (dk_at dksJ18_fixAfterInsertion_3 15 rfl rfl)
theorem dJ18_fixAfterInsertion_90 : decode cJ18_fixAfterInsertion 90 = .ok (.invokestatic 294, 3) := dk_184 1 38 (dk_at dksJ18_fixAfterInsertion_3 18 rfl rfl)
theorem dJ18_fixAfterInsertion_93 : decode cJ18_fixAfterInsertion 93 = .ok (.astore_n 1, 1) := dk_76 (dk_at dksJ18_fixAfterInsertion_3 21 rfl rfl)
theorem dJ18_fixAfterInsertion_94 : decode cJ18_fixAfterInsertion 94 = .ok (.goto 54, 3) := dk_167 0 54 (dk_at dksJ18_fixAfterInsertion_4 0 rfl rfl)
theorem dJ18_fixAfterInsertion_97 : decode cJ18_fixAfterInsertion 97 = .ok (.aload_n 1, 1) := dk_43 (dk_at dksJ18_fixAfterInsertion_4 3 rfl rfl)
theorem dJ18_fixAfterInsertion_98 : decode cJ18_fixAfterInsertion 98 = .ok (.aload_n 1, 1) := dk_43 (dk_at dksJ18_fixAfterInsertion_4 4 rfl rfl)
theorem dJ18_fixAfterInsertion_99 : decode cJ18_fixAfterInsertion 99 = .ok (.invokestatic 294, 3) := dk_184 1 38 (dk_at dksJ18_fixAfterInsertion_4 5 rfl rfl)
theorem dJ18_fixAfterInsertion_102 : decode cJ18_fixAfterInsertion 102 = .ok (.invokestatic 300, 3) := dk_184 1 44 (dk_at dksJ18_fixAfterInsertion_4 8 rfl rfl)
theorem dJ18_fixAfterInsertion_105 : decode cJ18_fixAfterInsertion 105 = .ok (.if_acmp .ne 13, 3) := dk_166 0 13 (dk_at dksJ18_fixAfterInsertion_4 11 rfl rfl)
theorem dJ18_fixAfterInsertion_108 : decode cJ18_fixAfterInsertion 108 = .ok (.aload_n 1, 1) := dk_43 (dk_at dksJ18_fixAfterInsertion_4 14 rfl rfl)
theorem dJ18_fixAfterInsertion_109 : decode cJ18_fixAfterInsertion 109 = .ok (.invokestatic 294, 3) := dk_184 1 38 (dk_at dksJ18_fixAfterInsertion_4 15 rfl rfl)
theorem dJ18_fixAfterInsertion_112 : decode cJ18_fixAfterInsertion 112 = .ok (.astore_n 1, 1) := dk_76 (dk_at dksJ18_fixAfterInsertion_4 18 rfl rfl)
theorem dJ18_fixAfterInsertion_113 : decode cJ18_fixAfterInsertion 113 = .ok (.aload_n 0, 1) := dk_42 (dk_at dksJ18_fixAfterInsertion_4 19 rfl rfl)
theorem dJ18_fixAfterInsertion_114 : decode cJ18_fixAfterInsertion 114 = .ok (.aload_n 1, 1) := dk_43 (dk_at dksJ18_fixAfterInsertion_4 20 rfl rfl)
theorem dJ18_fixAfterInsertion_115 : decode cJ18_fixAfterInsertion 115 = .ok (.invokevirtual 311, 3) := dk_182 1 55 (dk_at dksJ18_fixAfterInsertion_4 21 rfl rfl)
theorem dJ18_fixAfterInsertion_118 : decode cJ18_fixAfterInsertion 118 = .ok (.aload_n 1, 1) := dk_43 (dk_at dksJ18_fixAfterInsertion_5 0 rfl rfl)
theorem dJ18_fixAfterInsertion_119 : decode cJ18_fixAfterInsertion 119 = .ok (.invokestatic 294, 3) := dk_184 1 38 (dk_at dksJ18_fixAfterInsertion_5 1 rfl rfl)
theorem dJ18_fixAfterInsertion_122 : decode cJ18_fixAfterInsertion 122 = .ok (.iconst 1, 1) := dk_4 (dk_at dksJ18_fixAfterInsertion_5 4 rfl rfl)
theorem dJ18_fixAfterInsertion_123 : decode cJ18_fixAfterInsertion 123 = .ok (.invokestatic 307, 3) := dk_184 1 51 (dk_at dksJ18_fixAfterInsertion_5 5 rfl rfl)
theorem dJ18_fixAfterInsertion_126 : decode cJ18_fixAfterInsertion 126 = .ok (.aload_n 1, 1) := dk_43 (dk_at dksJ18_fixAfterInsertion_5 8 rfl rfl)
theorem dJ18_fixAfterInsertion_127 : decode cJ18_fixAfterInsertion 127 = .ok (.invokestatic 294, 3) := dk_184 1 38 (dk_at dksJ18_fixAfterInsertion_5 9 rfl rfl)
theorem dJ18_fixAfterInsertion_130 : decode cJ18_fixAfterInsertion 130 = .ok (.invokestatic 294, 3) := dk_184 1 38 (dk_at dksJ18_fixAfterInsertion_5 12 rfl rfl)
theorem dJ18_fixAfterInsertion_133 : decode cJ18_fixAfterInsertion 133 = .ok (.iconst 0, 1) := dk_3 (dk_at dksJ18_fixAfterInsertion_5 15 rfl rfl)
theorem dJ18_fixAfterInsertion_134 : decode cJ18_fixAfterInsertion 134 = .ok (.invokestatic 307, 3) := dk_184 1 51 (dk_at dksJ18_fixAfterInsertion_5 16 rfl rfl)
theorem dJ18_fixAfterInsertion_137 : decode cJ18_fixAfterInsertion 137 = .ok (.aload_n 0, 1) := dk_42 (dk_at dksJ18_fixAfterInsertion_5 19 rfl rfl)
theorem dJ18_fixAfterInsertion_138 : decode cJ18_fixAfterInsertion 138 = .ok (.aload_n 1, 1) := dk_43 (dk_at dksJ18_fixAfterInsertion_5 20 rfl rfl)
theorem dJ18_fixAfterInsertion_139 : decode cJ18_fixAfterInsertion 139 = .ok (.invokestatic 294, 3) := dk_184 1 38 (dk_at dksJ18_fixAfterInsertion_5 21 rfl rfl)
theorem dJ18_fixAfterInsertion_142 : decode cJ18_fixAfterInsertion 142 = .ok (.invokestatic 294, 3) := dk_184 1 38 (dk_at dksJ18_fixAfterInsertion_6 0 rfl rfl)
theorem dJ18_fixAfterInsertion_145 : decode cJ18_fixAfterInsertion 145 = .ok (.invokevirtual 314, 3) := dk_182 1 58 (dk_at dksJ18_fixAfterInsertion_6 3 rfl rfl)
theorem dJ18_fixAfterInsertion_148 : decode cJ18_fixAfterInsertion 148 = .ok (.goto (-143), 3) := dk_167 255 113 (dk_at dksJ18_fixAfterInsertion_6 6 rfl rfl)
theorem dJ18_fixAfterInsertion_151 : decode cJ18_fixAfterInsertion 151 = .ok (.aload_n 1, 1) := dk_43 (dk_at dksJ18_fixAfterInsertion_6 9 rfl rfl)
theorem dJ18_fixAfterInsertion_152 : decode cJ18_fixAfterInsertion 152 = .ok (.invokestatic 294, 3) := dk_184 1 38 (dk_at dksJ18_fixAfterInsertion_6 10 rfl rfl)
theorem dJ18_fixAfterInsertion_155 : decode cJ18_fixAfterInsertion 155 = .ok (.invokestatic 294, 3) := dk_184 1 38 (dk_at dksJ18_fixAfterInsertion_6 13 rfl rfl)
theorem dJ18_fixAfterInsertion_158 : decode cJ18_fixAfterInsertion 158 = .ok (.invokestatic 297, 3) := dk_184 1 41 (dk_at dksJ18_fixAfterInsertion_6 16 rfl rfl)
theorem dJ18_fixAfterInsertion_161 : decode cJ18_fixAfterInsertion 161 = .ok (.astore_n 2, 1) := dk_77 (dk_at dksJ18_fixAfterInsertion_6 19 rfl rfl)
theorem dJ18_fixAfterInsertion_162 : decode cJ18_fixAfterInsertion 162 = .ok (.aload_n 2, 1) := dk_44 (dk_at dksJ18_fixAfterInsertion_6 20 rfl rfl)
theorem dJ18_fixAfterInsertion_163 : decode cJ18_fixAfterInsertion 163 = .ok (.invokestatic 303, 3) := dk_184 1 47 (dk_at dksJ18_fixAfterInsertion_6 21 rfl rfl)
theorem dJ18_fixAfterInsertion_166 : decode cJ18_fixAfterInsertion 166 = .ok (.ifCond .ne 38, 3) := dk_154 0 38 (dk_at dksJ18_fixAfterInsertion_7 0 rfl rfl)
theorem dJ18_fixAfterInsertion_169 : decode cJ18_fixAfterInsertion 169 = .ok (.aload_n 1, 1) := dk_43 (dk_at dksJ18_fixAfterInsertion_7 3 rfl rfl)
theorem dJ18_fixAfterInsertion_170 : decode cJ18_fixAfterInsertion 170 = .ok (.invokestatic 294, 3) := dk_184 1 38 (dk_at dksJ18_fixAfterInsertion_7 4 rfl rfl)
theorem dJ18_fixAfterInsertion_173 : decode cJ18_fixAfterInsertion 173 = .ok (.iconst 1, 1) := dk_4 (dk_at dksJ18_fixAfterInsertion_7 7 rfl rfl)
theorem dJ18_fixAfterInsertion_174 : decode cJ18_fixAfterInsertion 174 = .ok (.invokestatic 307, 3) := dk_184 1 51 (dk_at dksJ18_fixAfterInsertion_7 8 rfl rfl)
theorem dJ18_fixAfterInsertion_177 : decode cJ18_fixAfterInsertion 177 = .ok (.aload_n 2, 1) := dk_44 (dk_at dksJ18_fixAfterInsertion_7 11 rfl rfl)
theorem dJ18_fixAfterInsertion_178 : decode cJ18_fixAfterInsertion 178 = .ok (.iconst 1, 1) := dk_4 (dk_at dksJ18_fixAfterInsertion_7 12 rfl rfl)
theorem dJ18_fixAfterInsertion_179 : decode cJ18_fixAfterInsertion 179 = .ok (.invokestatic 307, 3) := dk_184 1 51 (dk_at dksJ18_fixAfterInsertion_7 13 rfl rfl)
theorem dJ18_fixAfterInsertion_182 : decode cJ18_fixAfterInsertion 182 = .ok (.aload_n 1, 1) := dk_43 (dk_at dksJ18_fixAfterInsertion_7 16 rfl rfl)
theorem dJ18_fixAfterInsertion_183 : decode cJ18_fixAfterInsertion 183 = .ok (.invokestatic 294, 3) := dk_184 1 38 (dk_at dksJ18_fixAfterInsertion_7 17 rfl rfl)
theorem dJ18_fixAfterInsertion_186 : decode cJ18_fixAfterInsertion 186 = .ok (.invokestatic 294, 3) := dk_184 1 38 (dk_at dksJ18_fixAfterInsertion_7 20 rfl rfl)
theorem dJ18_fixAfterInsertion_189 : decode cJ18_fixAfterInsertion 189 = .ok (.iconst 0, 1) := dk_3 (dk_at dksJ18_fixAfterInsertion_7 23 rfl rfl)
theorem dJ18_fixAfterInsertion_190 : decode cJ18_fixAfterInsertion 190 = .ok (.invokestatic 307, 3) := dk_184 1 51 (dk_at dksJ18_fixAfterInsertion_8 0 rfl rfl)
theorem dJ18_fixAfterInsertion_193 : decode cJ18_fixAfterInsertion 193 = .ok (.aload_n 1, 1) := dk_43 (dk_at dksJ18_fixAfterInsertion_8 3 rfl rfl)
theorem dJ18_fixAfterInsertion_194 : decode cJ18_fixAfterInsertion 194 = .ok (.invokestatic 294, 3) := dk_184 1 38 (dk_at dksJ18_fixAfterInsertion_8 4 rfl rfl)
theorem dJ18_fixAfterInsertion_197 : decode cJ18_fixAfterInsertion 197 = .ok (.invokestatic 294, 3) := dk_184 1 38 (dk_at dksJ18_fixAfterInsertion_8 7 rfl rfl)
theorem dJ18_fixAfterInsertion_200 : decode cJ18_fixAfterInsertion 200 = .ok (.astore_n 1, 1) := dk_76 (dk_at dksJ18_fixAfterInsertion_8 10 rfl rfl)
theorem dJ18_fixAfterInsertion_201 : decode cJ18_fixAfterInsertion 201 = .ok (.goto 54, 3) := dk_167 0 54 (dk_at dksJ18_fixAfterInsertion_8 11 rfl rfl)
theorem dJ18_fixAfterInsertion_204 : decode cJ18_fixAfterInsertion 204 = .ok (.aload_n 1, 1) := dk_43 (dk_at dksJ18_fixAfterInsertion_8 14 rfl rfl)
theorem dJ18_fixAfterInsertion_205 : decode cJ18_fixAfterInsertion 205 = .ok (.aload_n 1, 1) := dk_43 (dk_at dksJ18_fixAfterInsertion_8 15 rfl rfl)
theorem dJ18_fixAfterInsertion_206 : decode cJ18_fixAfterInsertion 206 = .ok (.invokestatic 294, 3) := dk_184 1 38 (dk_at dksJ18_fixAfterInsertion_8 16 rfl rfl)
theorem dJ18_fixAfterInsertion_209 : decode cJ18_fixAfterInsertion 209 = .ok (.invokestatic 297, 3) := dk_184 1 41 (dk_at dksJ18_fixAfterInsertion_8 19 rfl rfl)
theorem dJ18_fixAfterInsertion_212 : decode cJ18_fixAfterInsertion 212 = .ok (.if_acmp .ne 13, 3) := dk_166 0 13 (dk_at dksJ18_fixAfterInsertion_9 0 rfl rfl)
theorem dJ18_fixAfterInsertion_215 : decode cJ18_fixAfterInsertion 215 = .ok (.aload_n 1, 1) := dk_43 (dk_at dksJ18_fixAfterInsertion_9 3 rfl rfl)
theorem dJ18_fixAfterInsertion_216 : decode cJ18_fixAfterInsertion 216 = .ok (.invokestatic 294, 3) := dk_184 1 38 (dk_at dksJ18_fixAfterInsertion_9 4 rfl rfl)
theorem dJ18_fixAfterInsertion_219 : decode cJ18_fixAfterInsertion 219 = .ok (.astore_n 1, 1) := dk_76 (dk_at dksJ18_fixAfterInsertion_9 7 rfl rfl)
theorem dJ18_fixAfterInsertion_220 : decode cJ18_fixAfterInsertion 220 = .ok (.aload_n 0, 1) := dk_42 (dk_at dksJ18_fixAfterInsertion_9 8 rfl rfl)
theorem dJ18_fixAfterInsertion_221 : decode cJ18_fixAfterInsertion 221 = .ok (.aload_n 1, 1) := dk_43 (dk_at dksJ18_fixAfterInsertion_9 9 rfl rfl)
theorem dJ18_fixAfterInsertion_222 : decode cJ18_fixAfterInsertion 222 = .ok (.invokevirtual 314, 3) := dk_182 1 58 (dk_at dksJ18_fixAfterInsertion_9 10 rfl rfl)
theorem dJ18_fixAfterInsertion_225 : decode cJ18_fixAfterInsertion 225 = .ok (.aload_n 1, 1) := dk_43 (dk_at dksJ18_fixAfterInsertion_9 13 rfl rfl)
theorem dJ18_fixAfterInsertion_226 : decode cJ18_fixAfterInsertion 226 = .ok (.invokestatic 294, 3) := dk_184 1 38 (dk_at dksJ18_fixAfterInsertion_9 14 rfl rfl)
theorem dJ18_fixAfterInsertion_229 : decode cJ18_fixAfterInsertion 229 = .ok (.iconst 1, 1) := dk_4 (dk_at dksJ18_fixAfterInsertion_9 17 rfl rfl)
theorem dJ18_fixAfterInsertion_230 : decode cJ18_fixAfterInsertion 230 = .ok (.invokestatic 307, 3) := dk_184 1 51 (dk_at dksJ18_fixAfterInsertion_9 18 rfl rfl)
theorem dJ18_fixAfterInsertion_233 : decode cJ18_fixAfterInsertion 233 = .ok (.aload_n 1, 1) := dk_43 (dk_at dksJ18_fixAfterInsertion_9 21 rfl rfl)
theorem dJ18_fixAfterInsertion_234 : decode cJ18_fixAfterInsertion 234 = .ok (.invokestatic 294, 3) := dk_184 1 38 (dk_at dksJ18_fixAfterInsertion_10 0 rfl rfl)
theorem dJ18_fixAfterInsertion_237 : decode cJ18_fixAfterInsertion 237 = .ok (.invokestatic 294, 3) := dk_184 1 38 (dk_at dksJ18_fixAfterInsertion_10 3 rfl rfl)
theorem dJ18_fixAfterInsertion_240 : decode cJ18_fixAfterInsertion 240 = .ok (.iconst 0, 1) := dk_3 (dk_at dksJ18_fixAfterInsertion_10 6 rfl rfl)
theorem dJ18_fixAfterInsertion_241 : decode cJ18_fixAfterInsertion 241 = .ok (.invokestatic 307, 3) := dk_184 1 51 (dk_at dksJ18_fixAfterInsertion_10 7 rfl rfl)
theorem dJ18_fixAfterInsertion_244 : decode cJ18_fixAfterInsertion 244 = .ok (.aload_n 0, 1) := dk_42 (dk_at dksJ18_fixAfterInsertion_10 10 rfl rfl)
theorem dJ18_fixAfterInsertion_245 : decode cJ18_fixAfterInsertion 245 = .ok (.aload_n 1, 1) := dk_43 (dk_at dksJ18_fixAfterInsertion_10 11 rfl rfl)
theorem dJ18_fixAfterInsertion_246 : decode cJ18_fixAfterInsertion 246 = .ok (.invokestatic 294, 3) := dk_184 1 38 (dk_at dksJ18_fixAfterInsertion_10 12 rfl rfl)
theorem dJ18_fixAfterInsertion_249 : decode cJ18_fixAfterInsertion 249 = .ok (.invokestatic 294, 3) := dk_184 1 38 (dk_at dksJ18_fixAfterInsertion_10 15 rfl rfl)
theorem dJ18_fixAfterInsertion_252 : decode cJ18_fixAfterInsertion 252 = .ok (.invokevirtual 311, 3) := dk_182 1 55 (dk_at dksJ18_fixAfterInsertion_10 18 rfl rfl)
theorem dJ18_fixAfterInsertion_255 : decode cJ18_fixAfterInsertion 255 = .ok (.goto (-250), 3) := dk_167 255 6 (dk_at dksJ18_fixAfterInsertion_10 21 rfl rfl)
theorem dJ18_fixAfterInsertion_258 : decode cJ18_fixAfterInsertion 258 = .ok (.aload_n 0, 1) := dk_42 (dk_at dksJ18_fixAfterInsertion_11 0 rfl rfl)
theorem dJ18_fixAfterInsertion_259 : decode cJ18_fixAfterInsertion 259 = .ok (.getfield 101, 3) := dk_180 0 101 (dk_at dksJ18_fixAfterInsertion_11 1 rfl rfl)
theorem dJ18_fixAfterInsertion_262 : decode cJ18_fixAfterInsertion 262 = .ok (.iconst 1, 1) := dk_4 (dk_at dksJ18_fixAfterInsertion_11 4 rfl rfl)
theorem dJ18_fixAfterInsertion_263 : decode cJ18_fixAfterInsertion 263 = .ok (.putfield 290, 3) := dk_181 1 34 (dk_at dksJ18_fixAfterInsertion_11 5 rfl rfl)
theorem dJ18_fixAfterInsertion_266 : decode cJ18_fixAfterInsertion 266 = .ok (.return_, 1) := dk_177 (dk_at dksJ18_fixAfterInsertion_11 8 rfl rfl)
abbrev cJ18_parentOf : ByteArray := prog_77_method_77_code
def yJ18_parentOf : MethodName := ⟨RJ18, "parentOf", "(Ljava/util/TreeMap$Entry;)Ljava/util/TreeMap$Entry;"⟩
def dkwJ18_parentOf_0 : List UInt8 := [42, 199, 0, 7, 1, 167, 0, 7, 42, 180, 0, 124, 176]
abbrev dktJ18_parentOf_0 : List UInt8 := dkwJ18_parentOf_0 ++ []
theorem dksJ18_parentOf_0 : cJ18_parentOf.data.toList.drop 0 = dktJ18_parentOf_0 := by decide +kernel
theorem dJ18_parentOf_0 : decode cJ18_parentOf 0 = .ok (.aload_n 0, 1) := dk_42 (dk_at dksJ18_parentOf_0 0 rfl rfl)
theorem dJ18_parentOf_1 : decode cJ18_parentOf 1 = .ok (.ifnonnull 7, 3) := dk_199 0 7 (dk_at dksJ18_parentOf_0 1 rfl rfl)
theorem dJ18_parentOf_4 : decode cJ18_parentOf 4 = .ok (.aconst_null, 1) := dk_1 (dk_at dksJ18_parentOf_0 4 rfl rfl)
theorem dJ18_parentOf_5 : decode cJ18_parentOf 5 = .ok (.goto 7, 3) := dk_167 0 7 (dk_at dksJ18_parentOf_0 5 rfl rfl)
theorem dJ18_parentOf_8 : decode cJ18_parentOf 8 = .ok (.aload_n 0, 1) := dk_42 (dk_at dksJ18_parentOf_0 8 rfl rfl)
theorem dJ18_parentOf_9 : decode cJ18_parentOf 9 = .ok (.getfield 124, 3) := dk_180 0 124 (dk_at dksJ18_parentOf_0 9 rfl rfl)
theorem dJ18_parentOf_12 : decode cJ18_parentOf 12 = .ok (.areturn, 1) := dk_176 (dk_at dksJ18_parentOf_0 12 rfl rfl)
abbrev cJ18_leftOf : ByteArray := prog_77_method_79_code
def yJ18_leftOf : MethodName := ⟨RJ18, "leftOf", "(Ljava/util/TreeMap$Entry;)Ljava/util/TreeMap$Entry;"⟩
def dkwJ18_leftOf_0 : List UInt8 := [42, 199, 0, 7, 1, 167, 0, 7, 42, 180, 0, 111, 176]
abbrev dktJ18_leftOf_0 : List UInt8 := dkwJ18_leftOf_0 ++ []
theorem dksJ18_leftOf_0 : cJ18_leftOf.data.toList.drop 0 = dktJ18_leftOf_0 := by decide +kernel
theorem dJ18_leftOf_0 : decode cJ18_leftOf 0 = .ok (.aload_n 0, 1) := dk_42 (dk_at dksJ18_leftOf_0 0 rfl rfl)
theorem dJ18_leftOf_1 : decode cJ18_leftOf 1 = .ok (.ifnonnull 7, 3) := dk_199 0 7 (dk_at dksJ18_leftOf_0 1 rfl rfl)
theorem dJ18_leftOf_4 : decode cJ18_leftOf 4 = .ok (.aconst_null, 1) := dk_1 (dk_at dksJ18_leftOf_0 4 rfl rfl)
theorem dJ18_leftOf_5 : decode cJ18_leftOf 5 = .ok (.goto 7, 3) := dk_167 0 7 (dk_at dksJ18_leftOf_0 5 rfl rfl)
theorem dJ18_leftOf_8 : decode cJ18_leftOf 8 = .ok (.aload_n 0, 1) := dk_42 (dk_at dksJ18_leftOf_0 8 rfl rfl)
theorem dJ18_leftOf_9 : decode cJ18_leftOf 9 = .ok (.getfield 111, 3) := dk_180 0 111 (dk_at dksJ18_leftOf_0 9 rfl rfl)
theorem dJ18_leftOf_12 : decode cJ18_leftOf 12 = .ok (.areturn, 1) := dk_176 (dk_at dksJ18_leftOf_0 12 rfl rfl)
abbrev cJ18_rightOf : ByteArray := prog_77_method_80_code
def yJ18_rightOf : MethodName := ⟨RJ18, "rightOf", "(Ljava/util/TreeMap$Entry;)Ljava/util/TreeMap$Entry;"⟩
def dkwJ18_rightOf_0 : List UInt8 := [42, 199, 0, 7, 1, 167, 0, 7, 42, 180, 0, 114, 176]
abbrev dktJ18_rightOf_0 : List UInt8 := dkwJ18_rightOf_0 ++ []
theorem dksJ18_rightOf_0 : cJ18_rightOf.data.toList.drop 0 = dktJ18_rightOf_0 := by decide +kernel
theorem dJ18_rightOf_0 : decode cJ18_rightOf 0 = .ok (.aload_n 0, 1) := dk_42 (dk_at dksJ18_rightOf_0 0 rfl rfl)
theorem dJ18_rightOf_1 : decode cJ18_rightOf 1 = .ok (.ifnonnull 7, 3) := dk_199 0 7 (dk_at dksJ18_rightOf_0 1 rfl rfl)
theorem dJ18_rightOf_4 : decode cJ18_rightOf 4 = .ok (.aconst_null, 1) := dk_1 (dk_at dksJ18_rightOf_0 4 rfl rfl)
theorem dJ18_rightOf_5 : decode cJ18_rightOf 5 = .ok (.goto 7, 3) := dk_167 0 7 (dk_at dksJ18_rightOf_0 5 rfl rfl)
theorem dJ18_rightOf_8 : decode cJ18_rightOf 8 = .ok (.aload_n 0, 1) := dk_42 (dk_at dksJ18_rightOf_0 8 rfl rfl)
theorem dJ18_rightOf_9 : decode cJ18_rightOf 9 = .ok (.getfield 114, 3) := dk_180 0 114 (dk_at dksJ18_rightOf_0 9 rfl rfl)
theorem dJ18_rightOf_12 : decode cJ18_rightOf 12 = .ok (.areturn, 1) := dk_176 (dk_at dksJ18_rightOf_0 12 rfl rfl)
abbrev cJ18_colorOf : ByteArray := prog_77_method_76_code
def yJ18_colorOf : MethodName := ⟨RJ18, "colorOf", "(Ljava/util/TreeMap$Entry;)Z"⟩
def dkwJ18_colorOf_0 : List UInt8 := [42, 199, 0, 7, 4, 167, 0, 7, 42, 180, 1, 34, 172]
abbrev dktJ18_colorOf_0 : List UInt8 := dkwJ18_colorOf_0 ++ []
theorem dksJ18_colorOf_0 : cJ18_colorOf.data.toList.drop 0 = dktJ18_colorOf_0 := by decide +kernel
theorem dJ18_colorOf_0 : decode cJ18_colorOf 0 = .ok (.aload_n 0, 1) := dk_42 (dk_at dksJ18_colorOf_0 0 rfl rfl)
theorem dJ18_colorOf_1 : decode cJ18_colorOf 1 = .ok (.ifnonnull 7, 3) := dk_199 0 7 (dk_at dksJ18_colorOf_0 1 rfl rfl)
theorem dJ18_colorOf_4 : decode cJ18_colorOf 4 = .ok (.iconst 1, 1) := dk_4 (dk_at dksJ18_colorOf_0 4 rfl rfl)
theorem dJ18_colorOf_5 : decode cJ18_colorOf 5 = .ok (.goto 7, 3) := dk_167 0 7 (dk_at dksJ18_colorOf_0 5 rfl rfl)
theorem dJ18_colorOf_8 : decode cJ18_colorOf 8 = .ok (.aload_n 0, 1) := dk_42 (dk_at dksJ18_colorOf_0 8 rfl rfl)
theorem dJ18_colorOf_9 : decode cJ18_colorOf 9 = .ok (.getfield 290, 3) := dk_180 1 34 (dk_at dksJ18_colorOf_0 9 rfl rfl)
theorem dJ18_colorOf_12 : decode cJ18_colorOf 12 = .ok (.ireturn, 1) := dk_172 (dk_at dksJ18_colorOf_0 12 rfl rfl)
abbrev cJ18_setColor : ByteArray := prog_77_method_78_code
def yJ18_setColor : MethodName := ⟨RJ18, "setColor", "(Ljava/util/TreeMap$Entry;Z)V"⟩
def dkwJ18_setColor_0 : List UInt8 := [42, 198, 0, 8, 42, 27, 181, 1, 34, 177]
abbrev dktJ18_setColor_0 : List UInt8 := dkwJ18_setColor_0 ++ []
theorem dksJ18_setColor_0 : cJ18_setColor.data.toList.drop 0 = dktJ18_setColor_0 := by decide +kernel
theorem dJ18_setColor_0 : decode cJ18_setColor 0 = .ok (.aload_n 0, 1) := dk_42 (dk_at dksJ18_setColor_0 0 rfl rfl)
theorem dJ18_setColor_1 : decode cJ18_setColor 1 = .ok (.ifnull 8, 3) := dk_198 0 8 (dk_at dksJ18_setColor_0 1 rfl rfl)
theorem dJ18_setColor_4 : decode cJ18_setColor 4 = .ok (.aload_n 0, 1) := dk_42 (dk_at dksJ18_setColor_0 4 rfl rfl)
theorem dJ18_setColor_5 : decode cJ18_setColor 5 = .ok (.iload_n 1, 1) := dk_27 (dk_at dksJ18_setColor_0 5 rfl rfl)
theorem dJ18_setColor_6 : decode cJ18_setColor 6 = .ok (.putfield 290, 3) := dk_181 1 34 (dk_at dksJ18_setColor_0 6 rfl rfl)
theorem dJ18_setColor_9 : decode cJ18_setColor 9 = .ok (.return_, 1) := dk_177 (dk_at dksJ18_setColor_0 9 rfl rfl)
abbrev cJ18_rotateLeft : ByteArray := prog_77_method_81_code
def yJ18_rotateLeft : MethodName := ⟨RJ18, "rotateLeft", "(Ljava/util/TreeMap$Entry;)V"⟩
def dkwJ18_rotateLeft_4 : List UInt8 := [177]
abbrev dktJ18_rotateLeft_4 : List UInt8 := dkwJ18_rotateLeft_4 ++ []
def dkwJ18_rotateLeft_3 : List UInt8 := [181, 0, 111, 167, 0, 11, 43, 180, 0, 124, 44, 181, 0, 114, 44, 43, 181, 0, 111, 43, 44, 181, 0, 124]
abbrev dktJ18_rotateLeft_3 : List UInt8 := dkwJ18_rotateLeft_3 ++ dktJ18_rotateLeft_4
def dkwJ18_rotateLeft_2 : List UInt8 := [44, 181, 0, 101, 167, 0, 33, 43, 180, 0, 124, 180, 0, 111, 43, 166, 0, 14, 43, 180, 0, 124, 44]
abbrev dktJ18_rotateLeft_2 : List UInt8 := dkwJ18_rotateLeft_2 ++ dktJ18_rotateLeft_3
def dkwJ18_rotateLeft_1 : List UInt8 := [44, 180, 0, 111, 43, 181, 0, 124, 44, 43, 180, 0, 124, 181, 0, 124, 43, 180, 0, 124, 199, 0, 11, 42]
abbrev dktJ18_rotateLeft_1 : List UInt8 := dkwJ18_rotateLeft_1 ++ dktJ18_rotateLeft_2
def dkwJ18_rotateLeft_0 : List UInt8 := [43, 198, 0, 94, 43, 180, 0, 114, 77, 43, 44, 180, 0, 111, 181, 0, 114, 44, 180, 0, 111, 198, 0, 11]
abbrev dktJ18_rotateLeft_0 : List UInt8 := dkwJ18_rotateLeft_0 ++ dktJ18_rotateLeft_1
theorem dksJ18_rotateLeft_0 : cJ18_rotateLeft.data.toList.drop 0 = dktJ18_rotateLeft_0 := by decide +kernel
theorem dksJ18_rotateLeft_1 : cJ18_rotateLeft.data.toList.drop 24 = dktJ18_rotateLeft_1 := dk_seg dksJ18_rotateLeft_0 24 rfl rfl
theorem dksJ18_rotateLeft_2 : cJ18_rotateLeft.data.toList.drop 48 = dktJ18_rotateLeft_2 := dk_seg dksJ18_rotateLeft_1 24 rfl rfl
theorem dksJ18_rotateLeft_3 : cJ18_rotateLeft.data.toList.drop 71 = dktJ18_rotateLeft_3 := dk_seg dksJ18_rotateLeft_2 23 rfl rfl
theorem dksJ18_rotateLeft_4 : cJ18_rotateLeft.data.toList.drop 95 = dktJ18_rotateLeft_4 := dk_seg dksJ18_rotateLeft_3 24 rfl rfl
theorem dJ18_rotateLeft_0 : decode cJ18_rotateLeft 0 = .ok (.aload_n 1, 1) := dk_43 (dk_at dksJ18_rotateLeft_0 0 rfl rfl)
theorem dJ18_rotateLeft_1 : decode cJ18_rotateLeft 1 = .ok (.ifnull 94, 3) := dk_198 0 94 (dk_at dksJ18_rotateLeft_0 1 rfl rfl)
theorem dJ18_rotateLeft_4 : decode cJ18_rotateLeft 4 = .ok (.aload_n 1, 1) := dk_43 (dk_at dksJ18_rotateLeft_0 4 rfl rfl)
theorem dJ18_rotateLeft_5 : decode cJ18_rotateLeft 5 = .ok (.getfield 114, 3) := dk_180 0 114 (dk_at dksJ18_rotateLeft_0 5 rfl rfl)
theorem dJ18_rotateLeft_8 : decode cJ18_rotateLeft 8 = .ok (.astore_n 2, 1) := dk_77 (dk_at dksJ18_rotateLeft_0 8 rfl rfl)
theorem dJ18_rotateLeft_9 : decode cJ18_rotateLeft 9 = .ok (.aload_n 1, 1) := dk_43 (dk_at dksJ18_rotateLeft_0 9 rfl rfl)
theorem dJ18_rotateLeft_10 : decode cJ18_rotateLeft 10 = .ok (.aload_n 2, 1) := dk_44 (dk_at dksJ18_rotateLeft_0 10 rfl rfl)
theorem dJ18_rotateLeft_11 : decode cJ18_rotateLeft 11 = .ok (.getfield 111, 3) := dk_180 0 111 (dk_at dksJ18_rotateLeft_0 11 rfl rfl)
theorem dJ18_rotateLeft_14 : decode cJ18_rotateLeft 14 = .ok (.putfield 114, 3) := dk_181 0 114 (dk_at dksJ18_rotateLeft_0 14 rfl rfl)
theorem dJ18_rotateLeft_17 : decode cJ18_rotateLeft 17 = .ok (.aload_n 2, 1) := dk_44 (dk_at dksJ18_rotateLeft_0 17 rfl rfl)
theorem dJ18_rotateLeft_18 : decode cJ18_rotateLeft 18 = .ok (.getfield 111, 3) := dk_180 0 111 (dk_at dksJ18_rotateLeft_0 18 rfl rfl)
theorem dJ18_rotateLeft_21 : decode cJ18_rotateLeft 21 = .ok (.ifnull 11, 3) := dk_198 0 11 (dk_at dksJ18_rotateLeft_0 21 rfl rfl)
theorem dJ18_rotateLeft_24 : decode cJ18_rotateLeft 24 = .ok (.aload_n 2, 1) := dk_44 (dk_at dksJ18_rotateLeft_1 0 rfl rfl)
theorem dJ18_rotateLeft_25 : decode cJ18_rotateLeft 25 = .ok (.getfield 111, 3) := dk_180 0 111 (dk_at dksJ18_rotateLeft_1 1 rfl rfl)
theorem dJ18_rotateLeft_28 : decode cJ18_rotateLeft 28 = .ok (.aload_n 1, 1) := dk_43 (dk_at dksJ18_rotateLeft_1 4 rfl rfl)
theorem dJ18_rotateLeft_29 : decode cJ18_rotateLeft 29 = .ok (.putfield 124, 3) := dk_181 0 124 (dk_at dksJ18_rotateLeft_1 5 rfl rfl)
theorem dJ18_rotateLeft_32 : decode cJ18_rotateLeft 32 = .ok (.aload_n 2, 1) := dk_44 (dk_at dksJ18_rotateLeft_1 8 rfl rfl)
theorem dJ18_rotateLeft_33 : decode cJ18_rotateLeft 33 = .ok (.aload_n 1, 1) := dk_43 (dk_at dksJ18_rotateLeft_1 9 rfl rfl)
theorem dJ18_rotateLeft_34 : decode cJ18_rotateLeft 34 = .ok (.getfield 124, 3) := dk_180 0 124 (dk_at dksJ18_rotateLeft_1 10 rfl rfl)
theorem dJ18_rotateLeft_37 : decode cJ18_rotateLeft 37 = .ok (.putfield 124, 3) := dk_181 0 124 (dk_at dksJ18_rotateLeft_1 13 rfl rfl)
theorem dJ18_rotateLeft_40 : decode cJ18_rotateLeft 40 = .ok (.aload_n 1, 1) := dk_43 (dk_at dksJ18_rotateLeft_1 16 rfl rfl)
theorem dJ18_rotateLeft_41 : decode cJ18_rotateLeft 41 = .ok (.getfield 124, 3) := dk_180 0 124 (dk_at dksJ18_rotateLeft_1 17 rfl rfl)
theorem dJ18_rotateLeft_44 : decode cJ18_rotateLeft 44 = .ok (.ifnonnull 11, 3) := dk_199 0 11 (dk_at dksJ18_rotateLeft_1 20 rfl rfl)
theorem dJ18_rotateLeft_47 : decode cJ18_rotateLeft 47 = .ok (.aload_n 0, 1) := dk_42 (dk_at dksJ18_rotateLeft_1 23 rfl rfl)
theorem dJ18_rotateLeft_48 : decode cJ18_rotateLeft 48 = .ok (.aload_n 2, 1) := dk_44 (dk_at dksJ18_rotateLeft_2 0 rfl rfl)
theorem dJ18_rotateLeft_49 : decode cJ18_rotateLeft 49 = .ok (.putfield 101, 3) := dk_181 0 101 (dk_at dksJ18_rotateLeft_2 1 rfl rfl)
theorem dJ18_rotateLeft_52 : decode cJ18_rotateLeft 52 = .ok (.goto 33, 3) := dk_167 0 33 (dk_at dksJ18_rotateLeft_2 4 rfl rfl)
theorem dJ18_rotateLeft_55 : decode cJ18_rotateLeft 55 = .ok (.aload_n 1, 1) := dk_43 (dk_at dksJ18_rotateLeft_2 7 rfl rfl)
theorem dJ18_rotateLeft_56 : decode cJ18_rotateLeft 56 = .ok (.getfield 124, 3) := dk_180 0 124 (dk_at dksJ18_rotateLeft_2 8 rfl rfl)
theorem dJ18_rotateLeft_59 : decode cJ18_rotateLeft 59 = .ok (.getfield 111, 3) := dk_180 0 111 (dk_at dksJ18_rotateLeft_2 11 rfl rfl)
theorem dJ18_rotateLeft_62 : decode cJ18_rotateLeft 62 = .ok (.aload_n 1, 1) := dk_43 (dk_at dksJ18_rotateLeft_2 14 rfl rfl)
theorem dJ18_rotateLeft_63 : decode cJ18_rotateLeft 63 = .ok (.if_acmp .ne 14, 3) := dk_166 0 14 (dk_at dksJ18_rotateLeft_2 15 rfl rfl)
theorem dJ18_rotateLeft_66 : decode cJ18_rotateLeft 66 = .ok (.aload_n 1, 1) := dk_43 (dk_at dksJ18_rotateLeft_2 18 rfl rfl)
theorem dJ18_rotateLeft_67 : decode cJ18_rotateLeft 67 = .ok (.getfield 124, 3) := dk_180 0 124 (dk_at dksJ18_rotateLeft_2 19 rfl rfl)
theorem dJ18_rotateLeft_70 : decode cJ18_rotateLeft 70 = .ok (.aload_n 2, 1) := dk_44 (dk_at dksJ18_rotateLeft_2 22 rfl rfl)
theorem dJ18_rotateLeft_71 : decode cJ18_rotateLeft 71 = .ok (.putfield 111, 3) := dk_181 0 111 (dk_at dksJ18_rotateLeft_3 0 rfl rfl)
theorem dJ18_rotateLeft_74 : decode cJ18_rotateLeft 74 = .ok (.goto 11, 3) := dk_167 0 11 (dk_at dksJ18_rotateLeft_3 3 rfl rfl)
theorem dJ18_rotateLeft_77 : decode cJ18_rotateLeft 77 = .ok (.aload_n 1, 1) := dk_43 (dk_at dksJ18_rotateLeft_3 6 rfl rfl)
theorem dJ18_rotateLeft_78 : decode cJ18_rotateLeft 78 = .ok (.getfield 124, 3) := dk_180 0 124 (dk_at dksJ18_rotateLeft_3 7 rfl rfl)
theorem dJ18_rotateLeft_81 : decode cJ18_rotateLeft 81 = .ok (.aload_n 2, 1) := dk_44 (dk_at dksJ18_rotateLeft_3 10 rfl rfl)
theorem dJ18_rotateLeft_82 : decode cJ18_rotateLeft 82 = .ok (.putfield 114, 3) := dk_181 0 114 (dk_at dksJ18_rotateLeft_3 11 rfl rfl)
theorem dJ18_rotateLeft_85 : decode cJ18_rotateLeft 85 = .ok (.aload_n 2, 1) := dk_44 (dk_at dksJ18_rotateLeft_3 14 rfl rfl)
theorem dJ18_rotateLeft_86 : decode cJ18_rotateLeft 86 = .ok (.aload_n 1, 1) := dk_43 (dk_at dksJ18_rotateLeft_3 15 rfl rfl)
theorem dJ18_rotateLeft_87 : decode cJ18_rotateLeft 87 = .ok (.putfield 111, 3) := dk_181 0 111 (dk_at dksJ18_rotateLeft_3 16 rfl rfl)
theorem dJ18_rotateLeft_90 : decode cJ18_rotateLeft 90 = .ok (.aload_n 1, 1) := dk_43 (dk_at dksJ18_rotateLeft_3 19 rfl rfl)
theorem dJ18_rotateLeft_91 : decode cJ18_rotateLeft 91 = .ok (.aload_n 2, 1) := dk_44 (dk_at dksJ18_rotateLeft_3 20 rfl rfl)
theorem dJ18_rotateLeft_92 : decode cJ18_rotateLeft 92 = .ok (.putfield 124, 3) := dk_181 0 124 (dk_at dksJ18_rotateLeft_3 21 rfl rfl)
theorem dJ18_rotateLeft_95 : decode cJ18_rotateLeft 95 = .ok (.return_, 1) := dk_177 (dk_at dksJ18_rotateLeft_4 0 rfl rfl)
abbrev cJ18_rotateRight : ByteArray := prog_77_method_82_code
def yJ18_rotateRight : MethodName := ⟨RJ18, "rotateRight", "(Ljava/util/TreeMap$Entry;)V"⟩
def dkwJ18_rotateRight_4 : List UInt8 := [177]
abbrev dktJ18_rotateRight_4 : List UInt8 := dkwJ18_rotateRight_4 ++ []
def dkwJ18_rotateRight_3 : List UInt8 := [181, 0, 114, 167, 0, 11, 43, 180, 0, 124, 44, 181, 0, 111, 44, 43, 181, 0, 114, 43, 44, 181, 0, 124]
abbrev dktJ18_rotateRight_3 : List UInt8 := dkwJ18_rotateRight_3 ++ dktJ18_rotateRight_4
def dkwJ18_rotateRight_2 : List UInt8 := [44, 181, 0, 101, 167, 0, 33, 43, 180, 0, 124, 180, 0, 114, 43, 166, 0, 14, 43, 180, 0, 124, 44]
abbrev dktJ18_rotateRight_2 : List UInt8 := dkwJ18_rotateRight_2 ++ dktJ18_rotateRight_3
def dkwJ18_rotateRight_1 : List UInt8 := [44, 180, 0, 114, 43, 181, 0, 124, 44, 43, 180, 0, 124, 181, 0, 124, 43, 180, 0, 124, 199, 0, 11, 42]
abbrev dktJ18_rotateRight_1 : List UInt8 := dkwJ18_rotateRight_1 ++ dktJ18_rotateRight_2
def dkwJ18_rotateRight_0 : List UInt8 := [43, 198, 0, 94, 43, 180, 0, 111, 77, 43, 44, 180, 0, 114, 181, 0, 111, 44, 180, 0, 114, 198, 0, 11]
abbrev dktJ18_rotateRight_0 : List UInt8 := dkwJ18_rotateRight_0 ++ dktJ18_rotateRight_1
theorem dksJ18_rotateRight_0 : cJ18_rotateRight.data.toList.drop 0 = dktJ18_rotateRight_0 := by decide +kernel
theorem dksJ18_rotateRight_1 : cJ18_rotateRight.data.toList.drop 24 = dktJ18_rotateRight_1 := dk_seg dksJ18_rotateRight_0 24 rfl rfl
theorem dksJ18_rotateRight_2 : cJ18_rotateRight.data.toList.drop 48 = dktJ18_rotateRight_2 := dk_seg dksJ18_rotateRight_1 24 rfl rfl
theorem dksJ18_rotateRight_3 : cJ18_rotateRight.data.toList.drop 71 = dktJ18_rotateRight_3 := dk_seg dksJ18_rotateRight_2 23 rfl rfl
theorem dksJ18_rotateRight_4 : cJ18_rotateRight.data.toList.drop 95 = dktJ18_rotateRight_4 := dk_seg dksJ18_rotateRight_3 24 rfl rfl
theorem dJ18_rotateRight_0 : decode cJ18_rotateRight 0 = .ok (.aload_n 1, 1) := dk_43 (dk_at dksJ18_rotateRight_0 0 rfl rfl)
theorem dJ18_rotateRight_1 : decode cJ18_rotateRight 1 = .ok (.ifnull 94, 3) := dk_198 0 94 (dk_at dksJ18_rotateRight_0 1 rfl rfl)
theorem dJ18_rotateRight_4 : decode cJ18_rotateRight 4 = .ok (.aload_n 1, 1) := dk_43 (dk_at dksJ18_rotateRight_0 4 rfl rfl)
theorem dJ18_rotateRight_5 : decode cJ18_rotateRight 5 = .ok (.getfield 111, 3) := dk_180 0 111 (dk_at dksJ18_rotateRight_0 5 rfl rfl)
theorem dJ18_rotateRight_8 : decode cJ18_rotateRight 8 = .ok (.astore_n 2, 1) := dk_77 (dk_at dksJ18_rotateRight_0 8 rfl rfl)
theorem dJ18_rotateRight_9 : decode cJ18_rotateRight 9 = .ok (.aload_n 1, 1) := dk_43 (dk_at dksJ18_rotateRight_0 9 rfl rfl)
theorem dJ18_rotateRight_10 : decode cJ18_rotateRight 10 = .ok (.aload_n 2, 1) := dk_44 (dk_at dksJ18_rotateRight_0 10 rfl rfl)
theorem dJ18_rotateRight_11 : decode cJ18_rotateRight 11 = .ok (.getfield 114, 3) := dk_180 0 114 (dk_at dksJ18_rotateRight_0 11 rfl rfl)
theorem dJ18_rotateRight_14 : decode cJ18_rotateRight 14 = .ok (.putfield 111, 3) := dk_181 0 111 (dk_at dksJ18_rotateRight_0 14 rfl rfl)
theorem dJ18_rotateRight_17 : decode cJ18_rotateRight 17 = .ok (.aload_n 2, 1) := dk_44 (dk_at dksJ18_rotateRight_0 17 rfl rfl)
theorem dJ18_rotateRight_18 : decode cJ18_rotateRight 18 = .ok (.getfield 114, 3) := dk_180 0 114 (dk_at dksJ18_rotateRight_0 18 rfl rfl)
theorem dJ18_rotateRight_21 : decode cJ18_rotateRight 21 = .ok (.ifnull 11, 3) := dk_198 0 11 (dk_at dksJ18_rotateRight_0 21 rfl rfl)
theorem dJ18_rotateRight_24 : decode cJ18_rotateRight 24 = .ok (.aload_n 2, 1) := dk_44 (dk_at dksJ18_rotateRight_1 0 rfl rfl)
theorem dJ18_rotateRight_25 : decode cJ18_rotateRight 25 = .ok (.getfield 114, 3) := dk_180 0 114 (dk_at dksJ18_rotateRight_1 1 rfl rfl)
theorem dJ18_rotateRight_28 : decode cJ18_rotateRight 28 = .ok (.aload_n 1, 1) := dk_43 (dk_at dksJ18_rotateRight_1 4 rfl rfl)
theorem dJ18_rotateRight_29 : decode cJ18_rotateRight 29 = .ok (.putfield 124, 3) := dk_181 0 124 (dk_at dksJ18_rotateRight_1 5 rfl rfl)
theorem dJ18_rotateRight_32 : decode cJ18_rotateRight 32 = .ok (.aload_n 2, 1) := dk_44 (dk_at dksJ18_rotateRight_1 8 rfl rfl)
theorem dJ18_rotateRight_33 : decode cJ18_rotateRight 33 = .ok (.aload_n 1, 1) := dk_43 (dk_at dksJ18_rotateRight_1 9 rfl rfl)
theorem dJ18_rotateRight_34 : decode cJ18_rotateRight 34 = .ok (.getfield 124, 3) := dk_180 0 124 (dk_at dksJ18_rotateRight_1 10 rfl rfl)
theorem dJ18_rotateRight_37 : decode cJ18_rotateRight 37 = .ok (.putfield 124, 3) := dk_181 0 124 (dk_at dksJ18_rotateRight_1 13 rfl rfl)
theorem dJ18_rotateRight_40 : decode cJ18_rotateRight 40 = .ok (.aload_n 1, 1) := dk_43 (dk_at dksJ18_rotateRight_1 16 rfl rfl)
theorem dJ18_rotateRight_41 : decode cJ18_rotateRight 41 = .ok (.getfield 124, 3) := dk_180 0 124 (dk_at dksJ18_rotateRight_1 17 rfl rfl)
theorem dJ18_rotateRight_44 : decode cJ18_rotateRight 44 = .ok (.ifnonnull 11, 3) := dk_199 0 11 (dk_at dksJ18_rotateRight_1 20 rfl rfl)
theorem dJ18_rotateRight_47 : decode cJ18_rotateRight 47 = .ok (.aload_n 0, 1) := dk_42 (dk_at dksJ18_rotateRight_1 23 rfl rfl)
theorem dJ18_rotateRight_48 : decode cJ18_rotateRight 48 = .ok (.aload_n 2, 1) := dk_44 (dk_at dksJ18_rotateRight_2 0 rfl rfl)
theorem dJ18_rotateRight_49 : decode cJ18_rotateRight 49 = .ok (.putfield 101, 3) := dk_181 0 101 (dk_at dksJ18_rotateRight_2 1 rfl rfl)
theorem dJ18_rotateRight_52 : decode cJ18_rotateRight 52 = .ok (.goto 33, 3) := dk_167 0 33 (dk_at dksJ18_rotateRight_2 4 rfl rfl)
theorem dJ18_rotateRight_55 : decode cJ18_rotateRight 55 = .ok (.aload_n 1, 1) := dk_43 (dk_at dksJ18_rotateRight_2 7 rfl rfl)
theorem dJ18_rotateRight_56 : decode cJ18_rotateRight 56 = .ok (.getfield 124, 3) := dk_180 0 124 (dk_at dksJ18_rotateRight_2 8 rfl rfl)
theorem dJ18_rotateRight_59 : decode cJ18_rotateRight 59 = .ok (.getfield 114, 3) := dk_180 0 114 (dk_at dksJ18_rotateRight_2 11 rfl rfl)
theorem dJ18_rotateRight_62 : decode cJ18_rotateRight 62 = .ok (.aload_n 1, 1) := dk_43 (dk_at dksJ18_rotateRight_2 14 rfl rfl)
theorem dJ18_rotateRight_63 : decode cJ18_rotateRight 63 = .ok (.if_acmp .ne 14, 3) := dk_166 0 14 (dk_at dksJ18_rotateRight_2 15 rfl rfl)
theorem dJ18_rotateRight_66 : decode cJ18_rotateRight 66 = .ok (.aload_n 1, 1) := dk_43 (dk_at dksJ18_rotateRight_2 18 rfl rfl)
theorem dJ18_rotateRight_67 : decode cJ18_rotateRight 67 = .ok (.getfield 124, 3) := dk_180 0 124 (dk_at dksJ18_rotateRight_2 19 rfl rfl)
theorem dJ18_rotateRight_70 : decode cJ18_rotateRight 70 = .ok (.aload_n 2, 1) := dk_44 (dk_at dksJ18_rotateRight_2 22 rfl rfl)
theorem dJ18_rotateRight_71 : decode cJ18_rotateRight 71 = .ok (.putfield 114, 3) := dk_181 0 114 (dk_at dksJ18_rotateRight_3 0 rfl rfl)
theorem dJ18_rotateRight_74 : decode cJ18_rotateRight 74 = .ok (.goto 11, 3) := dk_167 0 11 (dk_at dksJ18_rotateRight_3 3 rfl rfl)
theorem dJ18_rotateRight_77 : decode cJ18_rotateRight 77 = .ok (.aload_n 1, 1) := dk_43 (dk_at dksJ18_rotateRight_3 6 rfl rfl)
theorem dJ18_rotateRight_78 : decode cJ18_rotateRight 78 = .ok (.getfield 124, 3) := dk_180 0 124 (dk_at dksJ18_rotateRight_3 7 rfl rfl)
theorem dJ18_rotateRight_81 : decode cJ18_rotateRight 81 = .ok (.aload_n 2, 1) := dk_44 (dk_at dksJ18_rotateRight_3 10 rfl rfl)
theorem dJ18_rotateRight_82 : decode cJ18_rotateRight 82 = .ok (.putfield 111, 3) := dk_181 0 111 (dk_at dksJ18_rotateRight_3 11 rfl rfl)
theorem dJ18_rotateRight_85 : decode cJ18_rotateRight 85 = .ok (.aload_n 2, 1) := dk_44 (dk_at dksJ18_rotateRight_3 14 rfl rfl)
theorem dJ18_rotateRight_86 : decode cJ18_rotateRight 86 = .ok (.aload_n 1, 1) := dk_43 (dk_at dksJ18_rotateRight_3 15 rfl rfl)
theorem dJ18_rotateRight_87 : decode cJ18_rotateRight 87 = .ok (.putfield 114, 3) := dk_181 0 114 (dk_at dksJ18_rotateRight_3 16 rfl rfl)
theorem dJ18_rotateRight_90 : decode cJ18_rotateRight 90 = .ok (.aload_n 1, 1) := dk_43 (dk_at dksJ18_rotateRight_3 19 rfl rfl)
theorem dJ18_rotateRight_91 : decode cJ18_rotateRight 91 = .ok (.aload_n 2, 1) := dk_44 (dk_at dksJ18_rotateRight_3 20 rfl rfl)
theorem dJ18_rotateRight_92 : decode cJ18_rotateRight 92 = .ok (.putfield 124, 3) := dk_181 0 124 (dk_at dksJ18_rotateRight_3 21 rfl rfl)
theorem dJ18_rotateRight_95 : decode cJ18_rotateRight 95 = .ok (.return_, 1) := dk_177 (dk_at dksJ18_rotateRight_4 0 rfl rfl)
abbrev cJ18_get : ByteArray := prog_77_method_8_code
def yJ18_get : MethodName := ⟨RJ18, "get", "(Ljava/lang/Object;)Ljava/lang/Object;"⟩
def dkwJ18_get_0 : List UInt8 := [42, 43, 182, 0, 50, 77, 44, 199, 0, 7, 1, 167, 0, 7, 44, 180, 0, 58, 176]
abbrev dktJ18_get_0 : List UInt8 := dkwJ18_get_0 ++ []
theorem dksJ18_get_0 : cJ18_get.data.toList.drop 0 = dktJ18_get_0 := by decide +kernel
theorem dJ18_get_0 : decode cJ18_get 0 = .ok (.aload_n 0, 1) := dk_42 (dk_at dksJ18_get_0 0 rfl rfl)
theorem dJ18_get_1 : decode cJ18_get 1 = .ok (.aload_n 1, 1) := dk_43 (dk_at dksJ18_get_0 1 rfl rfl)
theorem dJ18_get_2 : decode cJ18_get 2 = .ok (.invokevirtual 50, 3) := dk_182 0 50 (dk_at dksJ18_get_0 2 rfl rfl)
theorem dJ18_get_5 : decode cJ18_get 5 = .ok (.astore_n 2, 1) := dk_77 (dk_at dksJ18_get_0 5 rfl rfl)
theorem dJ18_get_6 : decode cJ18_get 6 = .ok (.aload_n 2, 1) := dk_44 (dk_at dksJ18_get_0 6 rfl rfl)
theorem dJ18_get_7 : decode cJ18_get 7 = .ok (.ifnonnull 7, 3) := dk_199 0 7 (dk_at dksJ18_get_0 7 rfl rfl)
theorem dJ18_get_10 : decode cJ18_get 10 = .ok (.aconst_null, 1) := dk_1 (dk_at dksJ18_get_0 10 rfl rfl)
theorem dJ18_get_11 : decode cJ18_get 11 = .ok (.goto 7, 3) := dk_167 0 7 (dk_at dksJ18_get_0 11 rfl rfl)
theorem dJ18_get_14 : decode cJ18_get 14 = .ok (.aload_n 2, 1) := dk_44 (dk_at dksJ18_get_0 14 rfl rfl)
theorem dJ18_get_15 : decode cJ18_get 15 = .ok (.getfield 58, 3) := dk_180 0 58 (dk_at dksJ18_get_0 15 rfl rfl)
theorem dJ18_get_18 : decode cJ18_get 18 = .ok (.areturn, 1) := dk_176 (dk_at dksJ18_get_0 18 rfl rfl)
abbrev cJ18_getEntry : ByteArray := prog_77_method_15_code
def yJ18_getEntry : MethodName := ⟨RJ18, "getEntry", "(Ljava/lang/Object;)Ljava/util/TreeMap$Entry;"⟩
def dkwJ18_getEntry_3 : List UInt8 := [45, 176, 167, 255, 212, 1, 176]
abbrev dktJ18_getEntry_3 : List UInt8 := dkwJ18_getEntry_3 ++ []
def dkwJ18_getEntry_2 : List UInt8 := [156, 0, 11, 45, 180, 0, 111, 78, 167, 0, 18, 21, 4, 158, 0, 11, 45, 180, 0, 114, 78, 167, 0, 5]
abbrev dktJ18_getEntry_2 : List UInt8 := dkwJ18_getEntry_2 ++ dktJ18_getEntry_3
def dkwJ18_getEntry_1 : List UInt8 := [180, 0, 101, 78, 45, 198, 0, 46, 44, 45, 180, 0, 105, 185, 0, 107, 2, 0, 54, 4, 21, 4]
abbrev dktJ18_getEntry_1 : List UInt8 := dkwJ18_getEntry_1 ++ dktJ18_getEntry_2
def dkwJ18_getEntry_0 : List UInt8 := [42, 180, 0, 16, 198, 0, 9, 42, 43, 182, 0, 92, 176, 43, 184, 0, 95, 87, 43, 192, 0, 99, 77, 42]
abbrev dktJ18_getEntry_0 : List UInt8 := dkwJ18_getEntry_0 ++ dktJ18_getEntry_1
theorem dksJ18_getEntry_0 : cJ18_getEntry.data.toList.drop 0 = dktJ18_getEntry_0 := by decide +kernel
theorem dksJ18_getEntry_1 : cJ18_getEntry.data.toList.drop 24 = dktJ18_getEntry_1 := dk_seg dksJ18_getEntry_0 24 rfl rfl
theorem dksJ18_getEntry_2 : cJ18_getEntry.data.toList.drop 46 = dktJ18_getEntry_2 := dk_seg dksJ18_getEntry_1 22 rfl rfl
theorem dksJ18_getEntry_3 : cJ18_getEntry.data.toList.drop 70 = dktJ18_getEntry_3 := dk_seg dksJ18_getEntry_2 24 rfl rfl
theorem dJ18_getEntry_0 : decode cJ18_getEntry 0 = .ok (.aload_n 0, 1) := dk_42 (dk_at dksJ18_getEntry_0 0 rfl rfl)
theorem dJ18_getEntry_1 : decode cJ18_getEntry 1 = .ok (.getfield 16, 3) := dk_180 0 16 (dk_at dksJ18_getEntry_0 1 rfl rfl)
theorem dJ18_getEntry_4 : decode cJ18_getEntry 4 = .ok (.ifnull 9, 3) := dk_198 0 9 (dk_at dksJ18_getEntry_0 4 rfl rfl)
theorem dJ18_getEntry_7 : decode cJ18_getEntry 7 = .ok (.aload_n 0, 1) := dk_42 (dk_at dksJ18_getEntry_0 7 rfl rfl)
theorem dJ18_getEntry_8 : decode cJ18_getEntry 8 = .ok (.aload_n 1, 1) := dk_43 (dk_at dksJ18_getEntry_0 8 rfl rfl)
theorem dJ18_getEntry_9 : decode cJ18_getEntry 9 = .ok (.invokevirtual 92, 3) := dk_182 0 92 (dk_at dksJ18_getEntry_0 9 rfl rfl)
theorem dJ18_getEntry_12 : decode cJ18_getEntry 12 = .ok (.areturn, 1) := dk_176 (dk_at dksJ18_getEntry_0 12 rfl rfl)
theorem dJ18_getEntry_13 : decode cJ18_getEntry 13 = .ok (.aload_n 1, 1) := dk_43 (dk_at dksJ18_getEntry_0 13 rfl rfl)
theorem dJ18_getEntry_14 : decode cJ18_getEntry 14 = .ok (.invokestatic 95, 3) := dk_184 0 95 (dk_at dksJ18_getEntry_0 14 rfl rfl)
theorem dJ18_getEntry_17 : decode cJ18_getEntry 17 = .ok (.pop, 1) := dk_87 (dk_at dksJ18_getEntry_0 17 rfl rfl)
theorem dJ18_getEntry_18 : decode cJ18_getEntry 18 = .ok (.aload_n 1, 1) := dk_43 (dk_at dksJ18_getEntry_0 18 rfl rfl)
theorem dJ18_getEntry_19 : decode cJ18_getEntry 19 = .ok (.checkcast 99, 3) := dk_192 0 99 (dk_at dksJ18_getEntry_0 19 rfl rfl)
theorem dJ18_getEntry_22 : decode cJ18_getEntry 22 = .ok (.astore_n 2, 1) := dk_77 (dk_at dksJ18_getEntry_0 22 rfl rfl)
theorem dJ18_getEntry_23 : decode cJ18_getEntry 23 = .ok (.aload_n 0, 1) := dk_42 (dk_at dksJ18_getEntry_0 23 rfl rfl)
theorem dJ18_getEntry_24 : decode cJ18_getEntry 24 = .ok (.getfield 101, 3) := dk_180 0 101 (dk_at dksJ18_getEntry_1 0 rfl rfl)
theorem dJ18_getEntry_27 : decode cJ18_getEntry 27 = .ok (.astore_n 3, 1) := dk_78 (dk_at dksJ18_getEntry_1 3 rfl rfl)
theorem dJ18_getEntry_28 : decode cJ18_getEntry 28 = .ok (.aload_n 3, 1) := dk_45 (dk_at dksJ18_getEntry_1 4 rfl rfl)
theorem dJ18_getEntry_29 : decode cJ18_getEntry 29 = .ok (.ifnull 46, 3) := dk_198 0 46 (dk_at dksJ18_getEntry_1 5 rfl rfl)
theorem dJ18_getEntry_32 : decode cJ18_getEntry 32 = .ok (.aload_n 2, 1) := dk_44 (dk_at dksJ18_getEntry_1 8 rfl rfl)
theorem dJ18_getEntry_33 : decode cJ18_getEntry 33 = .ok (.aload_n 3, 1) := dk_45 (dk_at dksJ18_getEntry_1 9 rfl rfl)
theorem dJ18_getEntry_34 : decode cJ18_getEntry 34 = .ok (.getfield 105, 3) := dk_180 0 105 (dk_at dksJ18_getEntry_1 10 rfl rfl)
theorem dJ18_getEntry_37 : decode cJ18_getEntry 37 = .ok (.invokeinterface 107 2, 5) := by decide +kernel
theorem dJ18_getEntry_42 : decode cJ18_getEntry 42 = .ok (.istore 4, 2) := dk_54 4 (dk_at dksJ18_getEntry_1 18 rfl rfl)
theorem dJ18_getEntry_44 : decode cJ18_getEntry 44 = .ok (.iload 4, 2) := dk_21 4 (dk_at dksJ18_getEntry_1 20 rfl rfl)
theorem dJ18_getEntry_46 : decode cJ18_getEntry 46 = .ok (.ifCond .ge 11, 3) := dk_156 0 11 (dk_at dksJ18_getEntry_2 0 rfl rfl)
theorem dJ18_getEntry_49 : decode cJ18_getEntry 49 = .ok (.aload_n 3, 1) := dk_45 (dk_at dksJ18_getEntry_2 3 rfl rfl)
theorem dJ18_getEntry_50 : decode cJ18_getEntry 50 = .ok (.getfield 111, 3) := dk_180 0 111 (dk_at dksJ18_getEntry_2 4 rfl rfl)
theorem dJ18_getEntry_53 : decode cJ18_getEntry 53 = .ok (.astore_n 3, 1) := dk_78 (dk_at dksJ18_getEntry_2 7 rfl rfl)
theorem dJ18_getEntry_54 : decode cJ18_getEntry 54 = .ok (.goto 18, 3) := dk_167 0 18 (dk_at dksJ18_getEntry_2 8 rfl rfl)
theorem dJ18_getEntry_57 : decode cJ18_getEntry 57 = .ok (.iload 4, 2) := dk_21 4 (dk_at dksJ18_getEntry_2 11 rfl rfl)
theorem dJ18_getEntry_59 : decode cJ18_getEntry 59 = .ok (.ifCond .le 11, 3) := dk_158 0 11 (dk_at dksJ18_getEntry_2 13 rfl rfl)
theorem dJ18_getEntry_62 : decode cJ18_getEntry 62 = .ok (.aload_n 3, 1) := dk_45 (dk_at dksJ18_getEntry_2 16 rfl rfl)
theorem dJ18_getEntry_63 : decode cJ18_getEntry 63 = .ok (.getfield 114, 3) := dk_180 0 114 (dk_at dksJ18_getEntry_2 17 rfl rfl)
theorem dJ18_getEntry_66 : decode cJ18_getEntry 66 = .ok (.astore_n 3, 1) := dk_78 (dk_at dksJ18_getEntry_2 20 rfl rfl)
theorem dJ18_getEntry_67 : decode cJ18_getEntry 67 = .ok (.goto 5, 3) := dk_167 0 5 (dk_at dksJ18_getEntry_2 21 rfl rfl)
theorem dJ18_getEntry_70 : decode cJ18_getEntry 70 = .ok (.aload_n 3, 1) := dk_45 (dk_at dksJ18_getEntry_3 0 rfl rfl)
theorem dJ18_getEntry_71 : decode cJ18_getEntry 71 = .ok (.areturn, 1) := dk_176 (dk_at dksJ18_getEntry_3 1 rfl rfl)
theorem dJ18_getEntry_72 : decode cJ18_getEntry 72 = .ok (.goto (-44), 3) := dk_167 255 212 (dk_at dksJ18_getEntry_3 2 rfl rfl)
theorem dJ18_getEntry_75 : decode cJ18_getEntry 75 = .ok (.aconst_null, 1) := dk_1 (dk_at dksJ18_getEntry_3 5 rfl rfl)
theorem dJ18_getEntry_76 : decode cJ18_getEntry 76 = .ok (.areturn, 1) := dk_176 (dk_at dksJ18_getEntry_3 6 rfl rfl)
abbrev cJ18_getEntryUsingComparator : ByteArray := prog_77_method_16_code
def yJ18_getEntryUsingComparator : MethodName := ⟨RJ18, "getEntryUsingComparator", "(Ljava/lang/Object;)Ljava/util/TreeMap$Entry;"⟩
def dkwJ18_getEntryUsingComparator_3 : List UInt8 := [1, 176]
abbrev dktJ18_getEntryUsingComparator_3 : List UInt8 := dkwJ18_getEntryUsingComparator_3 ++ []
def dkwJ18_getEntryUsingComparator_2 : List UInt8 := [167, 0, 21, 21, 5, 158, 0, 13, 25, 4, 180, 0, 114, 58, 4, 167, 0, 6, 25, 4, 176, 167, 255, 204]
abbrev dktJ18_getEntryUsingComparator_2 : List UInt8 := dkwJ18_getEntryUsingComparator_2 ++ dktJ18_getEntryUsingComparator_3
def dkwJ18_getEntryUsingComparator_1 : List UInt8 := [25, 4, 180, 0, 105, 185, 0, 117, 3, 0, 54, 5, 21, 5, 156, 0, 13, 25, 4, 180, 0, 111, 58, 4]
abbrev dktJ18_getEntryUsingComparator_1 : List UInt8 := dkwJ18_getEntryUsingComparator_1 ++ dktJ18_getEntryUsingComparator_2
def dkwJ18_getEntryUsingComparator_0 : List UInt8 := [43, 77, 42, 180, 0, 16, 78, 45, 198, 0, 64, 42, 180, 0, 101, 58, 4, 25, 4, 198, 0, 53, 45, 44]
abbrev dktJ18_getEntryUsingComparator_0 : List UInt8 := dkwJ18_getEntryUsingComparator_0 ++ dktJ18_getEntryUsingComparator_1
theorem dksJ18_getEntryUsingComparator_0 : cJ18_getEntryUsingComparator.data.toList.drop 0 = dktJ18_getEntryUsingComparator_0 := by decide +kernel
theorem dksJ18_getEntryUsingComparator_1 : cJ18_getEntryUsingComparator.data.toList.drop 24 = dktJ18_getEntryUsingComparator_1 := dk_seg dksJ18_getEntryUsingComparator_0 24 rfl rfl
theorem dksJ18_getEntryUsingComparator_2 : cJ18_getEntryUsingComparator.data.toList.drop 48 = dktJ18_getEntryUsingComparator_2 := dk_seg dksJ18_getEntryUsingComparator_1 24 rfl rfl
theorem dksJ18_getEntryUsingComparator_3 : cJ18_getEntryUsingComparator.data.toList.drop 72 = dktJ18_getEntryUsingComparator_3 := dk_seg dksJ18_getEntryUsingComparator_2 24 rfl rfl
theorem dJ18_getEntryUsingComparator_0 : decode cJ18_getEntryUsingComparator 0 = .ok (.aload_n 1, 1) := dk_43 (dk_at dksJ18_getEntryUsingComparator_0 0 rfl rfl)
theorem dJ18_getEntryUsingComparator_1 : decode cJ18_getEntryUsingComparator 1 = .ok (.astore_n 2, 1) := dk_77 (dk_at dksJ18_getEntryUsingComparator_0 1 rfl rfl)
theorem dJ18_getEntryUsingComparator_2 : decode cJ18_getEntryUsingComparator 2 = .ok (.aload_n 0, 1) := dk_42 (dk_at dksJ18_getEntryUsingComparator_0 2 rfl rfl)
theorem dJ18_getEntryUsingComparator_3 : decode cJ18_getEntryUsingComparator 3 = .ok (.getfield 16, 3) := dk_180 0 16 (dk_at dksJ18_getEntryUsingComparator_0 3 rfl rfl)
theorem dJ18_getEntryUsingComparator_6 : decode cJ18_getEntryUsingComparator 6 = .ok (.astore_n 3, 1) := dk_78 (dk_at dksJ18_getEntryUsingComparator_0 6 rfl rfl)
theorem dJ18_getEntryUsingComparator_7 : decode cJ18_getEntryUsingComparator 7 = .ok (.aload_n 3, 1) := dk_45 (dk_at dksJ18_getEntryUsingComparator_0 7 rfl rfl)
theorem dJ18_getEntryUsingComparator_8 : decode cJ18_getEntryUsingComparator 8 = .ok (.ifnull 64, 3) := dk_198 0 64 (dk_at dksJ18_getEntryUsingComparator_0 8 rfl rfl)
theorem dJ18_getEntryUsingComparator_11 : decode cJ18_getEntryUsingComparator 11 = .ok (.aload_n 0, 1) := dk_42 (dk_at dksJ18_getEntryUsingComparator_0 11 rfl rfl)
theorem dJ18_getEntryUsingComparator_12 : decode cJ18_getEntryUsingComparator 12 = .ok (.getfield 101, 3) := dk_180 0 101 (dk_at dksJ18_getEntryUsingComparator_0 12 rfl rfl)
theorem dJ18_getEntryUsingComparator_15 : decode cJ18_getEntryUsingComparator 15 = .ok (.astore 4, 2) := dk_58 4 (dk_at dksJ18_getEntryUsingComparator_0 15 rfl rfl)
theorem dJ18_getEntryUsingComparator_17 : decode cJ18_getEntryUsingComparator 17 = .ok (.aload 4, 2) := dk_25 4 (dk_at dksJ18_getEntryUsingComparator_0 17 rfl rfl)
theorem dJ18_getEntryUsingComparator_19 : decode cJ18_getEntryUsingComparator 19 = .ok (.ifnull 53, 3) := dk_198 0 53 (dk_at dksJ18_getEntryUsingComparator_0 19 rfl rfl)
theorem dJ18_getEntryUsingComparator_22 : decode cJ18_getEntryUsingComparator 22 = .ok (.aload_n 3, 1) := dk_45 (dk_at dksJ18_getEntryUsingComparator_0 22 rfl rfl)
theorem dJ18_getEntryUsingComparator_23 : decode cJ18_getEntryUsingComparator 23 = .ok (.aload_n 2, 1) := dk_44 (dk_at dksJ18_getEntryUsingComparator_0 23 rfl rfl)
theorem dJ18_getEntryUsingComparator_24 : decode cJ18_getEntryUsingComparator 24 = .ok (.aload 4, 2) := dk_25 4 (dk_at dksJ18_getEntryUsingComparator_1 0 rfl rfl)
theorem dJ18_getEntryUsingComparator_26 : decode cJ18_getEntryUsingComparator 26 = .ok (.getfield 105, 3) := dk_180 0 105 (dk_at dksJ18_getEntryUsingComparator_1 2 rfl rfl)
theorem dJ18_getEntryUsingComparator_29 : decode cJ18_getEntryUsingComparator 29 = .ok (.invokeinterface 117 3, 5) := by decide +kernel
theorem dJ18_getEntryUsingComparator_34 : decode cJ18_getEntryUsingComparator 34 = .ok (.istore 5, 2) := dk_54 5 (dk_at dksJ18_getEntryUsingComparator_1 10 rfl rfl)
theorem dJ18_getEntryUsingComparator_36 : decode cJ18_getEntryUsingComparator 36 = .ok (.iload 5, 2) := dk_21 5 (dk_at dksJ18_getEntryUsingComparator_1 12 rfl rfl)
theorem dJ18_getEntryUsingComparator_38 : decode cJ18_getEntryUsingComparator 38 = .ok (.ifCond .ge 13, 3) := dk_156 0 13 (dk_at dksJ18_getEntryUsingComparator_1 14 rfl rfl)
theorem dJ18_getEntryUsingComparator_41 : decode cJ18_getEntryUsingComparator 41 = .ok (.aload 4, 2) := dk_25 4 (dk_at dksJ18_getEntryUsingComparator_1 17 rfl rfl)
theorem dJ18_getEntryUsingComparator_43 : decode cJ18_getEntryUsingComparator 43 = .ok (.getfield 111, 3) := dk_180 0 111 (dk_at dksJ18_getEntryUsingComparator_1 19 rfl rfl)
theorem dJ18_getEntryUsingComparator_46 : decode cJ18_getEntryUsingComparator 46 = .ok (.astore 4, 2) := dk_58 4 (dk_at dksJ18_getEntryUsingComparator_1 22 rfl rfl)
theorem dJ18_getEntryUsingComparator_48 : decode cJ18_getEntryUsingComparator 48 = .ok (.goto 21, 3) := dk_167 0 21 (dk_at dksJ18_getEntryUsingComparator_2 0 rfl rfl)
theorem dJ18_getEntryUsingComparator_51 : decode cJ18_getEntryUsingComparator 51 = .ok (.iload 5, 2) := dk_21 5 (dk_at dksJ18_getEntryUsingComparator_2 3 rfl rfl)
theorem dJ18_getEntryUsingComparator_53 : decode cJ18_getEntryUsingComparator 53 = .ok (.ifCond .le 13, 3) := dk_158 0 13 (dk_at dksJ18_getEntryUsingComparator_2 5 rfl rfl)
theorem dJ18_getEntryUsingComparator_56 : decode cJ18_getEntryUsingComparator 56 = .ok (.aload 4, 2) := dk_25 4 (dk_at dksJ18_getEntryUsingComparator_2 8 rfl rfl)
theorem dJ18_getEntryUsingComparator_58 : decode cJ18_getEntryUsingComparator 58 = .ok (.getfield 114, 3) := dk_180 0 114 (dk_at dksJ18_getEntryUsingComparator_2 10 rfl rfl)
theorem dJ18_getEntryUsingComparator_61 : decode cJ18_getEntryUsingComparator 61 = .ok (.astore 4, 2) := dk_58 4 (dk_at dksJ18_getEntryUsingComparator_2 13 rfl rfl)
theorem dJ18_getEntryUsingComparator_63 : decode cJ18_getEntryUsingComparator 63 = .ok (.goto 6, 3) := dk_167 0 6 (dk_at dksJ18_getEntryUsingComparator_2 15 rfl rfl)
theorem dJ18_getEntryUsingComparator_66 : decode cJ18_getEntryUsingComparator 66 = .ok (.aload 4, 2) := dk_25 4 (dk_at dksJ18_getEntryUsingComparator_2 18 rfl rfl)
theorem dJ18_getEntryUsingComparator_68 : decode cJ18_getEntryUsingComparator 68 = .ok (.areturn, 1) := dk_176 (dk_at dksJ18_getEntryUsingComparator_2 20 rfl rfl)
theorem dJ18_getEntryUsingComparator_69 : decode cJ18_getEntryUsingComparator 69 = .ok (.goto (-52), 3) := dk_167 255 204 (dk_at dksJ18_getEntryUsingComparator_2 21 rfl rfl)
theorem dJ18_getEntryUsingComparator_72 : decode cJ18_getEntryUsingComparator 72 = .ok (.aconst_null, 1) := dk_1 (dk_at dksJ18_getEntryUsingComparator_3 0 rfl rfl)
theorem dJ18_getEntryUsingComparator_73 : decode cJ18_getEntryUsingComparator 73 = .ok (.areturn, 1) := dk_176 (dk_at dksJ18_getEntryUsingComparator_3 1 rfl rfl)
abbrev cJ18_init_2 : ByteArray := prog_77_method_2_code
def yJ18_init_2 : MethodName := ⟨RJ18, "<init>", "(Ljava/util/Comparator;)V"⟩
def dkwJ18_init_2_0 : List UInt8 := [42, 183, 0, 1, 42, 3, 181, 0, 7, 42, 3, 181, 0, 13, 42, 43, 181, 0, 16, 177]
abbrev dktJ18_init_2_0 : List UInt8 := dkwJ18_init_2_0 ++ []
theorem dksJ18_init_2_0 : cJ18_init_2.data.toList.drop 0 = dktJ18_init_2_0 := by decide +kernel
theorem dJ18_init_2_0 : decode cJ18_init_2 0 = .ok (.aload_n 0, 1) := dk_42 (dk_at dksJ18_init_2_0 0 rfl rfl)
theorem dJ18_init_2_1 : decode cJ18_init_2 1 = .ok (.invokespecial 1, 3) := dk_183 0 1 (dk_at dksJ18_init_2_0 1 rfl rfl)
theorem dJ18_init_2_4 : decode cJ18_init_2 4 = .ok (.aload_n 0, 1) := dk_42 (dk_at dksJ18_init_2_0 4 rfl rfl)
theorem dJ18_init_2_5 : decode cJ18_init_2 5 = .ok (.iconst 0, 1) := dk_3 (dk_at dksJ18_init_2_0 5 rfl rfl)
theorem dJ18_init_2_6 : decode cJ18_init_2 6 = .ok (.putfield 7, 3) := dk_181 0 7 (dk_at dksJ18_init_2_0 6 rfl rfl)
theorem dJ18_init_2_9 : decode cJ18_init_2 9 = .ok (.aload_n 0, 1) := dk_42 (dk_at dksJ18_init_2_0 9 rfl rfl)
theorem dJ18_init_2_10 : decode cJ18_init_2 10 = .ok (.iconst 0, 1) := dk_3 (dk_at dksJ18_init_2_0 10 rfl rfl)
theorem dJ18_init_2_11 : decode cJ18_init_2 11 = .ok (.putfield 13, 3) := dk_181 0 13 (dk_at dksJ18_init_2_0 11 rfl rfl)
theorem dJ18_init_2_14 : decode cJ18_init_2 14 = .ok (.aload_n 0, 1) := dk_42 (dk_at dksJ18_init_2_0 14 rfl rfl)
theorem dJ18_init_2_15 : decode cJ18_init_2 15 = .ok (.aload_n 1, 1) := dk_43 (dk_at dksJ18_init_2_0 15 rfl rfl)
theorem dJ18_init_2_16 : decode cJ18_init_2 16 = .ok (.putfield 16, 3) := dk_181 0 16 (dk_at dksJ18_init_2_0 16 rfl rfl)
theorem dJ18_init_2_19 : decode cJ18_init_2 19 = .ok (.return_, 1) := dk_177 (dk_at dksJ18_init_2_0 19 rfl rfl)
abbrev cJ18_values : ByteArray := prog_77_method_52_code
def yJ18_values : MethodName := ⟨RJ18, "values", "()Ljava/util/Collection;"⟩
def dkwJ18_values_1 : List UInt8 := [176]
abbrev dktJ18_values_1 : List UInt8 := dkwJ18_values_1 ++ []
def dkwJ18_values_0 : List UInt8 := [42, 180, 0, 233, 76, 43, 199, 0, 17, 187, 0, 237, 89, 42, 183, 0, 239, 76, 42, 43, 181, 0, 233, 43]
abbrev dktJ18_values_0 : List UInt8 := dkwJ18_values_0 ++ dktJ18_values_1
theorem dksJ18_values_0 : cJ18_values.data.toList.drop 0 = dktJ18_values_0 := by decide +kernel
theorem dksJ18_values_1 : cJ18_values.data.toList.drop 24 = dktJ18_values_1 := dk_seg dksJ18_values_0 24 rfl rfl
theorem dJ18_values_0 : decode cJ18_values 0 = .ok (.aload_n 0, 1) := dk_42 (dk_at dksJ18_values_0 0 rfl rfl)
theorem dJ18_values_1 : decode cJ18_values 1 = .ok (.getfield 233, 3) := dk_180 0 233 (dk_at dksJ18_values_0 1 rfl rfl)
theorem dJ18_values_4 : decode cJ18_values 4 = .ok (.astore_n 1, 1) := dk_76 (dk_at dksJ18_values_0 4 rfl rfl)
theorem dJ18_values_5 : decode cJ18_values 5 = .ok (.aload_n 1, 1) := dk_43 (dk_at dksJ18_values_0 5 rfl rfl)
theorem dJ18_values_6 : decode cJ18_values 6 = .ok (.ifnonnull 17, 3) := dk_199 0 17 (dk_at dksJ18_values_0 6 rfl rfl)
theorem dJ18_values_9 : decode cJ18_values 9 = .ok (.new 237, 3) := dk_187 0 237 (dk_at dksJ18_values_0 9 rfl rfl)
theorem dJ18_values_12 : decode cJ18_values 12 = .ok (.dup, 1) := dk_89 (dk_at dksJ18_values_0 12 rfl rfl)
theorem dJ18_values_13 : decode cJ18_values 13 = .ok (.aload_n 0, 1) := dk_42 (dk_at dksJ18_values_0 13 rfl rfl)
theorem dJ18_values_14 : decode cJ18_values 14 = .ok (.invokespecial 239, 3) := dk_183 0 239 (dk_at dksJ18_values_0 14 rfl rfl)
theorem dJ18_values_17 : decode cJ18_values 17 = .ok (.astore_n 1, 1) := dk_76 (dk_at dksJ18_values_0 17 rfl rfl)
theorem dJ18_values_18 : decode cJ18_values 18 = .ok (.aload_n 0, 1) := dk_42 (dk_at dksJ18_values_0 18 rfl rfl)
theorem dJ18_values_19 : decode cJ18_values 19 = .ok (.aload_n 1, 1) := dk_43 (dk_at dksJ18_values_0 19 rfl rfl)
theorem dJ18_values_20 : decode cJ18_values 20 = .ok (.putfield 233, 3) := dk_181 0 233 (dk_at dksJ18_values_0 20 rfl rfl)
theorem dJ18_values_23 : decode cJ18_values 23 = .ok (.aload_n 1, 1) := dk_43 (dk_at dksJ18_values_0 23 rfl rfl)
theorem dJ18_values_24 : decode cJ18_values 24 = .ok (.areturn, 1) := dk_176 (dk_at dksJ18_values_1 0 rfl rfl)
abbrev cJ18_keyIterator : ByteArray := prog_77_method_65_code
def yJ18_keyIterator : MethodName := ⟨RJ18, "keyIterator", "()Ljava/util/Iterator;"⟩
def dkwJ18_keyIterator_0 : List UInt8 := [187, 1, 13, 89, 42, 42, 182, 0, 54, 183, 1, 15, 176]
abbrev dktJ18_keyIterator_0 : List UInt8 := dkwJ18_keyIterator_0 ++ []
theorem dksJ18_keyIterator_0 : cJ18_keyIterator.data.toList.drop 0 = dktJ18_keyIterator_0 := by decide +kernel
theorem dJ18_keyIterator_0 : decode cJ18_keyIterator 0 = .ok (.new 269, 3) := dk_187 1 13 (dk_at dksJ18_keyIterator_0 0 rfl rfl)
theorem dJ18_keyIterator_3 : decode cJ18_keyIterator 3 = .ok (.dup, 1) := dk_89 (dk_at dksJ18_keyIterator_0 3 rfl rfl)
theorem dJ18_keyIterator_4 : decode cJ18_keyIterator 4 = .ok (.aload_n 0, 1) := dk_42 (dk_at dksJ18_keyIterator_0 4 rfl rfl)
theorem dJ18_keyIterator_5 : decode cJ18_keyIterator 5 = .ok (.aload_n 0, 1) := dk_42 (dk_at dksJ18_keyIterator_0 5 rfl rfl)
theorem dJ18_keyIterator_6 : decode cJ18_keyIterator 6 = .ok (.invokevirtual 54, 3) := dk_182 0 54 (dk_at dksJ18_keyIterator_0 6 rfl rfl)
theorem dJ18_keyIterator_9 : decode cJ18_keyIterator 9 = .ok (.invokespecial 271, 3) := dk_183 1 15 (dk_at dksJ18_keyIterator_0 9 rfl rfl)
theorem dJ18_keyIterator_12 : decode cJ18_keyIterator 12 = .ok (.areturn, 1) := dk_176 (dk_at dksJ18_keyIterator_0 12 rfl rfl)
abbrev cJ18_getFirstEntry : ByteArray := prog_77_method_72_code
def yJ18_getFirstEntry : MethodName := ⟨RJ18, "getFirstEntry", "()Ljava/util/TreeMap$Entry;"⟩
def dkwJ18_getFirstEntry_1 : List UInt8 := [43, 176]
abbrev dktJ18_getFirstEntry_1 : List UInt8 := dkwJ18_getFirstEntry_1 ++ []
def dkwJ18_getFirstEntry_0 : List UInt8 := [42, 180, 0, 101, 76, 43, 198, 0, 18, 43, 180, 0, 111, 198, 0, 11, 43, 180, 0, 111, 76, 167, 255, 244]
abbrev dktJ18_getFirstEntry_0 : List UInt8 := dkwJ18_getFirstEntry_0 ++ dktJ18_getFirstEntry_1
theorem dksJ18_getFirstEntry_0 : cJ18_getFirstEntry.data.toList.drop 0 = dktJ18_getFirstEntry_0 := by decide +kernel
theorem dksJ18_getFirstEntry_1 : cJ18_getFirstEntry.data.toList.drop 24 = dktJ18_getFirstEntry_1 := dk_seg dksJ18_getFirstEntry_0 24 rfl rfl
theorem dJ18_getFirstEntry_0 : decode cJ18_getFirstEntry 0 = .ok (.aload_n 0, 1) := dk_42 (dk_at dksJ18_getFirstEntry_0 0 rfl rfl)
theorem dJ18_getFirstEntry_1 : decode cJ18_getFirstEntry 1 = .ok (.getfield 101, 3) := dk_180 0 101 (dk_at dksJ18_getFirstEntry_0 1 rfl rfl)
theorem dJ18_getFirstEntry_4 : decode cJ18_getFirstEntry 4 = .ok (.astore_n 1, 1) := dk_76 (dk_at dksJ18_getFirstEntry_0 4 rfl rfl)
theorem dJ18_getFirstEntry_5 : decode cJ18_getFirstEntry 5 = .ok (.aload_n 1, 1) := dk_43 (dk_at dksJ18_getFirstEntry_0 5 rfl rfl)
theorem dJ18_getFirstEntry_6 : decode cJ18_getFirstEntry 6 = .ok (.ifnull 18, 3) := dk_198 0 18 (dk_at dksJ18_getFirstEntry_0 6 rfl rfl)
theorem dJ18_getFirstEntry_9 : decode cJ18_getFirstEntry 9 = .ok (.aload_n 1, 1) := dk_43 (dk_at dksJ18_getFirstEntry_0 9 rfl rfl)
theorem dJ18_getFirstEntry_10 : decode cJ18_getFirstEntry 10 = .ok (.getfield 111, 3) := dk_180 0 111 (dk_at dksJ18_getFirstEntry_0 10 rfl rfl)
theorem dJ18_getFirstEntry_13 : decode cJ18_getFirstEntry 13 = .ok (.ifnull 11, 3) := dk_198 0 11 (dk_at dksJ18_getFirstEntry_0 13 rfl rfl)
theorem dJ18_getFirstEntry_16 : decode cJ18_getFirstEntry 16 = .ok (.aload_n 1, 1) := dk_43 (dk_at dksJ18_getFirstEntry_0 16 rfl rfl)
theorem dJ18_getFirstEntry_17 : decode cJ18_getFirstEntry 17 = .ok (.getfield 111, 3) := dk_180 0 111 (dk_at dksJ18_getFirstEntry_0 17 rfl rfl)
theorem dJ18_getFirstEntry_20 : decode cJ18_getFirstEntry 20 = .ok (.astore_n 1, 1) := dk_76 (dk_at dksJ18_getFirstEntry_0 20 rfl rfl)
theorem dJ18_getFirstEntry_21 : decode cJ18_getFirstEntry 21 = .ok (.goto (-12), 3) := dk_167 255 244 (dk_at dksJ18_getFirstEntry_0 21 rfl rfl)
theorem dJ18_getFirstEntry_24 : decode cJ18_getFirstEntry 24 = .ok (.aload_n 1, 1) := dk_43 (dk_at dksJ18_getFirstEntry_1 0 rfl rfl)
theorem dJ18_getFirstEntry_25 : decode cJ18_getFirstEntry 25 = .ok (.areturn, 1) := dk_176 (dk_at dksJ18_getFirstEntry_1 1 rfl rfl)
abbrev cJ18_navigableKeySet : ByteArray := prog_77_method_50_code
def yJ18_navigableKeySet : MethodName := ⟨RJ18, "navigableKeySet", "()Ljava/util/NavigableSet;"⟩
def dkwJ18_navigableKeySet_1 : List UInt8 := [181, 0, 191, 176]
abbrev dktJ18_navigableKeySet_1 : List UInt8 := dkwJ18_navigableKeySet_1 ++ []
def dkwJ18_navigableKeySet_0 : List UInt8 := [42, 180, 0, 191, 76, 43, 198, 0, 7, 43, 167, 0, 16, 42, 187, 0, 222, 89, 42, 183, 0, 224, 90]
abbrev dktJ18_navigableKeySet_0 : List UInt8 := dkwJ18_navigableKeySet_0 ++ dktJ18_navigableKeySet_1
theorem dksJ18_navigableKeySet_0 : cJ18_navigableKeySet.data.toList.drop 0 = dktJ18_navigableKeySet_0 := by decide +kernel
theorem dksJ18_navigableKeySet_1 : cJ18_navigableKeySet.data.toList.drop 23 = dktJ18_navigableKeySet_1 := dk_seg dksJ18_navigableKeySet_0 23 rfl rfl
theorem dJ18_navigableKeySet_0 : decode cJ18_navigableKeySet 0 = .ok (.aload_n 0, 1) := dk_42 (dk_at dksJ18_navigableKeySet_0 0 rfl rfl)
theorem dJ18_navigableKeySet_1 : decode cJ18_navigableKeySet 1 = .ok (.getfield 191, 3) := dk_180 0 191 (dk_at dksJ18_navigableKeySet_0 1 rfl rfl)
theorem dJ18_navigableKeySet_4 : decode cJ18_navigableKeySet 4 = .ok (.astore_n 1, 1) := dk_76 (dk_at dksJ18_navigableKeySet_0 4 rfl rfl)
theorem dJ18_navigableKeySet_5 : decode cJ18_navigableKeySet 5 = .ok (.aload_n 1, 1) := dk_43 (dk_at dksJ18_navigableKeySet_0 5 rfl rfl)
theorem dJ18_navigableKeySet_6 : decode cJ18_navigableKeySet 6 = .ok (.ifnull 7, 3) := dk_198 0 7 (dk_at dksJ18_navigableKeySet_0 6 rfl rfl)
theorem dJ18_navigableKeySet_9 : decode cJ18_navigableKeySet 9 = .ok (.aload_n 1, 1) := dk_43 (dk_at dksJ18_navigableKeySet_0 9 rfl rfl)
theorem dJ18_navigableKeySet_10 : decode cJ18_navigableKeySet 10 = .ok (.goto 16, 3) := dk_167 0 16 (dk_at dksJ18_navigableKeySet_0 10 rfl rfl)
theorem dJ18_navigableKeySet_13 : decode cJ18_navigableKeySet 13 = .ok (.aload_n 0, 1) := dk_42 (dk_at dksJ18_navigableKeySet_0 13 rfl rfl)
theorem dJ18_navigableKeySet_14 : decode cJ18_navigableKeySet 14 = .ok (.new 222, 3) := dk_187 0 222 (dk_at dksJ18_navigableKeySet_0 14 rfl rfl)
theorem dJ18_navigableKeySet_17 : decode cJ18_navigableKeySet 17 = .ok (.dup, 1) := dk_89 (dk_at dksJ18_navigableKeySet_0 17 rfl rfl)
theorem dJ18_navigableKeySet_18 : decode cJ18_navigableKeySet 18 = .ok (.aload_n 0, 1) := dk_42 (dk_at dksJ18_navigableKeySet_0 18 rfl rfl)
theorem dJ18_navigableKeySet_19 : decode cJ18_navigableKeySet 19 = .ok (.invokespecial 224, 3) := dk_183 0 224 (dk_at dksJ18_navigableKeySet_0 19 rfl rfl)
theorem dJ18_navigableKeySet_22 : decode cJ18_navigableKeySet 22 = .ok (.dup_x1, 1) := dk_90 (dk_at dksJ18_navigableKeySet_0 22 rfl rfl)
theorem dJ18_navigableKeySet_23 : decode cJ18_navigableKeySet 23 = .ok (.putfield 191, 3) := dk_181 0 191 (dk_at dksJ18_navigableKeySet_1 0 rfl rfl)
theorem dJ18_navigableKeySet_26 : decode cJ18_navigableKeySet 26 = .ok (.areturn, 1) := dk_176 (dk_at dksJ18_navigableKeySet_1 3 rfl rfl)
theorem q106 : (Jvm.Cond.initialized "java/util/TreeMap") ∈ lw_all := lw_g (lw_at lw_m1 29 rfl) rfl
theorem q456 : (Jvm.Cond.selects "java/util/TreeMap" ({ cls := "java/lang/Object", name := "getClass", desc := "()Ljava/lang/Class;" } : Jvm.MethodName) ({ cls := "java/lang/Object", name := "getClass", desc := "()Ljava/lang/Class;" } : Jvm.MethodName)) ∈ lw_all := lw_g (lw_at lw_m2 139 rfl) rfl
theorem q801 : (Jvm.Cond.static ({ cls := "java/util/TreeMap", name := "successor", desc := "(Ljava/util/TreeMap$Entry;)Ljava/util/TreeMap$Entry;" } : Jvm.MethodName)) ∈ lw_all := lw_g (lw_at lw_m4 4 rfl) rfl
theorem q802 : (Jvm.Cond.code ({ cls := "java/util/TreeMap", name := "successor", desc := "(Ljava/util/TreeMap$Entry;)Ljava/util/TreeMap$Entry;" } : Jvm.MethodName) prog_77_method_74_code (3 : Nat) (Option.some (Jvm.ClassFile.FieldType.object "java/util/TreeMap$Entry"))) ∈ lw_all := lw_g (lw_at lw_m4 5 rfl) rfl
theorem q1464 : (Jvm.Cond.castable "java/util/TreeMap" "java/util/NavigableMap") ∈ lw_tbl := lw_at lw_m6 187 rfl
theorem q1465 : (Jvm.Cond.selects "java/util/TreeMap" ({ cls := "java/util/Map", name := "size", desc := "()I" } : Jvm.MethodName) ({ cls := "java/util/TreeMap", name := "size", desc := "()I" } : Jvm.MethodName)) ∈ lw_all := lw_g (lw_at lw_m6 188 rfl) rfl
theorem q1466 : (Jvm.Cond.unhidden "java/util/TreeMap" "size" "()I") ∈ lw_tbl := lw_at lw_m6 189 rfl
theorem q1467 : (Jvm.Cond.instanceMethod ({ cls := "java/util/TreeMap", name := "size", desc := "()I" } : Jvm.MethodName)) ∈ lw_all := lw_g (lw_at lw_m6 190 rfl) rfl
theorem q1468 : (Jvm.Cond.publicMethod ({ cls := "java/util/TreeMap", name := "size", desc := "()I" } : Jvm.MethodName)) ∈ lw_tbl := lw_at lw_m6 191 rfl
theorem q1469 : (Jvm.Cond.code ({ cls := "java/util/TreeMap", name := "size", desc := "()I" } : Jvm.MethodName) prog_77_method_5_code (1 : Nat) (Option.some Jvm.ClassFile.FieldType.int)) ∈ lw_all := lw_g (lw_at lw_m6 192 rfl) rfl
theorem q1637 : (Jvm.Cond.instantiable "java/util/TreeMap" (9 : Nat)) ∈ lw_all := lw_g (lw_at lw_m7 120 rfl) rfl
theorem q1639 : (Jvm.Cond.instanceMethod ({ cls := "java/util/TreeMap", name := "<init>", desc := "()V" } : Jvm.MethodName)) ∈ lw_all := lw_g (lw_at lw_m7 122 rfl) rfl
theorem q1640 : (Jvm.Cond.code ({ cls := "java/util/TreeMap", name := "<init>", desc := "()V" } : Jvm.MethodName) prog_77_method_1_code (1 : Nat) (Option.none : Option Jvm.ClassFile.FieldType)) ∈ lw_all := lw_g (lw_at lw_m7 123 rfl) rfl
theorem q1641 : (Jvm.Cond.methodLink "java/util/TreeMap" (1 : Nat) ({ cls := "java/util/AbstractMap", name := "<init>", desc := "()V" } : Jvm.MethodName)) ∈ lw_all := lw_g (lw_at lw_m7 124 rfl) rfl
theorem q1645 : (Jvm.Cond.fieldLink "java/util/TreeMap" (16 : Nat) "java/util/TreeMap" "comparator" "Ljava/util/Comparator;") ∈ lw_all := lw_g (lw_at lw_m7 128 rfl) rfl
theorem q1646 : (Jvm.Cond.fieldLink "java/util/TreeMap" (101 : Nat) "java/util/TreeMap" "root" "Ljava/util/TreeMap$Entry;") ∈ lw_all := lw_g (lw_at lw_m7 129 rfl) rfl
theorem q1647 : (Jvm.Cond.fieldLink "java/util/TreeMap" (7 : Nat) "java/util/TreeMap" "size" "I") ∈ lw_all := lw_g (lw_at lw_m7 130 rfl) rfl
theorem q1648 : (Jvm.Cond.fieldLink "java/util/TreeMap" (13 : Nat) "java/util/TreeMap" "modCount" "I") ∈ lw_all := lw_g (lw_at lw_m7 131 rfl) rfl
theorem q1650 : (Jvm.Cond.fieldLink "java/util/TreeMap" (191 : Nat) "java/util/TreeMap" "navigableKeySet" "Ljava/util/TreeMap$KeySet;") ∈ lw_all := lw_g (lw_at lw_m7 133 rfl) rfl
theorem q1651 : (Jvm.Cond.fieldLink "java/util/TreeMap" (233 : Nat) "java/util/TreeMap" "values" "Ljava/util/Collection;") ∈ lw_all := lw_g (lw_at lw_m7 134 rfl) rfl
theorem q1652 : (Jvm.Cond.sameField "java/util/TreeMap" "java/util/AbstractMap" "values" "Ljava/util/Collection;") ∈ lw_all := lw_g (lw_at lw_m7 135 rfl) rfl
theorem q1653 : (Jvm.Cond.laysFinal "java/util/TreeMap" "java/util/TreeMap" "comparator" "Ljava/util/Comparator;") ∈ lw_all := lw_g (lw_at lw_m7 136 rfl) rfl
theorem q1654 : (Jvm.Cond.soleField "java/util/TreeMap" "comparator") ∈ lw_all := lw_g (lw_at lw_m7 137 rfl) rfl
theorem q1655 : (Jvm.Cond.lays "java/util/TreeMap" "java/util/TreeMap" "root" "Ljava/util/TreeMap$Entry;") ∈ lw_all := lw_g (lw_at lw_m7 138 rfl) rfl
theorem q1656 : (Jvm.Cond.soleField "java/util/TreeMap" "root") ∈ lw_all := lw_g (lw_at lw_m7 139 rfl) rfl
theorem q1657 : (Jvm.Cond.lays "java/util/TreeMap" "java/util/TreeMap" "size" "I") ∈ lw_all := lw_g (lw_at lw_m7 140 rfl) rfl
theorem q1658 : (Jvm.Cond.soleField "java/util/TreeMap" "size") ∈ lw_all := lw_g (lw_at lw_m7 141 rfl) rfl
theorem q1659 : (Jvm.Cond.lays "java/util/TreeMap" "java/util/TreeMap" "modCount" "I") ∈ lw_all := lw_g (lw_at lw_m7 142 rfl) rfl
theorem q1660 : (Jvm.Cond.soleField "java/util/TreeMap" "modCount") ∈ lw_all := lw_g (lw_at lw_m7 143 rfl) rfl
theorem q1661 : (Jvm.Cond.lays "java/util/TreeMap" "java/util/TreeMap" "entrySet" "Ljava/util/TreeMap$EntrySet;") ∈ lw_all := lw_g (lw_at lw_m7 144 rfl) rfl
theorem q1662 : (Jvm.Cond.soleField "java/util/TreeMap" "entrySet") ∈ lw_all := lw_g (lw_at lw_m7 145 rfl) rfl
theorem q1663 : (Jvm.Cond.lays "java/util/TreeMap" "java/util/TreeMap" "navigableKeySet" "Ljava/util/TreeMap$KeySet;") ∈ lw_all := lw_g (lw_at lw_m7 146 rfl) rfl
theorem q1664 : (Jvm.Cond.soleField "java/util/TreeMap" "navigableKeySet") ∈ lw_all := lw_g (lw_at lw_m7 147 rfl) rfl
theorem q1665 : (Jvm.Cond.lays "java/util/TreeMap" "java/util/TreeMap" "descendingMap" "Ljava/util/NavigableMap;") ∈ lw_all := lw_g (lw_at lw_m7 148 rfl) rfl
theorem q1666 : (Jvm.Cond.soleField "java/util/TreeMap" "descendingMap") ∈ lw_all := lw_g (lw_at lw_m7 149 rfl) rfl
theorem q1667 : (Jvm.Cond.lays "java/util/TreeMap" "java/util/AbstractMap" "keySet" "Ljava/util/Set;") ∈ lw_all := lw_g (lw_at lw_m7 150 rfl) rfl
theorem q1669 : (Jvm.Cond.lays "java/util/TreeMap" "java/util/AbstractMap" "values" "Ljava/util/Collection;") ∈ lw_all := lw_g (lw_at lw_m7 152 rfl) rfl
theorem q1671 : (Jvm.Cond.superclass "java/util/TreeMap" "java/util/AbstractMap") ∈ lw_all := lw_g (lw_at lw_m7 154 rfl) rfl
theorem q1696 : (Jvm.Cond.instanceMethod ({ cls := "java/util/TreeMap", name := "put", desc := "(Ljava/lang/Object;Ljava/lang/Object;)Ljava/lang/Object;" } : Jvm.MethodName)) ∈ lw_all := lw_g (lw_at lw_m7 179 rfl) rfl
theorem q1697 : (Jvm.Cond.selects "java/util/TreeMap" ({ cls := "java/util/TreeMap", name := "put", desc := "(Ljava/lang/Object;Ljava/lang/Object;)Ljava/lang/Object;" } : Jvm.MethodName) ({ cls := "java/util/TreeMap", name := "put", desc := "(Ljava/lang/Object;Ljava/lang/Object;)Ljava/lang/Object;" } : Jvm.MethodName)) ∈ lw_all := lw_g (lw_at lw_m7 180 rfl) rfl
theorem q1698 : (Jvm.Cond.code ({ cls := "java/util/TreeMap", name := "put", desc := "(Ljava/lang/Object;Ljava/lang/Object;)Ljava/lang/Object;" } : Jvm.MethodName) prog_77_method_21_code (3 : Nat) (Option.some (Jvm.ClassFile.FieldType.object "java/lang/Object"))) ∈ lw_all := lw_g (lw_at lw_m7 181 rfl) rfl
theorem q1699 : (Jvm.Cond.methodLink "java/util/TreeMap" (127 : Nat) ({ cls := "java/util/TreeMap", name := "put", desc := "(Ljava/lang/Object;Ljava/lang/Object;Z)Ljava/lang/Object;" } : Jvm.MethodName)) ∈ lw_all := lw_g (lw_at lw_m7 182 rfl) rfl
theorem q1700 : (Jvm.Cond.privateMethod ({ cls := "java/util/TreeMap", name := "put", desc := "(Ljava/lang/Object;Ljava/lang/Object;Z)Ljava/lang/Object;" } : Jvm.MethodName)) ∈ lw_tbl := lw_at lw_m7 183 rfl
theorem q1701 : (Jvm.Cond.instanceMethod ({ cls := "java/util/TreeMap", name := "put", desc := "(Ljava/lang/Object;Ljava/lang/Object;Z)Ljava/lang/Object;" } : Jvm.MethodName)) ∈ lw_all := lw_g (lw_at lw_m7 184 rfl) rfl
theorem q1702 : (Jvm.Cond.code ({ cls := "java/util/TreeMap", name := "put", desc := "(Ljava/lang/Object;Ljava/lang/Object;Z)Ljava/lang/Object;" } : Jvm.MethodName) prog_77_method_31_code (10 : Nat) (Option.some (Jvm.ClassFile.FieldType.object "java/lang/Object"))) ∈ lw_all := lw_g (lw_at lw_m7 185 rfl) rfl
theorem q1703 : (Jvm.Cond.methodLink "java/util/TreeMap" (135 : Nat) ({ cls := "java/util/TreeMap", name := "addEntryToEmptyMap", desc := "(Ljava/lang/Object;Ljava/lang/Object;)V" } : Jvm.MethodName)) ∈ lw_all := lw_g (lw_at lw_m7 186 rfl) rfl
theorem q1704 : (Jvm.Cond.privateMethod ({ cls := "java/util/TreeMap", name := "addEntryToEmptyMap", desc := "(Ljava/lang/Object;Ljava/lang/Object;)V" } : Jvm.MethodName)) ∈ lw_tbl := lw_at lw_m7 187 rfl
theorem q1705 : (Jvm.Cond.instanceMethod ({ cls := "java/util/TreeMap", name := "addEntryToEmptyMap", desc := "(Ljava/lang/Object;Ljava/lang/Object;)V" } : Jvm.MethodName)) ∈ lw_all := lw_g (lw_at lw_m7 188 rfl) rfl
theorem q1706 : (Jvm.Cond.code ({ cls := "java/util/TreeMap", name := "addEntryToEmptyMap", desc := "(Ljava/lang/Object;Ljava/lang/Object;)V" } : Jvm.MethodName) prog_77_method_30_code (3 : Nat) (Option.none : Option Jvm.ClassFile.FieldType)) ∈ lw_all := lw_g (lw_at lw_m7 189 rfl) rfl
theorem q1707 : (Jvm.Cond.methodLink "java/util/TreeMap" (123 : Nat) ({ cls := "java/util/TreeMap", name := "compare", desc := "(Ljava/lang/Object;Ljava/lang/Object;)I" } : Jvm.MethodName)) ∈ lw_all := lw_g (lw_at lw_m7 190 rfl) rfl
theorem q1708 : (Jvm.Cond.instanceMethod ({ cls := "java/util/TreeMap", name := "compare", desc := "(Ljava/lang/Object;Ljava/lang/Object;)I" } : Jvm.MethodName)) ∈ lw_all := lw_g (lw_at lw_m7 191 rfl) rfl
theorem q1709 : (Jvm.Cond.selects "java/util/TreeMap" ({ cls := "java/util/TreeMap", name := "compare", desc := "(Ljava/lang/Object;Ljava/lang/Object;)I" } : Jvm.MethodName) ({ cls := "java/util/TreeMap", name := "compare", desc := "(Ljava/lang/Object;Ljava/lang/Object;)I" } : Jvm.MethodName)) ∈ lw_all := lw_g (lw_at lw_m7 192 rfl) rfl
theorem q1710 : (Jvm.Cond.code ({ cls := "java/util/TreeMap", name := "compare", desc := "(Ljava/lang/Object;Ljava/lang/Object;)I" } : Jvm.MethodName) prog_77_method_67_code (3 : Nat) (Option.some Jvm.ClassFile.FieldType.int)) ∈ lw_all := lw_g (lw_at lw_m7 193 rfl) rfl
theorem q1711 : (Jvm.Cond.classLink "java/util/TreeMap" (99 : Nat) "java/lang/Comparable") ∈ lw_all := lw_g (lw_at lw_m7 194 rfl) rfl
theorem q1712 : (Jvm.Cond.interfaceEntry "java/util/TreeMap" (107 : Nat)) ∈ lw_tbl := lw_at lw_m7 195 rfl
theorem q1713 : (Jvm.Cond.methodLink "java/util/TreeMap" (107 : Nat) ({ cls := "java/lang/Comparable", name := "compareTo", desc := "(Ljava/lang/Object;)I" } : Jvm.MethodName)) ∈ lw_all := lw_g (lw_at lw_m7 196 rfl) rfl
theorem q1714 : (Jvm.Cond.interfaceEntry "java/util/TreeMap" (117 : Nat)) ∈ lw_tbl := lw_at lw_m7 197 rfl
theorem q1715 : (Jvm.Cond.methodLink "java/util/TreeMap" (117 : Nat) ({ cls := "java/util/Comparator", name := "compare", desc := "(Ljava/lang/Object;Ljava/lang/Object;)I" } : Jvm.MethodName)) ∈ lw_all := lw_g (lw_at lw_m7 198 rfl) rfl
theorem q1716 : (Jvm.Cond.classLink "java/util/TreeMap" (59 : Nat) "java/util/TreeMap$Entry") ∈ lw_all := lw_g (lw_at lw_m7 199 rfl) rfl
theorem q1718 : (Jvm.Cond.methodLink "java/util/TreeMap" (167 : Nat) ({ cls := "java/util/TreeMap$Entry", name := "<init>", desc := "(Ljava/lang/Object;Ljava/lang/Object;Ljava/util/TreeMap$Entry;)V" } : Jvm.MethodName)) ∈ lw_all := lw_g (lw_at lw_m7 201 rfl) rfl
theorem q1724 : (Jvm.Cond.fieldLink "java/util/TreeMap" (105 : Nat) "java/util/TreeMap$Entry" "key" "Ljava/lang/Object;") ∈ lw_all := lw_g (lw_at lw_m7 207 rfl) rfl
theorem q1727 : (Jvm.Cond.fieldLink "java/util/TreeMap" (58 : Nat) "java/util/TreeMap$Entry" "value" "Ljava/lang/Object;") ∈ lw_all := lw_g (lw_at lw_m7 210 rfl) rfl
theorem q1728 : (Jvm.Cond.fieldLink "java/util/TreeMap" (111 : Nat) "java/util/TreeMap$Entry" "left" "Ljava/util/TreeMap$Entry;") ∈ lw_all := lw_g (lw_at lw_m7 211 rfl) rfl
theorem q1729 : (Jvm.Cond.fieldLink "java/util/TreeMap" (114 : Nat) "java/util/TreeMap$Entry" "right" "Ljava/util/TreeMap$Entry;") ∈ lw_all := lw_g (lw_at lw_m7 212 rfl) rfl
theorem q1731 : (Jvm.Cond.fieldLink "java/util/TreeMap" (124 : Nat) "java/util/TreeMap$Entry" "parent" "Ljava/util/TreeMap$Entry;") ∈ lw_all := lw_g (lw_at lw_m7 214 rfl) rfl
theorem q1733 : (Jvm.Cond.fieldLink "java/util/TreeMap" (290 : Nat) "java/util/TreeMap$Entry" "color" "Z") ∈ lw_all := lw_g (lw_at lw_m7 216 rfl) rfl
theorem q1747 : (Jvm.Cond.methodLink "java/util/TreeMap" (95 : Nat) ({ cls := "java/util/Objects", name := "requireNonNull", desc := "(Ljava/lang/Object;)Ljava/lang/Object;" } : Jvm.MethodName)) ∈ lw_all := lw_g (lw_at lw_m7 230 rfl) rfl
theorem q1752 : (Jvm.Cond.methodLink "java/util/TreeMap" (139 : Nat) ({ cls := "java/util/TreeMap", name := "addEntry", desc := "(Ljava/lang/Object;Ljava/lang/Object;Ljava/util/TreeMap$Entry;Z)V" } : Jvm.MethodName)) ∈ lw_all := lw_g (lw_at lw_m7 235 rfl) rfl
theorem q1753 : (Jvm.Cond.privateMethod ({ cls := "java/util/TreeMap", name := "addEntry", desc := "(Ljava/lang/Object;Ljava/lang/Object;Ljava/util/TreeMap$Entry;Z)V" } : Jvm.MethodName)) ∈ lw_tbl := lw_at lw_m7 236 rfl
theorem q1754 : (Jvm.Cond.instanceMethod ({ cls := "java/util/TreeMap", name := "addEntry", desc := "(Ljava/lang/Object;Ljava/lang/Object;Ljava/util/TreeMap$Entry;Z)V" } : Jvm.MethodName)) ∈ lw_all := lw_g (lw_at lw_m7 237 rfl) rfl
theorem q1755 : (Jvm.Cond.code ({ cls := "java/util/TreeMap", name := "addEntry", desc := "(Ljava/lang/Object;Ljava/lang/Object;Ljava/util/TreeMap$Entry;Z)V" } : Jvm.MethodName) prog_77_method_29_code (6 : Nat) (Option.none : Option Jvm.ClassFile.FieldType)) ∈ lw_all := lw_g (lw_at lw_m7 238 rfl) rfl
theorem q1756 : (Jvm.Cond.methodLink "java/util/TreeMap" (170 : Nat) ({ cls := "java/util/TreeMap", name := "fixAfterInsertion", desc := "(Ljava/util/TreeMap$Entry;)V" } : Jvm.MethodName)) ∈ lw_all := lw_g (lw_at lw_m7 239 rfl) rfl
theorem q1757 : (Jvm.Cond.privateMethod ({ cls := "java/util/TreeMap", name := "fixAfterInsertion", desc := "(Ljava/util/TreeMap$Entry;)V" } : Jvm.MethodName)) ∈ lw_tbl := lw_at lw_m8 0 rfl
theorem q1758 : (Jvm.Cond.instanceMethod ({ cls := "java/util/TreeMap", name := "fixAfterInsertion", desc := "(Ljava/util/TreeMap$Entry;)V" } : Jvm.MethodName)) ∈ lw_all := lw_g (lw_at lw_m8 1 rfl) rfl
theorem q1759 : (Jvm.Cond.code ({ cls := "java/util/TreeMap", name := "fixAfterInsertion", desc := "(Ljava/util/TreeMap$Entry;)V" } : Jvm.MethodName) prog_77_method_83_code (3 : Nat) (Option.none : Option Jvm.ClassFile.FieldType)) ∈ lw_all := lw_g (lw_at lw_m8 2 rfl) rfl
theorem q1760 : (Jvm.Cond.methodLink "java/util/TreeMap" (294 : Nat) ({ cls := "java/util/TreeMap", name := "parentOf", desc := "(Ljava/util/TreeMap$Entry;)Ljava/util/TreeMap$Entry;" } : Jvm.MethodName)) ∈ lw_all := lw_g (lw_at lw_m8 3 rfl) rfl
theorem q1761 : (Jvm.Cond.static ({ cls := "java/util/TreeMap", name := "parentOf", desc := "(Ljava/util/TreeMap$Entry;)Ljava/util/TreeMap$Entry;" } : Jvm.MethodName)) ∈ lw_all := lw_g (lw_at lw_m8 4 rfl) rfl
theorem q1762 : (Jvm.Cond.code ({ cls := "java/util/TreeMap", name := "parentOf", desc := "(Ljava/util/TreeMap$Entry;)Ljava/util/TreeMap$Entry;" } : Jvm.MethodName) prog_77_method_77_code (1 : Nat) (Option.some (Jvm.ClassFile.FieldType.object "java/util/TreeMap$Entry"))) ∈ lw_all := lw_g (lw_at lw_m8 5 rfl) rfl
theorem q1763 : (Jvm.Cond.methodLink "java/util/TreeMap" (297 : Nat) ({ cls := "java/util/TreeMap", name := "leftOf", desc := "(Ljava/util/TreeMap$Entry;)Ljava/util/TreeMap$Entry;" } : Jvm.MethodName)) ∈ lw_all := lw_g (lw_at lw_m8 6 rfl) rfl
theorem q1764 : (Jvm.Cond.static ({ cls := "java/util/TreeMap", name := "leftOf", desc := "(Ljava/util/TreeMap$Entry;)Ljava/util/TreeMap$Entry;" } : Jvm.MethodName)) ∈ lw_all := lw_g (lw_at lw_m8 7 rfl) rfl
theorem q1765 : (Jvm.Cond.code ({ cls := "java/util/TreeMap", name := "leftOf", desc := "(Ljava/util/TreeMap$Entry;)Ljava/util/TreeMap$Entry;" } : Jvm.MethodName) prog_77_method_79_code (1 : Nat) (Option.some (Jvm.ClassFile.FieldType.object "java/util/TreeMap$Entry"))) ∈ lw_all := lw_g (lw_at lw_m8 8 rfl) rfl
theorem q1766 : (Jvm.Cond.methodLink "java/util/TreeMap" (300 : Nat) ({ cls := "java/util/TreeMap", name := "rightOf", desc := "(Ljava/util/TreeMap$Entry;)Ljava/util/TreeMap$Entry;" } : Jvm.MethodName)) ∈ lw_all := lw_g (lw_at lw_m8 9 rfl) rfl
theorem q1767 : (Jvm.Cond.static ({ cls := "java/util/TreeMap", name := "rightOf", desc := "(Ljava/util/TreeMap$Entry;)Ljava/util/TreeMap$Entry;" } : Jvm.MethodName)) ∈ lw_all := lw_g (lw_at lw_m8 10 rfl) rfl
theorem q1768 : (Jvm.Cond.code ({ cls := "java/util/TreeMap", name := "rightOf", desc := "(Ljava/util/TreeMap$Entry;)Ljava/util/TreeMap$Entry;" } : Jvm.MethodName) prog_77_method_80_code (1 : Nat) (Option.some (Jvm.ClassFile.FieldType.object "java/util/TreeMap$Entry"))) ∈ lw_all := lw_g (lw_at lw_m8 11 rfl) rfl
theorem q1769 : (Jvm.Cond.methodLink "java/util/TreeMap" (303 : Nat) ({ cls := "java/util/TreeMap", name := "colorOf", desc := "(Ljava/util/TreeMap$Entry;)Z" } : Jvm.MethodName)) ∈ lw_all := lw_g (lw_at lw_m8 12 rfl) rfl
theorem q1770 : (Jvm.Cond.static ({ cls := "java/util/TreeMap", name := "colorOf", desc := "(Ljava/util/TreeMap$Entry;)Z" } : Jvm.MethodName)) ∈ lw_all := lw_g (lw_at lw_m8 13 rfl) rfl
theorem q1771 : (Jvm.Cond.code ({ cls := "java/util/TreeMap", name := "colorOf", desc := "(Ljava/util/TreeMap$Entry;)Z" } : Jvm.MethodName) prog_77_method_76_code (1 : Nat) (Option.some Jvm.ClassFile.FieldType.boolean)) ∈ lw_all := lw_g (lw_at lw_m8 14 rfl) rfl
theorem q1772 : (Jvm.Cond.methodLink "java/util/TreeMap" (307 : Nat) ({ cls := "java/util/TreeMap", name := "setColor", desc := "(Ljava/util/TreeMap$Entry;Z)V" } : Jvm.MethodName)) ∈ lw_all := lw_g (lw_at lw_m8 15 rfl) rfl
theorem q1773 : (Jvm.Cond.static ({ cls := "java/util/TreeMap", name := "setColor", desc := "(Ljava/util/TreeMap$Entry;Z)V" } : Jvm.MethodName)) ∈ lw_all := lw_g (lw_at lw_m8 16 rfl) rfl
theorem q1774 : (Jvm.Cond.code ({ cls := "java/util/TreeMap", name := "setColor", desc := "(Ljava/util/TreeMap$Entry;Z)V" } : Jvm.MethodName) prog_77_method_78_code (2 : Nat) (Option.none : Option Jvm.ClassFile.FieldType)) ∈ lw_all := lw_g (lw_at lw_m8 17 rfl) rfl
theorem q1775 : (Jvm.Cond.methodLink "java/util/TreeMap" (311 : Nat) ({ cls := "java/util/TreeMap", name := "rotateLeft", desc := "(Ljava/util/TreeMap$Entry;)V" } : Jvm.MethodName)) ∈ lw_all := lw_g (lw_at lw_m8 18 rfl) rfl
theorem q1776 : (Jvm.Cond.privateMethod ({ cls := "java/util/TreeMap", name := "rotateLeft", desc := "(Ljava/util/TreeMap$Entry;)V" } : Jvm.MethodName)) ∈ lw_tbl := lw_at lw_m8 19 rfl
theorem q1777 : (Jvm.Cond.instanceMethod ({ cls := "java/util/TreeMap", name := "rotateLeft", desc := "(Ljava/util/TreeMap$Entry;)V" } : Jvm.MethodName)) ∈ lw_all := lw_g (lw_at lw_m8 20 rfl) rfl
theorem q1778 : (Jvm.Cond.code ({ cls := "java/util/TreeMap", name := "rotateLeft", desc := "(Ljava/util/TreeMap$Entry;)V" } : Jvm.MethodName) prog_77_method_81_code (3 : Nat) (Option.none : Option Jvm.ClassFile.FieldType)) ∈ lw_all := lw_g (lw_at lw_m8 21 rfl) rfl
theorem q1779 : (Jvm.Cond.methodLink "java/util/TreeMap" (314 : Nat) ({ cls := "java/util/TreeMap", name := "rotateRight", desc := "(Ljava/util/TreeMap$Entry;)V" } : Jvm.MethodName)) ∈ lw_all := lw_g (lw_at lw_m8 22 rfl) rfl
theorem q1780 : (Jvm.Cond.privateMethod ({ cls := "java/util/TreeMap", name := "rotateRight", desc := "(Ljava/util/TreeMap$Entry;)V" } : Jvm.MethodName)) ∈ lw_tbl := lw_at lw_m8 23 rfl
theorem q1781 : (Jvm.Cond.instanceMethod ({ cls := "java/util/TreeMap", name := "rotateRight", desc := "(Ljava/util/TreeMap$Entry;)V" } : Jvm.MethodName)) ∈ lw_all := lw_g (lw_at lw_m8 24 rfl) rfl
theorem q1782 : (Jvm.Cond.code ({ cls := "java/util/TreeMap", name := "rotateRight", desc := "(Ljava/util/TreeMap$Entry;)V" } : Jvm.MethodName) prog_77_method_82_code (3 : Nat) (Option.none : Option Jvm.ClassFile.FieldType)) ∈ lw_all := lw_g (lw_at lw_m8 25 rfl) rfl
theorem q1784 : (Jvm.Cond.instanceMethod ({ cls := "java/util/TreeMap", name := "get", desc := "(Ljava/lang/Object;)Ljava/lang/Object;" } : Jvm.MethodName)) ∈ lw_all := lw_g (lw_at lw_m8 27 rfl) rfl
theorem q1785 : (Jvm.Cond.selects "java/util/TreeMap" ({ cls := "java/util/TreeMap", name := "get", desc := "(Ljava/lang/Object;)Ljava/lang/Object;" } : Jvm.MethodName) ({ cls := "java/util/TreeMap", name := "get", desc := "(Ljava/lang/Object;)Ljava/lang/Object;" } : Jvm.MethodName)) ∈ lw_all := lw_g (lw_at lw_m8 28 rfl) rfl
theorem q1786 : (Jvm.Cond.code ({ cls := "java/util/TreeMap", name := "get", desc := "(Ljava/lang/Object;)Ljava/lang/Object;" } : Jvm.MethodName) prog_77_method_8_code (3 : Nat) (Option.some (Jvm.ClassFile.FieldType.object "java/lang/Object"))) ∈ lw_all := lw_g (lw_at lw_m8 29 rfl) rfl
theorem q1787 : (Jvm.Cond.methodLink "java/util/TreeMap" (50 : Nat) ({ cls := "java/util/TreeMap", name := "getEntry", desc := "(Ljava/lang/Object;)Ljava/util/TreeMap$Entry;" } : Jvm.MethodName)) ∈ lw_all := lw_g (lw_at lw_m8 30 rfl) rfl
theorem q1788 : (Jvm.Cond.instanceMethod ({ cls := "java/util/TreeMap", name := "getEntry", desc := "(Ljava/lang/Object;)Ljava/util/TreeMap$Entry;" } : Jvm.MethodName)) ∈ lw_all := lw_g (lw_at lw_m8 31 rfl) rfl
theorem q1789 : (Jvm.Cond.selects "java/util/TreeMap" ({ cls := "java/util/TreeMap", name := "getEntry", desc := "(Ljava/lang/Object;)Ljava/util/TreeMap$Entry;" } : Jvm.MethodName) ({ cls := "java/util/TreeMap", name := "getEntry", desc := "(Ljava/lang/Object;)Ljava/util/TreeMap$Entry;" } : Jvm.MethodName)) ∈ lw_all := lw_g (lw_at lw_m8 32 rfl) rfl
theorem q1790 : (Jvm.Cond.code ({ cls := "java/util/TreeMap", name := "getEntry", desc := "(Ljava/lang/Object;)Ljava/util/TreeMap$Entry;" } : Jvm.MethodName) prog_77_method_15_code (5 : Nat) (Option.some (Jvm.ClassFile.FieldType.object "java/util/TreeMap$Entry"))) ∈ lw_all := lw_g (lw_at lw_m8 33 rfl) rfl
theorem q1791 : (Jvm.Cond.methodLink "java/util/TreeMap" (92 : Nat) ({ cls := "java/util/TreeMap", name := "getEntryUsingComparator", desc := "(Ljava/lang/Object;)Ljava/util/TreeMap$Entry;" } : Jvm.MethodName)) ∈ lw_all := lw_g (lw_at lw_m8 34 rfl) rfl
theorem q1792 : (Jvm.Cond.instanceMethod ({ cls := "java/util/TreeMap", name := "getEntryUsingComparator", desc := "(Ljava/lang/Object;)Ljava/util/TreeMap$Entry;" } : Jvm.MethodName)) ∈ lw_all := lw_g (lw_at lw_m8 35 rfl) rfl
theorem q1793 : (Jvm.Cond.selects "java/util/TreeMap" ({ cls := "java/util/TreeMap", name := "getEntryUsingComparator", desc := "(Ljava/lang/Object;)Ljava/util/TreeMap$Entry;" } : Jvm.MethodName) ({ cls := "java/util/TreeMap", name := "getEntryUsingComparator", desc := "(Ljava/lang/Object;)Ljava/util/TreeMap$Entry;" } : Jvm.MethodName)) ∈ lw_all := lw_g (lw_at lw_m8 36 rfl) rfl
theorem q1794 : (Jvm.Cond.code ({ cls := "java/util/TreeMap", name := "getEntryUsingComparator", desc := "(Ljava/lang/Object;)Ljava/util/TreeMap$Entry;" } : Jvm.MethodName) prog_77_method_16_code (6 : Nat) (Option.some (Jvm.ClassFile.FieldType.object "java/util/TreeMap$Entry"))) ∈ lw_all := lw_g (lw_at lw_m8 37 rfl) rfl
theorem q1813 : (Jvm.Cond.instanceMethod ({ cls := "java/util/TreeMap", name := "<init>", desc := "(Ljava/util/Comparator;)V" } : Jvm.MethodName)) ∈ lw_all := lw_g (lw_at lw_m8 56 rfl) rfl
theorem q1814 : (Jvm.Cond.code ({ cls := "java/util/TreeMap", name := "<init>", desc := "(Ljava/util/Comparator;)V" } : Jvm.MethodName) prog_77_method_2_code (2 : Nat) (Option.none : Option Jvm.ClassFile.FieldType)) ∈ lw_all := lw_g (lw_at lw_m8 57 rfl) rfl
theorem q1827 : (Jvm.Cond.instanceMethod ({ cls := "java/util/TreeMap", name := "values", desc := "()Ljava/util/Collection;" } : Jvm.MethodName)) ∈ lw_all := lw_g (lw_at lw_m8 70 rfl) rfl
theorem q1828 : (Jvm.Cond.selects "java/util/TreeMap" ({ cls := "java/util/TreeMap", name := "values", desc := "()Ljava/util/Collection;" } : Jvm.MethodName) ({ cls := "java/util/TreeMap", name := "values", desc := "()Ljava/util/Collection;" } : Jvm.MethodName)) ∈ lw_all := lw_g (lw_at lw_m8 71 rfl) rfl
theorem q1829 : (Jvm.Cond.code ({ cls := "java/util/TreeMap", name := "values", desc := "()Ljava/util/Collection;" } : Jvm.MethodName) prog_77_method_52_code (2 : Nat) (Option.some (Jvm.ClassFile.FieldType.object "java/util/Collection"))) ∈ lw_all := lw_g (lw_at lw_m8 72 rfl) rfl
theorem q1830 : (Jvm.Cond.classLink "java/util/TreeMap" (237 : Nat) "java/util/TreeMap$Values") ∈ lw_all := lw_g (lw_at lw_m8 73 rfl) rfl
theorem q1832 : (Jvm.Cond.methodLink "java/util/TreeMap" (239 : Nat) ({ cls := "java/util/TreeMap$Values", name := "<init>", desc := "(Ljava/util/TreeMap;)V" } : Jvm.MethodName)) ∈ lw_all := lw_g (lw_at lw_m8 75 rfl) rfl
theorem q1887 : (Jvm.Cond.instanceMethod ({ cls := "java/util/TreeMap", name := "keyIterator", desc := "()Ljava/util/Iterator;" } : Jvm.MethodName)) ∈ lw_all := lw_g (lw_at lw_m8 130 rfl) rfl
theorem q1888 : (Jvm.Cond.selects "java/util/TreeMap" ({ cls := "java/util/TreeMap", name := "keyIterator", desc := "()Ljava/util/Iterator;" } : Jvm.MethodName) ({ cls := "java/util/TreeMap", name := "keyIterator", desc := "()Ljava/util/Iterator;" } : Jvm.MethodName)) ∈ lw_all := lw_g (lw_at lw_m8 131 rfl) rfl
theorem q1889 : (Jvm.Cond.code ({ cls := "java/util/TreeMap", name := "keyIterator", desc := "()Ljava/util/Iterator;" } : Jvm.MethodName) prog_77_method_65_code (1 : Nat) (Option.some (Jvm.ClassFile.FieldType.object "java/util/Iterator"))) ∈ lw_all := lw_g (lw_at lw_m8 132 rfl) rfl
theorem q1890 : (Jvm.Cond.classLink "java/util/TreeMap" (269 : Nat) "java/util/TreeMap$KeyIterator") ∈ lw_all := lw_g (lw_at lw_m8 133 rfl) rfl
theorem q1892 : (Jvm.Cond.methodLink "java/util/TreeMap" (54 : Nat) ({ cls := "java/util/TreeMap", name := "getFirstEntry", desc := "()Ljava/util/TreeMap$Entry;" } : Jvm.MethodName)) ∈ lw_all := lw_g (lw_at lw_m8 135 rfl) rfl
theorem q1893 : (Jvm.Cond.instanceMethod ({ cls := "java/util/TreeMap", name := "getFirstEntry", desc := "()Ljava/util/TreeMap$Entry;" } : Jvm.MethodName)) ∈ lw_all := lw_g (lw_at lw_m8 136 rfl) rfl
theorem q1894 : (Jvm.Cond.selects "java/util/TreeMap" ({ cls := "java/util/TreeMap", name := "getFirstEntry", desc := "()Ljava/util/TreeMap$Entry;" } : Jvm.MethodName) ({ cls := "java/util/TreeMap", name := "getFirstEntry", desc := "()Ljava/util/TreeMap$Entry;" } : Jvm.MethodName)) ∈ lw_all := lw_g (lw_at lw_m8 137 rfl) rfl
theorem q1895 : (Jvm.Cond.code ({ cls := "java/util/TreeMap", name := "getFirstEntry", desc := "()Ljava/util/TreeMap$Entry;" } : Jvm.MethodName) prog_77_method_72_code (2 : Nat) (Option.some (Jvm.ClassFile.FieldType.object "java/util/TreeMap$Entry"))) ∈ lw_all := lw_g (lw_at lw_m8 138 rfl) rfl
theorem q1896 : (Jvm.Cond.methodLink "java/util/TreeMap" (271 : Nat) ({ cls := "java/util/TreeMap$KeyIterator", name := "<init>", desc := "(Ljava/util/TreeMap;Ljava/util/TreeMap$Entry;)V" } : Jvm.MethodName)) ∈ lw_all := lw_g (lw_at lw_m8 139 rfl) rfl
theorem q1948 : (Jvm.Cond.selects "java/util/TreeMap" ({ cls := "java/util/NavigableMap", name := "navigableKeySet", desc := "()Ljava/util/NavigableSet;" } : Jvm.MethodName) ({ cls := "java/util/TreeMap", name := "navigableKeySet", desc := "()Ljava/util/NavigableSet;" } : Jvm.MethodName)) ∈ lw_all := lw_g (lw_at lw_m8 191 rfl) rfl
theorem q1949 : (Jvm.Cond.unhidden "java/util/TreeMap" "navigableKeySet" "()Ljava/util/NavigableSet;") ∈ lw_tbl := lw_at lw_m8 192 rfl
theorem q1950 : (Jvm.Cond.instanceMethod ({ cls := "java/util/TreeMap", name := "navigableKeySet", desc := "()Ljava/util/NavigableSet;" } : Jvm.MethodName)) ∈ lw_all := lw_g (lw_at lw_m8 193 rfl) rfl
theorem q1951 : (Jvm.Cond.publicMethod ({ cls := "java/util/TreeMap", name := "navigableKeySet", desc := "()Ljava/util/NavigableSet;" } : Jvm.MethodName)) ∈ lw_tbl := lw_at lw_m8 194 rfl
theorem q1952 : (Jvm.Cond.code ({ cls := "java/util/TreeMap", name := "navigableKeySet", desc := "()Ljava/util/NavigableSet;" } : Jvm.MethodName) prog_77_method_50_code (2 : Nat) (Option.some (Jvm.ClassFile.FieldType.object "java/util/NavigableSet"))) ∈ lw_all := lw_g (lw_at lw_m8 195 rfl) rfl
theorem q1953 : (Jvm.Cond.classLink "java/util/TreeMap" (222 : Nat) "java/util/TreeMap$KeySet") ∈ lw_all := lw_g (lw_at lw_m8 196 rfl) rfl
theorem q1955 : (Jvm.Cond.methodLink "java/util/TreeMap" (224 : Nat) ({ cls := "java/util/TreeMap$KeySet", name := "<init>", desc := "(Ljava/util/NavigableMap;)V" } : Jvm.MethodName)) ∈ lw_all := lw_g (lw_at lw_m8 198 rfl) rfl
theorem q1979 : (Jvm.Cond.selects "java/util/TreeMap" ({ cls := "java/util/Map", name := "put", desc := "(Ljava/lang/Object;Ljava/lang/Object;)Ljava/lang/Object;" } : Jvm.MethodName) ({ cls := "java/util/TreeMap", name := "put", desc := "(Ljava/lang/Object;Ljava/lang/Object;)Ljava/lang/Object;" } : Jvm.MethodName)) ∈ lw_all := lw_g (lw_at lw_m8 222 rfl) rfl
theorem q1980 : (Jvm.Cond.unhidden "java/util/TreeMap" "put" "(Ljava/lang/Object;Ljava/lang/Object;)Ljava/lang/Object;") ∈ lw_tbl := lw_at lw_m8 223 rfl
theorem q1981 : (Jvm.Cond.publicMethod ({ cls := "java/util/TreeMap", name := "put", desc := "(Ljava/lang/Object;Ljava/lang/Object;)Ljava/lang/Object;" } : Jvm.MethodName)) ∈ lw_tbl := lw_at lw_m8 224 rfl
theorem q2737 : (Jvm.Cond.selects "java/util/TreeMap" ({ cls := "java/util/TreeMap", name := "size", desc := "()I" } : Jvm.MethodName) ({ cls := "java/util/TreeMap", name := "size", desc := "()I" } : Jvm.MethodName)) ∈ lw_all := lw_g (lw_at lw_m12 20 rfl) rfl
theorem q2773 : (Jvm.Cond.castable "java/util/TreeMap" "java/lang/Object") ∈ lw_tbl := lw_at lw_m12 56 rfl
theorem in_J18 : ∀ w ∈ wsJ180, w ∈ lw_all := lw_in wsJ180 [1667, 1669, 1653, 1655, 1657, 1659, 1661, 1663, 1665] (by decide +kernel) (by decide +kernel)
/-! java/util/TreeMap$Entry -/
set_option maxRecDepth 100000
def RJ27 : String := "java/util/TreeMap$Entry"
def TJ27 : u_T := fun k => match k with
  | 0 => ("java/util/TreeMap$Entry", "key", "Ljava/lang/Object;", false)
  | 1 => ("java/util/TreeMap$Entry", "value", "Ljava/lang/Object;", false)
  | 2 => ("java/util/TreeMap$Entry", "left", "Ljava/util/TreeMap$Entry;", false)
  | 3 => ("java/util/TreeMap$Entry", "right", "Ljava/util/TreeMap$Entry;", false)
  | 4 => ("java/util/TreeMap$Entry", "parent", "Ljava/util/TreeMap$Entry;", false)
  | _ => ("java/util/TreeMap$Entry", "color", "Z", false)
def tyJ27 : Nat → FieldType := fun k => match k with
  | 0 => .object "java/lang/Object"
  | 1 => .object "java/lang/Object"
  | 2 => .object "java/util/TreeMap$Entry"
  | 3 => .object "java/util/TreeMap$Entry"
  | 4 => .object "java/util/TreeMap$Entry"
  | _ => .boolean
abbrev wsJ270 : List Cond := u_ws RJ27 TJ27 6
theorem nmJ27 : ∀ a, a < 6 → ∀ b, b < 6 → a ≠ b → (TJ27 a).2.1 ≠ (TJ27 b).2.1 := by decide +kernel
theorem tyJ27_ok : ∀ k, k < 6 → parseFieldDescriptor (TJ27 k).2.2.1 = some (tyJ27 k) := by decide +kernel
abbrev cJ27_init : ByteArray := prog_78_method_1_code
def yJ27_init : MethodName := ⟨RJ27, "<init>", "(Ljava/lang/Object;Ljava/lang/Object;Ljava/util/TreeMap$Entry;)V"⟩
def dkwJ27_init_1 : List UInt8 := [177]
abbrev dktJ27_init_1 : List UInt8 := dkwJ27_init_1 ++ []
def dkwJ27_init_0 : List UInt8 := [42, 183, 0, 3, 42, 4, 181, 0, 9, 42, 43, 181, 0, 15, 42, 44, 181, 0, 19, 42, 45, 181, 0, 22]
abbrev dktJ27_init_0 : List UInt8 := dkwJ27_init_0 ++ dktJ27_init_1
theorem dksJ27_init_0 : cJ27_init.data.toList.drop 0 = dktJ27_init_0 := by decide +kernel
theorem dksJ27_init_1 : cJ27_init.data.toList.drop 24 = dktJ27_init_1 := dk_seg dksJ27_init_0 24 rfl rfl
theorem dJ27_init_0 : decode cJ27_init 0 = .ok (.aload_n 0, 1) := dk_42 (dk_at dksJ27_init_0 0 rfl rfl)
theorem dJ27_init_1 : decode cJ27_init 1 = .ok (.invokespecial 3, 3) := dk_183 0 3 (dk_at dksJ27_init_0 1 rfl rfl)
theorem dJ27_init_4 : decode cJ27_init 4 = .ok (.aload_n 0, 1) := dk_42 (dk_at dksJ27_init_0 4 rfl rfl)
theorem dJ27_init_5 : decode cJ27_init 5 = .ok (.iconst 1, 1) := dk_4 (dk_at dksJ27_init_0 5 rfl rfl)
theorem dJ27_init_6 : decode cJ27_init 6 = .ok (.putfield 9, 3) := dk_181 0 9 (dk_at dksJ27_init_0 6 rfl rfl)
theorem dJ27_init_9 : decode cJ27_init 9 = .ok (.aload_n 0, 1) := dk_42 (dk_at dksJ27_init_0 9 rfl rfl)
theorem dJ27_init_10 : decode cJ27_init 10 = .ok (.aload_n 1, 1) := dk_43 (dk_at dksJ27_init_0 10 rfl rfl)
theorem dJ27_init_11 : decode cJ27_init 11 = .ok (.putfield 15, 3) := dk_181 0 15 (dk_at dksJ27_init_0 11 rfl rfl)
theorem dJ27_init_14 : decode cJ27_init 14 = .ok (.aload_n 0, 1) := dk_42 (dk_at dksJ27_init_0 14 rfl rfl)
theorem dJ27_init_15 : decode cJ27_init 15 = .ok (.aload_n 2, 1) := dk_44 (dk_at dksJ27_init_0 15 rfl rfl)
theorem dJ27_init_16 : decode cJ27_init 16 = .ok (.putfield 19, 3) := dk_181 0 19 (dk_at dksJ27_init_0 16 rfl rfl)
theorem dJ27_init_19 : decode cJ27_init 19 = .ok (.aload_n 0, 1) := dk_42 (dk_at dksJ27_init_0 19 rfl rfl)
theorem dJ27_init_20 : decode cJ27_init 20 = .ok (.aload_n 3, 1) := dk_45 (dk_at dksJ27_init_0 20 rfl rfl)
theorem dJ27_init_21 : decode cJ27_init 21 = .ok (.putfield 22, 3) := dk_181 0 22 (dk_at dksJ27_init_0 21 rfl rfl)
theorem dJ27_init_24 : decode cJ27_init 24 = .ok (.return_, 1) := dk_177 (dk_at dksJ27_init_1 0 rfl rfl)
theorem q121 : (Jvm.Cond.initialized "java/util/TreeMap$Entry") ∈ lw_all := lw_g (lw_at lw_m1 44 rfl) rfl
theorem q457 : (Jvm.Cond.selects "java/util/TreeMap$Entry" ({ cls := "java/lang/Object", name := "getClass", desc := "()Ljava/lang/Class;" } : Jvm.MethodName) ({ cls := "java/lang/Object", name := "getClass", desc := "()Ljava/lang/Class;" } : Jvm.MethodName)) ∈ lw_all := lw_g (lw_at lw_m2 140 rfl) rfl
theorem q1717 : (Jvm.Cond.instantiable "java/util/TreeMap$Entry" (6 : Nat)) ∈ lw_all := lw_g (lw_at lw_m7 200 rfl) rfl
theorem q1719 : (Jvm.Cond.instanceMethod ({ cls := "java/util/TreeMap$Entry", name := "<init>", desc := "(Ljava/lang/Object;Ljava/lang/Object;Ljava/util/TreeMap$Entry;)V" } : Jvm.MethodName)) ∈ lw_all := lw_g (lw_at lw_m7 202 rfl) rfl
theorem q1720 : (Jvm.Cond.code ({ cls := "java/util/TreeMap$Entry", name := "<init>", desc := "(Ljava/lang/Object;Ljava/lang/Object;Ljava/util/TreeMap$Entry;)V" } : Jvm.MethodName) prog_78_method_1_code (4 : Nat) (Option.none : Option Jvm.ClassFile.FieldType)) ∈ lw_all := lw_g (lw_at lw_m7 203 rfl) rfl
theorem q1721 : (Jvm.Cond.methodLink "java/util/TreeMap$Entry" (3 : Nat) ({ cls := "java/lang/Object", name := "<init>", desc := "()V" } : Jvm.MethodName)) ∈ lw_all := lw_g (lw_at lw_m7 204 rfl) rfl
theorem q1722 : (Jvm.Cond.fieldLink "java/util/TreeMap$Entry" (15 : Nat) "java/util/TreeMap$Entry" "key" "Ljava/lang/Object;") ∈ lw_all := lw_g (lw_at lw_m7 205 rfl) rfl
theorem q1725 : (Jvm.Cond.fieldLink "java/util/TreeMap$Entry" (19 : Nat) "java/util/TreeMap$Entry" "value" "Ljava/lang/Object;") ∈ lw_all := lw_g (lw_at lw_m7 208 rfl) rfl
theorem q1730 : (Jvm.Cond.fieldLink "java/util/TreeMap$Entry" (22 : Nat) "java/util/TreeMap$Entry" "parent" "Ljava/util/TreeMap$Entry;") ∈ lw_all := lw_g (lw_at lw_m7 213 rfl) rfl
theorem q1732 : (Jvm.Cond.fieldLink "java/util/TreeMap$Entry" (9 : Nat) "java/util/TreeMap$Entry" "color" "Z") ∈ lw_all := lw_g (lw_at lw_m7 215 rfl) rfl
theorem q1734 : (Jvm.Cond.lays "java/util/TreeMap$Entry" "java/util/TreeMap$Entry" "key" "Ljava/lang/Object;") ∈ lw_all := lw_g (lw_at lw_m7 217 rfl) rfl
theorem q1735 : (Jvm.Cond.soleField "java/util/TreeMap$Entry" "key") ∈ lw_all := lw_g (lw_at lw_m7 218 rfl) rfl
theorem q1736 : (Jvm.Cond.lays "java/util/TreeMap$Entry" "java/util/TreeMap$Entry" "value" "Ljava/lang/Object;") ∈ lw_all := lw_g (lw_at lw_m7 219 rfl) rfl
theorem q1737 : (Jvm.Cond.soleField "java/util/TreeMap$Entry" "value") ∈ lw_all := lw_g (lw_at lw_m7 220 rfl) rfl
theorem q1738 : (Jvm.Cond.lays "java/util/TreeMap$Entry" "java/util/TreeMap$Entry" "left" "Ljava/util/TreeMap$Entry;") ∈ lw_all := lw_g (lw_at lw_m7 221 rfl) rfl
theorem q1739 : (Jvm.Cond.soleField "java/util/TreeMap$Entry" "left") ∈ lw_all := lw_g (lw_at lw_m7 222 rfl) rfl
theorem q1740 : (Jvm.Cond.lays "java/util/TreeMap$Entry" "java/util/TreeMap$Entry" "right" "Ljava/util/TreeMap$Entry;") ∈ lw_all := lw_g (lw_at lw_m7 223 rfl) rfl
theorem q1741 : (Jvm.Cond.soleField "java/util/TreeMap$Entry" "right") ∈ lw_all := lw_g (lw_at lw_m7 224 rfl) rfl
theorem q1742 : (Jvm.Cond.lays "java/util/TreeMap$Entry" "java/util/TreeMap$Entry" "parent" "Ljava/util/TreeMap$Entry;") ∈ lw_all := lw_g (lw_at lw_m7 225 rfl) rfl
theorem q1743 : (Jvm.Cond.soleField "java/util/TreeMap$Entry" "parent") ∈ lw_all := lw_g (lw_at lw_m7 226 rfl) rfl
theorem q1744 : (Jvm.Cond.lays "java/util/TreeMap$Entry" "java/util/TreeMap$Entry" "color" "Z") ∈ lw_all := lw_g (lw_at lw_m7 227 rfl) rfl
theorem q1745 : (Jvm.Cond.soleField "java/util/TreeMap$Entry" "color") ∈ lw_all := lw_g (lw_at lw_m7 228 rfl) rfl
theorem q1746 : (Jvm.Cond.superclass "java/util/TreeMap$Entry" "java/lang/Object") ∈ lw_all := lw_g (lw_at lw_m7 229 rfl) rfl
theorem q2775 : (Jvm.Cond.castable "java/util/TreeMap$Entry" "java/lang/Object") ∈ lw_tbl := lw_at lw_m12 58 rfl
theorem in_J27 : ∀ w ∈ wsJ270, w ∈ lw_all := lw_in wsJ270 [1734, 1736, 1738, 1740, 1742, 1744] (by decide +kernel) (by decide +kernel)
/-! java/util/AbstractSet -/
set_option maxRecDepth 100000
def RJ28 : String := "java/util/AbstractSet"
abbrev cJ28_init : ByteArray := prog_52_method_1_code
def yJ28_init : MethodName := ⟨RJ28, "<init>", "()V"⟩
theorem dJ28_init_0 : decode cJ28_init 0 = .ok (.aload_n 0, 1) := by decide +kernel
theorem dJ28_init_1 : decode cJ28_init 1 = .ok (.invokespecial 1, 3) := by decide +kernel
theorem dJ28_init_4 : decode cJ28_init 4 = .ok (.return_, 1) := by decide +kernel
theorem q122 : (Jvm.Cond.initialized "java/util/AbstractSet") ∈ lw_all := lw_g (lw_at lw_m1 45 rfl) rfl
theorem q1819 : (Jvm.Cond.instanceMethod ({ cls := "java/util/AbstractSet", name := "<init>", desc := "()V" } : Jvm.MethodName)) ∈ lw_all := lw_g (lw_at lw_m8 62 rfl) rfl
theorem q1820 : (Jvm.Cond.code ({ cls := "java/util/AbstractSet", name := "<init>", desc := "()V" } : Jvm.MethodName) prog_52_method_1_code (1 : Nat) (Option.none : Option Jvm.ClassFile.FieldType)) ∈ lw_all := lw_g (lw_at lw_m8 63 rfl) rfl
theorem q1821 : (Jvm.Cond.methodLink "java/util/AbstractSet" (1 : Nat) ({ cls := "java/util/AbstractCollection", name := "<init>", desc := "()V" } : Jvm.MethodName)) ∈ lw_all := lw_g (lw_at lw_m8 64 rfl) rfl
/-! java/util/TreeSet -/
set_option maxRecDepth 100000
def RJ29 : String := "java/util/TreeSet"
def TJ29 : u_T := fun k => match k with
  | _ => ("java/util/TreeSet", "m", "Ljava/util/NavigableMap;", false)
def tyJ29 : Nat → FieldType := fun k => match k with
  | _ => .object "java/util/NavigableMap"
abbrev wsJ290 : List Cond := u_ws RJ29 TJ29 1
theorem nmJ29 : ∀ a, a < 1 → ∀ b, b < 1 → a ≠ b → (TJ29 a).2.1 ≠ (TJ29 b).2.1 := by decide +kernel
theorem tyJ29_ok : ∀ k, k < 1 → parseFieldDescriptor (TJ29 k).2.2.1 = some (tyJ29 k) := by decide +kernel
abbrev cJ29_size : ByteArray := prog_85_method_9_code
def yJ29_size : MethodName := ⟨RJ29, "size", "()I"⟩
def dkwJ29_size_0 : List UInt8 := [42, 180, 0, 7, 185, 0, 53, 1, 0, 172]
abbrev dktJ29_size_0 : List UInt8 := dkwJ29_size_0 ++ []
theorem dksJ29_size_0 : cJ29_size.data.toList.drop 0 = dktJ29_size_0 := by decide +kernel
theorem dJ29_size_0 : decode cJ29_size 0 = .ok (.aload_n 0, 1) := dk_42 (dk_at dksJ29_size_0 0 rfl rfl)
theorem dJ29_size_1 : decode cJ29_size 1 = .ok (.getfield 7, 3) := dk_180 0 7 (dk_at dksJ29_size_0 1 rfl rfl)
theorem dJ29_size_4 : decode cJ29_size 4 = .ok (.invokeinterface 53 1, 5) := by decide +kernel
theorem dJ29_size_9 : decode cJ29_size 9 = .ok (.ireturn, 1) := dk_172 (dk_at dksJ29_size_0 9 rfl rfl)
abbrev cJ29_init : ByteArray := prog_85_method_3_code
def yJ29_init : MethodName := ⟨RJ29, "<init>", "(Ljava/util/Comparator;)V"⟩
def dkwJ29_init_0 : List UInt8 := [42, 187, 0, 13, 89, 43, 183, 0, 19, 183, 0, 16, 177]
abbrev dktJ29_init_0 : List UInt8 := dkwJ29_init_0 ++ []
theorem dksJ29_init_0 : cJ29_init.data.toList.drop 0 = dktJ29_init_0 := by decide +kernel
theorem dJ29_init_0 : decode cJ29_init 0 = .ok (.aload_n 0, 1) := dk_42 (dk_at dksJ29_init_0 0 rfl rfl)
theorem dJ29_init_1 : decode cJ29_init 1 = .ok (.new 13, 3) := dk_187 0 13 (dk_at dksJ29_init_0 1 rfl rfl)
theorem dJ29_init_4 : decode cJ29_init 4 = .ok (.dup, 1) := dk_89 (dk_at dksJ29_init_0 4 rfl rfl)
theorem dJ29_init_5 : decode cJ29_init 5 = .ok (.aload_n 1, 1) := dk_43 (dk_at dksJ29_init_0 5 rfl rfl)
theorem dJ29_init_6 : decode cJ29_init 6 = .ok (.invokespecial 19, 3) := dk_183 0 19 (dk_at dksJ29_init_0 6 rfl rfl)
theorem dJ29_init_9 : decode cJ29_init 9 = .ok (.invokespecial 16, 3) := dk_183 0 16 (dk_at dksJ29_init_0 9 rfl rfl)
theorem dJ29_init_12 : decode cJ29_init 12 = .ok (.return_, 1) := dk_177 (dk_at dksJ29_init_0 12 rfl rfl)
abbrev cJ29_init_2 : ByteArray := prog_85_method_1_code
def yJ29_init_2 : MethodName := ⟨RJ29, "<init>", "(Ljava/util/NavigableMap;)V"⟩
def dkwJ29_init_2_0 : List UInt8 := [42, 183, 0, 1, 42, 43, 181, 0, 7, 177]
abbrev dktJ29_init_2_0 : List UInt8 := dkwJ29_init_2_0 ++ []
theorem dksJ29_init_2_0 : cJ29_init_2.data.toList.drop 0 = dktJ29_init_2_0 := by decide +kernel
theorem dJ29_init_2_0 : decode cJ29_init_2 0 = .ok (.aload_n 0, 1) := dk_42 (dk_at dksJ29_init_2_0 0 rfl rfl)
theorem dJ29_init_2_1 : decode cJ29_init_2 1 = .ok (.invokespecial 1, 3) := dk_183 0 1 (dk_at dksJ29_init_2_0 1 rfl rfl)
theorem dJ29_init_2_4 : decode cJ29_init_2 4 = .ok (.aload_n 0, 1) := dk_42 (dk_at dksJ29_init_2_0 4 rfl rfl)
theorem dJ29_init_2_5 : decode cJ29_init_2 5 = .ok (.aload_n 1, 1) := dk_43 (dk_at dksJ29_init_2_0 5 rfl rfl)
theorem dJ29_init_2_6 : decode cJ29_init_2 6 = .ok (.putfield 7, 3) := dk_181 0 7 (dk_at dksJ29_init_2_0 6 rfl rfl)
theorem dJ29_init_2_9 : decode cJ29_init_2 9 = .ok (.return_, 1) := dk_177 (dk_at dksJ29_init_2_0 9 rfl rfl)
abbrev cJ29_iterator : ByteArray := prog_85_method_6_code
def yJ29_iterator : MethodName := ⟨RJ29, "iterator", "()Ljava/util/Iterator;"⟩
def dkwJ29_iterator_0 : List UInt8 := [42, 180, 0, 7, 185, 0, 34, 1, 0, 185, 0, 40, 1, 0, 176]
abbrev dktJ29_iterator_0 : List UInt8 := dkwJ29_iterator_0 ++ []
theorem dksJ29_iterator_0 : cJ29_iterator.data.toList.drop 0 = dktJ29_iterator_0 := by decide +kernel
theorem dJ29_iterator_0 : decode cJ29_iterator 0 = .ok (.aload_n 0, 1) := dk_42 (dk_at dksJ29_iterator_0 0 rfl rfl)
theorem dJ29_iterator_1 : decode cJ29_iterator 1 = .ok (.getfield 7, 3) := dk_180 0 7 (dk_at dksJ29_iterator_0 1 rfl rfl)
theorem dJ29_iterator_4 : decode cJ29_iterator 4 = .ok (.invokeinterface 34 1, 5) := by decide +kernel
theorem dJ29_iterator_9 : decode cJ29_iterator 9 = .ok (.invokeinterface 40 1, 5) := by decide +kernel
theorem dJ29_iterator_14 : decode cJ29_iterator 14 = .ok (.areturn, 1) := dk_176 (dk_at dksJ29_iterator_0 14 rfl rfl)
abbrev cJ29_add : ByteArray := prog_85_method_12_code
def yJ29_add : MethodName := ⟨RJ29, "add", "(Ljava/lang/Object;)Z"⟩
def dkwJ29_add_0 : List UInt8 := [42, 180, 0, 7, 43, 178, 0, 65, 185, 0, 69, 3, 0, 199, 0, 7, 4, 167, 0, 4, 3, 172]
abbrev dktJ29_add_0 : List UInt8 := dkwJ29_add_0 ++ []
theorem dksJ29_add_0 : cJ29_add.data.toList.drop 0 = dktJ29_add_0 := by decide +kernel
theorem dJ29_add_0 : decode cJ29_add 0 = .ok (.aload_n 0, 1) := dk_42 (dk_at dksJ29_add_0 0 rfl rfl)
theorem dJ29_add_1 : decode cJ29_add 1 = .ok (.getfield 7, 3) := dk_180 0 7 (dk_at dksJ29_add_0 1 rfl rfl)
theorem dJ29_add_4 : decode cJ29_add 4 = .ok (.aload_n 1, 1) := dk_43 (dk_at dksJ29_add_0 4 rfl rfl)
theorem dJ29_add_5 : decode cJ29_add 5 = .ok (.getstatic 65, 3) := dk_178 0 65 (dk_at dksJ29_add_0 5 rfl rfl)
theorem dJ29_add_8 : decode cJ29_add 8 = .ok (.invokeinterface 69 3, 5) := by decide +kernel
theorem dJ29_add_13 : decode cJ29_add 13 = .ok (.ifnonnull 7, 3) := dk_199 0 7 (dk_at dksJ29_add_0 13 rfl rfl)
theorem dJ29_add_16 : decode cJ29_add 16 = .ok (.iconst 1, 1) := dk_4 (dk_at dksJ29_add_0 16 rfl rfl)
theorem dJ29_add_17 : decode cJ29_add 17 = .ok (.goto 4, 3) := dk_167 0 4 (dk_at dksJ29_add_0 17 rfl rfl)
theorem dJ29_add_20 : decode cJ29_add 20 = .ok (.iconst 0, 1) := dk_3 (dk_at dksJ29_add_0 20 rfl rfl)
theorem dJ29_add_21 : decode cJ29_add 21 = .ok (.ireturn, 1) := dk_172 (dk_at dksJ29_add_0 21 rfl rfl)
theorem q123 : (Jvm.Cond.initialized "java/util/TreeSet") ∈ lw_all := lw_g (lw_at lw_m1 46 rfl) rfl
theorem q462 : (Jvm.Cond.selects "java/util/TreeSet" ({ cls := "java/lang/Object", name := "getClass", desc := "()Ljava/lang/Class;" } : Jvm.MethodName) ({ cls := "java/lang/Object", name := "getClass", desc := "()Ljava/lang/Class;" } : Jvm.MethodName)) ∈ lw_all := lw_g (lw_at lw_m2 145 rfl) rfl
theorem q1474 : (Jvm.Cond.selects "java/util/TreeSet" ({ cls := "java/util/AbstractCollection", name := "size", desc := "()I" } : Jvm.MethodName) ({ cls := "java/util/TreeSet", name := "size", desc := "()I" } : Jvm.MethodName)) ∈ lw_all := lw_g (lw_at lw_m6 197 rfl) rfl
theorem q1475 : (Jvm.Cond.instanceMethod ({ cls := "java/util/TreeSet", name := "size", desc := "()I" } : Jvm.MethodName)) ∈ lw_all := lw_g (lw_at lw_m6 198 rfl) rfl
theorem q1476 : (Jvm.Cond.code ({ cls := "java/util/TreeSet", name := "size", desc := "()I" } : Jvm.MethodName) prog_85_method_9_code (1 : Nat) (Option.some Jvm.ClassFile.FieldType.int)) ∈ lw_all := lw_g (lw_at lw_m6 199 rfl) rfl
theorem q1477 : (Jvm.Cond.interfaceEntry "java/util/TreeSet" (53 : Nat)) ∈ lw_tbl := lw_at lw_m6 200 rfl
theorem q1800 : (Jvm.Cond.instantiable "java/util/TreeSet" (1 : Nat)) ∈ lw_all := lw_g (lw_at lw_m8 43 rfl) rfl
theorem q1809 : (Jvm.Cond.instanceMethod ({ cls := "java/util/TreeSet", name := "<init>", desc := "(Ljava/util/Comparator;)V" } : Jvm.MethodName)) ∈ lw_all := lw_g (lw_at lw_m8 52 rfl) rfl
theorem q1810 : (Jvm.Cond.code ({ cls := "java/util/TreeSet", name := "<init>", desc := "(Ljava/util/Comparator;)V" } : Jvm.MethodName) prog_85_method_3_code (2 : Nat) (Option.none : Option Jvm.ClassFile.FieldType)) ∈ lw_all := lw_g (lw_at lw_m8 53 rfl) rfl
theorem q1811 : (Jvm.Cond.classLink "java/util/TreeSet" (13 : Nat) "java/util/TreeMap") ∈ lw_all := lw_g (lw_at lw_m8 54 rfl) rfl
theorem q1812 : (Jvm.Cond.methodLink "java/util/TreeSet" (19 : Nat) ({ cls := "java/util/TreeMap", name := "<init>", desc := "(Ljava/util/Comparator;)V" } : Jvm.MethodName)) ∈ lw_all := lw_g (lw_at lw_m8 55 rfl) rfl
theorem q1815 : (Jvm.Cond.methodLink "java/util/TreeSet" (16 : Nat) ({ cls := "java/util/TreeSet", name := "<init>", desc := "(Ljava/util/NavigableMap;)V" } : Jvm.MethodName)) ∈ lw_all := lw_g (lw_at lw_m8 58 rfl) rfl
theorem q1816 : (Jvm.Cond.instanceMethod ({ cls := "java/util/TreeSet", name := "<init>", desc := "(Ljava/util/NavigableMap;)V" } : Jvm.MethodName)) ∈ lw_all := lw_g (lw_at lw_m8 59 rfl) rfl
theorem q1817 : (Jvm.Cond.code ({ cls := "java/util/TreeSet", name := "<init>", desc := "(Ljava/util/NavigableMap;)V" } : Jvm.MethodName) prog_85_method_1_code (2 : Nat) (Option.none : Option Jvm.ClassFile.FieldType)) ∈ lw_all := lw_g (lw_at lw_m8 60 rfl) rfl
theorem q1818 : (Jvm.Cond.methodLink "java/util/TreeSet" (1 : Nat) ({ cls := "java/util/AbstractSet", name := "<init>", desc := "()V" } : Jvm.MethodName)) ∈ lw_all := lw_g (lw_at lw_m8 61 rfl) rfl
theorem q1822 : (Jvm.Cond.fieldLink "java/util/TreeSet" (7 : Nat) "java/util/TreeSet" "m" "Ljava/util/NavigableMap;") ∈ lw_all := lw_g (lw_at lw_m8 65 rfl) rfl
theorem q1823 : (Jvm.Cond.lays "java/util/TreeSet" "java/util/TreeSet" "m" "Ljava/util/NavigableMap;") ∈ lw_all := lw_g (lw_at lw_m8 66 rfl) rfl
theorem q1824 : (Jvm.Cond.soleField "java/util/TreeSet" "m") ∈ lw_all := lw_g (lw_at lw_m8 67 rfl) rfl
theorem q1825 : (Jvm.Cond.superclass "java/util/TreeSet" "java/util/AbstractSet") ∈ lw_all := lw_g (lw_at lw_m8 68 rfl) rfl
theorem q1938 : (Jvm.Cond.castable "java/util/TreeSet" "java/util/Collection") ∈ lw_tbl := lw_at lw_m8 181 rfl
theorem q1939 : (Jvm.Cond.selects "java/util/TreeSet" ({ cls := "java/util/Collection", name := "iterator", desc := "()Ljava/util/Iterator;" } : Jvm.MethodName) ({ cls := "java/util/TreeSet", name := "iterator", desc := "()Ljava/util/Iterator;" } : Jvm.MethodName)) ∈ lw_all := lw_g (lw_at lw_m8 182 rfl) rfl
theorem q1940 : (Jvm.Cond.unhidden "java/util/TreeSet" "iterator" "()Ljava/util/Iterator;") ∈ lw_tbl := lw_at lw_m8 183 rfl
theorem q1941 : (Jvm.Cond.instanceMethod ({ cls := "java/util/TreeSet", name := "iterator", desc := "()Ljava/util/Iterator;" } : Jvm.MethodName)) ∈ lw_all := lw_g (lw_at lw_m8 184 rfl) rfl
theorem q1942 : (Jvm.Cond.publicMethod ({ cls := "java/util/TreeSet", name := "iterator", desc := "()Ljava/util/Iterator;" } : Jvm.MethodName)) ∈ lw_tbl := lw_at lw_m8 185 rfl
theorem q1943 : (Jvm.Cond.code ({ cls := "java/util/TreeSet", name := "iterator", desc := "()Ljava/util/Iterator;" } : Jvm.MethodName) prog_85_method_6_code (1 : Nat) (Option.some (Jvm.ClassFile.FieldType.object "java/util/Iterator"))) ∈ lw_all := lw_g (lw_at lw_m8 186 rfl) rfl
theorem q1944 : (Jvm.Cond.interfaceEntry "java/util/TreeSet" (34 : Nat)) ∈ lw_tbl := lw_at lw_m8 187 rfl
theorem q1945 : (Jvm.Cond.methodLink "java/util/TreeSet" (34 : Nat) ({ cls := "java/util/NavigableMap", name := "navigableKeySet", desc := "()Ljava/util/NavigableSet;" } : Jvm.MethodName)) ∈ lw_all := lw_g (lw_at lw_m8 188 rfl) rfl
theorem q1963 : (Jvm.Cond.interfaceEntry "java/util/TreeSet" (40 : Nat)) ∈ lw_tbl := lw_at lw_m8 206 rfl
theorem q1964 : (Jvm.Cond.methodLink "java/util/TreeSet" (40 : Nat) ({ cls := "java/util/NavigableSet", name := "iterator", desc := "()Ljava/util/Iterator;" } : Jvm.MethodName)) ∈ lw_all := lw_g (lw_at lw_m8 207 rfl) rfl
theorem q1969 : (Jvm.Cond.castable "java/util/TreeSet" "java/util/NavigableSet") ∈ lw_tbl := lw_at lw_m8 212 rfl
theorem q1970 : (Jvm.Cond.selects "java/util/TreeSet" ({ cls := "java/util/NavigableSet", name := "iterator", desc := "()Ljava/util/Iterator;" } : Jvm.MethodName) ({ cls := "java/util/TreeSet", name := "iterator", desc := "()Ljava/util/Iterator;" } : Jvm.MethodName)) ∈ lw_all := lw_g (lw_at lw_m8 213 rfl) rfl
theorem q1972 : (Jvm.Cond.instanceMethod ({ cls := "java/util/TreeSet", name := "add", desc := "(Ljava/lang/Object;)Z" } : Jvm.MethodName)) ∈ lw_all := lw_g (lw_at lw_m8 215 rfl) rfl
theorem q1973 : (Jvm.Cond.selects "java/util/TreeSet" ({ cls := "java/util/TreeSet", name := "add", desc := "(Ljava/lang/Object;)Z" } : Jvm.MethodName) ({ cls := "java/util/TreeSet", name := "add", desc := "(Ljava/lang/Object;)Z" } : Jvm.MethodName)) ∈ lw_all := lw_g (lw_at lw_m8 216 rfl) rfl
theorem q1974 : (Jvm.Cond.code ({ cls := "java/util/TreeSet", name := "add", desc := "(Ljava/lang/Object;)Z" } : Jvm.MethodName) prog_85_method_12_code (2 : Nat) (Option.some Jvm.ClassFile.FieldType.boolean)) ∈ lw_all := lw_g (lw_at lw_m8 217 rfl) rfl
theorem q1975 : (Jvm.Cond.fieldLink "java/util/TreeSet" (65 : Nat) "java/util/TreeSet" "PRESENT" "Ljava/lang/Object;") ∈ lw_all := lw_g (lw_at lw_m8 218 rfl) rfl
theorem q1976 : (Jvm.Cond.laysStatic "java/util/TreeSet" "PRESENT" "Ljava/lang/Object;") ∈ lw_tbl := lw_at lw_m8 219 rfl
theorem q1977 : (Jvm.Cond.interfaceEntry "java/util/TreeSet" (69 : Nat)) ∈ lw_tbl := lw_at lw_m8 220 rfl
theorem q2738 : (Jvm.Cond.selects "java/util/TreeSet" ({ cls := "java/util/TreeSet", name := "iterator", desc := "()Ljava/util/Iterator;" } : Jvm.MethodName) ({ cls := "java/util/TreeSet", name := "iterator", desc := "()Ljava/util/Iterator;" } : Jvm.MethodName)) ∈ lw_all := lw_g (lw_at lw_m12 21 rfl) rfl
theorem q2776 : (Jvm.Cond.castable "java/util/TreeSet" "java/lang/Object") ∈ lw_tbl := lw_at lw_m12 59 rfl
theorem in_J29 : ∀ w ∈ wsJ290, w ∈ lw_all := lw_in wsJ290 [1823] (by decide +kernel) (by decide +kernel)
/-! java/util/TreeMap$Values -/
set_option maxRecDepth 100000
def RJ30 : String := "java/util/TreeMap$Values"
def TJ30 : u_T := fun k => match k with
  | _ => ("java/util/TreeMap$Values", "this$0", "Ljava/util/TreeMap;", true)
def tyJ30 : Nat → FieldType := fun k => match k with
  | _ => .object "java/util/TreeMap"
abbrev wsJ300 : List Cond := u_ws RJ30 TJ30 1
theorem nmJ30 : ∀ a, a < 1 → ∀ b, b < 1 → a ≠ b → (TJ30 a).2.1 ≠ (TJ30 b).2.1 := by decide +kernel
theorem tyJ30_ok : ∀ k, k < 1 → parseFieldDescriptor (TJ30 k).2.2.1 = some (tyJ30 k) := by decide +kernel
abbrev cJ30_size : ByteArray := prog_84_method_3_code
def yJ30_size : MethodName := ⟨RJ30, "size", "()I"⟩
def dkwJ30_size_0 : List UInt8 := [42, 180, 0, 1, 182, 0, 24, 172]
abbrev dktJ30_size_0 : List UInt8 := dkwJ30_size_0 ++ []
theorem dksJ30_size_0 : cJ30_size.data.toList.drop 0 = dktJ30_size_0 := by decide +kernel
theorem dJ30_size_0 : decode cJ30_size 0 = .ok (.aload_n 0, 1) := dk_42 (dk_at dksJ30_size_0 0 rfl rfl)
theorem dJ30_size_1 : decode cJ30_size 1 = .ok (.getfield 1, 3) := dk_180 0 1 (dk_at dksJ30_size_0 1 rfl rfl)
theorem dJ30_size_4 : decode cJ30_size 4 = .ok (.invokevirtual 24, 3) := dk_182 0 24 (dk_at dksJ30_size_0 4 rfl rfl)
theorem dJ30_size_7 : decode cJ30_size 7 = .ok (.ireturn, 1) := dk_172 (dk_at dksJ30_size_0 7 rfl rfl)
abbrev cJ30_init : ByteArray := prog_84_method_1_code
def yJ30_init : MethodName := ⟨RJ30, "<init>", "(Ljava/util/TreeMap;)V"⟩
def dkwJ30_init_0 : List UInt8 := [42, 43, 181, 0, 1, 42, 183, 0, 7, 177]
abbrev dktJ30_init_0 : List UInt8 := dkwJ30_init_0 ++ []
theorem dksJ30_init_0 : cJ30_init.data.toList.drop 0 = dktJ30_init_0 := by decide +kernel
theorem dJ30_init_0 : decode cJ30_init 0 = .ok (.aload_n 0, 1) := dk_42 (dk_at dksJ30_init_0 0 rfl rfl)
theorem dJ30_init_1 : decode cJ30_init 1 = .ok (.aload_n 1, 1) := dk_43 (dk_at dksJ30_init_0 1 rfl rfl)
theorem dJ30_init_2 : decode cJ30_init 2 = .ok (.putfield 1, 3) := dk_181 0 1 (dk_at dksJ30_init_0 2 rfl rfl)
theorem dJ30_init_5 : decode cJ30_init 5 = .ok (.aload_n 0, 1) := dk_42 (dk_at dksJ30_init_0 5 rfl rfl)
theorem dJ30_init_6 : decode cJ30_init 6 = .ok (.invokespecial 7, 3) := dk_183 0 7 (dk_at dksJ30_init_0 6 rfl rfl)
theorem dJ30_init_9 : decode cJ30_init 9 = .ok (.return_, 1) := dk_177 (dk_at dksJ30_init_0 9 rfl rfl)
abbrev cJ30_iterator : ByteArray := prog_84_method_2_code
def yJ30_iterator : MethodName := ⟨RJ30, "iterator", "()Ljava/util/Iterator;"⟩
def dkwJ30_iterator_0 : List UInt8 := [187, 0, 13, 89, 42, 180, 0, 1, 42, 180, 0, 1, 182, 0, 15, 183, 0, 21, 176]
abbrev dktJ30_iterator_0 : List UInt8 := dkwJ30_iterator_0 ++ []
theorem dksJ30_iterator_0 : cJ30_iterator.data.toList.drop 0 = dktJ30_iterator_0 := by decide +kernel
theorem dJ30_iterator_0 : decode cJ30_iterator 0 = .ok (.new 13, 3) := dk_187 0 13 (dk_at dksJ30_iterator_0 0 rfl rfl)
theorem dJ30_iterator_3 : decode cJ30_iterator 3 = .ok (.dup, 1) := dk_89 (dk_at dksJ30_iterator_0 3 rfl rfl)
theorem dJ30_iterator_4 : decode cJ30_iterator 4 = .ok (.aload_n 0, 1) := dk_42 (dk_at dksJ30_iterator_0 4 rfl rfl)
theorem dJ30_iterator_5 : decode cJ30_iterator 5 = .ok (.getfield 1, 3) := dk_180 0 1 (dk_at dksJ30_iterator_0 5 rfl rfl)
theorem dJ30_iterator_8 : decode cJ30_iterator 8 = .ok (.aload_n 0, 1) := dk_42 (dk_at dksJ30_iterator_0 8 rfl rfl)
theorem dJ30_iterator_9 : decode cJ30_iterator 9 = .ok (.getfield 1, 3) := dk_180 0 1 (dk_at dksJ30_iterator_0 9 rfl rfl)
theorem dJ30_iterator_12 : decode cJ30_iterator 12 = .ok (.invokevirtual 15, 3) := dk_182 0 15 (dk_at dksJ30_iterator_0 12 rfl rfl)
theorem dJ30_iterator_15 : decode cJ30_iterator 15 = .ok (.invokespecial 21, 3) := dk_183 0 21 (dk_at dksJ30_iterator_0 15 rfl rfl)
theorem dJ30_iterator_18 : decode cJ30_iterator 18 = .ok (.areturn, 1) := dk_176 (dk_at dksJ30_iterator_0 18 rfl rfl)
theorem q125 : (Jvm.Cond.initialized "java/util/TreeMap$Values") ∈ lw_all := lw_g (lw_at lw_m1 48 rfl) rfl
theorem q461 : (Jvm.Cond.selects "java/util/TreeMap$Values" ({ cls := "java/lang/Object", name := "getClass", desc := "()Ljava/lang/Class;" } : Jvm.MethodName) ({ cls := "java/lang/Object", name := "getClass", desc := "()Ljava/lang/Class;" } : Jvm.MethodName)) ∈ lw_all := lw_g (lw_at lw_m2 144 rfl) rfl
theorem q1470 : (Jvm.Cond.selects "java/util/TreeMap$Values" ({ cls := "java/util/AbstractCollection", name := "size", desc := "()I" } : Jvm.MethodName) ({ cls := "java/util/TreeMap$Values", name := "size", desc := "()I" } : Jvm.MethodName)) ∈ lw_all := lw_g (lw_at lw_m6 193 rfl) rfl
theorem q1471 : (Jvm.Cond.instanceMethod ({ cls := "java/util/TreeMap$Values", name := "size", desc := "()I" } : Jvm.MethodName)) ∈ lw_all := lw_g (lw_at lw_m6 194 rfl) rfl
theorem q1472 : (Jvm.Cond.code ({ cls := "java/util/TreeMap$Values", name := "size", desc := "()I" } : Jvm.MethodName) prog_84_method_3_code (1 : Nat) (Option.some Jvm.ClassFile.FieldType.int)) ∈ lw_all := lw_g (lw_at lw_m6 195 rfl) rfl
theorem q1473 : (Jvm.Cond.methodLink "java/util/TreeMap$Values" (24 : Nat) ({ cls := "java/util/TreeMap", name := "size", desc := "()I" } : Jvm.MethodName)) ∈ lw_all := lw_g (lw_at lw_m6 196 rfl) rfl
theorem q1831 : (Jvm.Cond.instantiable "java/util/TreeMap$Values" (1 : Nat)) ∈ lw_all := lw_g (lw_at lw_m8 74 rfl) rfl
theorem q1833 : (Jvm.Cond.instanceMethod ({ cls := "java/util/TreeMap$Values", name := "<init>", desc := "(Ljava/util/TreeMap;)V" } : Jvm.MethodName)) ∈ lw_all := lw_g (lw_at lw_m8 76 rfl) rfl
theorem q1834 : (Jvm.Cond.code ({ cls := "java/util/TreeMap$Values", name := "<init>", desc := "(Ljava/util/TreeMap;)V" } : Jvm.MethodName) prog_84_method_1_code (2 : Nat) (Option.none : Option Jvm.ClassFile.FieldType)) ∈ lw_all := lw_g (lw_at lw_m8 77 rfl) rfl
theorem q1835 : (Jvm.Cond.methodLink "java/util/TreeMap$Values" (7 : Nat) ({ cls := "java/util/AbstractCollection", name := "<init>", desc := "()V" } : Jvm.MethodName)) ∈ lw_all := lw_g (lw_at lw_m8 78 rfl) rfl
theorem q1836 : (Jvm.Cond.fieldLink "java/util/TreeMap$Values" (1 : Nat) "java/util/TreeMap$Values" "this$0" "Ljava/util/TreeMap;") ∈ lw_all := lw_g (lw_at lw_m8 79 rfl) rfl
theorem q1837 : (Jvm.Cond.laysFinal "java/util/TreeMap$Values" "java/util/TreeMap$Values" "this$0" "Ljava/util/TreeMap;") ∈ lw_all := lw_g (lw_at lw_m8 80 rfl) rfl
theorem q1838 : (Jvm.Cond.soleField "java/util/TreeMap$Values" "this$0") ∈ lw_all := lw_g (lw_at lw_m8 81 rfl) rfl
theorem q1839 : (Jvm.Cond.superclass "java/util/TreeMap$Values" "java/util/AbstractCollection") ∈ lw_all := lw_g (lw_at lw_m8 82 rfl) rfl
theorem q1920 : (Jvm.Cond.castable "java/util/TreeMap$Values" "java/util/Collection") ∈ lw_tbl := lw_at lw_m8 163 rfl
theorem q1921 : (Jvm.Cond.selects "java/util/TreeMap$Values" ({ cls := "java/util/Collection", name := "iterator", desc := "()Ljava/util/Iterator;" } : Jvm.MethodName) ({ cls := "java/util/TreeMap$Values", name := "iterator", desc := "()Ljava/util/Iterator;" } : Jvm.MethodName)) ∈ lw_all := lw_g (lw_at lw_m8 164 rfl) rfl
theorem q1922 : (Jvm.Cond.unhidden "java/util/TreeMap$Values" "iterator" "()Ljava/util/Iterator;") ∈ lw_tbl := lw_at lw_m8 165 rfl
theorem q1923 : (Jvm.Cond.instanceMethod ({ cls := "java/util/TreeMap$Values", name := "iterator", desc := "()Ljava/util/Iterator;" } : Jvm.MethodName)) ∈ lw_all := lw_g (lw_at lw_m8 166 rfl) rfl
theorem q1924 : (Jvm.Cond.publicMethod ({ cls := "java/util/TreeMap$Values", name := "iterator", desc := "()Ljava/util/Iterator;" } : Jvm.MethodName)) ∈ lw_tbl := lw_at lw_m8 167 rfl
theorem q1925 : (Jvm.Cond.code ({ cls := "java/util/TreeMap$Values", name := "iterator", desc := "()Ljava/util/Iterator;" } : Jvm.MethodName) prog_84_method_2_code (1 : Nat) (Option.some (Jvm.ClassFile.FieldType.object "java/util/Iterator"))) ∈ lw_all := lw_g (lw_at lw_m8 168 rfl) rfl
theorem q1926 : (Jvm.Cond.classLink "java/util/TreeMap$Values" (13 : Nat) "java/util/TreeMap$ValueIterator") ∈ lw_all := lw_g (lw_at lw_m8 169 rfl) rfl
theorem q1928 : (Jvm.Cond.methodLink "java/util/TreeMap$Values" (15 : Nat) ({ cls := "java/util/TreeMap", name := "getFirstEntry", desc := "()Ljava/util/TreeMap$Entry;" } : Jvm.MethodName)) ∈ lw_all := lw_g (lw_at lw_m8 171 rfl) rfl
theorem q1929 : (Jvm.Cond.methodLink "java/util/TreeMap$Values" (21 : Nat) ({ cls := "java/util/TreeMap$ValueIterator", name := "<init>", desc := "(Ljava/util/TreeMap;Ljava/util/TreeMap$Entry;)V" } : Jvm.MethodName)) ∈ lw_all := lw_g (lw_at lw_m8 172 rfl) rfl
theorem q2778 : (Jvm.Cond.castable "java/util/TreeMap$Values" "java/lang/Object") ∈ lw_tbl := lw_at lw_m12 61 rfl
theorem in_J30 : ∀ w ∈ wsJ300, w ∈ lw_all := lw_in wsJ300 [1837] (by decide +kernel) (by decide +kernel)
/-! java/util/TreeMap$PrivateEntryIterator -/
set_option maxRecDepth 100000
def RJ32 : String := "java/util/TreeMap$PrivateEntryIterator"
abbrev cJ32_hasNext : ByteArray := prog_82_method_2_code
def yJ32_hasNext : MethodName := ⟨RJ32, "hasNext", "()Z"⟩
def dkwJ32_hasNext_0 : List UInt8 := [42, 180, 0, 26, 198, 0, 7, 4, 167, 0, 4, 3, 172]
abbrev dktJ32_hasNext_0 : List UInt8 := dkwJ32_hasNext_0 ++ []
theorem dksJ32_hasNext_0 : cJ32_hasNext.data.toList.drop 0 = dktJ32_hasNext_0 := by decide +kernel
theorem dJ32_hasNext_0 : decode cJ32_hasNext 0 = .ok (.aload_n 0, 1) := dk_42 (dk_at dksJ32_hasNext_0 0 rfl rfl)
theorem dJ32_hasNext_1 : decode cJ32_hasNext 1 = .ok (.getfield 26, 3) := dk_180 0 26 (dk_at dksJ32_hasNext_0 1 rfl rfl)
theorem dJ32_hasNext_4 : decode cJ32_hasNext 4 = .ok (.ifnull 7, 3) := dk_198 0 7 (dk_at dksJ32_hasNext_0 4 rfl rfl)
theorem dJ32_hasNext_7 : decode cJ32_hasNext 7 = .ok (.iconst 1, 1) := dk_4 (dk_at dksJ32_hasNext_0 7 rfl rfl)
theorem dJ32_hasNext_8 : decode cJ32_hasNext 8 = .ok (.goto 4, 3) := dk_167 0 4 (dk_at dksJ32_hasNext_0 8 rfl rfl)
theorem dJ32_hasNext_11 : decode cJ32_hasNext 11 = .ok (.iconst 0, 1) := dk_3 (dk_at dksJ32_hasNext_0 11 rfl rfl)
theorem dJ32_hasNext_12 : decode cJ32_hasNext 12 = .ok (.ireturn, 1) := dk_172 (dk_at dksJ32_hasNext_0 12 rfl rfl)
abbrev cJ32_nextEntry : ByteArray := prog_82_method_3_code
def yJ32_nextEntry : MethodName := ⟨RJ32, "nextEntry", "()Ljava/util/TreeMap$Entry;"⟩
def dkwJ32_nextEntry_2 : List UInt8 := [43, 181, 0, 22, 43, 176]
abbrev dktJ32_nextEntry_2 : List UInt8 := dkwJ32_nextEntry_2 ++ []
def dkwJ32_nextEntry_1 : List UInt8 := [42, 180, 0, 19, 159, 0, 11, 187, 0, 32, 89, 183, 0, 34, 191, 42, 43, 184, 0, 35, 181, 0, 26, 42]
abbrev dktJ32_nextEntry_1 : List UInt8 := dkwJ32_nextEntry_1 ++ dktJ32_nextEntry_2
def dkwJ32_nextEntry_0 : List UInt8 := [42, 180, 0, 26, 76, 43, 199, 0, 11, 187, 0, 29, 89, 183, 0, 31, 191, 42, 180, 0, 1, 180, 0, 13]
abbrev dktJ32_nextEntry_0 : List UInt8 := dkwJ32_nextEntry_0 ++ dktJ32_nextEntry_1
theorem dksJ32_nextEntry_0 : cJ32_nextEntry.data.toList.drop 0 = dktJ32_nextEntry_0 := by decide +kernel
theorem dksJ32_nextEntry_1 : cJ32_nextEntry.data.toList.drop 24 = dktJ32_nextEntry_1 := dk_seg dksJ32_nextEntry_0 24 rfl rfl
theorem dksJ32_nextEntry_2 : cJ32_nextEntry.data.toList.drop 48 = dktJ32_nextEntry_2 := dk_seg dksJ32_nextEntry_1 24 rfl rfl
theorem dJ32_nextEntry_0 : decode cJ32_nextEntry 0 = .ok (.aload_n 0, 1) := dk_42 (dk_at dksJ32_nextEntry_0 0 rfl rfl)
theorem dJ32_nextEntry_1 : decode cJ32_nextEntry 1 = .ok (.getfield 26, 3) := dk_180 0 26 (dk_at dksJ32_nextEntry_0 1 rfl rfl)
theorem dJ32_nextEntry_4 : decode cJ32_nextEntry 4 = .ok (.astore_n 1, 1) := dk_76 (dk_at dksJ32_nextEntry_0 4 rfl rfl)
theorem dJ32_nextEntry_5 : decode cJ32_nextEntry 5 = .ok (.aload_n 1, 1) := dk_43 (dk_at dksJ32_nextEntry_0 5 rfl rfl)
theorem dJ32_nextEntry_6 : decode cJ32_nextEntry 6 = .ok (.ifnonnull 11, 3) := dk_199 0 11 (dk_at dksJ32_nextEntry_0 6 rfl rfl)
theorem dJ32_nextEntry_9 : decode cJ32_nextEntry 9 = .ok (.new 29, 3) := dk_187 0 29 (dk_at dksJ32_nextEntry_0 9 rfl rfl)
theorem dJ32_nextEntry_12 : decode cJ32_nextEntry 12 = .ok (.dup, 1) := dk_89 (dk_at dksJ32_nextEntry_0 12 rfl rfl)
theorem dJ32_nextEntry_13 : decode cJ32_nextEntry 13 = .ok (.invokespecial 31, 3) := dk_183 0 31 (dk_at dksJ32_nextEntry_0 13 rfl rfl)
theorem dJ32_nextEntry_16 : decode cJ32_nextEntry 16 = .ok (.athrow, 1) := dk_191 (dk_at dksJ32_nextEntry_0 16 rfl rfl)
theorem dJ32_nextEntry_17 : decode cJ32_nextEntry 17 = .ok (.aload_n 0, 1) := dk_42 (dk_at dksJ32_nextEntry_0 17 rfl rfl)
theorem dJ32_nextEntry_18 : decode cJ32_nextEntry 18 = .ok (.getfield 1, 3) := dk_180 0 1 (dk_at dksJ32_nextEntry_0 18 rfl rfl)
theorem dJ32_nextEntry_21 : decode cJ32_nextEntry 21 = .ok (.getfield 13, 3) := dk_180 0 13 (dk_at dksJ32_nextEntry_0 21 rfl rfl)
theorem dJ32_nextEntry_24 : decode cJ32_nextEntry 24 = .ok (.aload_n 0, 1) := dk_42 (dk_at dksJ32_nextEntry_1 0 rfl rfl)
theorem dJ32_nextEntry_25 : decode cJ32_nextEntry 25 = .ok (.getfield 19, 3) := dk_180 0 19 (dk_at dksJ32_nextEntry_1 1 rfl rfl)
theorem dJ32_nextEntry_28 : decode cJ32_nextEntry 28 = .ok (.if_icmp .eq 11, 3) := dk_159 0 11 (dk_at dksJ32_nextEntry_1 4 rfl rfl)
theorem dJ32_nextEntry_31 : decode cJ32_nextEntry 31 = .ok (.new 32, 3) := dk_187 0 32 (dk_at dksJ32_nextEntry_1 7 rfl rfl)
theorem dJ32_nextEntry_34 : decode cJ32_nextEntry 34 = .ok (.dup, 1) := dk_89 (dk_at dksJ32_nextEntry_1 10 rfl rfl)
theorem dJ32_nextEntry_35 : decode cJ32_nextEntry 35 = .ok (.invokespecial 34, 3) := dk_183 0 34 (dk_at dksJ32_nextEntry_1 11 rfl rfl)
theorem dJ32_nextEntry_38 : decode cJ32_nextEntry 38 = .ok (.athrow, 1) := dk_191 (dk_at dksJ32_nextEntry_1 14 rfl rfl)
theorem dJ32_nextEntry_39 : decode cJ32_nextEntry 39 = .ok (.aload_n 0, 1) := dk_42 (dk_at dksJ32_nextEntry_1 15 rfl rfl)
theorem dJ32_nextEntry_40 : decode cJ32_nextEntry 40 = .ok (.aload_n 1, 1) := dk_43 (dk_at dksJ32_nextEntry_1 16 rfl rfl)
theorem dJ32_nextEntry_41 : decode cJ32_nextEntry 41 = .ok (.invokestatic 35, 3) := dk_184 0 35 (dk_at dksJ32_nextEntry_1 17 rfl rfl)
theorem dJ32_nextEntry_44 : decode cJ32_nextEntry 44 = .ok (.putfield 26, 3) := dk_181 0 26 (dk_at dksJ32_nextEntry_1 20 rfl rfl)
theorem dJ32_nextEntry_47 : decode cJ32_nextEntry 47 = .ok (.aload_n 0, 1) := dk_42 (dk_at dksJ32_nextEntry_1 23 rfl rfl)
theorem dJ32_nextEntry_48 : decode cJ32_nextEntry 48 = .ok (.aload_n 1, 1) := dk_43 (dk_at dksJ32_nextEntry_2 0 rfl rfl)
theorem dJ32_nextEntry_49 : decode cJ32_nextEntry 49 = .ok (.putfield 22, 3) := dk_181 0 22 (dk_at dksJ32_nextEntry_2 1 rfl rfl)
theorem dJ32_nextEntry_52 : decode cJ32_nextEntry 52 = .ok (.aload_n 1, 1) := dk_43 (dk_at dksJ32_nextEntry_2 4 rfl rfl)
theorem dJ32_nextEntry_53 : decode cJ32_nextEntry 53 = .ok (.areturn, 1) := dk_176 (dk_at dksJ32_nextEntry_2 5 rfl rfl)
abbrev cJ32_init : ByteArray := prog_82_method_1_code
def yJ32_init : MethodName := ⟨RJ32, "<init>", "(Ljava/util/TreeMap;Ljava/util/TreeMap$Entry;)V"⟩
def dkwJ32_init_1 : List UInt8 := [181, 0, 26, 177]
abbrev dktJ32_init_1 : List UInt8 := dkwJ32_init_1 ++ []
def dkwJ32_init_0 : List UInt8 := [42, 43, 181, 0, 1, 42, 183, 0, 7, 42, 43, 180, 0, 13, 181, 0, 19, 42, 1, 181, 0, 22, 42, 44]
abbrev dktJ32_init_0 : List UInt8 := dkwJ32_init_0 ++ dktJ32_init_1
theorem dksJ32_init_0 : cJ32_init.data.toList.drop 0 = dktJ32_init_0 := by decide +kernel
theorem dksJ32_init_1 : cJ32_init.data.toList.drop 24 = dktJ32_init_1 := dk_seg dksJ32_init_0 24 rfl rfl
theorem dJ32_init_0 : decode cJ32_init 0 = .ok (.aload_n 0, 1) := dk_42 (dk_at dksJ32_init_0 0 rfl rfl)
theorem dJ32_init_1 : decode cJ32_init 1 = .ok (.aload_n 1, 1) := dk_43 (dk_at dksJ32_init_0 1 rfl rfl)
theorem dJ32_init_2 : decode cJ32_init 2 = .ok (.putfield 1, 3) := dk_181 0 1 (dk_at dksJ32_init_0 2 rfl rfl)
theorem dJ32_init_5 : decode cJ32_init 5 = .ok (.aload_n 0, 1) := dk_42 (dk_at dksJ32_init_0 5 rfl rfl)
theorem dJ32_init_6 : decode cJ32_init 6 = .ok (.invokespecial 7, 3) := dk_183 0 7 (dk_at dksJ32_init_0 6 rfl rfl)
theorem dJ32_init_9 : decode cJ32_init 9 = .ok (.aload_n 0, 1) := dk_42 (dk_at dksJ32_init_0 9 rfl rfl)
theorem dJ32_init_10 : decode cJ32_init 10 = .ok (.aload_n 1, 1) := dk_43 (dk_at dksJ32_init_0 10 rfl rfl)
theorem dJ32_init_11 : decode cJ32_init 11 = .ok (.getfield 13, 3) := dk_180 0 13 (dk_at dksJ32_init_0 11 rfl rfl)
theorem dJ32_init_14 : decode cJ32_init 14 = .ok (.putfield 19, 3) := dk_181 0 19 (dk_at dksJ32_init_0 14 rfl rfl)
theorem dJ32_init_17 : decode cJ32_init 17 = .ok (.aload_n 0, 1) := dk_42 (dk_at dksJ32_init_0 17 rfl rfl)
theorem dJ32_init_18 : decode cJ32_init 18 = .ok (.aconst_null, 1) := dk_1 (dk_at dksJ32_init_0 18 rfl rfl)
theorem dJ32_init_19 : decode cJ32_init 19 = .ok (.putfield 22, 3) := dk_181 0 22 (dk_at dksJ32_init_0 19 rfl rfl)
theorem dJ32_init_22 : decode cJ32_init 22 = .ok (.aload_n 0, 1) := dk_42 (dk_at dksJ32_init_0 22 rfl rfl)
theorem dJ32_init_23 : decode cJ32_init 23 = .ok (.aload_n 2, 1) := dk_44 (dk_at dksJ32_init_0 23 rfl rfl)
theorem dJ32_init_24 : decode cJ32_init 24 = .ok (.putfield 26, 3) := dk_181 0 26 (dk_at dksJ32_init_1 0 rfl rfl)
theorem dJ32_init_27 : decode cJ32_init 27 = .ok (.return_, 1) := dk_177 (dk_at dksJ32_init_1 3 rfl rfl)
theorem q127 : (Jvm.Cond.initialized "java/util/TreeMap$PrivateEntryIterator") ∈ lw_all := lw_g (lw_at lw_m1 50 rfl) rfl
theorem q751 : (Jvm.Cond.instanceMethod ({ cls := "java/util/TreeMap$PrivateEntryIterator", name := "hasNext", desc := "()Z" } : Jvm.MethodName)) ∈ lw_all := lw_g (lw_at lw_m3 194 rfl) rfl
theorem q752 : (Jvm.Cond.publicMethod ({ cls := "java/util/TreeMap$PrivateEntryIterator", name := "hasNext", desc := "()Z" } : Jvm.MethodName)) ∈ lw_tbl := lw_at lw_m3 195 rfl
theorem q753 : (Jvm.Cond.code ({ cls := "java/util/TreeMap$PrivateEntryIterator", name := "hasNext", desc := "()Z" } : Jvm.MethodName) prog_82_method_2_code (1 : Nat) (Option.some Jvm.ClassFile.FieldType.boolean)) ∈ lw_all := lw_g (lw_at lw_m3 196 rfl) rfl
theorem q796 : (Jvm.Cond.declares ({ cls := "java/util/TreeMap$PrivateEntryIterator", name := "nextEntry", desc := "()Ljava/util/TreeMap$Entry;" } : Jvm.MethodName)) ∈ lw_tbl := lw_at lw_m3 239 rfl
theorem q798 : (Jvm.Cond.instanceMethod ({ cls := "java/util/TreeMap$PrivateEntryIterator", name := "nextEntry", desc := "()Ljava/util/TreeMap$Entry;" } : Jvm.MethodName)) ∈ lw_all := lw_g (lw_at lw_m4 1 rfl) rfl
theorem q799 : (Jvm.Cond.code ({ cls := "java/util/TreeMap$PrivateEntryIterator", name := "nextEntry", desc := "()Ljava/util/TreeMap$Entry;" } : Jvm.MethodName) prog_82_method_3_code (2 : Nat) (Option.some (Jvm.ClassFile.FieldType.object "java/util/TreeMap$Entry"))) ∈ lw_all := lw_g (lw_at lw_m4 2 rfl) rfl
theorem q800 : (Jvm.Cond.methodLink "java/util/TreeMap$PrivateEntryIterator" (35 : Nat) ({ cls := "java/util/TreeMap", name := "successor", desc := "(Ljava/util/TreeMap$Entry;)Ljava/util/TreeMap$Entry;" } : Jvm.MethodName)) ∈ lw_all := lw_g (lw_at lw_m4 3 rfl) rfl
theorem q1649 : (Jvm.Cond.fieldLinkNest "java/util/TreeMap$PrivateEntryIterator" (13 : Nat) "java/util/TreeMap" "modCount" "I" "java/util/TreeMap") ∈ lw_tbl := lw_at lw_m7 132 rfl
theorem q1900 : (Jvm.Cond.instanceMethod ({ cls := "java/util/TreeMap$PrivateEntryIterator", name := "<init>", desc := "(Ljava/util/TreeMap;Ljava/util/TreeMap$Entry;)V" } : Jvm.MethodName)) ∈ lw_all := lw_g (lw_at lw_m8 143 rfl) rfl
theorem q1901 : (Jvm.Cond.code ({ cls := "java/util/TreeMap$PrivateEntryIterator", name := "<init>", desc := "(Ljava/util/TreeMap;Ljava/util/TreeMap$Entry;)V" } : Jvm.MethodName) prog_82_method_1_code (3 : Nat) (Option.none : Option Jvm.ClassFile.FieldType)) ∈ lw_all := lw_g (lw_at lw_m8 144 rfl) rfl
theorem q1902 : (Jvm.Cond.methodLink "java/util/TreeMap$PrivateEntryIterator" (7 : Nat) ({ cls := "java/lang/Object", name := "<init>", desc := "()V" } : Jvm.MethodName)) ∈ lw_all := lw_g (lw_at lw_m8 145 rfl) rfl
theorem q1903 : (Jvm.Cond.fieldLink "java/util/TreeMap$PrivateEntryIterator" (26 : Nat) "java/util/TreeMap$PrivateEntryIterator" "next" "Ljava/util/TreeMap$Entry;") ∈ lw_all := lw_g (lw_at lw_m8 146 rfl) rfl
theorem q1904 : (Jvm.Cond.fieldLink "java/util/TreeMap$PrivateEntryIterator" (22 : Nat) "java/util/TreeMap$PrivateEntryIterator" "lastReturned" "Ljava/util/TreeMap$Entry;") ∈ lw_all := lw_g (lw_at lw_m8 147 rfl) rfl
theorem q1905 : (Jvm.Cond.fieldLink "java/util/TreeMap$PrivateEntryIterator" (19 : Nat) "java/util/TreeMap$PrivateEntryIterator" "expectedModCount" "I") ∈ lw_all := lw_g (lw_at lw_m8 148 rfl) rfl
theorem q1906 : (Jvm.Cond.fieldLink "java/util/TreeMap$PrivateEntryIterator" (1 : Nat) "java/util/TreeMap$PrivateEntryIterator" "this$0" "Ljava/util/TreeMap;") ∈ lw_all := lw_g (lw_at lw_m8 149 rfl) rfl
theorem q1908 : (Jvm.Cond.soleField "java/util/TreeMap$PrivateEntryIterator" "next") ∈ lw_all := lw_g (lw_at lw_m8 151 rfl) rfl
theorem q1910 : (Jvm.Cond.soleField "java/util/TreeMap$PrivateEntryIterator" "lastReturned") ∈ lw_all := lw_g (lw_at lw_m8 153 rfl) rfl
theorem q1912 : (Jvm.Cond.soleField "java/util/TreeMap$PrivateEntryIterator" "expectedModCount") ∈ lw_all := lw_g (lw_at lw_m8 155 rfl) rfl
theorem q1914 : (Jvm.Cond.soleField "java/util/TreeMap$PrivateEntryIterator" "this$0") ∈ lw_all := lw_g (lw_at lw_m8 157 rfl) rfl
/-! java/util/TreeMap$KeyIterator -/
set_option maxRecDepth 100000
def RJ33 : String := "java/util/TreeMap$KeyIterator"
def TJ33 : u_T := fun k => match k with
  | 0 => ("java/util/TreeMap$PrivateEntryIterator", "next", "Ljava/util/TreeMap$Entry;", false)
  | 1 => ("java/util/TreeMap$PrivateEntryIterator", "lastReturned", "Ljava/util/TreeMap$Entry;", false)
  | 2 => ("java/util/TreeMap$PrivateEntryIterator", "expectedModCount", "I", false)
  | _ => ("java/util/TreeMap$PrivateEntryIterator", "this$0", "Ljava/util/TreeMap;", true)
def tyJ33 : Nat → FieldType := fun k => match k with
  | 0 => .object "java/util/TreeMap$Entry"
  | 1 => .object "java/util/TreeMap$Entry"
  | 2 => .int
  | _ => .object "java/util/TreeMap"
abbrev wsJ330 : List Cond := u_ws RJ33 TJ33 4
theorem nmJ33 : ∀ a, a < 4 → ∀ b, b < 4 → a ≠ b → (TJ33 a).2.1 ≠ (TJ33 b).2.1 := by decide +kernel
theorem tyJ33_ok : ∀ k, k < 4 → parseFieldDescriptor (TJ33 k).2.2.1 = some (tyJ33 k) := by decide +kernel
abbrev cJ33_next : ByteArray := prog_79_method_2_code
def yJ33_next : MethodName := ⟨RJ33, "next", "()Ljava/lang/Object;"⟩
def dkwJ33_next_0 : List UInt8 := [42, 182, 0, 7, 180, 0, 13, 176]
abbrev dktJ33_next_0 : List UInt8 := dkwJ33_next_0 ++ []
theorem dksJ33_next_0 : cJ33_next.data.toList.drop 0 = dktJ33_next_0 := by decide +kernel
theorem dJ33_next_0 : decode cJ33_next 0 = .ok (.aload_n 0, 1) := dk_42 (dk_at dksJ33_next_0 0 rfl rfl)
theorem dJ33_next_1 : decode cJ33_next 1 = .ok (.invokevirtual 7, 3) := dk_182 0 7 (dk_at dksJ33_next_0 1 rfl rfl)
theorem dJ33_next_4 : decode cJ33_next 4 = .ok (.getfield 13, 3) := dk_180 0 13 (dk_at dksJ33_next_0 4 rfl rfl)
theorem dJ33_next_7 : decode cJ33_next 7 = .ok (.areturn, 1) := dk_176 (dk_at dksJ33_next_0 7 rfl rfl)
abbrev cJ33_init : ByteArray := prog_79_method_1_code
def yJ33_init : MethodName := ⟨RJ33, "<init>", "(Ljava/util/TreeMap;Ljava/util/TreeMap$Entry;)V"⟩
def dkwJ33_init_0 : List UInt8 := [42, 43, 44, 183, 0, 1, 177]
abbrev dktJ33_init_0 : List UInt8 := dkwJ33_init_0 ++ []
theorem dksJ33_init_0 : cJ33_init.data.toList.drop 0 = dktJ33_init_0 := by decide +kernel
theorem dJ33_init_0 : decode cJ33_init 0 = .ok (.aload_n 0, 1) := dk_42 (dk_at dksJ33_init_0 0 rfl rfl)
theorem dJ33_init_1 : decode cJ33_init 1 = .ok (.aload_n 1, 1) := dk_43 (dk_at dksJ33_init_0 1 rfl rfl)
theorem dJ33_init_2 : decode cJ33_init 2 = .ok (.aload_n 2, 1) := dk_44 (dk_at dksJ33_init_0 2 rfl rfl)
theorem dJ33_init_3 : decode cJ33_init 3 = .ok (.invokespecial 1, 3) := dk_183 0 1 (dk_at dksJ33_init_0 3 rfl rfl)
theorem dJ33_init_6 : decode cJ33_init 6 = .ok (.return_, 1) := dk_177 (dk_at dksJ33_init_0 6 rfl rfl)
theorem q128 : (Jvm.Cond.initialized "java/util/TreeMap$KeyIterator") ∈ lw_all := lw_g (lw_at lw_m1 51 rfl) rfl
theorem q458 : (Jvm.Cond.selects "java/util/TreeMap$KeyIterator" ({ cls := "java/lang/Object", name := "getClass", desc := "()Ljava/lang/Class;" } : Jvm.MethodName) ({ cls := "java/lang/Object", name := "getClass", desc := "()Ljava/lang/Class;" } : Jvm.MethodName)) ∈ lw_all := lw_g (lw_at lw_m2 141 rfl) rfl
theorem q748 : (Jvm.Cond.castable "java/util/TreeMap$KeyIterator" "java/util/Iterator") ∈ lw_tbl := lw_at lw_m3 191 rfl
theorem q749 : (Jvm.Cond.selects "java/util/TreeMap$KeyIterator" ({ cls := "java/util/Iterator", name := "hasNext", desc := "()Z" } : Jvm.MethodName) ({ cls := "java/util/TreeMap$PrivateEntryIterator", name := "hasNext", desc := "()Z" } : Jvm.MethodName)) ∈ lw_all := lw_g (lw_at lw_m3 192 rfl) rfl
theorem q750 : (Jvm.Cond.unhidden "java/util/TreeMap$KeyIterator" "hasNext" "()Z") ∈ lw_tbl := lw_at lw_m3 193 rfl
theorem q789 : (Jvm.Cond.selects "java/util/TreeMap$KeyIterator" ({ cls := "java/util/Iterator", name := "next", desc := "()Ljava/lang/Object;" } : Jvm.MethodName) ({ cls := "java/util/TreeMap$KeyIterator", name := "next", desc := "()Ljava/lang/Object;" } : Jvm.MethodName)) ∈ lw_all := lw_g (lw_at lw_m3 232 rfl) rfl
theorem q790 : (Jvm.Cond.unhidden "java/util/TreeMap$KeyIterator" "next" "()Ljava/lang/Object;") ∈ lw_tbl := lw_at lw_m3 233 rfl
theorem q791 : (Jvm.Cond.instanceMethod ({ cls := "java/util/TreeMap$KeyIterator", name := "next", desc := "()Ljava/lang/Object;" } : Jvm.MethodName)) ∈ lw_all := lw_g (lw_at lw_m3 234 rfl) rfl
theorem q792 : (Jvm.Cond.publicMethod ({ cls := "java/util/TreeMap$KeyIterator", name := "next", desc := "()Ljava/lang/Object;" } : Jvm.MethodName)) ∈ lw_tbl := lw_at lw_m3 235 rfl
theorem q793 : (Jvm.Cond.code ({ cls := "java/util/TreeMap$KeyIterator", name := "next", desc := "()Ljava/lang/Object;" } : Jvm.MethodName) prog_79_method_2_code (1 : Nat) (Option.some (Jvm.ClassFile.FieldType.object "java/lang/Object"))) ∈ lw_all := lw_g (lw_at lw_m3 236 rfl) rfl
theorem q794 : (Jvm.Cond.methodLink "java/util/TreeMap$KeyIterator" (7 : Nat) ({ cls := "java/util/TreeMap$KeyIterator", name := "nextEntry", desc := "()Ljava/util/TreeMap$Entry;" } : Jvm.MethodName)) ∈ lw_all := lw_g (lw_at lw_m3 237 rfl) rfl
theorem q795 : (Jvm.Cond.sameMethod "java/util/TreeMap$KeyIterator" "java/util/TreeMap$PrivateEntryIterator" "nextEntry" "()Ljava/util/TreeMap$Entry;") ∈ lw_all := lw_g (lw_at lw_m3 238 rfl) rfl
theorem q797 : (Jvm.Cond.selects "java/util/TreeMap$KeyIterator" ({ cls := "java/util/TreeMap$KeyIterator", name := "nextEntry", desc := "()Ljava/util/TreeMap$Entry;" } : Jvm.MethodName) ({ cls := "java/util/TreeMap$PrivateEntryIterator", name := "nextEntry", desc := "()Ljava/util/TreeMap$Entry;" } : Jvm.MethodName)) ∈ lw_all := lw_g (lw_at lw_m4 0 rfl) rfl
theorem q1723 : (Jvm.Cond.fieldLink "java/util/TreeMap$KeyIterator" (13 : Nat) "java/util/TreeMap$Entry" "key" "Ljava/lang/Object;") ∈ lw_all := lw_g (lw_at lw_m7 206 rfl) rfl
theorem q1891 : (Jvm.Cond.instantiable "java/util/TreeMap$KeyIterator" (4 : Nat)) ∈ lw_all := lw_g (lw_at lw_m8 134 rfl) rfl
theorem q1897 : (Jvm.Cond.instanceMethod ({ cls := "java/util/TreeMap$KeyIterator", name := "<init>", desc := "(Ljava/util/TreeMap;Ljava/util/TreeMap$Entry;)V" } : Jvm.MethodName)) ∈ lw_all := lw_g (lw_at lw_m8 140 rfl) rfl
theorem q1898 : (Jvm.Cond.code ({ cls := "java/util/TreeMap$KeyIterator", name := "<init>", desc := "(Ljava/util/TreeMap;Ljava/util/TreeMap$Entry;)V" } : Jvm.MethodName) prog_79_method_1_code (3 : Nat) (Option.none : Option Jvm.ClassFile.FieldType)) ∈ lw_all := lw_g (lw_at lw_m8 141 rfl) rfl
theorem q1899 : (Jvm.Cond.methodLink "java/util/TreeMap$KeyIterator" (1 : Nat) ({ cls := "java/util/TreeMap$PrivateEntryIterator", name := "<init>", desc := "(Ljava/util/TreeMap;Ljava/util/TreeMap$Entry;)V" } : Jvm.MethodName)) ∈ lw_all := lw_g (lw_at lw_m8 142 rfl) rfl
theorem q1907 : (Jvm.Cond.lays "java/util/TreeMap$KeyIterator" "java/util/TreeMap$PrivateEntryIterator" "next" "Ljava/util/TreeMap$Entry;") ∈ lw_all := lw_g (lw_at lw_m8 150 rfl) rfl
theorem q1909 : (Jvm.Cond.lays "java/util/TreeMap$KeyIterator" "java/util/TreeMap$PrivateEntryIterator" "lastReturned" "Ljava/util/TreeMap$Entry;") ∈ lw_all := lw_g (lw_at lw_m8 152 rfl) rfl
theorem q1911 : (Jvm.Cond.lays "java/util/TreeMap$KeyIterator" "java/util/TreeMap$PrivateEntryIterator" "expectedModCount" "I") ∈ lw_all := lw_g (lw_at lw_m8 154 rfl) rfl
theorem q1913 : (Jvm.Cond.laysFinal "java/util/TreeMap$KeyIterator" "java/util/TreeMap$PrivateEntryIterator" "this$0" "Ljava/util/TreeMap;") ∈ lw_all := lw_g (lw_at lw_m8 156 rfl) rfl
theorem q1915 : (Jvm.Cond.superclass "java/util/TreeMap$KeyIterator" "java/util/TreeMap$PrivateEntryIterator") ∈ lw_all := lw_g (lw_at lw_m8 158 rfl) rfl
theorem q2782 : (Jvm.Cond.castable "java/util/TreeMap$KeyIterator" "java/lang/Object") ∈ lw_tbl := lw_at lw_m12 65 rfl
theorem in_J33 : ∀ w ∈ wsJ330, w ∈ lw_all := lw_in wsJ330 [1907, 1909, 1911, 1913] (by decide +kernel) (by decide +kernel)
/-! java/util/TreeMap$ValueIterator -/
set_option maxRecDepth 100000
def RJ34 : String := "java/util/TreeMap$ValueIterator"
def TJ34 : u_T := fun k => match k with
  | 0 => ("java/util/TreeMap$PrivateEntryIterator", "next", "Ljava/util/TreeMap$Entry;", false)
  | 1 => ("java/util/TreeMap$PrivateEntryIterator", "lastReturned", "Ljava/util/TreeMap$Entry;", false)
  | 2 => ("java/util/TreeMap$PrivateEntryIterator", "expectedModCount", "I", false)
  | _ => ("java/util/TreeMap$PrivateEntryIterator", "this$0", "Ljava/util/TreeMap;", true)
def tyJ34 : Nat → FieldType := fun k => match k with
  | 0 => .object "java/util/TreeMap$Entry"
  | 1 => .object "java/util/TreeMap$Entry"
  | 2 => .int
  | _ => .object "java/util/TreeMap"
abbrev wsJ340 : List Cond := u_ws RJ34 TJ34 4
theorem nmJ34 : ∀ a, a < 4 → ∀ b, b < 4 → a ≠ b → (TJ34 a).2.1 ≠ (TJ34 b).2.1 := by decide +kernel
theorem tyJ34_ok : ∀ k, k < 4 → parseFieldDescriptor (TJ34 k).2.2.1 = some (tyJ34 k) := by decide +kernel
abbrev cJ34_next : ByteArray := prog_83_method_2_code
def yJ34_next : MethodName := ⟨RJ34, "next", "()Ljava/lang/Object;"⟩
def dkwJ34_next_0 : List UInt8 := [42, 182, 0, 7, 180, 0, 13, 176]
abbrev dktJ34_next_0 : List UInt8 := dkwJ34_next_0 ++ []
theorem dksJ34_next_0 : cJ34_next.data.toList.drop 0 = dktJ34_next_0 := by decide +kernel
theorem dJ34_next_0 : decode cJ34_next 0 = .ok (.aload_n 0, 1) := dk_42 (dk_at dksJ34_next_0 0 rfl rfl)
theorem dJ34_next_1 : decode cJ34_next 1 = .ok (.invokevirtual 7, 3) := dk_182 0 7 (dk_at dksJ34_next_0 1 rfl rfl)
theorem dJ34_next_4 : decode cJ34_next 4 = .ok (.getfield 13, 3) := dk_180 0 13 (dk_at dksJ34_next_0 4 rfl rfl)
theorem dJ34_next_7 : decode cJ34_next 7 = .ok (.areturn, 1) := dk_176 (dk_at dksJ34_next_0 7 rfl rfl)
abbrev cJ34_init : ByteArray := prog_83_method_1_code
def yJ34_init : MethodName := ⟨RJ34, "<init>", "(Ljava/util/TreeMap;Ljava/util/TreeMap$Entry;)V"⟩
def dkwJ34_init_0 : List UInt8 := [42, 43, 44, 183, 0, 1, 177]
abbrev dktJ34_init_0 : List UInt8 := dkwJ34_init_0 ++ []
theorem dksJ34_init_0 : cJ34_init.data.toList.drop 0 = dktJ34_init_0 := by decide +kernel
theorem dJ34_init_0 : decode cJ34_init 0 = .ok (.aload_n 0, 1) := dk_42 (dk_at dksJ34_init_0 0 rfl rfl)
theorem dJ34_init_1 : decode cJ34_init 1 = .ok (.aload_n 1, 1) := dk_43 (dk_at dksJ34_init_0 1 rfl rfl)
theorem dJ34_init_2 : decode cJ34_init 2 = .ok (.aload_n 2, 1) := dk_44 (dk_at dksJ34_init_0 2 rfl rfl)
theorem dJ34_init_3 : decode cJ34_init 3 = .ok (.invokespecial 1, 3) := dk_183 0 1 (dk_at dksJ34_init_0 3 rfl rfl)
theorem dJ34_init_6 : decode cJ34_init 6 = .ok (.return_, 1) := dk_177 (dk_at dksJ34_init_0 6 rfl rfl)
theorem q129 : (Jvm.Cond.initialized "java/util/TreeMap$ValueIterator") ∈ lw_all := lw_g (lw_at lw_m1 52 rfl) rfl
theorem q460 : (Jvm.Cond.selects "java/util/TreeMap$ValueIterator" ({ cls := "java/lang/Object", name := "getClass", desc := "()Ljava/lang/Class;" } : Jvm.MethodName) ({ cls := "java/lang/Object", name := "getClass", desc := "()Ljava/lang/Class;" } : Jvm.MethodName)) ∈ lw_all := lw_g (lw_at lw_m2 143 rfl) rfl
theorem q754 : (Jvm.Cond.castable "java/util/TreeMap$ValueIterator" "java/util/Iterator") ∈ lw_tbl := lw_at lw_m3 197 rfl
theorem q755 : (Jvm.Cond.selects "java/util/TreeMap$ValueIterator" ({ cls := "java/util/Iterator", name := "hasNext", desc := "()Z" } : Jvm.MethodName) ({ cls := "java/util/TreeMap$PrivateEntryIterator", name := "hasNext", desc := "()Z" } : Jvm.MethodName)) ∈ lw_all := lw_g (lw_at lw_m3 198 rfl) rfl
theorem q756 : (Jvm.Cond.unhidden "java/util/TreeMap$ValueIterator" "hasNext" "()Z") ∈ lw_tbl := lw_at lw_m3 199 rfl
theorem q803 : (Jvm.Cond.selects "java/util/TreeMap$ValueIterator" ({ cls := "java/util/Iterator", name := "next", desc := "()Ljava/lang/Object;" } : Jvm.MethodName) ({ cls := "java/util/TreeMap$ValueIterator", name := "next", desc := "()Ljava/lang/Object;" } : Jvm.MethodName)) ∈ lw_all := lw_g (lw_at lw_m4 6 rfl) rfl
theorem q804 : (Jvm.Cond.unhidden "java/util/TreeMap$ValueIterator" "next" "()Ljava/lang/Object;") ∈ lw_tbl := lw_at lw_m4 7 rfl
theorem q805 : (Jvm.Cond.instanceMethod ({ cls := "java/util/TreeMap$ValueIterator", name := "next", desc := "()Ljava/lang/Object;" } : Jvm.MethodName)) ∈ lw_all := lw_g (lw_at lw_m4 8 rfl) rfl
theorem q806 : (Jvm.Cond.publicMethod ({ cls := "java/util/TreeMap$ValueIterator", name := "next", desc := "()Ljava/lang/Object;" } : Jvm.MethodName)) ∈ lw_tbl := lw_at lw_m4 9 rfl
theorem q807 : (Jvm.Cond.code ({ cls := "java/util/TreeMap$ValueIterator", name := "next", desc := "()Ljava/lang/Object;" } : Jvm.MethodName) prog_83_method_2_code (1 : Nat) (Option.some (Jvm.ClassFile.FieldType.object "java/lang/Object"))) ∈ lw_all := lw_g (lw_at lw_m4 10 rfl) rfl
theorem q808 : (Jvm.Cond.methodLink "java/util/TreeMap$ValueIterator" (7 : Nat) ({ cls := "java/util/TreeMap$ValueIterator", name := "nextEntry", desc := "()Ljava/util/TreeMap$Entry;" } : Jvm.MethodName)) ∈ lw_all := lw_g (lw_at lw_m4 11 rfl) rfl
theorem q809 : (Jvm.Cond.sameMethod "java/util/TreeMap$ValueIterator" "java/util/TreeMap$PrivateEntryIterator" "nextEntry" "()Ljava/util/TreeMap$Entry;") ∈ lw_all := lw_g (lw_at lw_m4 12 rfl) rfl
theorem q810 : (Jvm.Cond.selects "java/util/TreeMap$ValueIterator" ({ cls := "java/util/TreeMap$ValueIterator", name := "nextEntry", desc := "()Ljava/util/TreeMap$Entry;" } : Jvm.MethodName) ({ cls := "java/util/TreeMap$PrivateEntryIterator", name := "nextEntry", desc := "()Ljava/util/TreeMap$Entry;" } : Jvm.MethodName)) ∈ lw_all := lw_g (lw_at lw_m4 13 rfl) rfl
theorem q1726 : (Jvm.Cond.fieldLink "java/util/TreeMap$ValueIterator" (13 : Nat) "java/util/TreeMap$Entry" "value" "Ljava/lang/Object;") ∈ lw_all := lw_g (lw_at lw_m7 209 rfl) rfl
theorem q1927 : (Jvm.Cond.instantiable "java/util/TreeMap$ValueIterator" (4 : Nat)) ∈ lw_all := lw_g (lw_at lw_m8 170 rfl) rfl
theorem q1930 : (Jvm.Cond.instanceMethod ({ cls := "java/util/TreeMap$ValueIterator", name := "<init>", desc := "(Ljava/util/TreeMap;Ljava/util/TreeMap$Entry;)V" } : Jvm.MethodName)) ∈ lw_all := lw_g (lw_at lw_m8 173 rfl) rfl
theorem q1931 : (Jvm.Cond.code ({ cls := "java/util/TreeMap$ValueIterator", name := "<init>", desc := "(Ljava/util/TreeMap;Ljava/util/TreeMap$Entry;)V" } : Jvm.MethodName) prog_83_method_1_code (3 : Nat) (Option.none : Option Jvm.ClassFile.FieldType)) ∈ lw_all := lw_g (lw_at lw_m8 174 rfl) rfl
theorem q1932 : (Jvm.Cond.methodLink "java/util/TreeMap$ValueIterator" (1 : Nat) ({ cls := "java/util/TreeMap$PrivateEntryIterator", name := "<init>", desc := "(Ljava/util/TreeMap;Ljava/util/TreeMap$Entry;)V" } : Jvm.MethodName)) ∈ lw_all := lw_g (lw_at lw_m8 175 rfl) rfl
theorem q1933 : (Jvm.Cond.lays "java/util/TreeMap$ValueIterator" "java/util/TreeMap$PrivateEntryIterator" "next" "Ljava/util/TreeMap$Entry;") ∈ lw_all := lw_g (lw_at lw_m8 176 rfl) rfl
theorem q1934 : (Jvm.Cond.lays "java/util/TreeMap$ValueIterator" "java/util/TreeMap$PrivateEntryIterator" "lastReturned" "Ljava/util/TreeMap$Entry;") ∈ lw_all := lw_g (lw_at lw_m8 177 rfl) rfl
theorem q1935 : (Jvm.Cond.lays "java/util/TreeMap$ValueIterator" "java/util/TreeMap$PrivateEntryIterator" "expectedModCount" "I") ∈ lw_all := lw_g (lw_at lw_m8 178 rfl) rfl
theorem q1936 : (Jvm.Cond.laysFinal "java/util/TreeMap$ValueIterator" "java/util/TreeMap$PrivateEntryIterator" "this$0" "Ljava/util/TreeMap;") ∈ lw_all := lw_g (lw_at lw_m8 179 rfl) rfl
theorem q1937 : (Jvm.Cond.superclass "java/util/TreeMap$ValueIterator" "java/util/TreeMap$PrivateEntryIterator") ∈ lw_all := lw_g (lw_at lw_m8 180 rfl) rfl
theorem q2780 : (Jvm.Cond.castable "java/util/TreeMap$ValueIterator" "java/lang/Object") ∈ lw_tbl := lw_at lw_m12 63 rfl
theorem in_J34 : ∀ w ∈ wsJ340, w ∈ lw_all := lw_in wsJ340 [1933, 1934, 1935, 1936] (by decide +kernel) (by decide +kernel)
/-! java/util/TreeMap$KeySet -/
set_option maxRecDepth 100000
def RJ35 : String := "java/util/TreeMap$KeySet"
def TJ35 : u_T := fun k => match k with
  | _ => ("java/util/TreeMap$KeySet", "m", "Ljava/util/NavigableMap;", true)
def tyJ35 : Nat → FieldType := fun k => match k with
  | _ => .object "java/util/NavigableMap"
abbrev wsJ350 : List Cond := u_ws RJ35 TJ35 1
theorem nmJ35 : ∀ a, a < 1 → ∀ b, b < 1 → a ≠ b → (TJ35 a).2.1 ≠ (TJ35 b).2.1 := by decide +kernel
theorem tyJ35_ok : ∀ k, k < 1 → parseFieldDescriptor (TJ35 k).2.2.1 = some (tyJ35 k) := by decide +kernel
abbrev cJ35_size : ByteArray := prog_80_method_4_code
def yJ35_size : MethodName := ⟨RJ35, "size", "()I"⟩
def dkwJ35_size_0 : List UInt8 := [42, 180, 0, 7, 185, 0, 26, 1, 0, 172]
abbrev dktJ35_size_0 : List UInt8 := dkwJ35_size_0 ++ []
theorem dksJ35_size_0 : cJ35_size.data.toList.drop 0 = dktJ35_size_0 := by decide +kernel
theorem dJ35_size_0 : decode cJ35_size 0 = .ok (.aload_n 0, 1) := dk_42 (dk_at dksJ35_size_0 0 rfl rfl)
theorem dJ35_size_1 : decode cJ35_size 1 = .ok (.getfield 7, 3) := dk_180 0 7 (dk_at dksJ35_size_0 1 rfl rfl)
theorem dJ35_size_4 : decode cJ35_size 4 = .ok (.invokeinterface 26 1, 5) := by decide +kernel
theorem dJ35_size_9 : decode cJ35_size 9 = .ok (.ireturn, 1) := dk_172 (dk_at dksJ35_size_0 9 rfl rfl)
abbrev cJ35_iterator : ByteArray := prog_80_method_2_code
def yJ35_iterator : MethodName := ⟨RJ35, "iterator", "()Ljava/util/Iterator;"⟩
def dkwJ35_iterator_1 : List UInt8 := [180, 0, 7, 192, 0, 19, 182, 0, 21, 176]
abbrev dktJ35_iterator_1 : List UInt8 := dkwJ35_iterator_1 ++ []
def dkwJ35_iterator_0 : List UInt8 := [42, 180, 0, 7, 193, 0, 13, 153, 0, 14, 42, 180, 0, 7, 192, 0, 13, 182, 0, 15, 176, 42]
abbrev dktJ35_iterator_0 : List UInt8 := dkwJ35_iterator_0 ++ dktJ35_iterator_1
theorem dksJ35_iterator_0 : cJ35_iterator.data.toList.drop 0 = dktJ35_iterator_0 := by decide +kernel
theorem dksJ35_iterator_1 : cJ35_iterator.data.toList.drop 22 = dktJ35_iterator_1 := dk_seg dksJ35_iterator_0 22 rfl rfl
theorem dJ35_iterator_0 : decode cJ35_iterator 0 = .ok (.aload_n 0, 1) := dk_42 (dk_at dksJ35_iterator_0 0 rfl rfl)
theorem dJ35_iterator_1 : decode cJ35_iterator 1 = .ok (.getfield 7, 3) := dk_180 0 7 (dk_at dksJ35_iterator_0 1 rfl rfl)
theorem dJ35_iterator_4 : decode cJ35_iterator 4 = .ok (.instanceof 13, 3) := dk_193 0 13 (dk_at dksJ35_iterator_0 4 rfl rfl)
theorem dJ35_iterator_7 : decode cJ35_iterator 7 = .ok (.ifCond .eq 14, 3) := dk_153 0 14 (dk_at dksJ35_iterator_0 7 rfl rfl)
theorem dJ35_iterator_10 : decode cJ35_iterator 10 = .ok (.aload_n 0, 1) := dk_42 (dk_at dksJ35_iterator_0 10 rfl rfl)
theorem dJ35_iterator_11 : decode cJ35_iterator 11 = .ok (.getfield 7, 3) := dk_180 0 7 (dk_at dksJ35_iterator_0 11 rfl rfl)
theorem dJ35_iterator_14 : decode cJ35_iterator 14 = .ok (.checkcast 13, 3) := dk_192 0 13 (dk_at dksJ35_iterator_0 14 rfl rfl)
theorem dJ35_iterator_17 : decode cJ35_iterator 17 = .ok (.invokevirtual 15, 3) := dk_182 0 15 (dk_at dksJ35_iterator_0 17 rfl rfl)
theorem dJ35_iterator_20 : decode cJ35_iterator 20 = .ok (.areturn, 1) := dk_176 (dk_at dksJ35_iterator_0 20 rfl rfl)
theorem dJ35_iterator_21 : decode cJ35_iterator 21 = .ok (.aload_n 0, 1) := dk_42 (dk_at dksJ35_iterator_0 21 rfl rfl)
theorem dJ35_iterator_22 : decode cJ35_iterator 22 = .ok (.getfield 7, 3) := dk_180 0 7 (dk_at dksJ35_iterator_1 0 rfl rfl)
theorem dJ35_iterator_25 : decode cJ35_iterator 25 = .ok (.checkcast 19, 3) := dk_192 0 19 (dk_at dksJ35_iterator_1 3 rfl rfl)
theorem dJ35_iterator_28 : decode cJ35_iterator 28 = .ok (.invokevirtual 21, 3) := dk_182 0 21 (dk_at dksJ35_iterator_1 6 rfl rfl)
theorem dJ35_iterator_31 : decode cJ35_iterator 31 = .ok (.areturn, 1) := dk_176 (dk_at dksJ35_iterator_1 9 rfl rfl)
abbrev cJ35_init : ByteArray := prog_80_method_1_code
def yJ35_init : MethodName := ⟨RJ35, "<init>", "(Ljava/util/NavigableMap;)V"⟩
def dkwJ35_init_0 : List UInt8 := [42, 183, 0, 1, 42, 43, 181, 0, 7, 177]
abbrev dktJ35_init_0 : List UInt8 := dkwJ35_init_0 ++ []
theorem dksJ35_init_0 : cJ35_init.data.toList.drop 0 = dktJ35_init_0 := by decide +kernel
theorem dJ35_init_0 : decode cJ35_init 0 = .ok (.aload_n 0, 1) := dk_42 (dk_at dksJ35_init_0 0 rfl rfl)
theorem dJ35_init_1 : decode cJ35_init 1 = .ok (.invokespecial 1, 3) := dk_183 0 1 (dk_at dksJ35_init_0 1 rfl rfl)
theorem dJ35_init_4 : decode cJ35_init 4 = .ok (.aload_n 0, 1) := dk_42 (dk_at dksJ35_init_0 4 rfl rfl)
theorem dJ35_init_5 : decode cJ35_init 5 = .ok (.aload_n 1, 1) := dk_43 (dk_at dksJ35_init_0 5 rfl rfl)
theorem dJ35_init_6 : decode cJ35_init 6 = .ok (.putfield 7, 3) := dk_181 0 7 (dk_at dksJ35_init_0 6 rfl rfl)
theorem dJ35_init_9 : decode cJ35_init 9 = .ok (.return_, 1) := dk_177 (dk_at dksJ35_init_0 9 rfl rfl)
theorem q130 : (Jvm.Cond.initialized "java/util/TreeMap$KeySet") ∈ lw_all := lw_g (lw_at lw_m1 53 rfl) rfl
theorem q459 : (Jvm.Cond.selects "java/util/TreeMap$KeySet" ({ cls := "java/lang/Object", name := "getClass", desc := "()Ljava/lang/Class;" } : Jvm.MethodName) ({ cls := "java/lang/Object", name := "getClass", desc := "()Ljava/lang/Class;" } : Jvm.MethodName)) ∈ lw_all := lw_g (lw_at lw_m2 142 rfl) rfl
theorem q1459 : (Jvm.Cond.selects "java/util/TreeMap$KeySet" ({ cls := "java/util/AbstractCollection", name := "size", desc := "()I" } : Jvm.MethodName) ({ cls := "java/util/TreeMap$KeySet", name := "size", desc := "()I" } : Jvm.MethodName)) ∈ lw_all := lw_g (lw_at lw_m6 182 rfl) rfl
theorem q1460 : (Jvm.Cond.instanceMethod ({ cls := "java/util/TreeMap$KeySet", name := "size", desc := "()I" } : Jvm.MethodName)) ∈ lw_all := lw_g (lw_at lw_m6 183 rfl) rfl
theorem q1461 : (Jvm.Cond.code ({ cls := "java/util/TreeMap$KeySet", name := "size", desc := "()I" } : Jvm.MethodName) prog_80_method_4_code (1 : Nat) (Option.some Jvm.ClassFile.FieldType.int)) ∈ lw_all := lw_g (lw_at lw_m6 184 rfl) rfl
theorem q1462 : (Jvm.Cond.interfaceEntry "java/util/TreeMap$KeySet" (26 : Nat)) ∈ lw_tbl := lw_at lw_m6 185 rfl
theorem q1879 : (Jvm.Cond.castable "java/util/TreeMap$KeySet" "java/util/Collection") ∈ lw_tbl := lw_at lw_m8 122 rfl
theorem q1880 : (Jvm.Cond.selects "java/util/TreeMap$KeySet" ({ cls := "java/util/Collection", name := "iterator", desc := "()Ljava/util/Iterator;" } : Jvm.MethodName) ({ cls := "java/util/TreeMap$KeySet", name := "iterator", desc := "()Ljava/util/Iterator;" } : Jvm.MethodName)) ∈ lw_all := lw_g (lw_at lw_m8 123 rfl) rfl
theorem q1881 : (Jvm.Cond.unhidden "java/util/TreeMap$KeySet" "iterator" "()Ljava/util/Iterator;") ∈ lw_tbl := lw_at lw_m8 124 rfl
theorem q1882 : (Jvm.Cond.instanceMethod ({ cls := "java/util/TreeMap$KeySet", name := "iterator", desc := "()Ljava/util/Iterator;" } : Jvm.MethodName)) ∈ lw_all := lw_g (lw_at lw_m8 125 rfl) rfl
theorem q1883 : (Jvm.Cond.publicMethod ({ cls := "java/util/TreeMap$KeySet", name := "iterator", desc := "()Ljava/util/Iterator;" } : Jvm.MethodName)) ∈ lw_tbl := lw_at lw_m8 126 rfl
theorem q1884 : (Jvm.Cond.code ({ cls := "java/util/TreeMap$KeySet", name := "iterator", desc := "()Ljava/util/Iterator;" } : Jvm.MethodName) prog_80_method_2_code (1 : Nat) (Option.some (Jvm.ClassFile.FieldType.object "java/util/Iterator"))) ∈ lw_all := lw_g (lw_at lw_m8 127 rfl) rfl
theorem q1885 : (Jvm.Cond.classLink "java/util/TreeMap$KeySet" (13 : Nat) "java/util/TreeMap") ∈ lw_all := lw_g (lw_at lw_m8 128 rfl) rfl
theorem q1886 : (Jvm.Cond.methodLink "java/util/TreeMap$KeySet" (15 : Nat) ({ cls := "java/util/TreeMap", name := "keyIterator", desc := "()Ljava/util/Iterator;" } : Jvm.MethodName)) ∈ lw_all := lw_g (lw_at lw_m8 129 rfl) rfl
theorem q1916 : (Jvm.Cond.classLink "java/util/TreeMap$KeySet" (19 : Nat) "java/util/TreeMap$NavigableSubMap") ∈ lw_all := lw_g (lw_at lw_m8 159 rfl) rfl
theorem q1917 : (Jvm.Cond.methodLink "java/util/TreeMap$KeySet" (21 : Nat) ({ cls := "java/util/TreeMap$NavigableSubMap", name := "keyIterator", desc := "()Ljava/util/Iterator;" } : Jvm.MethodName)) ∈ lw_all := lw_g (lw_at lw_m8 160 rfl) rfl
theorem q1954 : (Jvm.Cond.instantiable "java/util/TreeMap$KeySet" (1 : Nat)) ∈ lw_all := lw_g (lw_at lw_m8 197 rfl) rfl
theorem q1956 : (Jvm.Cond.instanceMethod ({ cls := "java/util/TreeMap$KeySet", name := "<init>", desc := "(Ljava/util/NavigableMap;)V" } : Jvm.MethodName)) ∈ lw_all := lw_g (lw_at lw_m8 199 rfl) rfl
theorem q1957 : (Jvm.Cond.code ({ cls := "java/util/TreeMap$KeySet", name := "<init>", desc := "(Ljava/util/NavigableMap;)V" } : Jvm.MethodName) prog_80_method_1_code (2 : Nat) (Option.none : Option Jvm.ClassFile.FieldType)) ∈ lw_all := lw_g (lw_at lw_m8 200 rfl) rfl
theorem q1958 : (Jvm.Cond.methodLink "java/util/TreeMap$KeySet" (1 : Nat) ({ cls := "java/util/AbstractSet", name := "<init>", desc := "()V" } : Jvm.MethodName)) ∈ lw_all := lw_g (lw_at lw_m8 201 rfl) rfl
theorem q1959 : (Jvm.Cond.fieldLink "java/util/TreeMap$KeySet" (7 : Nat) "java/util/TreeMap$KeySet" "m" "Ljava/util/NavigableMap;") ∈ lw_all := lw_g (lw_at lw_m8 202 rfl) rfl
theorem q1960 : (Jvm.Cond.laysFinal "java/util/TreeMap$KeySet" "java/util/TreeMap$KeySet" "m" "Ljava/util/NavigableMap;") ∈ lw_all := lw_g (lw_at lw_m8 203 rfl) rfl
theorem q1961 : (Jvm.Cond.soleField "java/util/TreeMap$KeySet" "m") ∈ lw_all := lw_g (lw_at lw_m8 204 rfl) rfl
theorem q1962 : (Jvm.Cond.superclass "java/util/TreeMap$KeySet" "java/util/AbstractSet") ∈ lw_all := lw_g (lw_at lw_m8 205 rfl) rfl
theorem q1967 : (Jvm.Cond.castable "java/util/TreeMap$KeySet" "java/util/NavigableSet") ∈ lw_tbl := lw_at lw_m8 210 rfl
theorem q1968 : (Jvm.Cond.selects "java/util/TreeMap$KeySet" ({ cls := "java/util/NavigableSet", name := "iterator", desc := "()Ljava/util/Iterator;" } : Jvm.MethodName) ({ cls := "java/util/TreeMap$KeySet", name := "iterator", desc := "()Ljava/util/Iterator;" } : Jvm.MethodName)) ∈ lw_all := lw_g (lw_at lw_m8 211 rfl) rfl
theorem q2781 : (Jvm.Cond.castable "java/util/TreeMap$KeySet" "java/lang/Object") ∈ lw_tbl := lw_at lw_m12 64 rfl
theorem in_J35 : ∀ w ∈ wsJ350, w ∈ lw_all := lw_in wsJ350 [1960] (by decide +kernel) (by decide +kernel)
