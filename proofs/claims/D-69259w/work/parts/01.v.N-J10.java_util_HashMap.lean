/-! java/util/HashMap -/
set_option maxRecDepth 100000
def RJ10 : String := "java/util/HashMap"
def TJ10 : u_T := fun k => match k with
  | 0 => ("java/util/AbstractMap", "keySet", "Ljava/util/Set;", false)
  | 1 => ("java/util/AbstractMap", "values", "Ljava/util/Collection;", false)
  | 2 => ("java/util/HashMap", "table", "[Ljava/util/HashMap$Node;", false)
  | 3 => ("java/util/HashMap", "entrySet", "Ljava/util/Set;", false)
  | 4 => ("java/util/HashMap", "size", "I", false)
  | 5 => ("java/util/HashMap", "modCount", "I", false)
  | 6 => ("java/util/HashMap", "threshold", "I", false)
  | _ => ("java/util/HashMap", "loadFactor", "F", true)
def tyJ10 : Nat → FieldType := fun k => match k with
  | 0 => .object "java/util/Set"
  | 1 => .object "java/util/Collection"
  | 2 => .array (.object "java/util/HashMap$Node")
  | 3 => .object "java/util/Set"
  | 4 => .int
  | 5 => .int
  | 6 => .int
  | _ => .float
abbrev wsJ100 : List Cond := u_ws RJ10 TJ10 8
theorem nmJ10 : ∀ a, a < 8 → ∀ b, b < 8 → a ≠ b → (TJ10 a).2.1 ≠ (TJ10 b).2.1 := by decide +kernel
theorem tyJ10_ok : ∀ k, k < 8 → parseFieldDescriptor (TJ10 k).2.2.1 = some (tyJ10 k) := by decide +kernel
abbrev cJ10_init : ByteArray := prog_109_method_7_code
def yJ10_init : MethodName := ⟨RJ10, "<init>", "()V"⟩
def dkwJ10_init_0 : List UInt8 := [42, 183, 0, 43, 42, 18, 92, 181, 0, 81, 177]
abbrev dktJ10_init_0 : List UInt8 := dkwJ10_init_0 ++ []
theorem dksJ10_init_0 : cJ10_init.data.toList.drop 0 = dktJ10_init_0 := by decide +kernel
theorem dJ10_init_0 : decode cJ10_init 0 = .ok (.aload_n 0, 1) := dk_42 (dk_at dksJ10_init_0 0 rfl rfl)
theorem dJ10_init_1 : decode cJ10_init 1 = .ok (.invokespecial 43, 3) := dk_183 0 43 (dk_at dksJ10_init_0 1 rfl rfl)
theorem dJ10_init_4 : decode cJ10_init 4 = .ok (.aload_n 0, 1) := dk_42 (dk_at dksJ10_init_0 4 rfl rfl)
theorem dJ10_init_5 : decode cJ10_init 5 = .ok (.ldc 92, 2) := dk_18 92 (dk_at dksJ10_init_0 5 rfl rfl)
theorem dJ10_init_7 : decode cJ10_init 7 = .ok (.putfield 81, 3) := dk_181 0 81 (dk_at dksJ10_init_0 7 rfl rfl)
theorem dJ10_init_10 : decode cJ10_init 10 = .ok (.return_, 1) := dk_177 (dk_at dksJ10_init_0 10 rfl rfl)
abbrev cJ10_put : ByteArray := prog_109_method_15_code
def yJ10_put : MethodName := ⟨RJ10, "put", "(Ljava/lang/Object;Ljava/lang/Object;)Ljava/lang/Object;"⟩
def dkwJ10_put_0 : List UInt8 := [42, 43, 184, 0, 149, 43, 44, 3, 4, 182, 0, 152, 176]
abbrev dktJ10_put_0 : List UInt8 := dkwJ10_put_0 ++ []
theorem dksJ10_put_0 : cJ10_put.data.toList.drop 0 = dktJ10_put_0 := by decide +kernel
theorem dJ10_put_0 : decode cJ10_put 0 = .ok (.aload_n 0, 1) := dk_42 (dk_at dksJ10_put_0 0 rfl rfl)
theorem dJ10_put_1 : decode cJ10_put 1 = .ok (.aload_n 1, 1) := dk_43 (dk_at dksJ10_put_0 1 rfl rfl)
theorem dJ10_put_2 : decode cJ10_put 2 = .ok (.invokestatic 149, 3) := dk_184 0 149 (dk_at dksJ10_put_0 2 rfl rfl)
theorem dJ10_put_5 : decode cJ10_put 5 = .ok (.aload_n 1, 1) := dk_43 (dk_at dksJ10_put_0 5 rfl rfl)
theorem dJ10_put_6 : decode cJ10_put 6 = .ok (.aload_n 2, 1) := dk_44 (dk_at dksJ10_put_0 6 rfl rfl)
theorem dJ10_put_7 : decode cJ10_put 7 = .ok (.iconst 0, 1) := dk_3 (dk_at dksJ10_put_0 7 rfl rfl)
theorem dJ10_put_8 : decode cJ10_put 8 = .ok (.iconst 1, 1) := dk_4 (dk_at dksJ10_put_0 8 rfl rfl)
theorem dJ10_put_9 : decode cJ10_put 9 = .ok (.invokevirtual 152, 3) := dk_182 0 152 (dk_at dksJ10_put_0 9 rfl rfl)
theorem dJ10_put_12 : decode cJ10_put 12 = .ok (.areturn, 1) := dk_176 (dk_at dksJ10_put_0 12 rfl rfl)
abbrev cJ10_hash : ByteArray := prog_109_method_1_code
def yJ10_hash : MethodName := ⟨RJ10, "hash", "(Ljava/lang/Object;)I"⟩
def dkwJ10_hash_0 : List UInt8 := [42, 199, 0, 7, 3, 167, 0, 14, 42, 182, 0, 1, 89, 60, 27, 16, 16, 124, 130, 172]
abbrev dktJ10_hash_0 : List UInt8 := dkwJ10_hash_0 ++ []
theorem dksJ10_hash_0 : cJ10_hash.data.toList.drop 0 = dktJ10_hash_0 := by decide +kernel
theorem dJ10_hash_0 : decode cJ10_hash 0 = .ok (.aload_n 0, 1) := dk_42 (dk_at dksJ10_hash_0 0 rfl rfl)
theorem dJ10_hash_1 : decode cJ10_hash 1 = .ok (.ifnonnull 7, 3) := dk_199 0 7 (dk_at dksJ10_hash_0 1 rfl rfl)
theorem dJ10_hash_4 : decode cJ10_hash 4 = .ok (.iconst 0, 1) := dk_3 (dk_at dksJ10_hash_0 4 rfl rfl)
theorem dJ10_hash_5 : decode cJ10_hash 5 = .ok (.goto 14, 3) := dk_167 0 14 (dk_at dksJ10_hash_0 5 rfl rfl)
theorem dJ10_hash_8 : decode cJ10_hash 8 = .ok (.aload_n 0, 1) := dk_42 (dk_at dksJ10_hash_0 8 rfl rfl)
theorem dJ10_hash_9 : decode cJ10_hash 9 = .ok (.invokevirtual 1, 3) := dk_182 0 1 (dk_at dksJ10_hash_0 9 rfl rfl)
theorem dJ10_hash_12 : decode cJ10_hash 12 = .ok (.dup, 1) := dk_89 (dk_at dksJ10_hash_0 12 rfl rfl)
theorem dJ10_hash_13 : decode cJ10_hash 13 = .ok (.istore_n 1, 1) := dk_60 (dk_at dksJ10_hash_0 13 rfl rfl)
theorem dJ10_hash_14 : decode cJ10_hash 14 = .ok (.iload_n 1, 1) := dk_27 (dk_at dksJ10_hash_0 14 rfl rfl)
theorem dJ10_hash_15 : decode cJ10_hash 15 = .ok (.bipush 16, 2) := dk_16 16 (dk_at dksJ10_hash_0 15 rfl rfl)
theorem dJ10_hash_17 : decode cJ10_hash 17 = .ok (.iushr, 1) := dk_124 (dk_at dksJ10_hash_0 17 rfl rfl)
theorem dJ10_hash_18 : decode cJ10_hash 18 = .ok (.ixor, 1) := dk_130 (dk_at dksJ10_hash_0 18 rfl rfl)
theorem dJ10_hash_19 : decode cJ10_hash 19 = .ok (.ireturn, 1) := dk_172 (dk_at dksJ10_hash_0 19 rfl rfl)
abbrev cJ10_putVal : ByteArray := prog_109_method_16_code
def yJ10_putVal : MethodName := ⟨RJ10, "putVal", "(ILjava/lang/Object;Ljava/lang/Object;ZZ)Ljava/lang/Object;"⟩
def dkwJ10_putVal_12 : List UInt8 := [181, 0, 156, 42, 180, 0, 88, 164, 0, 8, 42, 182, 0, 117, 87, 42, 21, 5, 182, 0, 205, 1, 176]
abbrev dktJ10_putVal_12 : List UInt8 := dkwJ10_putVal_12 ++ []
def dkwJ10_putVal_11 : List UInt8 := [182, 0, 198, 25, 12, 176, 42, 89, 180, 0, 202, 4, 96, 181, 0, 202, 42, 89, 180, 0, 156, 4, 96, 90]
abbrev dktJ10_putVal_11 : List UInt8 := dkwJ10_putVal_11 ++ dktJ10_putVal_12
def dkwJ10_putVal_10 : List UInt8 := [180, 0, 162, 58, 12, 21, 4, 153, 0, 8, 25, 12, 199, 0, 9, 25, 10, 45, 181, 0, 162, 42, 25, 10]
abbrev dktJ10_putVal_10 : List UInt8 := dkwJ10_putVal_10 ++ dktJ10_putVal_11
def dkwJ10_putVal_9 : List UInt8 := [153, 0, 6, 167, 0, 13, 25, 10, 58, 7, 132, 12, 1, 167, 255, 171, 25, 10, 198, 0, 35, 25, 10]
abbrev dktJ10_putVal_9 : List UInt8 := dkwJ10_putVal_9 ++ dktJ10_putVal_10
def dkwJ10_putVal_8 : List UInt8 := [25, 10, 180, 0, 170, 89, 58, 11, 44, 165, 0, 29, 44, 198, 0, 15, 44, 25, 11, 182, 0, 173]
abbrev dktJ10_putVal_8 : List UInt8 := dkwJ10_putVal_8 ++ dktJ10_putVal_9
def dkwJ10_putVal_7 : List UInt8 := [16, 7, 161, 0, 60, 42, 25, 6, 27, 182, 0, 194, 167, 0, 50, 25, 10, 180, 0, 168, 27, 160, 0, 31]
abbrev dktJ10_putVal_7 : List UInt8 := dkwJ10_putVal_7 ++ dktJ10_putVal_8
def dkwJ10_putVal_6 : List UInt8 := [180, 0, 177, 89, 58, 10, 199, 0, 33, 25, 7, 42, 27, 44, 45, 1, 182, 0, 186, 181, 0, 177, 21, 12]
abbrev dktJ10_putVal_6 : List UInt8 := dkwJ10_putVal_6 ++ dktJ10_putVal_7
def dkwJ10_putVal_5 : List UInt8 := [192, 0, 180, 42, 25, 6, 27, 44, 45, 182, 0, 190, 58, 10, 167, 0, 94, 3, 54, 12, 25, 7]
abbrev dktJ10_putVal_5 : List UInt8 := dkwJ10_putVal_5 ++ dktJ10_putVal_6
def dkwJ10_putVal_4 : List UInt8 := [182, 0, 173, 153, 0, 10, 25, 7, 58, 10, 167, 0, 121, 25, 7, 193, 0, 180, 153, 0, 22, 25, 7]
abbrev dktJ10_putVal_4 : List UInt8 := dkwJ10_putVal_4 ++ dktJ10_putVal_5
def dkwJ10_putVal_3 : List UInt8 := [160, 0, 35, 25, 7, 180, 0, 170, 89, 58, 11, 44, 165, 0, 16, 44, 198, 0, 19, 44, 25, 11]
abbrev dktJ10_putVal_3 : List UInt8 := dkwJ10_putVal_3 ++ dktJ10_putVal_4
def dkwJ10_putVal_2 : List UInt8 := [25, 6, 21, 9, 42, 27, 44, 45, 1, 182, 0, 186, 83, 167, 0, 199, 25, 7, 180, 0, 168, 27]
abbrev dktJ10_putVal_2 : List UInt8 := dkwJ10_putVal_2 ++ dktJ10_putVal_3
def dkwJ10_putVal_1 : List UInt8 := [58, 6, 190, 54, 8, 25, 6, 21, 8, 4, 100, 27, 126, 89, 54, 9, 50, 89, 58, 7, 199, 0, 19]
abbrev dktJ10_putVal_1 : List UInt8 := dkwJ10_putVal_1 ++ dktJ10_putVal_2
def dkwJ10_putVal_0 : List UInt8 := [42, 180, 0, 105, 89, 58, 6, 198, 0, 12, 25, 6, 190, 89, 54, 8, 154, 0, 13, 42, 182, 0, 117, 89]
abbrev dktJ10_putVal_0 : List UInt8 := dkwJ10_putVal_0 ++ dktJ10_putVal_1
theorem dksJ10_putVal_0 : cJ10_putVal.data.toList.drop 0 = dktJ10_putVal_0 := by decide +kernel
theorem dksJ10_putVal_1 : cJ10_putVal.data.toList.drop 24 = dktJ10_putVal_1 := dk_seg dksJ10_putVal_0 24 rfl rfl
theorem dksJ10_putVal_2 : cJ10_putVal.data.toList.drop 47 = dktJ10_putVal_2 := dk_seg dksJ10_putVal_1 23 rfl rfl
theorem dksJ10_putVal_3 : cJ10_putVal.data.toList.drop 69 = dktJ10_putVal_3 := dk_seg dksJ10_putVal_2 22 rfl rfl
theorem dksJ10_putVal_4 : cJ10_putVal.data.toList.drop 91 = dktJ10_putVal_4 := dk_seg dksJ10_putVal_3 22 rfl rfl
theorem dksJ10_putVal_5 : cJ10_putVal.data.toList.drop 114 = dktJ10_putVal_5 := dk_seg dksJ10_putVal_4 23 rfl rfl
theorem dksJ10_putVal_6 : cJ10_putVal.data.toList.drop 136 = dktJ10_putVal_6 := dk_seg dksJ10_putVal_5 22 rfl rfl
theorem dksJ10_putVal_7 : cJ10_putVal.data.toList.drop 160 = dktJ10_putVal_7 := dk_seg dksJ10_putVal_6 24 rfl rfl
theorem dksJ10_putVal_8 : cJ10_putVal.data.toList.drop 184 = dktJ10_putVal_8 := dk_seg dksJ10_putVal_7 24 rfl rfl
theorem dksJ10_putVal_9 : cJ10_putVal.data.toList.drop 206 = dktJ10_putVal_9 := dk_seg dksJ10_putVal_8 22 rfl rfl
theorem dksJ10_putVal_10 : cJ10_putVal.data.toList.drop 229 = dktJ10_putVal_10 := dk_seg dksJ10_putVal_9 23 rfl rfl
theorem dksJ10_putVal_11 : cJ10_putVal.data.toList.drop 253 = dktJ10_putVal_11 := dk_seg dksJ10_putVal_10 24 rfl rfl
theorem dksJ10_putVal_12 : cJ10_putVal.data.toList.drop 277 = dktJ10_putVal_12 := dk_seg dksJ10_putVal_11 24 rfl rfl
theorem dJ10_putVal_0 : decode cJ10_putVal 0 = .ok (.aload_n 0, 1) := dk_42 (dk_at dksJ10_putVal_0 0 rfl rfl)
theorem dJ10_putVal_1 : decode cJ10_putVal 1 = .ok (.getfield 105, 3) := dk_180 0 105 (dk_at dksJ10_putVal_0 1 rfl rfl)
theorem dJ10_putVal_4 : decode cJ10_putVal 4 = .ok (.dup, 1) := dk_89 (dk_at dksJ10_putVal_0 4 rfl rfl)
theorem dJ10_putVal_5 : decode cJ10_putVal 5 = .ok (.astore 6, 2) := dk_58 6 (dk_at dksJ10_putVal_0 5 rfl rfl)
theorem dJ10_putVal_7 : decode cJ10_putVal 7 = .ok (.ifnull 12, 3) := dk_198 0 12 (dk_at dksJ10_putVal_0 7 rfl rfl)
theorem dJ10_putVal_10 : decode cJ10_putVal 10 = .ok (.aload 6, 2) := dk_25 6 (dk_at dksJ10_putVal_0 10 rfl rfl)
theorem dJ10_putVal_12 : decode cJ10_putVal 12 = .ok (.arraylength, 1) := dk_190 (dk_at dksJ10_putVal_0 12 rfl rfl)
theorem dJ10_putVal_13 : decode cJ10_putVal 13 = .ok (.dup, 1) := dk_89 (dk_at dksJ10_putVal_0 13 rfl rfl)
theorem dJ10_putVal_14 : decode cJ10_putVal 14 = .ok (.istore 8, 2) := dk_54 8 (dk_at dksJ10_putVal_0 14 rfl rfl)
theorem dJ10_putVal_16 : decode cJ10_putVal 16 = .ok (.ifCond .ne 13, 3) := dk_154 0 13 (dk_at dksJ10_putVal_0 16 rfl rfl)
theorem dJ10_putVal_19 : decode cJ10_putVal 19 = .ok (.aload_n 0, 1) := dk_42 (dk_at dksJ10_putVal_0 19 rfl rfl)
theorem dJ10_putVal_20 : decode cJ10_putVal 20 = .ok (.invokevirtual 117, 3) := dk_182 0 117 (dk_at dksJ10_putVal_0 20 rfl rfl)
theorem dJ10_putVal_23 : decode cJ10_putVal 23 = .ok (.dup, 1) := dk_89 (dk_at dksJ10_putVal_0 23 rfl rfl)
theorem dJ10_putVal_24 : decode cJ10_putVal 24 = .ok (.astore 6, 2) := dk_58 6 (dk_at dksJ10_putVal_1 0 rfl rfl)
theorem dJ10_putVal_26 : decode cJ10_putVal 26 = .ok (.arraylength, 1) := dk_190 (dk_at dksJ10_putVal_1 2 rfl rfl)
theorem dJ10_putVal_27 : decode cJ10_putVal 27 = .ok (.istore 8, 2) := dk_54 8 (dk_at dksJ10_putVal_1 3 rfl rfl)
theorem dJ10_putVal_29 : decode cJ10_putVal 29 = .ok (.aload 6, 2) := dk_25 6 (dk_at dksJ10_putVal_1 5 rfl rfl)
theorem dJ10_putVal_31 : decode cJ10_putVal 31 = .ok (.iload 8, 2) := dk_21 8 (dk_at dksJ10_putVal_1 7 rfl rfl)
theorem dJ10_putVal_33 : decode cJ10_putVal 33 = .ok (.iconst 1, 1) := dk_4 (dk_at dksJ10_putVal_1 9 rfl rfl)
theorem dJ10_putVal_34 : decode cJ10_putVal 34 = .ok (.isub, 1) := dk_100 (dk_at dksJ10_putVal_1 10 rfl rfl)
theorem dJ10_putVal_35 : decode cJ10_putVal 35 = .ok (.iload_n 1, 1) := dk_27 (dk_at dksJ10_putVal_1 11 rfl rfl)
theorem dJ10_putVal_36 : decode cJ10_putVal 36 = .ok (.iand, 1) := dk_126 (dk_at dksJ10_putVal_1 12 rfl rfl)
theorem dJ10_putVal_37 : decode cJ10_putVal 37 = .ok (.dup, 1) := dk_89 (dk_at dksJ10_putVal_1 13 rfl rfl)
theorem dJ10_putVal_38 : decode cJ10_putVal 38 = .ok (.istore 9, 2) := dk_54 9 (dk_at dksJ10_putVal_1 14 rfl rfl)
theorem dJ10_putVal_40 : decode cJ10_putVal 40 = .ok (.aaload, 1) := dk_50 (dk_at dksJ10_putVal_1 16 rfl rfl)
theorem dJ10_putVal_41 : decode cJ10_putVal 41 = .ok (.dup, 1) := dk_89 (dk_at dksJ10_putVal_1 17 rfl rfl)
theorem dJ10_putVal_42 : decode cJ10_putVal 42 = .ok (.astore 7, 2) := dk_58 7 (dk_at dksJ10_putVal_1 18 rfl rfl)
theorem dJ10_putVal_44 : decode cJ10_putVal 44 = .ok (.ifnonnull 19, 3) := dk_199 0 19 (dk_at dksJ10_putVal_1 20 rfl rfl)
theorem dJ10_putVal_47 : decode cJ10_putVal 47 = .ok (.aload 6, 2) := dk_25 6 (dk_at dksJ10_putVal_2 0 rfl rfl)
theorem dJ10_putVal_49 : decode cJ10_putVal 49 = .ok (.iload 9, 2) := dk_21 9 (dk_at dksJ10_putVal_2 2 rfl rfl)
theorem dJ10_putVal_51 : decode cJ10_putVal 51 = .ok (.aload_n 0, 1) := dk_42 (dk_at dksJ10_putVal_2 4 rfl rfl)
theorem dJ10_putVal_52 : decode cJ10_putVal 52 = .ok (.iload_n 1, 1) := dk_27 (dk_at dksJ10_putVal_2 5 rfl rfl)
theorem dJ10_putVal_53 : decode cJ10_putVal 53 = .ok (.aload_n 2, 1) := dk_44 (dk_at dksJ10_putVal_2 6 rfl rfl)
theorem dJ10_putVal_54 : decode cJ10_putVal 54 = .ok (.aload_n 3, 1) := dk_45 (dk_at dksJ10_putVal_2 7 rfl rfl)
theorem dJ10_putVal_55 : decode cJ10_putVal 55 = .ok (.aconst_null, 1) := dk_1 (dk_at dksJ10_putVal_2 8 rfl rfl)
theorem dJ10_putVal_56 : decode cJ10_putVal 56 = .ok (.invokevirtual 186, 3) := dk_182 0 186 (dk_at dksJ10_putVal_2 9 rfl rfl)
theorem dJ10_putVal_59 : decode cJ10_putVal 59 = .ok (.aastore, 1) := dk_83 (dk_at dksJ10_putVal_2 12 rfl rfl)
theorem dJ10_putVal_60 : decode cJ10_putVal 60 = .ok (.goto 199, 3) := dk_167 0 199 (dk_at dksJ10_putVal_2 13 rfl rfl)
theorem dJ10_putVal_63 : decode cJ10_putVal 63 = .ok (.aload 7, 2) := dk_25 7 (dk_at dksJ10_putVal_2 16 rfl rfl)
theorem dJ10_putVal_65 : decode cJ10_putVal 65 = .ok (.getfield 168, 3) := dk_180 0 168 (dk_at dksJ10_putVal_2 18 rfl rfl)
theorem dJ10_putVal_68 : decode cJ10_putVal 68 = .ok (.iload_n 1, 1) := dk_27 (dk_at dksJ10_putVal_2 21 rfl rfl)
theorem dJ10_putVal_69 : decode cJ10_putVal 69 = .ok (.if_icmp .ne 35, 3) := dk_160 0 35 (dk_at dksJ10_putVal_3 0 rfl rfl)
theorem dJ10_putVal_72 : decode cJ10_putVal 72 = .ok (.aload 7, 2) := dk_25 7 (dk_at dksJ10_putVal_3 3 rfl rfl)
theorem dJ10_putVal_74 : decode cJ10_putVal 74 = .ok (.getfield 170, 3) := dk_180 0 170 (dk_at dksJ10_putVal_3 5 rfl rfl)
theorem dJ10_putVal_77 : decode cJ10_putVal 77 = .ok (.dup, 1) := dk_89 (dk_at dksJ10_putVal_3 8 rfl rfl)
theorem dJ10_putVal_78 : decode cJ10_putVal 78 = .ok (.astore 11, 2) := dk_58 11 (dk_at dksJ10_putVal_3 9 rfl rfl)
theorem dJ10_putVal_80 : decode cJ10_putVal 80 = .ok (.aload_n 2, 1) := dk_44 (dk_at dksJ10_putVal_3 11 rfl rfl)
theorem dJ10_putVal_81 : decode cJ10_putVal 81 = .ok (.if_acmp .eq 16, 3) := dk_165 0 16 (dk_at dksJ10_putVal_3 12 rfl rfl)
theorem dJ10_putVal_84 : decode cJ10_putVal 84 = .ok (.aload_n 2, 1) := dk_44 (dk_at dksJ10_putVal_3 15 rfl rfl)
theorem dJ10_putVal_85 : decode cJ10_putVal 85 = .ok (.ifnull 19, 3) := dk_198 0 19 (dk_at dksJ10_putVal_3 16 rfl rfl)
theorem dJ10_putVal_88 : decode cJ10_putVal 88 = .ok (.aload_n 2, 1) := dk_44 (dk_at dksJ10_putVal_3 19 rfl rfl)
theorem dJ10_putVal_89 : decode cJ10_putVal 89 = .ok (.aload 11, 2) := dk_25 11 (dk_at dksJ10_putVal_3 20 rfl rfl)
theorem dJ10_putVal_91 : decode cJ10_putVal 91 = .ok (.invokevirtual 173, 3) := dk_182 0 173 (dk_at dksJ10_putVal_4 0 rfl rfl)
theorem dJ10_putVal_94 : decode cJ10_putVal 94 = .ok (.ifCond .eq 10, 3) := dk_153 0 10 (dk_at dksJ10_putVal_4 3 rfl rfl)
theorem dJ10_putVal_97 : decode cJ10_putVal 97 = .ok (.aload 7, 2) := dk_25 7 (dk_at dksJ10_putVal_4 6 rfl rfl)
theorem dJ10_putVal_99 : decode cJ10_putVal 99 = .ok (.astore 10, 2) := dk_58 10 (dk_at dksJ10_putVal_4 8 rfl rfl)
theorem dJ10_putVal_101 : decode cJ10_putVal 101 = .ok (.goto 121, 3) := dk_167 0 121 (dk_at dksJ10_putVal_4 10 rfl rfl)
theorem dJ10_putVal_104 : decode cJ10_putVal 104 = .ok (.aload 7, 2) := dk_25 7 (dk_at dksJ10_putVal_4 13 rfl rfl)
theorem dJ10_putVal_106 : decode cJ10_putVal 106 = .ok (.instanceof 180, 3) := dk_193 0 180 (dk_at dksJ10_putVal_4 15 rfl rfl)
theorem dJ10_putVal_109 : decode cJ10_putVal 109 = .ok (.ifCond .eq 22, 3) := dk_153 0 22 (dk_at dksJ10_putVal_4 18 rfl rfl)
theorem dJ10_putVal_112 : decode cJ10_putVal 112 = .ok (.aload 7, 2) := dk_25 7 (dk_at dksJ10_putVal_4 21 rfl rfl)
theorem dJ10_putVal_114 : decode cJ10_putVal 114 = .ok (.checkcast 180, 3) := dk_192 0 180 (dk_at dksJ10_putVal_5 0 rfl rfl)
theorem dJ10_putVal_117 : decode cJ10_putVal 117 = .ok (.aload_n 0, 1) := dk_42 (dk_at dksJ10_putVal_5 3 rfl rfl)
theorem dJ10_putVal_118 : decode cJ10_putVal 118 = .ok (.aload 6, 2) := dk_25 6 (dk_at dksJ10_putVal_5 4 rfl rfl)
theorem dJ10_putVal_120 : decode cJ10_putVal 120 = .ok (.iload_n 1, 1) := dk_27 (dk_at dksJ10_putVal_5 6 rfl rfl)
theorem dJ10_putVal_121 : decode cJ10_putVal 121 = .ok (.aload_n 2, 1) := dk_44 (dk_at dksJ10_putVal_5 7 rfl rfl)
theorem dJ10_putVal_122 : decode cJ10_putVal 122 = .ok (.aload_n 3, 1) := dk_45 (dk_at dksJ10_putVal_5 8 rfl rfl)
theorem dJ10_putVal_123 : decode cJ10_putVal 123 = .ok (.invokevirtual 190, 3) := dk_182 0 190 (dk_at dksJ10_putVal_5 9 rfl rfl)
theorem dJ10_putVal_126 : decode cJ10_putVal 126 = .ok (.astore 10, 2) := dk_58 10 (dk_at dksJ10_putVal_5 12 rfl rfl)
theorem dJ10_putVal_128 : decode cJ10_putVal 128 = .ok (.goto 94, 3) := dk_167 0 94 (dk_at dksJ10_putVal_5 14 rfl rfl)
theorem dJ10_putVal_131 : decode cJ10_putVal 131 = .ok (.iconst 0, 1) := dk_3 (dk_at dksJ10_putVal_5 17 rfl rfl)
theorem dJ10_putVal_132 : decode cJ10_putVal 132 = .ok (.istore 12, 2) := dk_54 12 (dk_at dksJ10_putVal_5 18 rfl rfl)
theorem dJ10_putVal_134 : decode cJ10_putVal 134 = .ok (.aload 7, 2) := dk_25 7 (dk_at dksJ10_putVal_5 20 rfl rfl)
theorem dJ10_putVal_136 : decode cJ10_putVal 136 = .ok (.getfield 177, 3) := dk_180 0 177 (dk_at dksJ10_putVal_6 0 rfl rfl)
theorem dJ10_putVal_139 : decode cJ10_putVal 139 = .ok (.dup, 1) := dk_89 (dk_at dksJ10_putVal_6 3 rfl rfl)
theorem dJ10_putVal_140 : decode cJ10_putVal 140 = .ok (.astore 10, 2) := dk_58 10 (dk_at dksJ10_putVal_6 4 rfl rfl)
theorem dJ10_putVal_142 : decode cJ10_putVal 142 = .ok (.ifnonnull 33, 3) := dk_199 0 33 (dk_at dksJ10_putVal_6 6 rfl rfl)
theorem dJ10_putVal_145 : decode cJ10_putVal 145 = .ok (.aload 7, 2) := dk_25 7 (dk_at dksJ10_putVal_6 9 rfl rfl)
theorem dJ10_putVal_147 : decode cJ10_putVal 147 = .ok (.aload_n 0, 1) := dk_42 (dk_at dksJ10_putVal_6 11 rfl rfl)
theorem dJ10_putVal_148 : decode cJ10_putVal 148 = .ok (.iload_n 1, 1) := dk_27 (dk_at dksJ10_putVal_6 12 rfl rfl)
theorem dJ10_putVal_149 : decode cJ10_putVal 149 = .ok (.aload_n 2, 1) := dk_44 (dk_at dksJ10_putVal_6 13 rfl rfl)
theorem dJ10_putVal_150 : decode cJ10_putVal 150 = .ok (.aload_n 3, 1) := dk_45 (dk_at dksJ10_putVal_6 14 rfl rfl)
theorem dJ10_putVal_151 : decode cJ10_putVal 151 = .ok (.aconst_null, 1) := dk_1 (dk_at dksJ10_putVal_6 15 rfl rfl)
theorem dJ10_putVal_152 : decode cJ10_putVal 152 = .ok (.invokevirtual 186, 3) := dk_182 0 186 (dk_at dksJ10_putVal_6 16 rfl rfl)
theorem dJ10_putVal_155 : decode cJ10_putVal 155 = .ok (.putfield 177, 3) := dk_181 0 177 (dk_at dksJ10_putVal_6 19 rfl rfl)
theorem dJ10_putVal_158 : decode cJ10_putVal 158 = .ok (.iload 12, 2) := dk_21 12 (dk_at dksJ10_putVal_6 22 rfl rfl)
theorem dJ10_putVal_160 : decode cJ10_putVal 160 = .ok (.bipush 7, 2) := dk_16 7 (dk_at dksJ10_putVal_7 0 rfl rfl)
theorem dJ10_putVal_162 : decode cJ10_putVal 162 = .ok (.if_icmp .lt 60, 3) := dk_161 0 60 (dk_at dksJ10_putVal_7 2 rfl rfl)
theorem dJ10_putVal_165 : decode cJ10_putVal 165 = .ok (.aload_n 0, 1) := dk_42 (dk_at dksJ10_putVal_7 5 rfl rfl)
theorem dJ10_putVal_166 : decode cJ10_putVal 166 = .ok (.aload 6, 2) := dk_25 6 (dk_at dksJ10_putVal_7 6 rfl rfl)
theorem dJ10_putVal_168 : decode cJ10_putVal 168 = .ok (.iload_n 1, 1) := dk_27 (dk_at dksJ10_putVal_7 8 rfl rfl)
theorem dJ10_putVal_169 : decode cJ10_putVal 169 = .ok (.invokevirtual 194, 3) := dk_182 0 194 (dk_at dksJ10_putVal_7 9 rfl rfl)
theorem dJ10_putVal_172 : decode cJ10_putVal 172 = .ok (.goto 50, 3) := dk_167 0 50 (dk_at dksJ10_putVal_7 12 rfl rfl)
theorem dJ10_putVal_175 : decode cJ10_putVal 175 = .ok (.aload 10, 2) := dk_25 10 (dk_at dksJ10_putVal_7 15 rfl rfl)
theorem dJ10_putVal_177 : decode cJ10_putVal 177 = .ok (.getfield 168, 3) := dk_180 0 168 (dk_at dksJ10_putVal_7 17 rfl rfl)
theorem dJ10_putVal_180 : decode cJ10_putVal 180 = .ok (.iload_n 1, 1) := dk_27 (dk_at dksJ10_putVal_7 20 rfl rfl)
theorem dJ10_putVal_181 : decode cJ10_putVal 181 = .ok (.if_icmp .ne 31, 3) := dk_160 0 31 (dk_at dksJ10_putVal_7 21 rfl rfl)
theorem dJ10_putVal_184 : decode cJ10_putVal 184 = .ok (.aload 10, 2) := dk_25 10 (dk_at dksJ10_putVal_8 0 rfl rfl)
theorem dJ10_putVal_186 : decode cJ10_putVal 186 = .ok (.getfield 170, 3) := dk_180 0 170 (dk_at dksJ10_putVal_8 2 rfl rfl)
theorem dJ10_putVal_189 : decode cJ10_putVal 189 = .ok (.dup, 1) := dk_89 (dk_at dksJ10_putVal_8 5 rfl rfl)
theorem dJ10_putVal_190 : decode cJ10_putVal 190 = .ok (.astore 11, 2) := dk_58 11 (dk_at dksJ10_putVal_8 6 rfl rfl)
theorem dJ10_putVal_192 : decode cJ10_putVal 192 = .ok (.aload_n 2, 1) := dk_44 (dk_at dksJ10_putVal_8 8 rfl rfl)
theorem dJ10_putVal_193 : decode cJ10_putVal 193 = .ok (.if_acmp .eq 29, 3) := dk_165 0 29 (dk_at dksJ10_putVal_8 9 rfl rfl)
theorem dJ10_putVal_196 : decode cJ10_putVal 196 = .ok (.aload_n 2, 1) := dk_44 (dk_at dksJ10_putVal_8 12 rfl rfl)
theorem dJ10_putVal_197 : decode cJ10_putVal 197 = .ok (.ifnull 15, 3) := dk_198 0 15 (dk_at dksJ10_putVal_8 13 rfl rfl)
theorem dJ10_putVal_200 : decode cJ10_putVal 200 = .ok (.aload_n 2, 1) := dk_44 (dk_at dksJ10_putVal_8 16 rfl rfl)
theorem dJ10_putVal_201 : decode cJ10_putVal 201 = .ok (.aload 11, 2) := dk_25 11 (dk_at dksJ10_putVal_8 17 rfl rfl)
theorem dJ10_putVal_203 : decode cJ10_putVal 203 = .ok (.invokevirtual 173, 3) := dk_182 0 173 (dk_at dksJ10_putVal_8 19 rfl rfl)
theorem dJ10_putVal_206 : decode cJ10_putVal 206 = .ok (.ifCond .eq 6, 3) := dk_153 0 6 (dk_at dksJ10_putVal_9 0 rfl rfl)
theorem dJ10_putVal_209 : decode cJ10_putVal 209 = .ok (.goto 13, 3) := dk_167 0 13 (dk_at dksJ10_putVal_9 3 rfl rfl)
theorem dJ10_putVal_212 : decode cJ10_putVal 212 = .ok (.aload 10, 2) := dk_25 10 (dk_at dksJ10_putVal_9 6 rfl rfl)
theorem dJ10_putVal_214 : decode cJ10_putVal 214 = .ok (.astore 7, 2) := dk_58 7 (dk_at dksJ10_putVal_9 8 rfl rfl)
theorem dJ10_putVal_216 : decode cJ10_putVal 216 = .ok (.iinc 12 1, 3) := dk_132 12 1 (dk_at dksJ10_putVal_9 10 rfl rfl)
theorem dJ10_putVal_219 : decode cJ10_putVal 219 = .ok (.goto (-85), 3) := dk_167 255 171 (dk_at dksJ10_putVal_9 13 rfl rfl)
theorem dJ10_putVal_222 : decode cJ10_putVal 222 = .ok (.aload 10, 2) := dk_25 10 (dk_at dksJ10_putVal_9 16 rfl rfl)
theorem dJ10_putVal_224 : decode cJ10_putVal 224 = .ok (.ifnull 35, 3) := dk_198 0 35 (dk_at dksJ10_putVal_9 18 rfl rfl)
theorem dJ10_putVal_227 : decode cJ10_putVal 227 = .ok (.aload 10, 2) := dk_25 10 (dk_at dksJ10_putVal_9 21 rfl rfl)
theorem dJ10_putVal_229 : decode cJ10_putVal 229 = .ok (.getfield 162, 3) := dk_180 0 162 (dk_at dksJ10_putVal_10 0 rfl rfl)
theorem dJ10_putVal_232 : decode cJ10_putVal 232 = .ok (.astore 12, 2) := dk_58 12 (dk_at dksJ10_putVal_10 3 rfl rfl)
theorem dJ10_putVal_234 : decode cJ10_putVal 234 = .ok (.iload 4, 2) := dk_21 4 (dk_at dksJ10_putVal_10 5 rfl rfl)
theorem dJ10_putVal_236 : decode cJ10_putVal 236 = .ok (.ifCond .eq 8, 3) := dk_153 0 8 (dk_at dksJ10_putVal_10 7 rfl rfl)
theorem dJ10_putVal_239 : decode cJ10_putVal 239 = .ok (.aload 12, 2) := dk_25 12 (dk_at dksJ10_putVal_10 10 rfl rfl)
theorem dJ10_putVal_241 : decode cJ10_putVal 241 = .ok (.ifnonnull 9, 3) := dk_199 0 9 (dk_at dksJ10_putVal_10 12 rfl rfl)
theorem dJ10_putVal_244 : decode cJ10_putVal 244 = .ok (.aload 10, 2) := dk_25 10 (dk_at dksJ10_putVal_10 15 rfl rfl)
theorem dJ10_putVal_246 : decode cJ10_putVal 246 = .ok (.aload_n 3, 1) := dk_45 (dk_at dksJ10_putVal_10 17 rfl rfl)
theorem dJ10_putVal_247 : decode cJ10_putVal 247 = .ok (.putfield 162, 3) := dk_181 0 162 (dk_at dksJ10_putVal_10 18 rfl rfl)
theorem dJ10_putVal_250 : decode cJ10_putVal 250 = .ok (.aload_n 0, 1) := dk_42 (dk_at dksJ10_putVal_10 21 rfl rfl)
theorem dJ10_putVal_251 : decode cJ10_putVal 251 = .ok (.aload 10, 2) := dk_25 10 (dk_at dksJ10_putVal_10 22 rfl rfl)
theorem dJ10_putVal_253 : decode cJ10_putVal 253 = .ok (.invokevirtual 198, 3) := dk_182 0 198 (dk_at dksJ10_putVal_11 0 rfl rfl)
theorem dJ10_putVal_256 : decode cJ10_putVal 256 = .ok (.aload 12, 2) := dk_25 12 (dk_at dksJ10_putVal_11 3 rfl rfl)
theorem dJ10_putVal_258 : decode cJ10_putVal 258 = .ok (.areturn, 1) := dk_176 (dk_at dksJ10_putVal_11 5 rfl rfl)
theorem dJ10_putVal_259 : decode cJ10_putVal 259 = .ok (.aload_n 0, 1) := dk_42 (dk_at dksJ10_putVal_11 6 rfl rfl)
theorem dJ10_putVal_260 : decode cJ10_putVal 260 = .ok (.dup, 1) := dk_89 (dk_at dksJ10_putVal_11 7 rfl rfl)
theorem dJ10_putVal_261 : decode cJ10_putVal 261 = .ok (.getfield 202, 3) := dk_180 0 202 (dk_at dksJ10_putVal_11 8 rfl rfl)
theorem dJ10_putVal_264 : decode cJ10_putVal 264 = .ok (.iconst 1, 1) := dk_4 (dk_at dksJ10_putVal_11 11 rfl rfl)
theorem dJ10_putVal_265 : decode cJ10_putVal 265 = .ok (.iadd, 1) := dk_96 (dk_at dksJ10_putVal_11 12 rfl rfl)
theorem dJ10_putVal_266 : decode cJ10_putVal 266 = .ok (.putfield 202, 3) := dk_181 0 202 (dk_at dksJ10_putVal_11 13 rfl rfl)
theorem dJ10_putVal_269 : decode cJ10_putVal 269 = .ok (.aload_n 0, 1) := dk_42 (dk_at dksJ10_putVal_11 16 rfl rfl)
theorem dJ10_putVal_270 : decode cJ10_putVal 270 = .ok (.dup, 1) := dk_89 (dk_at dksJ10_putVal_11 17 rfl rfl)
theorem dJ10_putVal_271 : decode cJ10_putVal 271 = .ok (.getfield 156, 3) := dk_180 0 156 (dk_at dksJ10_putVal_11 18 rfl rfl)
theorem dJ10_putVal_274 : decode cJ10_putVal 274 = .ok (.iconst 1, 1) := dk_4 (dk_at dksJ10_putVal_11 21 rfl rfl)
theorem dJ10_putVal_275 : decode cJ10_putVal 275 = .ok (.iadd, 1) := dk_96 (dk_at dksJ10_putVal_11 22 rfl rfl)
theorem dJ10_putVal_276 : decode cJ10_putVal 276 = .ok (.dup_x1, 1) := dk_90 (dk_at dksJ10_putVal_11 23 rfl rfl)
theorem dJ10_putVal_277 : decode cJ10_putVal 277 = .ok (.putfield 156, 3) := dk_181 0 156 (dk_at dksJ10_putVal_12 0 rfl rfl)
theorem dJ10_putVal_280 : decode cJ10_putVal 280 = .ok (.aload_n 0, 1) := dk_42 (dk_at dksJ10_putVal_12 3 rfl rfl)
theorem dJ10_putVal_281 : decode cJ10_putVal 281 = .ok (.getfield 88, 3) := dk_180 0 88 (dk_at dksJ10_putVal_12 4 rfl rfl)
theorem dJ10_putVal_284 : decode cJ10_putVal 284 = .ok (.if_icmp .le 8, 3) := dk_164 0 8 (dk_at dksJ10_putVal_12 7 rfl rfl)
theorem dJ10_putVal_287 : decode cJ10_putVal 287 = .ok (.aload_n 0, 1) := dk_42 (dk_at dksJ10_putVal_12 10 rfl rfl)
theorem dJ10_putVal_288 : decode cJ10_putVal 288 = .ok (.invokevirtual 117, 3) := dk_182 0 117 (dk_at dksJ10_putVal_12 11 rfl rfl)
theorem dJ10_putVal_291 : decode cJ10_putVal 291 = .ok (.pop, 1) := dk_87 (dk_at dksJ10_putVal_12 14 rfl rfl)
theorem dJ10_putVal_292 : decode cJ10_putVal 292 = .ok (.aload_n 0, 1) := dk_42 (dk_at dksJ10_putVal_12 15 rfl rfl)
theorem dJ10_putVal_293 : decode cJ10_putVal 293 = .ok (.iload 5, 2) := dk_21 5 (dk_at dksJ10_putVal_12 16 rfl rfl)
theorem dJ10_putVal_295 : decode cJ10_putVal 295 = .ok (.invokevirtual 205, 3) := dk_182 0 205 (dk_at dksJ10_putVal_12 18 rfl rfl)
theorem dJ10_putVal_298 : decode cJ10_putVal 298 = .ok (.aconst_null, 1) := dk_1 (dk_at dksJ10_putVal_12 21 rfl rfl)
theorem dJ10_putVal_299 : decode cJ10_putVal 299 = .ok (.areturn, 1) := dk_176 (dk_at dksJ10_putVal_12 22 rfl rfl)
abbrev cJ10_resize : ByteArray := prog_109_method_17_code
def yJ10_resize : MethodName := ⟨RJ10, "resize", "()[Ljava/util/HashMap$Node;"⟩
def dkwJ10_resize_15 : List UInt8 := [25, 6, 176]
abbrev dktJ10_resize_15 : List UInt8 := dkwJ10_resize_15 ++ []
def dkwJ10_resize_14 : List UInt8 := [198, 0, 18, 25, 12, 1, 181, 0, 177, 25, 6, 21, 7, 28, 96, 25, 11, 83, 132, 7, 1, 167, 255, 57]
abbrev dktJ10_resize_14 : List UInt8 := dkwJ10_resize_14 ++ dktJ10_resize_15
def dkwJ10_resize_13 : List UInt8 := [199, 255, 185, 25, 10, 198, 0, 16, 25, 10, 1, 181, 0, 177, 25, 6, 21, 7, 25, 9, 83, 25, 12]
abbrev dktJ10_resize_13 : List UInt8 := dkwJ10_resize_13 ++ dktJ10_resize_14
def dkwJ10_resize_12 : List UInt8 := [25, 8, 58, 11, 167, 0, 10, 25, 12, 25, 8, 181, 0, 177, 25, 8, 58, 12, 25, 13, 89, 58, 8]
abbrev dktJ10_resize_12 : List UInt8 := dkwJ10_resize_12 ++ dktJ10_resize_13
def dkwJ10_resize_11 : List UInt8 := [58, 9, 167, 0, 10, 25, 10, 25, 8, 181, 0, 177, 25, 8, 58, 10, 167, 0, 26, 25, 12, 199, 0, 10]
abbrev dktJ10_resize_11 : List UInt8 := dkwJ10_resize_11 ++ dktJ10_resize_12
def dkwJ10_resize_10 : List UInt8 := [25, 8, 180, 0, 177, 58, 13, 25, 8, 180, 0, 168, 28, 126, 154, 0, 29, 25, 10, 199, 0, 10, 25, 8]
abbrev dktJ10_resize_10 : List UInt8 := dkwJ10_resize_10 ++ dktJ10_resize_11
def dkwJ10_resize_9 : List UInt8 := [42, 25, 6, 21, 7, 28, 182, 0, 211, 167, 0, 127, 1, 58, 9, 1, 58, 10, 1, 58, 11, 1, 58, 12]
abbrev dktJ10_resize_9 : List UInt8 := dkwJ10_resize_9 ++ dktJ10_resize_10
def dkwJ10_resize_8 : List UInt8 := [21, 4, 4, 100, 126, 25, 8, 83, 167, 0, 152, 25, 8, 193, 0, 180, 153, 0, 20, 25, 8, 192, 0, 180]
abbrev dktJ10_resize_8 : List UInt8 := dkwJ10_resize_8 ++ dktJ10_resize_9
def dkwJ10_resize_7 : List UInt8 := [198, 0, 183, 43, 21, 7, 1, 83, 25, 8, 180, 0, 177, 199, 0, 21, 25, 6, 25, 8, 180, 0, 168]
abbrev dktJ10_resize_7 : List UInt8 := dkwJ10_resize_7 ++ dktJ10_resize_8
def dkwJ10_resize_6 : List UInt8 := [181, 0, 105, 43, 198, 0, 208, 3, 54, 7, 21, 7, 28, 162, 0, 199, 43, 21, 7, 50, 89, 58, 8]
abbrev dktJ10_resize_6 : List UInt8 := dkwJ10_resize_6 ++ dktJ10_resize_7
def dkwJ10_resize_5 : List UInt8 := [167, 0, 5, 18, 209, 54, 5, 42, 21, 5, 181, 0, 88, 21, 4, 189, 0, 163, 58, 6, 42, 25, 6]
abbrev dktJ10_resize_5 : List UInt8 := dkwJ10_resize_5 ++ dktJ10_resize_6
def dkwJ10_resize_4 : List UInt8 := [180, 0, 81, 106, 56, 6, 21, 4, 18, 42, 162, 0, 17, 23, 6, 18, 210, 150, 156, 0, 9, 23, 6, 139]
abbrev dktJ10_resize_4 : List UInt8 := dkwJ10_resize_4 ++ dktJ10_resize_5
def dkwJ10_resize_3 : List UInt8 := [54, 4, 167, 0, 11, 16, 16, 54, 4, 16, 12, 54, 5, 21, 5, 154, 0, 38, 21, 4, 134, 42]
abbrev dktJ10_resize_3 : List UInt8 := dkwJ10_resize_3 ++ dktJ10_resize_4
def dkwJ10_resize_2 : List UInt8 := [18, 42, 162, 0, 35, 28, 16, 16, 161, 0, 29, 29, 4, 120, 54, 5, 167, 0, 21, 29, 158, 0, 9, 29]
abbrev dktJ10_resize_2 : List UInt8 := dkwJ10_resize_2 ++ dktJ10_resize_3
def dkwJ10_resize_1 : List UInt8 := [28, 158, 0, 42, 28, 18, 42, 161, 0, 11, 42, 18, 209, 181, 0, 88, 43, 176, 28, 4, 120, 89, 54, 4]
abbrev dktJ10_resize_1 : List UInt8 := dkwJ10_resize_1 ++ dktJ10_resize_2
def dkwJ10_resize_0 : List UInt8 := [42, 180, 0, 105, 76, 43, 199, 0, 7, 3, 167, 0, 5, 43, 190, 61, 42, 180, 0, 88, 62, 3, 54, 5]
abbrev dktJ10_resize_0 : List UInt8 := dkwJ10_resize_0 ++ dktJ10_resize_1
theorem dksJ10_resize_0 : cJ10_resize.data.toList.drop 0 = dktJ10_resize_0 := by decide +kernel
theorem dksJ10_resize_1 : cJ10_resize.data.toList.drop 24 = dktJ10_resize_1 := dk_seg dksJ10_resize_0 24 rfl rfl
theorem dksJ10_resize_2 : cJ10_resize.data.toList.drop 48 = dktJ10_resize_2 := dk_seg dksJ10_resize_1 24 rfl rfl
theorem dksJ10_resize_3 : cJ10_resize.data.toList.drop 72 = dktJ10_resize_3 := dk_seg dksJ10_resize_2 24 rfl rfl
theorem dksJ10_resize_4 : cJ10_resize.data.toList.drop 94 = dktJ10_resize_4 := dk_seg dksJ10_resize_3 22 rfl rfl
theorem dksJ10_resize_5 : cJ10_resize.data.toList.drop 118 = dktJ10_resize_5 := dk_seg dksJ10_resize_4 24 rfl rfl
theorem dksJ10_resize_6 : cJ10_resize.data.toList.drop 141 = dktJ10_resize_6 := dk_seg dksJ10_resize_5 23 rfl rfl
theorem dksJ10_resize_7 : cJ10_resize.data.toList.drop 164 = dktJ10_resize_7 := dk_seg dksJ10_resize_6 23 rfl rfl
theorem dksJ10_resize_8 : cJ10_resize.data.toList.drop 187 = dktJ10_resize_8 := dk_seg dksJ10_resize_7 23 rfl rfl
theorem dksJ10_resize_9 : cJ10_resize.data.toList.drop 211 = dktJ10_resize_9 := dk_seg dksJ10_resize_8 24 rfl rfl
theorem dksJ10_resize_10 : cJ10_resize.data.toList.drop 235 = dktJ10_resize_10 := dk_seg dksJ10_resize_9 24 rfl rfl
theorem dksJ10_resize_11 : cJ10_resize.data.toList.drop 259 = dktJ10_resize_11 := dk_seg dksJ10_resize_10 24 rfl rfl
theorem dksJ10_resize_12 : cJ10_resize.data.toList.drop 283 = dktJ10_resize_12 := dk_seg dksJ10_resize_11 24 rfl rfl
theorem dksJ10_resize_13 : cJ10_resize.data.toList.drop 306 = dktJ10_resize_13 := dk_seg dksJ10_resize_12 23 rfl rfl
theorem dksJ10_resize_14 : cJ10_resize.data.toList.drop 329 = dktJ10_resize_14 := dk_seg dksJ10_resize_13 23 rfl rfl
theorem dksJ10_resize_15 : cJ10_resize.data.toList.drop 353 = dktJ10_resize_15 := dk_seg dksJ10_resize_14 24 rfl rfl
theorem dJ10_resize_0 : decode cJ10_resize 0 = .ok (.aload_n 0, 1) := dk_42 (dk_at dksJ10_resize_0 0 rfl rfl)
theorem dJ10_resize_1 : decode cJ10_resize 1 = .ok (.getfield 105, 3) := dk_180 0 105 (dk_at dksJ10_resize_0 1 rfl rfl)
theorem dJ10_resize_4 : decode cJ10_resize 4 = .ok (.astore_n 1, 1) := dk_76 (dk_at dksJ10_resize_0 4 rfl rfl)
theorem dJ10_resize_5 : decode cJ10_resize 5 = .ok (.aload_n 1, 1) := dk_43 (dk_at dksJ10_resize_0 5 rfl rfl)
theorem dJ10_resize_6 : decode cJ10_resize 6 = .ok (.ifnonnull 7, 3) := dk_199 0 7 (dk_at dksJ10_resize_0 6 rfl rfl)
theorem dJ10_resize_9 : decode cJ10_resize 9 = .ok (.iconst 0, 1) := dk_3 (dk_at dksJ10_resize_0 9 rfl rfl)
theorem dJ10_resize_10 : decode cJ10_resize 10 = .ok (.goto 5, 3) := dk_167 0 5 (dk_at dksJ10_resize_0 10 rfl rfl)
theorem dJ10_resize_13 : decode cJ10_resize 13 = .ok (.aload_n 1, 1) := dk_43 (dk_at dksJ10_resize_0 13 rfl rfl)
theorem dJ10_resize_14 : decode cJ10_resize 14 = .ok (.arraylength, 1) := dk_190 (dk_at dksJ10_resize_0 14 rfl rfl)
theorem dJ10_resize_15 : decode cJ10_resize 15 = .ok (.istore_n 2, 1) := dk_61 (dk_at dksJ10_resize_0 15 rfl rfl)
theorem dJ10_resize_16 : decode cJ10_resize 16 = .ok (.aload_n 0, 1) := dk_42 (dk_at dksJ10_resize_0 16 rfl rfl)
theorem dJ10_resize_17 : decode cJ10_resize 17 = .ok (.getfield 88, 3) := dk_180 0 88 (dk_at dksJ10_resize_0 17 rfl rfl)
theorem dJ10_resize_20 : decode cJ10_resize 20 = .ok (.istore_n 3, 1) := dk_62 (dk_at dksJ10_resize_0 20 rfl rfl)
theorem dJ10_resize_21 : decode cJ10_resize 21 = .ok (.iconst 0, 1) := dk_3 (dk_at dksJ10_resize_0 21 rfl rfl)
theorem dJ10_resize_22 : decode cJ10_resize 22 = .ok (.istore 5, 2) := dk_54 5 (dk_at dksJ10_resize_0 22 rfl rfl)
theorem dJ10_resize_24 : decode cJ10_resize 24 = .ok (.iload_n 2, 1) := dk_28 (dk_at dksJ10_resize_1 0 rfl rfl)
theorem dJ10_resize_25 : decode cJ10_resize 25 = .ok (.ifCond .le 42, 3) := dk_158 0 42 (dk_at dksJ10_resize_1 1 rfl rfl)
theorem dJ10_resize_28 : decode cJ10_resize 28 = .ok (.iload_n 2, 1) := dk_28 (dk_at dksJ10_resize_1 4 rfl rfl)
theorem dJ10_resize_29 : decode cJ10_resize 29 = .ok (.ldc 42, 2) := dk_18 42 (dk_at dksJ10_resize_1 5 rfl rfl)
theorem dJ10_resize_31 : decode cJ10_resize 31 = .ok (.if_icmp .lt 11, 3) := dk_161 0 11 (dk_at dksJ10_resize_1 7 rfl rfl)
theorem dJ10_resize_34 : decode cJ10_resize 34 = .ok (.aload_n 0, 1) := dk_42 (dk_at dksJ10_resize_1 10 rfl rfl)
theorem dJ10_resize_35 : decode cJ10_resize 35 = .ok (.ldc 209, 2) := dk_18 209 (dk_at dksJ10_resize_1 11 rfl rfl)
theorem dJ10_resize_37 : decode cJ10_resize 37 = .ok (.putfield 88, 3) := dk_181 0 88 (dk_at dksJ10_resize_1 13 rfl rfl)
theorem dJ10_resize_40 : decode cJ10_resize 40 = .ok (.aload_n 1, 1) := dk_43 (dk_at dksJ10_resize_1 16 rfl rfl)
theorem dJ10_resize_41 : decode cJ10_resize 41 = .ok (.areturn, 1) := dk_176 (dk_at dksJ10_resize_1 17 rfl rfl)
theorem dJ10_resize_42 : decode cJ10_resize 42 = .ok (.iload_n 2, 1) := dk_28 (dk_at dksJ10_resize_1 18 rfl rfl)
theorem dJ10_resize_43 : decode cJ10_resize 43 = .ok (.iconst 1, 1) := dk_4 (dk_at dksJ10_resize_1 19 rfl rfl)
theorem dJ10_resize_44 : decode cJ10_resize 44 = .ok (.ishl, 1) := dk_120 (dk_at dksJ10_resize_1 20 rfl rfl)
theorem dJ10_resize_45 : decode cJ10_resize 45 = .ok (.dup, 1) := dk_89 (dk_at dksJ10_resize_1 21 rfl rfl)
theorem dJ10_resize_46 : decode cJ10_resize 46 = .ok (.istore 4, 2) := dk_54 4 (dk_at dksJ10_resize_1 22 rfl rfl)
theorem dJ10_resize_48 : decode cJ10_resize 48 = .ok (.ldc 42, 2) := dk_18 42 (dk_at dksJ10_resize_2 0 rfl rfl)
theorem dJ10_resize_50 : decode cJ10_resize 50 = .ok (.if_icmp .ge 35, 3) := dk_162 0 35 (dk_at dksJ10_resize_2 2 rfl rfl)
theorem dJ10_resize_53 : decode cJ10_resize 53 = .ok (.iload_n 2, 1) := dk_28 (dk_at dksJ10_resize_2 5 rfl rfl)
theorem dJ10_resize_54 : decode cJ10_resize 54 = .ok (.bipush 16, 2) := dk_16 16 (dk_at dksJ10_resize_2 6 rfl rfl)
theorem dJ10_resize_56 : decode cJ10_resize 56 = .ok (.if_icmp .lt 29, 3) := dk_161 0 29 (dk_at dksJ10_resize_2 8 rfl rfl)
theorem dJ10_resize_59 : decode cJ10_resize 59 = .ok (.iload_n 3, 1) := dk_29 (dk_at dksJ10_resize_2 11 rfl rfl)
theorem dJ10_resize_60 : decode cJ10_resize 60 = .ok (.iconst 1, 1) := dk_4 (dk_at dksJ10_resize_2 12 rfl rfl)
theorem dJ10_resize_61 : decode cJ10_resize 61 = .ok (.ishl, 1) := dk_120 (dk_at dksJ10_resize_2 13 rfl rfl)
theorem dJ10_resize_62 : decode cJ10_resize 62 = .ok (.istore 5, 2) := dk_54 5 (dk_at dksJ10_resize_2 14 rfl rfl)
theorem dJ10_resize_64 : decode cJ10_resize 64 = .ok (.goto 21, 3) := dk_167 0 21 (dk_at dksJ10_resize_2 16 rfl rfl)
theorem dJ10_resize_67 : decode cJ10_resize 67 = .ok (.iload_n 3, 1) := dk_29 (dk_at dksJ10_resize_2 19 rfl rfl)
theorem dJ10_resize_68 : decode cJ10_resize 68 = .ok (.ifCond .le 9, 3) := dk_158 0 9 (dk_at dksJ10_resize_2 20 rfl rfl)
theorem dJ10_resize_71 : decode cJ10_resize 71 = .ok (.iload_n 3, 1) := dk_29 (dk_at dksJ10_resize_2 23 rfl rfl)
theorem dJ10_resize_72 : decode cJ10_resize 72 = .ok (.istore 4, 2) := dk_54 4 (dk_at dksJ10_resize_3 0 rfl rfl)
theorem dJ10_resize_74 : decode cJ10_resize 74 = .ok (.goto 11, 3) := dk_167 0 11 (dk_at dksJ10_resize_3 2 rfl rfl)
theorem dJ10_resize_77 : decode cJ10_resize 77 = .ok (.bipush 16, 2) := dk_16 16 (dk_at dksJ10_resize_3 5 rfl rfl)
theorem dJ10_resize_79 : decode cJ10_resize 79 = .ok (.istore 4, 2) := dk_54 4 (dk_at dksJ10_resize_3 7 rfl rfl)
theorem dJ10_resize_81 : decode cJ10_resize 81 = .ok (.bipush 12, 2) := dk_16 12 (dk_at dksJ10_resize_3 9 rfl rfl)
theorem dJ10_resize_83 : decode cJ10_resize 83 = .ok (.istore 5, 2) := dk_54 5 (dk_at dksJ10_resize_3 11 rfl rfl)
theorem dJ10_resize_85 : decode cJ10_resize 85 = .ok (.iload 5, 2) := dk_21 5 (dk_at dksJ10_resize_3 13 rfl rfl)
theorem dJ10_resize_87 : decode cJ10_resize 87 = .ok (.ifCond .ne 38, 3) := dk_154 0 38 (dk_at dksJ10_resize_3 15 rfl rfl)
theorem dJ10_resize_90 : decode cJ10_resize 90 = .ok (.iload 4, 2) := dk_21 4 (dk_at dksJ10_resize_3 18 rfl rfl)
theorem dJ10_resize_92 : decode cJ10_resize 92 = .ok (.i2f, 1) := dk_134 (dk_at dksJ10_resize_3 20 rfl rfl)
theorem dJ10_resize_93 : decode cJ10_resize 93 = .ok (.aload_n 0, 1) := dk_42 (dk_at dksJ10_resize_3 21 rfl rfl)
theorem dJ10_resize_94 : decode cJ10_resize 94 = .ok (.getfield 81, 3) := dk_180 0 81 (dk_at dksJ10_resize_4 0 rfl rfl)
theorem dJ10_resize_97 : decode cJ10_resize 97 = .ok (.fmul, 1) := dk_106 (dk_at dksJ10_resize_4 3 rfl rfl)
theorem dJ10_resize_98 : decode cJ10_resize 98 = .ok (.fstore 6, 2) := dk_56 6 (dk_at dksJ10_resize_4 4 rfl rfl)
theorem dJ10_resize_100 : decode cJ10_resize 100 = .ok (.iload 4, 2) := dk_21 4 (dk_at dksJ10_resize_4 6 rfl rfl)
theorem dJ10_resize_102 : decode cJ10_resize 102 = .ok (.ldc 42, 2) := dk_18 42 (dk_at dksJ10_resize_4 8 rfl rfl)
theorem dJ10_resize_104 : decode cJ10_resize 104 = .ok (.if_icmp .ge 17, 3) := dk_162 0 17 (dk_at dksJ10_resize_4 10 rfl rfl)
theorem dJ10_resize_107 : decode cJ10_resize 107 = .ok (.fload 6, 2) := dk_23 6 (dk_at dksJ10_resize_4 13 rfl rfl)
theorem dJ10_resize_109 : decode cJ10_resize 109 = .ok (.ldc 210, 2) := dk_18 210 (dk_at dksJ10_resize_4 15 rfl rfl)
theorem dJ10_resize_111 : decode cJ10_resize 111 = .ok (.fcmp .g, 1) := dk_150 (dk_at dksJ10_resize_4 17 rfl rfl)
theorem dJ10_resize_112 : decode cJ10_resize 112 = .ok (.ifCond .ge 9, 3) := dk_156 0 9 (dk_at dksJ10_resize_4 18 rfl rfl)
theorem dJ10_resize_115 : decode cJ10_resize 115 = .ok (.fload 6, 2) := dk_23 6 (dk_at dksJ10_resize_4 21 rfl rfl)
theorem dJ10_resize_117 : decode cJ10_resize 117 = .ok (.f2i, 1) := dk_139 (dk_at dksJ10_resize_4 23 rfl rfl)
theorem dJ10_resize_118 : decode cJ10_resize 118 = .ok (.goto 5, 3) := dk_167 0 5 (dk_at dksJ10_resize_5 0 rfl rfl)
theorem dJ10_resize_121 : decode cJ10_resize 121 = .ok (.ldc 209, 2) := dk_18 209 (dk_at dksJ10_resize_5 3 rfl rfl)
theorem dJ10_resize_123 : decode cJ10_resize 123 = .ok (.istore 5, 2) := dk_54 5 (dk_at dksJ10_resize_5 5 rfl rfl)
theorem dJ10_resize_125 : decode cJ10_resize 125 = .ok (.aload_n 0, 1) := dk_42 (dk_at dksJ10_resize_5 7 rfl rfl)
theorem dJ10_resize_126 : decode cJ10_resize 126 = .ok (.iload 5, 2) := dk_21 5 (dk_at dksJ10_resize_5 8 rfl rfl)
theorem dJ10_resize_128 : decode cJ10_resize 128 = .ok (.putfield 88, 3) := dk_181 0 88 (dk_at dksJ10_resize_5 10 rfl rfl)
theorem dJ10_resize_131 : decode cJ10_resize 131 = .ok (.iload 4, 2) := dk_21 4 (dk_at dksJ10_resize_5 13 rfl rfl)
theorem dJ10_resize_133 : decode cJ10_resize 133 = .ok (.anewarray 163, 3) := dk_189 0 163 (dk_at dksJ10_resize_5 15 rfl rfl)
theorem dJ10_resize_136 : decode cJ10_resize 136 = .ok (.astore 6, 2) := dk_58 6 (dk_at dksJ10_resize_5 18 rfl rfl)
theorem dJ10_resize_138 : decode cJ10_resize 138 = .ok (.aload_n 0, 1) := dk_42 (dk_at dksJ10_resize_5 20 rfl rfl)
theorem dJ10_resize_139 : decode cJ10_resize 139 = .ok (.aload 6, 2) := dk_25 6 (dk_at dksJ10_resize_5 21 rfl rfl)
theorem dJ10_resize_141 : decode cJ10_resize 141 = .ok (.putfield 105, 3) := dk_181 0 105 (dk_at dksJ10_resize_6 0 rfl rfl)
theorem dJ10_resize_144 : decode cJ10_resize 144 = .ok (.aload_n 1, 1) := dk_43 (dk_at dksJ10_resize_6 3 rfl rfl)
theorem dJ10_resize_145 : decode cJ10_resize 145 = .ok (.ifnull 208, 3) := dk_198 0 208 (dk_at dksJ10_resize_6 4 rfl rfl)
theorem dJ10_resize_148 : decode cJ10_resize 148 = .ok (.iconst 0, 1) := dk_3 (dk_at dksJ10_resize_6 7 rfl rfl)
theorem dJ10_resize_149 : decode cJ10_resize 149 = .ok (.istore 7, 2) := dk_54 7 (dk_at dksJ10_resize_6 8 rfl rfl)
theorem dJ10_resize_151 : decode cJ10_resize 151 = .ok (.iload 7, 2) := dk_21 7 (dk_at dksJ10_resize_6 10 rfl rfl)
theorem dJ10_resize_153 : decode cJ10_resize 153 = .ok (.iload_n 2, 1) := dk_28 (dk_at dksJ10_resize_6 12 rfl rfl)
theorem dJ10_resize_154 : decode cJ10_resize 154 = .ok (.if_icmp .ge 199, 3) := dk_162 0 199 (dk_at dksJ10_resize_6 13 rfl rfl)
theorem dJ10_resize_157 : decode cJ10_resize 157 = .ok (.aload_n 1, 1) := dk_43 (dk_at dksJ10_resize_6 16 rfl rfl)
theorem dJ10_resize_158 : decode cJ10_resize 158 = .ok (.iload 7, 2) := dk_21 7 (dk_at dksJ10_resize_6 17 rfl rfl)
theorem dJ10_resize_160 : decode cJ10_resize 160 = .ok (.aaload, 1) := dk_50 (dk_at dksJ10_resize_6 19 rfl rfl)
theorem dJ10_resize_161 : decode cJ10_resize 161 = .ok (.dup, 1) := dk_89 (dk_at dksJ10_resize_6 20 rfl rfl)
theorem dJ10_resize_162 : decode cJ10_resize 162 = .ok (.astore 8, 2) := dk_58 8 (dk_at dksJ10_resize_6 21 rfl rfl)
theorem dJ10_resize_164 : decode cJ10_resize 164 = .ok (.ifnull 183, 3) := dk_198 0 183 (dk_at dksJ10_resize_7 0 rfl rfl)
theorem dJ10_resize_167 : decode cJ10_resize 167 = .ok (.aload_n 1, 1) := dk_43 (dk_at dksJ10_resize_7 3 rfl rfl)
theorem dJ10_resize_168 : decode cJ10_resize 168 = .ok (.iload 7, 2) := dk_21 7 (dk_at dksJ10_resize_7 4 rfl rfl)
theorem dJ10_resize_170 : decode cJ10_resize 170 = .ok (.aconst_null, 1) := dk_1 (dk_at dksJ10_resize_7 6 rfl rfl)
theorem dJ10_resize_171 : decode cJ10_resize 171 = .ok (.aastore, 1) := dk_83 (dk_at dksJ10_resize_7 7 rfl rfl)
theorem dJ10_resize_172 : decode cJ10_resize 172 = .ok (.aload 8, 2) := dk_25 8 (dk_at dksJ10_resize_7 8 rfl rfl)
theorem dJ10_resize_174 : decode cJ10_resize 174 = .ok (.getfield 177, 3) := dk_180 0 177 (dk_at dksJ10_resize_7 10 rfl rfl)
theorem dJ10_resize_177 : decode cJ10_resize 177 = .ok (.ifnonnull 21, 3) := dk_199 0 21 (dk_at dksJ10_resize_7 13 rfl rfl)
theorem dJ10_resize_180 : decode cJ10_resize 180 = .ok (.aload 6, 2) := dk_25 6 (dk_at dksJ10_resize_7 16 rfl rfl)
theorem dJ10_resize_182 : decode cJ10_resize 182 = .ok (.aload 8, 2) := dk_25 8 (dk_at dksJ10_resize_7 18 rfl rfl)
theorem dJ10_resize_184 : decode cJ10_resize 184 = .ok (.getfield 168, 3) := dk_180 0 168 (dk_at dksJ10_resize_7 20 rfl rfl)
theorem dJ10_resize_187 : decode cJ10_resize 187 = .ok (.iload 4, 2) := dk_21 4 (dk_at dksJ10_resize_8 0 rfl rfl)
theorem dJ10_resize_189 : decode cJ10_resize 189 = .ok (.iconst 1, 1) := dk_4 (dk_at dksJ10_resize_8 2 rfl rfl)
theorem dJ10_resize_190 : decode cJ10_resize 190 = .ok (.isub, 1) := dk_100 (dk_at dksJ10_resize_8 3 rfl rfl)
theorem dJ10_resize_191 : decode cJ10_resize 191 = .ok (.iand, 1) := dk_126 (dk_at dksJ10_resize_8 4 rfl rfl)
theorem dJ10_resize_192 : decode cJ10_resize 192 = .ok (.aload 8, 2) := dk_25 8 (dk_at dksJ10_resize_8 5 rfl rfl)
theorem dJ10_resize_194 : decode cJ10_resize 194 = .ok (.aastore, 1) := dk_83 (dk_at dksJ10_resize_8 7 rfl rfl)
theorem dJ10_resize_195 : decode cJ10_resize 195 = .ok (.goto 152, 3) := dk_167 0 152 (dk_at dksJ10_resize_8 8 rfl rfl)
theorem dJ10_resize_198 : decode cJ10_resize 198 = .ok (.aload 8, 2) := dk_25 8 (dk_at dksJ10_resize_8 11 rfl rfl)
theorem dJ10_resize_200 : decode cJ10_resize 200 = .ok (.instanceof 180, 3) := dk_193 0 180 (dk_at dksJ10_resize_8 13 rfl rfl)
theorem dJ10_resize_203 : decode cJ10_resize 203 = .ok (.ifCond .eq 20, 3) := dk_153 0 20 (dk_at dksJ10_resize_8 16 rfl rfl)
theorem dJ10_resize_206 : decode cJ10_resize 206 = .ok (.aload 8, 2) := dk_25 8 (dk_at dksJ10_resize_8 19 rfl rfl)
theorem dJ10_resize_208 : decode cJ10_resize 208 = .ok (.checkcast 180, 3) := dk_192 0 180 (dk_at dksJ10_resize_8 21 rfl rfl)
theorem dJ10_resize_211 : decode cJ10_resize 211 = .ok (.aload_n 0, 1) := dk_42 (dk_at dksJ10_resize_9 0 rfl rfl)
theorem dJ10_resize_212 : decode cJ10_resize 212 = .ok (.aload 6, 2) := dk_25 6 (dk_at dksJ10_resize_9 1 rfl rfl)
theorem dJ10_resize_214 : decode cJ10_resize 214 = .ok (.iload 7, 2) := dk_21 7 (dk_at dksJ10_resize_9 3 rfl rfl)
theorem dJ10_resize_216 : decode cJ10_resize 216 = .ok (.iload_n 2, 1) := dk_28 (dk_at dksJ10_resize_9 5 rfl rfl)
theorem dJ10_resize_217 : decode cJ10_resize 217 = .ok (.invokevirtual 211, 3) := dk_182 0 211 (dk_at dksJ10_resize_9 6 rfl rfl)
theorem dJ10_resize_220 : decode cJ10_resize 220 = .ok (.goto 127, 3) := dk_167 0 127 (dk_at dksJ10_resize_9 9 rfl rfl)
theorem dJ10_resize_223 : decode cJ10_resize 223 = .ok (.aconst_null, 1) := dk_1 (dk_at dksJ10_resize_9 12 rfl rfl)
theorem dJ10_resize_224 : decode cJ10_resize 224 = .ok (.astore 9, 2) := dk_58 9 (dk_at dksJ10_resize_9 13 rfl rfl)
theorem dJ10_resize_226 : decode cJ10_resize 226 = .ok (.aconst_null, 1) := dk_1 (dk_at dksJ10_resize_9 15 rfl rfl)
theorem dJ10_resize_227 : decode cJ10_resize 227 = .ok (.astore 10, 2) := dk_58 10 (dk_at dksJ10_resize_9 16 rfl rfl)
theorem dJ10_resize_229 : decode cJ10_resize 229 = .ok (.aconst_null, 1) := dk_1 (dk_at dksJ10_resize_9 18 rfl rfl)
theorem dJ10_resize_230 : decode cJ10_resize 230 = .ok (.astore 11, 2) := dk_58 11 (dk_at dksJ10_resize_9 19 rfl rfl)
theorem dJ10_resize_232 : decode cJ10_resize 232 = .ok (.aconst_null, 1) := dk_1 (dk_at dksJ10_resize_9 21 rfl rfl)
theorem dJ10_resize_233 : decode cJ10_resize 233 = .ok (.astore 12, 2) := dk_58 12 (dk_at dksJ10_resize_9 22 rfl rfl)
theorem dJ10_resize_235 : decode cJ10_resize 235 = .ok (.aload 8, 2) := dk_25 8 (dk_at dksJ10_resize_10 0 rfl rfl)
theorem dJ10_resize_237 : decode cJ10_resize 237 = .ok (.getfield 177, 3) := dk_180 0 177 (dk_at dksJ10_resize_10 2 rfl rfl)
theorem dJ10_resize_240 : decode cJ10_resize 240 = .ok (.astore 13, 2) := dk_58 13 (dk_at dksJ10_resize_10 5 rfl rfl)
theorem dJ10_resize_242 : decode cJ10_resize 242 = .ok (.aload 8, 2) := dk_25 8 (dk_at dksJ10_resize_10 7 rfl rfl)
theorem dJ10_resize_244 : decode cJ10_resize 244 = .ok (.getfield 168, 3) := dk_180 0 168 (dk_at dksJ10_resize_10 9 rfl rfl)
theorem dJ10_resize_247 : decode cJ10_resize 247 = .ok (.iload_n 2, 1) := dk_28 (dk_at dksJ10_resize_10 12 rfl rfl)
theorem dJ10_resize_248 : decode cJ10_resize 248 = .ok (.iand, 1) := dk_126 (dk_at dksJ10_resize_10 13 rfl rfl)
theorem dJ10_resize_249 : decode cJ10_resize 249 = .ok (.ifCond .ne 29, 3) := dk_154 0 29 (dk_at dksJ10_resize_10 14 rfl rfl)
theorem dJ10_resize_252 : decode cJ10_resize 252 = .ok (.aload 10, 2) := dk_25 10 (dk_at dksJ10_resize_10 17 rfl rfl)
theorem dJ10_resize_254 : decode cJ10_resize 254 = .ok (.ifnonnull 10, 3) := dk_199 0 10 (dk_at dksJ10_resize_10 19 rfl rfl)
theorem dJ10_resize_257 : decode cJ10_resize 257 = .ok (.aload 8, 2) := dk_25 8 (dk_at dksJ10_resize_10 22 rfl rfl)
theorem dJ10_resize_259 : decode cJ10_resize 259 = .ok (.astore 9, 2) := dk_58 9 (dk_at dksJ10_resize_11 0 rfl rfl)
theorem dJ10_resize_261 : decode cJ10_resize 261 = .ok (.goto 10, 3) := dk_167 0 10 (dk_at dksJ10_resize_11 2 rfl rfl)
theorem dJ10_resize_264 : decode cJ10_resize 264 = .ok (.aload 10, 2) := dk_25 10 (dk_at dksJ10_resize_11 5 rfl rfl)
theorem dJ10_resize_266 : decode cJ10_resize 266 = .ok (.aload 8, 2) := dk_25 8 (dk_at dksJ10_resize_11 7 rfl rfl)
theorem dJ10_resize_268 : decode cJ10_resize 268 = .ok (.putfield 177, 3) := dk_181 0 177 (dk_at dksJ10_resize_11 9 rfl rfl)
theorem dJ10_resize_271 : decode cJ10_resize 271 = .ok (.aload 8, 2) := dk_25 8 (dk_at dksJ10_resize_11 12 rfl rfl)
theorem dJ10_resize_273 : decode cJ10_resize 273 = .ok (.astore 10, 2) := dk_58 10 (dk_at dksJ10_resize_11 14 rfl rfl)
theorem dJ10_resize_275 : decode cJ10_resize 275 = .ok (.goto 26, 3) := dk_167 0 26 (dk_at dksJ10_resize_11 16 rfl rfl)
theorem dJ10_resize_278 : decode cJ10_resize 278 = .ok (.aload 12, 2) := dk_25 12 (dk_at dksJ10_resize_11 19 rfl rfl)
theorem dJ10_resize_280 : decode cJ10_resize 280 = .ok (.ifnonnull 10, 3) := dk_199 0 10 (dk_at dksJ10_resize_11 21 rfl rfl)
theorem dJ10_resize_283 : decode cJ10_resize 283 = .ok (.aload 8, 2) := dk_25 8 (dk_at dksJ10_resize_12 0 rfl rfl)
theorem dJ10_resize_285 : decode cJ10_resize 285 = .ok (.astore 11, 2) := dk_58 11 (dk_at dksJ10_resize_12 2 rfl rfl)
theorem dJ10_resize_287 : decode cJ10_resize 287 = .ok (.goto 10, 3) := dk_167 0 10 (dk_at dksJ10_resize_12 4 rfl rfl)
theorem dJ10_resize_290 : decode cJ10_resize 290 = .ok (.aload 12, 2) := dk_25 12 (dk_at dksJ10_resize_12 7 rfl rfl)
theorem dJ10_resize_292 : decode cJ10_resize 292 = .ok (.aload 8, 2) := dk_25 8 (dk_at dksJ10_resize_12 9 rfl rfl)
theorem dJ10_resize_294 : decode cJ10_resize 294 = .ok (.putfield 177, 3) := dk_181 0 177 (dk_at dksJ10_resize_12 11 rfl rfl)
theorem dJ10_resize_297 : decode cJ10_resize 297 = .ok (.aload 8, 2) := dk_25 8 (dk_at dksJ10_resize_12 14 rfl rfl)
theorem dJ10_resize_299 : decode cJ10_resize 299 = .ok (.astore 12, 2) := dk_58 12 (dk_at dksJ10_resize_12 16 rfl rfl)
theorem dJ10_resize_301 : decode cJ10_resize 301 = .ok (.aload 13, 2) := dk_25 13 (dk_at dksJ10_resize_12 18 rfl rfl)
theorem dJ10_resize_303 : decode cJ10_resize 303 = .ok (.dup, 1) := dk_89 (dk_at dksJ10_resize_12 20 rfl rfl)
theorem dJ10_resize_304 : decode cJ10_resize 304 = .ok (.astore 8, 2) := dk_58 8 (dk_at dksJ10_resize_12 21 rfl rfl)
theorem dJ10_resize_306 : decode cJ10_resize 306 = .ok (.ifnonnull (-71), 3) := dk_199 255 185 (dk_at dksJ10_resize_13 0 rfl rfl)
theorem dJ10_resize_309 : decode cJ10_resize 309 = .ok (.aload 10, 2) := dk_25 10 (dk_at dksJ10_resize_13 3 rfl rfl)
theorem dJ10_resize_311 : decode cJ10_resize 311 = .ok (.ifnull 16, 3) := dk_198 0 16 (dk_at dksJ10_resize_13 5 rfl rfl)
theorem dJ10_resize_314 : decode cJ10_resize 314 = .ok (.aload 10, 2) := dk_25 10 (dk_at dksJ10_resize_13 8 rfl rfl)
theorem dJ10_resize_316 : decode cJ10_resize 316 = .ok (.aconst_null, 1) := dk_1 (dk_at dksJ10_resize_13 10 rfl rfl)
theorem dJ10_resize_317 : decode cJ10_resize 317 = .ok (.putfield 177, 3) := dk_181 0 177 (dk_at dksJ10_resize_13 11 rfl rfl)
theorem dJ10_resize_320 : decode cJ10_resize 320 = .ok (.aload 6, 2) := dk_25 6 (dk_at dksJ10_resize_13 14 rfl rfl)
theorem dJ10_resize_322 : decode cJ10_resize 322 = .ok (.iload 7, 2) := dk_21 7 (dk_at dksJ10_resize_13 16 rfl rfl)
theorem dJ10_resize_324 : decode cJ10_resize 324 = .ok (.aload 9, 2) := dk_25 9 (dk_at dksJ10_resize_13 18 rfl rfl)
theorem dJ10_resize_326 : decode cJ10_resize 326 = .ok (.aastore, 1) := dk_83 (dk_at dksJ10_resize_13 20 rfl rfl)
theorem dJ10_resize_327 : decode cJ10_resize 327 = .ok (.aload 12, 2) := dk_25 12 (dk_at dksJ10_resize_13 21 rfl rfl)
theorem dJ10_resize_329 : decode cJ10_resize 329 = .ok (.ifnull 18, 3) := dk_198 0 18 (dk_at dksJ10_resize_14 0 rfl rfl)
theorem dJ10_resize_332 : decode cJ10_resize 332 = .ok (.aload 12, 2) := dk_25 12 (dk_at dksJ10_resize_14 3 rfl rfl)
theorem dJ10_resize_334 : decode cJ10_resize 334 = .ok (.aconst_null, 1) := dk_1 (dk_at dksJ10_resize_14 5 rfl rfl)
theorem dJ10_resize_335 : decode cJ10_resize 335 = .ok (.putfield 177, 3) := dk_181 0 177 (dk_at dksJ10_resize_14 6 rfl rfl)
theorem dJ10_resize_338 : decode cJ10_resize 338 = .ok (.aload 6, 2) := dk_25 6 (dk_at dksJ10_resize_14 9 rfl rfl)
theorem dJ10_resize_340 : decode cJ10_resize 340 = .ok (.iload 7, 2) := dk_21 7 (dk_at dksJ10_resize_14 11 rfl rfl)
theorem dJ10_resize_342 : decode cJ10_resize 342 = .ok (.iload_n 2, 1) := dk_28 (dk_at dksJ10_resize_14 13 rfl rfl)
theorem dJ10_resize_343 : decode cJ10_resize 343 = .ok (.iadd, 1) := dk_96 (dk_at dksJ10_resize_14 14 rfl rfl)
theorem dJ10_resize_344 : decode cJ10_resize 344 = .ok (.aload 11, 2) := dk_25 11 (dk_at dksJ10_resize_14 15 rfl rfl)
theorem dJ10_resize_346 : decode cJ10_resize 346 = .ok (.aastore, 1) := dk_83 (dk_at dksJ10_resize_14 17 rfl rfl)
theorem dJ10_resize_347 : decode cJ10_resize 347 = .ok (.iinc 7 1, 3) := dk_132 7 1 (dk_at dksJ10_resize_14 18 rfl rfl)
theorem dJ10_resize_350 : decode cJ10_resize 350 = .ok (.goto (-199), 3) := dk_167 255 57 (dk_at dksJ10_resize_14 21 rfl rfl)
theorem dJ10_resize_353 : decode cJ10_resize 353 = .ok (.aload 6, 2) := dk_25 6 (dk_at dksJ10_resize_15 0 rfl rfl)
theorem dJ10_resize_355 : decode cJ10_resize 355 = .ok (.areturn, 1) := dk_176 (dk_at dksJ10_resize_15 2 rfl rfl)
abbrev cJ10_replacementNode : ByteArray := prog_109_method_47_code
def yJ10_replacementNode : MethodName := ⟨RJ10, "replacementNode", "(Ljava/util/HashMap$Node;Ljava/util/HashMap$Node;)Ljava/util/HashMap$Node;"⟩
def dkwJ10_replacementNode_0 : List UInt8 := [187, 0, 163, 89, 43, 180, 0, 168, 43, 180, 0, 170, 43, 180, 0, 162, 44, 183, 1, 119, 176]
abbrev dktJ10_replacementNode_0 : List UInt8 := dkwJ10_replacementNode_0 ++ []
theorem dksJ10_replacementNode_0 : cJ10_replacementNode.data.toList.drop 0 = dktJ10_replacementNode_0 := by decide +kernel
theorem dJ10_replacementNode_0 : decode cJ10_replacementNode 0 = .ok (.new 163, 3) := dk_187 0 163 (dk_at dksJ10_replacementNode_0 0 rfl rfl)
theorem dJ10_replacementNode_3 : decode cJ10_replacementNode 3 = .ok (.dup, 1) := dk_89 (dk_at dksJ10_replacementNode_0 3 rfl rfl)
theorem dJ10_replacementNode_4 : decode cJ10_replacementNode 4 = .ok (.aload_n 1, 1) := dk_43 (dk_at dksJ10_replacementNode_0 4 rfl rfl)
theorem dJ10_replacementNode_5 : decode cJ10_replacementNode 5 = .ok (.getfield 168, 3) := dk_180 0 168 (dk_at dksJ10_replacementNode_0 5 rfl rfl)
theorem dJ10_replacementNode_8 : decode cJ10_replacementNode 8 = .ok (.aload_n 1, 1) := dk_43 (dk_at dksJ10_replacementNode_0 8 rfl rfl)
theorem dJ10_replacementNode_9 : decode cJ10_replacementNode 9 = .ok (.getfield 170, 3) := dk_180 0 170 (dk_at dksJ10_replacementNode_0 9 rfl rfl)
theorem dJ10_replacementNode_12 : decode cJ10_replacementNode 12 = .ok (.aload_n 1, 1) := dk_43 (dk_at dksJ10_replacementNode_0 12 rfl rfl)
theorem dJ10_replacementNode_13 : decode cJ10_replacementNode 13 = .ok (.getfield 162, 3) := dk_180 0 162 (dk_at dksJ10_replacementNode_0 13 rfl rfl)
theorem dJ10_replacementNode_16 : decode cJ10_replacementNode 16 = .ok (.aload_n 2, 1) := dk_44 (dk_at dksJ10_replacementNode_0 16 rfl rfl)
theorem dJ10_replacementNode_17 : decode cJ10_replacementNode 17 = .ok (.invokespecial 375, 3) := dk_183 1 119 (dk_at dksJ10_replacementNode_0 17 rfl rfl)
theorem dJ10_replacementNode_20 : decode cJ10_replacementNode 20 = .ok (.areturn, 1) := dk_176 (dk_at dksJ10_replacementNode_0 20 rfl rfl)
abbrev cJ10_comparableClassFor : ByteArray := prog_109_method_2_code
def yJ10_comparableClassFor : MethodName := ⟨RJ10, "comparableClassFor", "(Ljava/lang/Object;)Ljava/lang/Class;"⟩
def dkwJ10_comparableClassFor_4 : List UInt8 := [4, 160, 0, 12, 45, 3, 50, 43, 166, 0, 5, 43, 176, 132, 7, 1, 167, 255, 186, 1, 176]
abbrev dktJ10_comparableClassFor_4 : List UInt8 := dkwJ10_comparableClassFor_4 ++ []
def dkwJ10_comparableClassFor_3 : List UInt8 := [185, 0, 23, 1, 0, 18, 7, 166, 0, 30, 25, 4, 185, 0, 27, 1, 0, 89, 78, 198, 0, 18, 45, 190]
abbrev dktJ10_comparableClassFor_3 : List UInt8 := dkwJ10_comparableClassFor_3 ++ dktJ10_comparableClassFor_4
def dkwJ10_comparableClassFor_2 : List UInt8 := [25, 5, 21, 7, 50, 58, 8, 25, 8, 193, 0, 21, 153, 0, 48, 25, 8, 192, 0, 21, 89, 58, 4]
abbrev dktJ10_comparableClassFor_2 : List UInt8 := dkwJ10_comparableClassFor_2 ++ dktJ10_comparableClassFor_3
def dkwJ10_comparableClassFor_1 : List UInt8 := [89, 77, 198, 0, 87, 44, 58, 5, 25, 5, 190, 54, 6, 3, 54, 7, 21, 7, 21, 6, 162, 0, 69]
abbrev dktJ10_comparableClassFor_1 : List UInt8 := dkwJ10_comparableClassFor_1 ++ dktJ10_comparableClassFor_2
def dkwJ10_comparableClassFor_0 : List UInt8 := [42, 193, 0, 7, 153, 0, 109, 42, 182, 0, 9, 89, 76, 18, 13, 166, 0, 5, 43, 176, 43, 182, 0, 15]
abbrev dktJ10_comparableClassFor_0 : List UInt8 := dkwJ10_comparableClassFor_0 ++ dktJ10_comparableClassFor_1
theorem dksJ10_comparableClassFor_0 : cJ10_comparableClassFor.data.toList.drop 0 = dktJ10_comparableClassFor_0 := by decide +kernel
theorem dksJ10_comparableClassFor_1 : cJ10_comparableClassFor.data.toList.drop 24 = dktJ10_comparableClassFor_1 := dk_seg dksJ10_comparableClassFor_0 24 rfl rfl
theorem dksJ10_comparableClassFor_2 : cJ10_comparableClassFor.data.toList.drop 47 = dktJ10_comparableClassFor_2 := dk_seg dksJ10_comparableClassFor_1 23 rfl rfl
theorem dksJ10_comparableClassFor_3 : cJ10_comparableClassFor.data.toList.drop 70 = dktJ10_comparableClassFor_3 := dk_seg dksJ10_comparableClassFor_2 23 rfl rfl
theorem dksJ10_comparableClassFor_4 : cJ10_comparableClassFor.data.toList.drop 94 = dktJ10_comparableClassFor_4 := dk_seg dksJ10_comparableClassFor_3 24 rfl rfl
theorem dJ10_comparableClassFor_0 : decode cJ10_comparableClassFor 0 = .ok (.aload_n 0, 1) := dk_42 (dk_at dksJ10_comparableClassFor_0 0 rfl rfl)
theorem dJ10_comparableClassFor_1 : decode cJ10_comparableClassFor 1 = .ok (.instanceof 7, 3) := dk_193 0 7 (dk_at dksJ10_comparableClassFor_0 1 rfl rfl)
theorem dJ10_comparableClassFor_4 : decode cJ10_comparableClassFor 4 = .ok (.ifCond .eq 109, 3) := dk_153 0 109 (dk_at dksJ10_comparableClassFor_0 4 rfl rfl)
theorem dJ10_comparableClassFor_7 : decode cJ10_comparableClassFor 7 = .ok (.aload_n 0, 1) := dk_42 (dk_at dksJ10_comparableClassFor_0 7 rfl rfl)
theorem dJ10_comparableClassFor_8 : decode cJ10_comparableClassFor 8 = .ok (.invokevirtual 9, 3) := dk_182 0 9 (dk_at dksJ10_comparableClassFor_0 8 rfl rfl)
theorem dJ10_comparableClassFor_11 : decode cJ10_comparableClassFor 11 = .ok (.dup, 1) := dk_89 (dk_at dksJ10_comparableClassFor_0 11 rfl rfl)
theorem dJ10_comparableClassFor_12 : decode cJ10_comparableClassFor 12 = .ok (.astore_n 1, 1) := dk_76 (dk_at dksJ10_comparableClassFor_0 12 rfl rfl)
theorem dJ10_comparableClassFor_13 : decode cJ10_comparableClassFor 13 = .ok (.ldc 13, 2) := dk_18 13 (dk_at dksJ10_comparableClassFor_0 13 rfl rfl)
theorem dJ10_comparableClassFor_15 : decode cJ10_comparableClassFor 15 = .ok (.if_acmp .ne 5, 3) := dk_166 0 5 (dk_at dksJ10_comparableClassFor_0 15 rfl rfl)
theorem dJ10_comparableClassFor_18 : decode cJ10_comparableClassFor 18 = .ok (.aload_n 1, 1) := dk_43 (dk_at dksJ10_comparableClassFor_0 18 rfl rfl)
theorem dJ10_comparableClassFor_19 : decode cJ10_comparableClassFor 19 = .ok (.areturn, 1) := dk_176 (dk_at dksJ10_comparableClassFor_0 19 rfl rfl)
theorem dJ10_comparableClassFor_20 : decode cJ10_comparableClassFor 20 = .ok (.aload_n 1, 1) := dk_43 (dk_at dksJ10_comparableClassFor_0 20 rfl rfl)
theorem dJ10_comparableClassFor_21 : decode cJ10_comparableClassFor 21 = .ok (.invokevirtual 15, 3) := dk_182 0 15 (dk_at dksJ10_comparableClassFor_0 21 rfl rfl)
theorem dJ10_comparableClassFor_24 : decode cJ10_comparableClassFor 24 = .ok (.dup, 1) := dk_89 (dk_at dksJ10_comparableClassFor_1 0 rfl rfl)
theorem dJ10_comparableClassFor_25 : decode cJ10_comparableClassFor 25 = .ok (.astore_n 2, 1) := dk_77 (dk_at dksJ10_comparableClassFor_1 1 rfl rfl)
theorem dJ10_comparableClassFor_26 : decode cJ10_comparableClassFor 26 = .ok (.ifnull 87, 3) := dk_198 0 87 (dk_at dksJ10_comparableClassFor_1 2 rfl rfl)
theorem dJ10_comparableClassFor_29 : decode cJ10_comparableClassFor 29 = .ok (.aload_n 2, 1) := dk_44 (dk_at dksJ10_comparableClassFor_1 5 rfl rfl)
theorem dJ10_comparableClassFor_30 : decode cJ10_comparableClassFor 30 = .ok (.astore 5, 2) := dk_58 5 (dk_at dksJ10_comparableClassFor_1 6 rfl rfl)
theorem dJ10_comparableClassFor_32 : decode cJ10_comparableClassFor 32 = .ok (.aload 5, 2) := dk_25 5 (dk_at dksJ10_comparableClassFor_1 8 rfl rfl)
theorem dJ10_comparableClassFor_34 : decode cJ10_comparableClassFor 34 = .ok (.arraylength, 1) := dk_190 (dk_at dksJ10_comparableClassFor_1 10 rfl rfl)
theorem dJ10_comparableClassFor_35 : decode cJ10_comparableClassFor 35 = .ok (.istore 6, 2) := dk_54 6 (dk_at dksJ10_comparableClassFor_1 11 rfl rfl)
theorem dJ10_comparableClassFor_37 : decode cJ10_comparableClassFor 37 = .ok (.iconst 0, 1) := dk_3 (dk_at dksJ10_comparableClassFor_1 13 rfl rfl)
theorem dJ10_comparableClassFor_38 : decode cJ10_comparableClassFor 38 = .ok (.istore 7, 2) := dk_54 7 (dk_at dksJ10_comparableClassFor_1 14 rfl rfl)
theorem dJ10_comparableClassFor_40 : decode cJ10_comparableClassFor 40 = .ok (.iload 7, 2) := dk_21 7 (dk_at dksJ10_comparableClassFor_1 16 rfl rfl)
theorem dJ10_comparableClassFor_42 : decode cJ10_comparableClassFor 42 = .ok (.iload 6, 2) := dk_21 6 (dk_at dksJ10_comparableClassFor_1 18 rfl rfl)
theorem dJ10_comparableClassFor_44 : decode cJ10_comparableClassFor 44 = .ok (.if_icmp .ge 69, 3) := dk_162 0 69 (dk_at dksJ10_comparableClassFor_1 20 rfl rfl)
theorem dJ10_comparableClassFor_47 : decode cJ10_comparableClassFor 47 = .ok (.aload 5, 2) := dk_25 5 (dk_at dksJ10_comparableClassFor_2 0 rfl rfl)
theorem dJ10_comparableClassFor_49 : decode cJ10_comparableClassFor 49 = .ok (.iload 7, 2) := dk_21 7 (dk_at dksJ10_comparableClassFor_2 2 rfl rfl)
theorem dJ10_comparableClassFor_51 : decode cJ10_comparableClassFor 51 = .ok (.aaload, 1) := dk_50 (dk_at dksJ10_comparableClassFor_2 4 rfl rfl)
theorem dJ10_comparableClassFor_52 : decode cJ10_comparableClassFor 52 = .ok (.astore 8, 2) := dk_58 8 (dk_at dksJ10_comparableClassFor_2 5 rfl rfl)
theorem dJ10_comparableClassFor_54 : decode cJ10_comparableClassFor 54 = .ok (.aload 8, 2) := dk_25 8 (dk_at dksJ10_comparableClassFor_2 7 rfl rfl)
theorem dJ10_comparableClassFor_56 : decode cJ10_comparableClassFor 56 = .ok (.instanceof 21, 3) := dk_193 0 21 (dk_at dksJ10_comparableClassFor_2 9 rfl rfl)
theorem dJ10_comparableClassFor_59 : decode cJ10_comparableClassFor 59 = .ok (.ifCond .eq 48, 3) := dk_153 0 48 (dk_at dksJ10_comparableClassFor_2 12 rfl rfl)
theorem dJ10_comparableClassFor_62 : decode cJ10_comparableClassFor 62 = .ok (.aload 8, 2) := dk_25 8 (dk_at dksJ10_comparableClassFor_2 15 rfl rfl)
theorem dJ10_comparableClassFor_64 : decode cJ10_comparableClassFor 64 = .ok (.checkcast 21, 3) := dk_192 0 21 (dk_at dksJ10_comparableClassFor_2 17 rfl rfl)
theorem dJ10_comparableClassFor_67 : decode cJ10_comparableClassFor 67 = .ok (.dup, 1) := dk_89 (dk_at dksJ10_comparableClassFor_2 20 rfl rfl)
theorem dJ10_comparableClassFor_68 : decode cJ10_comparableClassFor 68 = .ok (.astore 4, 2) := dk_58 4 (dk_at dksJ10_comparableClassFor_2 21 rfl rfl)
theorem dJ10_comparableClassFor_70 : decode cJ10_comparableClassFor 70 = .ok (.invokeinterface 23 1, 5) := by decide +kernel
theorem dJ10_comparableClassFor_75 : decode cJ10_comparableClassFor 75 = .ok (.ldc 7, 2) := dk_18 7 (dk_at dksJ10_comparableClassFor_3 5 rfl rfl)
theorem dJ10_comparableClassFor_77 : decode cJ10_comparableClassFor 77 = .ok (.if_acmp .ne 30, 3) := dk_166 0 30 (dk_at dksJ10_comparableClassFor_3 7 rfl rfl)
theorem dJ10_comparableClassFor_80 : decode cJ10_comparableClassFor 80 = .ok (.aload 4, 2) := dk_25 4 (dk_at dksJ10_comparableClassFor_3 10 rfl rfl)
theorem dJ10_comparableClassFor_82 : decode cJ10_comparableClassFor 82 = .ok (.invokeinterface 27 1, 5) := by decide +kernel
theorem dJ10_comparableClassFor_87 : decode cJ10_comparableClassFor 87 = .ok (.dup, 1) := dk_89 (dk_at dksJ10_comparableClassFor_3 17 rfl rfl)
theorem dJ10_comparableClassFor_88 : decode cJ10_comparableClassFor 88 = .ok (.astore_n 3, 1) := dk_78 (dk_at dksJ10_comparableClassFor_3 18 rfl rfl)
theorem dJ10_comparableClassFor_89 : decode cJ10_comparableClassFor 89 = .ok (.ifnull 18, 3) := dk_198 0 18 (dk_at dksJ10_comparableClassFor_3 19 rfl rfl)
theorem dJ10_comparableClassFor_92 : decode cJ10_comparableClassFor 92 = .ok (.aload_n 3, 1) := dk_45 (dk_at dksJ10_comparableClassFor_3 22 rfl rfl)
theorem dJ10_comparableClassFor_93 : decode cJ10_comparableClassFor 93 = .ok (.arraylength, 1) := dk_190 (dk_at dksJ10_comparableClassFor_3 23 rfl rfl)
theorem dJ10_comparableClassFor_94 : decode cJ10_comparableClassFor 94 = .ok (.iconst 1, 1) := dk_4 (dk_at dksJ10_comparableClassFor_4 0 rfl rfl)
theorem dJ10_comparableClassFor_95 : decode cJ10_comparableClassFor 95 = .ok (.if_icmp .ne 12, 3) := dk_160 0 12 (dk_at dksJ10_comparableClassFor_4 1 rfl rfl)
theorem dJ10_comparableClassFor_98 : decode cJ10_comparableClassFor 98 = .ok (.aload_n 3, 1) := dk_45 (dk_at dksJ10_comparableClassFor_4 4 rfl rfl)
theorem dJ10_comparableClassFor_99 : decode cJ10_comparableClassFor 99 = .ok (.iconst 0, 1) := dk_3 (dk_at dksJ10_comparableClassFor_4 5 rfl rfl)
theorem dJ10_comparableClassFor_100 : decode cJ10_comparableClassFor 100 = .ok (.aaload, 1) := dk_50 (dk_at dksJ10_comparableClassFor_4 6 rfl rfl)
theorem dJ10_comparableClassFor_101 : decode cJ10_comparableClassFor 101 = .ok (.aload_n 1, 1) := dk_43 (dk_at dksJ10_comparableClassFor_4 7 rfl rfl)
theorem dJ10_comparableClassFor_102 : decode cJ10_comparableClassFor 102 = .ok (.if_acmp .ne 5, 3) := dk_166 0 5 (dk_at dksJ10_comparableClassFor_4 8 rfl rfl)
theorem dJ10_comparableClassFor_105 : decode cJ10_comparableClassFor 105 = .ok (.aload_n 1, 1) := dk_43 (dk_at dksJ10_comparableClassFor_4 11 rfl rfl)
theorem dJ10_comparableClassFor_106 : decode cJ10_comparableClassFor 106 = .ok (.areturn, 1) := dk_176 (dk_at dksJ10_comparableClassFor_4 12 rfl rfl)
theorem dJ10_comparableClassFor_107 : decode cJ10_comparableClassFor 107 = .ok (.iinc 7 1, 3) := dk_132 7 1 (dk_at dksJ10_comparableClassFor_4 13 rfl rfl)
theorem dJ10_comparableClassFor_110 : decode cJ10_comparableClassFor 110 = .ok (.goto (-70), 3) := dk_167 255 186 (dk_at dksJ10_comparableClassFor_4 16 rfl rfl)
theorem dJ10_comparableClassFor_113 : decode cJ10_comparableClassFor 113 = .ok (.aconst_null, 1) := dk_1 (dk_at dksJ10_comparableClassFor_4 19 rfl rfl)
theorem dJ10_comparableClassFor_114 : decode cJ10_comparableClassFor 114 = .ok (.areturn, 1) := dk_176 (dk_at dksJ10_comparableClassFor_4 20 rfl rfl)
abbrev cJ10_compareComparables : ByteArray := prog_109_method_3_code
def yJ10_compareComparables : MethodName := ⟨RJ10, "compareComparables", "(Ljava/lang/Class;Ljava/lang/Object;Ljava/lang/Object;)I"⟩
def dkwJ10_compareComparables_1 : List UInt8 := [185, 0, 30, 2, 0, 172]
abbrev dktJ10_compareComparables_1 : List UInt8 := dkwJ10_compareComparables_1 ++ []
def dkwJ10_compareComparables_0 : List UInt8 := [44, 198, 0, 11, 44, 182, 0, 9, 42, 165, 0, 7, 3, 167, 0, 13, 43, 192, 0, 7, 44]
abbrev dktJ10_compareComparables_0 : List UInt8 := dkwJ10_compareComparables_0 ++ dktJ10_compareComparables_1
theorem dksJ10_compareComparables_0 : cJ10_compareComparables.data.toList.drop 0 = dktJ10_compareComparables_0 := by decide +kernel
theorem dksJ10_compareComparables_1 : cJ10_compareComparables.data.toList.drop 21 = dktJ10_compareComparables_1 := dk_seg dksJ10_compareComparables_0 21 rfl rfl
theorem dJ10_compareComparables_0 : decode cJ10_compareComparables 0 = .ok (.aload_n 2, 1) := dk_44 (dk_at dksJ10_compareComparables_0 0 rfl rfl)
theorem dJ10_compareComparables_1 : decode cJ10_compareComparables 1 = .ok (.ifnull 11, 3) := dk_198 0 11 (dk_at dksJ10_compareComparables_0 1 rfl rfl)
theorem dJ10_compareComparables_4 : decode cJ10_compareComparables 4 = .ok (.aload_n 2, 1) := dk_44 (dk_at dksJ10_compareComparables_0 4 rfl rfl)
theorem dJ10_compareComparables_5 : decode cJ10_compareComparables 5 = .ok (.invokevirtual 9, 3) := dk_182 0 9 (dk_at dksJ10_compareComparables_0 5 rfl rfl)
theorem dJ10_compareComparables_8 : decode cJ10_compareComparables 8 = .ok (.aload_n 0, 1) := dk_42 (dk_at dksJ10_compareComparables_0 8 rfl rfl)
theorem dJ10_compareComparables_9 : decode cJ10_compareComparables 9 = .ok (.if_acmp .eq 7, 3) := dk_165 0 7 (dk_at dksJ10_compareComparables_0 9 rfl rfl)
theorem dJ10_compareComparables_12 : decode cJ10_compareComparables 12 = .ok (.iconst 0, 1) := dk_3 (dk_at dksJ10_compareComparables_0 12 rfl rfl)
theorem dJ10_compareComparables_13 : decode cJ10_compareComparables 13 = .ok (.goto 13, 3) := dk_167 0 13 (dk_at dksJ10_compareComparables_0 13 rfl rfl)
theorem dJ10_compareComparables_16 : decode cJ10_compareComparables 16 = .ok (.aload_n 1, 1) := dk_43 (dk_at dksJ10_compareComparables_0 16 rfl rfl)
theorem dJ10_compareComparables_17 : decode cJ10_compareComparables 17 = .ok (.checkcast 7, 3) := dk_192 0 7 (dk_at dksJ10_compareComparables_0 17 rfl rfl)
theorem dJ10_compareComparables_20 : decode cJ10_compareComparables 20 = .ok (.aload_n 2, 1) := dk_44 (dk_at dksJ10_compareComparables_0 20 rfl rfl)
theorem dJ10_compareComparables_21 : decode cJ10_compareComparables 21 = .ok (.invokeinterface 30 2, 5) := by decide +kernel
theorem dJ10_compareComparables_26 : decode cJ10_compareComparables 26 = .ok (.ireturn, 1) := dk_172 (dk_at dksJ10_compareComparables_1 5 rfl rfl)
abbrev cJ10_newNode : ByteArray := prog_109_method_46_code
def yJ10_newNode : MethodName := ⟨RJ10, "newNode", "(ILjava/lang/Object;Ljava/lang/Object;Ljava/util/HashMap$Node;)Ljava/util/HashMap$Node;"⟩
def dkwJ10_newNode_0 : List UInt8 := [187, 0, 163, 89, 27, 44, 45, 25, 4, 183, 1, 119, 176]
abbrev dktJ10_newNode_0 : List UInt8 := dkwJ10_newNode_0 ++ []
theorem dksJ10_newNode_0 : cJ10_newNode.data.toList.drop 0 = dktJ10_newNode_0 := by decide +kernel
theorem dJ10_newNode_0 : decode cJ10_newNode 0 = .ok (.new 163, 3) := dk_187 0 163 (dk_at dksJ10_newNode_0 0 rfl rfl)
theorem dJ10_newNode_3 : decode cJ10_newNode 3 = .ok (.dup, 1) := dk_89 (dk_at dksJ10_newNode_0 3 rfl rfl)
theorem dJ10_newNode_4 : decode cJ10_newNode 4 = .ok (.iload_n 1, 1) := dk_27 (dk_at dksJ10_newNode_0 4 rfl rfl)
theorem dJ10_newNode_5 : decode cJ10_newNode 5 = .ok (.aload_n 2, 1) := dk_44 (dk_at dksJ10_newNode_0 5 rfl rfl)
theorem dJ10_newNode_6 : decode cJ10_newNode 6 = .ok (.aload_n 3, 1) := dk_45 (dk_at dksJ10_newNode_0 6 rfl rfl)
theorem dJ10_newNode_7 : decode cJ10_newNode 7 = .ok (.aload 4, 2) := dk_25 4 (dk_at dksJ10_newNode_0 7 rfl rfl)
theorem dJ10_newNode_9 : decode cJ10_newNode 9 = .ok (.invokespecial 375, 3) := dk_183 1 119 (dk_at dksJ10_newNode_0 9 rfl rfl)
theorem dJ10_newNode_12 : decode cJ10_newNode 12 = .ok (.areturn, 1) := dk_176 (dk_at dksJ10_newNode_0 12 rfl rfl)
abbrev cJ10_newTreeNode : ByteArray := prog_109_method_48_code
def yJ10_newTreeNode : MethodName := ⟨RJ10, "newTreeNode", "(ILjava/lang/Object;Ljava/lang/Object;Ljava/util/HashMap$Node;)Ljava/util/HashMap$TreeNode;"⟩
def dkwJ10_newTreeNode_0 : List UInt8 := [187, 0, 180, 89, 27, 44, 45, 25, 4, 183, 1, 122, 176]
abbrev dktJ10_newTreeNode_0 : List UInt8 := dkwJ10_newTreeNode_0 ++ []
theorem dksJ10_newTreeNode_0 : cJ10_newTreeNode.data.toList.drop 0 = dktJ10_newTreeNode_0 := by decide +kernel
theorem dJ10_newTreeNode_0 : decode cJ10_newTreeNode 0 = .ok (.new 180, 3) := dk_187 0 180 (dk_at dksJ10_newTreeNode_0 0 rfl rfl)
theorem dJ10_newTreeNode_3 : decode cJ10_newTreeNode 3 = .ok (.dup, 1) := dk_89 (dk_at dksJ10_newTreeNode_0 3 rfl rfl)
theorem dJ10_newTreeNode_4 : decode cJ10_newTreeNode 4 = .ok (.iload_n 1, 1) := dk_27 (dk_at dksJ10_newTreeNode_0 4 rfl rfl)
theorem dJ10_newTreeNode_5 : decode cJ10_newTreeNode 5 = .ok (.aload_n 2, 1) := dk_44 (dk_at dksJ10_newTreeNode_0 5 rfl rfl)
theorem dJ10_newTreeNode_6 : decode cJ10_newTreeNode 6 = .ok (.aload_n 3, 1) := dk_45 (dk_at dksJ10_newTreeNode_0 6 rfl rfl)
theorem dJ10_newTreeNode_7 : decode cJ10_newTreeNode 7 = .ok (.aload 4, 2) := dk_25 4 (dk_at dksJ10_newTreeNode_0 7 rfl rfl)
theorem dJ10_newTreeNode_9 : decode cJ10_newTreeNode 9 = .ok (.invokespecial 378, 3) := dk_183 1 122 (dk_at dksJ10_newTreeNode_0 9 rfl rfl)
theorem dJ10_newTreeNode_12 : decode cJ10_newTreeNode 12 = .ok (.areturn, 1) := dk_176 (dk_at dksJ10_newTreeNode_0 12 rfl rfl)
abbrev cJ10_treeifyBin : ByteArray := prog_109_method_18_code
def yJ10_treeifyBin : MethodName := ⟨RJ10, "treeifyBin", "([Ljava/util/HashMap$Node;I)V"⟩
def dkwJ10_treeifyBin_4 : List UInt8 := [21, 4, 25, 6, 91, 83, 198, 0, 9, 25, 6, 43, 182, 0, 224, 177]
abbrev dktJ10_treeifyBin_4 : List UInt8 := dkwJ10_treeifyBin_4 ++ []
def dkwJ10_treeifyBin_3 : List UInt8 := [25, 7, 25, 8, 181, 0, 223, 25, 8, 58, 7, 25, 5, 180, 0, 177, 89, 58, 5, 199, 255, 209, 43]
abbrev dktJ10_treeifyBin_3 : List UInt8 := dkwJ10_treeifyBin_3 ++ dktJ10_treeifyBin_4
def dkwJ10_treeifyBin_2 : List UInt8 := [182, 0, 215, 58, 8, 25, 7, 199, 0, 10, 25, 8, 58, 6, 167, 0, 17, 25, 8, 25, 7, 181, 0, 219]
abbrev dktJ10_treeifyBin_2 : List UInt8 := dkwJ10_treeifyBin_2 ++ dktJ10_treeifyBin_3
def dkwJ10_treeifyBin_1 : List UInt8 := [100, 28, 126, 89, 54, 4, 50, 89, 58, 5, 198, 0, 75, 1, 58, 6, 1, 58, 7, 42, 25, 5, 1]
abbrev dktJ10_treeifyBin_1 : List UInt8 := dkwJ10_treeifyBin_1 ++ dktJ10_treeifyBin_2
def dkwJ10_treeifyBin_0 : List UInt8 := [43, 198, 0, 12, 43, 190, 89, 62, 16, 64, 162, 0, 11, 42, 182, 0, 117, 87, 167, 0, 91, 43, 29, 4]
abbrev dktJ10_treeifyBin_0 : List UInt8 := dkwJ10_treeifyBin_0 ++ dktJ10_treeifyBin_1
theorem dksJ10_treeifyBin_0 : cJ10_treeifyBin.data.toList.drop 0 = dktJ10_treeifyBin_0 := by decide +kernel
theorem dksJ10_treeifyBin_1 : cJ10_treeifyBin.data.toList.drop 24 = dktJ10_treeifyBin_1 := dk_seg dksJ10_treeifyBin_0 24 rfl rfl
theorem dksJ10_treeifyBin_2 : cJ10_treeifyBin.data.toList.drop 47 = dktJ10_treeifyBin_2 := dk_seg dksJ10_treeifyBin_1 23 rfl rfl
theorem dksJ10_treeifyBin_3 : cJ10_treeifyBin.data.toList.drop 71 = dktJ10_treeifyBin_3 := dk_seg dksJ10_treeifyBin_2 24 rfl rfl
theorem dksJ10_treeifyBin_4 : cJ10_treeifyBin.data.toList.drop 94 = dktJ10_treeifyBin_4 := dk_seg dksJ10_treeifyBin_3 23 rfl rfl
theorem dJ10_treeifyBin_0 : decode cJ10_treeifyBin 0 = .ok (.aload_n 1, 1) := dk_43 (dk_at dksJ10_treeifyBin_0 0 rfl rfl)
theorem dJ10_treeifyBin_1 : decode cJ10_treeifyBin 1 = .ok (.ifnull 12, 3) := dk_198 0 12 (dk_at dksJ10_treeifyBin_0 1 rfl rfl)
theorem dJ10_treeifyBin_4 : decode cJ10_treeifyBin 4 = .ok (.aload_n 1, 1) := dk_43 (dk_at dksJ10_treeifyBin_0 4 rfl rfl)
theorem dJ10_treeifyBin_5 : decode cJ10_treeifyBin 5 = .ok (.arraylength, 1) := dk_190 (dk_at dksJ10_treeifyBin_0 5 rfl rfl)
theorem dJ10_treeifyBin_6 : decode cJ10_treeifyBin 6 = .ok (.dup, 1) := dk_89 (dk_at dksJ10_treeifyBin_0 6 rfl rfl)
theorem dJ10_treeifyBin_7 : decode cJ10_treeifyBin 7 = .ok (.istore_n 3, 1) := dk_62 (dk_at dksJ10_treeifyBin_0 7 rfl rfl)
theorem dJ10_treeifyBin_8 : decode cJ10_treeifyBin 8 = .ok (.bipush 64, 2) := dk_16 64 (dk_at dksJ10_treeifyBin_0 8 rfl rfl)
theorem dJ10_treeifyBin_10 : decode cJ10_treeifyBin 10 = .ok (.if_icmp .ge 11, 3) := dk_162 0 11 (dk_at dksJ10_treeifyBin_0 10 rfl rfl)
theorem dJ10_treeifyBin_13 : decode cJ10_treeifyBin 13 = .ok (.aload_n 0, 1) := dk_42 (dk_at dksJ10_treeifyBin_0 13 rfl rfl)
theorem dJ10_treeifyBin_14 : decode cJ10_treeifyBin 14 = .ok (.invokevirtual 117, 3) := dk_182 0 117 (dk_at dksJ10_treeifyBin_0 14 rfl rfl)
theorem dJ10_treeifyBin_17 : decode cJ10_treeifyBin 17 = .ok (.pop, 1) := dk_87 (dk_at dksJ10_treeifyBin_0 17 rfl rfl)
theorem dJ10_treeifyBin_18 : decode cJ10_treeifyBin 18 = .ok (.goto 91, 3) := dk_167 0 91 (dk_at dksJ10_treeifyBin_0 18 rfl rfl)
theorem dJ10_treeifyBin_21 : decode cJ10_treeifyBin 21 = .ok (.aload_n 1, 1) := dk_43 (dk_at dksJ10_treeifyBin_0 21 rfl rfl)
theorem dJ10_treeifyBin_22 : decode cJ10_treeifyBin 22 = .ok (.iload_n 3, 1) := dk_29 (dk_at dksJ10_treeifyBin_0 22 rfl rfl)
theorem dJ10_treeifyBin_23 : decode cJ10_treeifyBin 23 = .ok (.iconst 1, 1) := dk_4 (dk_at dksJ10_treeifyBin_0 23 rfl rfl)
theorem dJ10_treeifyBin_24 : decode cJ10_treeifyBin 24 = .ok (.isub, 1) := dk_100 (dk_at dksJ10_treeifyBin_1 0 rfl rfl)
theorem dJ10_treeifyBin_25 : decode cJ10_treeifyBin 25 = .ok (.iload_n 2, 1) := dk_28 (dk_at dksJ10_treeifyBin_1 1 rfl rfl)
theorem dJ10_treeifyBin_26 : decode cJ10_treeifyBin 26 = .ok (.iand, 1) := dk_126 (dk_at dksJ10_treeifyBin_1 2 rfl rfl)
theorem dJ10_treeifyBin_27 : decode cJ10_treeifyBin 27 = .ok (.dup, 1) := dk_89 (dk_at dksJ10_treeifyBin_1 3 rfl rfl)
theorem dJ10_treeifyBin_28 : decode cJ10_treeifyBin 28 = .ok (.istore 4, 2) := dk_54 4 (dk_at dksJ10_treeifyBin_1 4 rfl rfl)
theorem dJ10_treeifyBin_30 : decode cJ10_treeifyBin 30 = .ok (.aaload, 1) := dk_50 (dk_at dksJ10_treeifyBin_1 6 rfl rfl)
theorem dJ10_treeifyBin_31 : decode cJ10_treeifyBin 31 = .ok (.dup, 1) := dk_89 (dk_at dksJ10_treeifyBin_1 7 rfl rfl)
theorem dJ10_treeifyBin_32 : decode cJ10_treeifyBin 32 = .ok (.astore 5, 2) := dk_58 5 (dk_at dksJ10_treeifyBin_1 8 rfl rfl)
theorem dJ10_treeifyBin_34 : decode cJ10_treeifyBin 34 = .ok (.ifnull 75, 3) := dk_198 0 75 (dk_at dksJ10_treeifyBin_1 10 rfl rfl)
theorem dJ10_treeifyBin_37 : decode cJ10_treeifyBin 37 = .ok (.aconst_null, 1) := dk_1 (dk_at dksJ10_treeifyBin_1 13 rfl rfl)
theorem dJ10_treeifyBin_38 : decode cJ10_treeifyBin 38 = .ok (.astore 6, 2) := dk_58 6 (dk_at dksJ10_treeifyBin_1 14 rfl rfl)
theorem dJ10_treeifyBin_40 : decode cJ10_treeifyBin 40 = .ok (.aconst_null, 1) := dk_1 (dk_at dksJ10_treeifyBin_1 16 rfl rfl)
theorem dJ10_treeifyBin_41 : decode cJ10_treeifyBin 41 = .ok (.astore 7, 2) := dk_58 7 (dk_at dksJ10_treeifyBin_1 17 rfl rfl)
theorem dJ10_treeifyBin_43 : decode cJ10_treeifyBin 43 = .ok (.aload_n 0, 1) := dk_42 (dk_at dksJ10_treeifyBin_1 19 rfl rfl)
theorem dJ10_treeifyBin_44 : decode cJ10_treeifyBin 44 = .ok (.aload 5, 2) := dk_25 5 (dk_at dksJ10_treeifyBin_1 20 rfl rfl)
theorem dJ10_treeifyBin_46 : decode cJ10_treeifyBin 46 = .ok (.aconst_null, 1) := dk_1 (dk_at dksJ10_treeifyBin_1 22 rfl rfl)
theorem dJ10_treeifyBin_47 : decode cJ10_treeifyBin 47 = .ok (.invokevirtual 215, 3) := dk_182 0 215 (dk_at dksJ10_treeifyBin_2 0 rfl rfl)
theorem dJ10_treeifyBin_50 : decode cJ10_treeifyBin 50 = .ok (.astore 8, 2) := dk_58 8 (dk_at dksJ10_treeifyBin_2 3 rfl rfl)
theorem dJ10_treeifyBin_52 : decode cJ10_treeifyBin 52 = .ok (.aload 7, 2) := dk_25 7 (dk_at dksJ10_treeifyBin_2 5 rfl rfl)
theorem dJ10_treeifyBin_54 : decode cJ10_treeifyBin 54 = .ok (.ifnonnull 10, 3) := dk_199 0 10 (dk_at dksJ10_treeifyBin_2 7 rfl rfl)
theorem dJ10_treeifyBin_57 : decode cJ10_treeifyBin 57 = .ok (.aload 8, 2) := dk_25 8 (dk_at dksJ10_treeifyBin_2 10 rfl rfl)
theorem dJ10_treeifyBin_59 : decode cJ10_treeifyBin 59 = .ok (.astore 6, 2) := dk_58 6 (dk_at dksJ10_treeifyBin_2 12 rfl rfl)
theorem dJ10_treeifyBin_61 : decode cJ10_treeifyBin 61 = .ok (.goto 17, 3) := dk_167 0 17 (dk_at dksJ10_treeifyBin_2 14 rfl rfl)
theorem dJ10_treeifyBin_64 : decode cJ10_treeifyBin 64 = .ok (.aload 8, 2) := dk_25 8 (dk_at dksJ10_treeifyBin_2 17 rfl rfl)
theorem dJ10_treeifyBin_66 : decode cJ10_treeifyBin 66 = .ok (.aload 7, 2) := dk_25 7 (dk_at dksJ10_treeifyBin_2 19 rfl rfl)
theorem dJ10_treeifyBin_68 : decode cJ10_treeifyBin 68 = .ok (.putfield 219, 3) := dk_181 0 219 (dk_at dksJ10_treeifyBin_2 21 rfl rfl)
theorem dJ10_treeifyBin_71 : decode cJ10_treeifyBin 71 = .ok (.aload 7, 2) := dk_25 7 (dk_at dksJ10_treeifyBin_3 0 rfl rfl)
theorem dJ10_treeifyBin_73 : decode cJ10_treeifyBin 73 = .ok (.aload 8, 2) := dk_25 8 (dk_at dksJ10_treeifyBin_3 2 rfl rfl)
theorem dJ10_treeifyBin_75 : decode cJ10_treeifyBin 75 = .ok (.putfield 223, 3) := dk_181 0 223 (dk_at dksJ10_treeifyBin_3 4 rfl rfl)
theorem dJ10_treeifyBin_78 : decode cJ10_treeifyBin 78 = .ok (.aload 8, 2) := dk_25 8 (dk_at dksJ10_treeifyBin_3 7 rfl rfl)
theorem dJ10_treeifyBin_80 : decode cJ10_treeifyBin 80 = .ok (.astore 7, 2) := dk_58 7 (dk_at dksJ10_treeifyBin_3 9 rfl rfl)
theorem dJ10_treeifyBin_82 : decode cJ10_treeifyBin 82 = .ok (.aload 5, 2) := dk_25 5 (dk_at dksJ10_treeifyBin_3 11 rfl rfl)
theorem dJ10_treeifyBin_84 : decode cJ10_treeifyBin 84 = .ok (.getfield 177, 3) := dk_180 0 177 (dk_at dksJ10_treeifyBin_3 13 rfl rfl)
theorem dJ10_treeifyBin_87 : decode cJ10_treeifyBin 87 = .ok (.dup, 1) := dk_89 (dk_at dksJ10_treeifyBin_3 16 rfl rfl)
theorem dJ10_treeifyBin_88 : decode cJ10_treeifyBin 88 = .ok (.astore 5, 2) := dk_58 5 (dk_at dksJ10_treeifyBin_3 17 rfl rfl)
theorem dJ10_treeifyBin_90 : decode cJ10_treeifyBin 90 = .ok (.ifnonnull (-47), 3) := dk_199 255 209 (dk_at dksJ10_treeifyBin_3 19 rfl rfl)
theorem dJ10_treeifyBin_93 : decode cJ10_treeifyBin 93 = .ok (.aload_n 1, 1) := dk_43 (dk_at dksJ10_treeifyBin_3 22 rfl rfl)
theorem dJ10_treeifyBin_94 : decode cJ10_treeifyBin 94 = .ok (.iload 4, 2) := dk_21 4 (dk_at dksJ10_treeifyBin_4 0 rfl rfl)
theorem dJ10_treeifyBin_96 : decode cJ10_treeifyBin 96 = .ok (.aload 6, 2) := dk_25 6 (dk_at dksJ10_treeifyBin_4 2 rfl rfl)
theorem dJ10_treeifyBin_98 : decode cJ10_treeifyBin 98 = .ok (.dup_x2, 1) := dk_91 (dk_at dksJ10_treeifyBin_4 4 rfl rfl)
theorem dJ10_treeifyBin_99 : decode cJ10_treeifyBin 99 = .ok (.aastore, 1) := dk_83 (dk_at dksJ10_treeifyBin_4 5 rfl rfl)
theorem dJ10_treeifyBin_100 : decode cJ10_treeifyBin 100 = .ok (.ifnull 9, 3) := dk_198 0 9 (dk_at dksJ10_treeifyBin_4 6 rfl rfl)
theorem dJ10_treeifyBin_103 : decode cJ10_treeifyBin 103 = .ok (.aload 6, 2) := dk_25 6 (dk_at dksJ10_treeifyBin_4 9 rfl rfl)
theorem dJ10_treeifyBin_105 : decode cJ10_treeifyBin 105 = .ok (.aload_n 1, 1) := dk_43 (dk_at dksJ10_treeifyBin_4 11 rfl rfl)
theorem dJ10_treeifyBin_106 : decode cJ10_treeifyBin 106 = .ok (.invokevirtual 224, 3) := dk_182 0 224 (dk_at dksJ10_treeifyBin_4 12 rfl rfl)
theorem dJ10_treeifyBin_109 : decode cJ10_treeifyBin 109 = .ok (.return_, 1) := dk_177 (dk_at dksJ10_treeifyBin_4 15 rfl rfl)
abbrev cJ10_replacementTreeNode : ByteArray := prog_109_method_49_code
def yJ10_replacementTreeNode : MethodName := ⟨RJ10, "replacementTreeNode", "(Ljava/util/HashMap$Node;Ljava/util/HashMap$Node;)Ljava/util/HashMap$TreeNode;"⟩
def dkwJ10_replacementTreeNode_0 : List UInt8 := [187, 0, 180, 89, 43, 180, 0, 168, 43, 180, 0, 170, 43, 180, 0, 162, 44, 183, 1, 122, 176]
abbrev dktJ10_replacementTreeNode_0 : List UInt8 := dkwJ10_replacementTreeNode_0 ++ []
theorem dksJ10_replacementTreeNode_0 : cJ10_replacementTreeNode.data.toList.drop 0 = dktJ10_replacementTreeNode_0 := by decide +kernel
theorem dJ10_replacementTreeNode_0 : decode cJ10_replacementTreeNode 0 = .ok (.new 180, 3) := dk_187 0 180 (dk_at dksJ10_replacementTreeNode_0 0 rfl rfl)
theorem dJ10_replacementTreeNode_3 : decode cJ10_replacementTreeNode 3 = .ok (.dup, 1) := dk_89 (dk_at dksJ10_replacementTreeNode_0 3 rfl rfl)
theorem dJ10_replacementTreeNode_4 : decode cJ10_replacementTreeNode 4 = .ok (.aload_n 1, 1) := dk_43 (dk_at dksJ10_replacementTreeNode_0 4 rfl rfl)
theorem dJ10_replacementTreeNode_5 : decode cJ10_replacementTreeNode 5 = .ok (.getfield 168, 3) := dk_180 0 168 (dk_at dksJ10_replacementTreeNode_0 5 rfl rfl)
theorem dJ10_replacementTreeNode_8 : decode cJ10_replacementTreeNode 8 = .ok (.aload_n 1, 1) := dk_43 (dk_at dksJ10_replacementTreeNode_0 8 rfl rfl)
theorem dJ10_replacementTreeNode_9 : decode cJ10_replacementTreeNode 9 = .ok (.getfield 170, 3) := dk_180 0 170 (dk_at dksJ10_replacementTreeNode_0 9 rfl rfl)
theorem dJ10_replacementTreeNode_12 : decode cJ10_replacementTreeNode 12 = .ok (.aload_n 1, 1) := dk_43 (dk_at dksJ10_replacementTreeNode_0 12 rfl rfl)
theorem dJ10_replacementTreeNode_13 : decode cJ10_replacementTreeNode 13 = .ok (.getfield 162, 3) := dk_180 0 162 (dk_at dksJ10_replacementTreeNode_0 13 rfl rfl)
theorem dJ10_replacementTreeNode_16 : decode cJ10_replacementTreeNode 16 = .ok (.aload_n 2, 1) := dk_44 (dk_at dksJ10_replacementTreeNode_0 16 rfl rfl)
theorem dJ10_replacementTreeNode_17 : decode cJ10_replacementTreeNode 17 = .ok (.invokespecial 378, 3) := dk_183 1 122 (dk_at dksJ10_replacementTreeNode_0 17 rfl rfl)
theorem dJ10_replacementTreeNode_20 : decode cJ10_replacementTreeNode 20 = .ok (.areturn, 1) := dk_176 (dk_at dksJ10_replacementTreeNode_0 20 rfl rfl)
abbrev cJ10_afterNodeAccess : ByteArray := prog_109_method_51_code
def yJ10_afterNodeAccess : MethodName := ⟨RJ10, "afterNodeAccess", "(Ljava/util/HashMap$Node;)V"⟩
theorem dJ10_afterNodeAccess_0 : decode cJ10_afterNodeAccess 0 = .ok (.return_, 1) := by decide +kernel
abbrev cJ10_afterNodeInsertion : ByteArray := prog_109_method_52_code
def yJ10_afterNodeInsertion : MethodName := ⟨RJ10, "afterNodeInsertion", "(Z)V"⟩
theorem dJ10_afterNodeInsertion_0 : decode cJ10_afterNodeInsertion 0 = .ok (.return_, 1) := by decide +kernel
abbrev cJ10_keySet : ByteArray := prog_109_method_24_code
def yJ10_keySet : MethodName := ⟨RJ10, "keySet", "()Ljava/util/Set;"⟩
def dkwJ10_keySet_1 : List UInt8 := [176]
abbrev dktJ10_keySet_1 : List UInt8 := dkwJ10_keySet_1 ++ []
def dkwJ10_keySet_0 : List UInt8 := [42, 180, 0, 239, 76, 43, 199, 0, 17, 187, 0, 243, 89, 42, 183, 0, 245, 76, 42, 43, 181, 0, 239, 43]
abbrev dktJ10_keySet_0 : List UInt8 := dkwJ10_keySet_0 ++ dktJ10_keySet_1
theorem dksJ10_keySet_0 : cJ10_keySet.data.toList.drop 0 = dktJ10_keySet_0 := by decide +kernel
theorem dksJ10_keySet_1 : cJ10_keySet.data.toList.drop 24 = dktJ10_keySet_1 := dk_seg dksJ10_keySet_0 24 rfl rfl
theorem dJ10_keySet_0 : decode cJ10_keySet 0 = .ok (.aload_n 0, 1) := dk_42 (dk_at dksJ10_keySet_0 0 rfl rfl)
theorem dJ10_keySet_1 : decode cJ10_keySet 1 = .ok (.getfield 239, 3) := dk_180 0 239 (dk_at dksJ10_keySet_0 1 rfl rfl)
theorem dJ10_keySet_4 : decode cJ10_keySet 4 = .ok (.astore_n 1, 1) := dk_76 (dk_at dksJ10_keySet_0 4 rfl rfl)
theorem dJ10_keySet_5 : decode cJ10_keySet 5 = .ok (.aload_n 1, 1) := dk_43 (dk_at dksJ10_keySet_0 5 rfl rfl)
theorem dJ10_keySet_6 : decode cJ10_keySet 6 = .ok (.ifnonnull 17, 3) := dk_199 0 17 (dk_at dksJ10_keySet_0 6 rfl rfl)
theorem dJ10_keySet_9 : decode cJ10_keySet 9 = .ok (.new 243, 3) := dk_187 0 243 (dk_at dksJ10_keySet_0 9 rfl rfl)
theorem dJ10_keySet_12 : decode cJ10_keySet 12 = .ok (.dup, 1) := dk_89 (dk_at dksJ10_keySet_0 12 rfl rfl)
theorem dJ10_keySet_13 : decode cJ10_keySet 13 = .ok (.aload_n 0, 1) := dk_42 (dk_at dksJ10_keySet_0 13 rfl rfl)
theorem dJ10_keySet_14 : decode cJ10_keySet 14 = .ok (.invokespecial 245, 3) := dk_183 0 245 (dk_at dksJ10_keySet_0 14 rfl rfl)
theorem dJ10_keySet_17 : decode cJ10_keySet 17 = .ok (.astore_n 1, 1) := dk_76 (dk_at dksJ10_keySet_0 17 rfl rfl)
theorem dJ10_keySet_18 : decode cJ10_keySet 18 = .ok (.aload_n 0, 1) := dk_42 (dk_at dksJ10_keySet_0 18 rfl rfl)
theorem dJ10_keySet_19 : decode cJ10_keySet 19 = .ok (.aload_n 1, 1) := dk_43 (dk_at dksJ10_keySet_0 19 rfl rfl)
theorem dJ10_keySet_20 : decode cJ10_keySet 20 = .ok (.putfield 239, 3) := dk_181 0 239 (dk_at dksJ10_keySet_0 20 rfl rfl)
theorem dJ10_keySet_23 : decode cJ10_keySet 23 = .ok (.aload_n 1, 1) := dk_43 (dk_at dksJ10_keySet_0 23 rfl rfl)
theorem dJ10_keySet_24 : decode cJ10_keySet 24 = .ok (.areturn, 1) := dk_176 (dk_at dksJ10_keySet_1 0 rfl rfl)
abbrev cJ10_removeNode : ByteArray := prog_109_method_21_code
def yJ10_removeNode : MethodName := ⟨RJ10, "removeNode", "(ILjava/lang/Object;Ljava/lang/Object;ZZ)Ljava/util/HashMap$Node;"⟩
def dkwJ10_removeNode_12 : List UInt8 := [181, 0, 156, 42, 25, 10, 182, 0, 236, 25, 10, 176, 1, 176]
abbrev dktJ10_removeNode_12 : List UInt8 := dkwJ10_removeNode_12 ++ []
def dkwJ10_removeNode_11 : List UInt8 := [180, 0, 177, 181, 0, 177, 42, 89, 180, 0, 202, 4, 96, 181, 0, 202, 42, 89, 180, 0, 156, 4, 100]
abbrev dktJ10_removeNode_11 : List UInt8 := dkwJ10_removeNode_11 ++ dktJ10_removeNode_12
def dkwJ10_removeNode_10 : List UInt8 := [25, 10, 25, 7, 166, 0, 16, 25, 6, 21, 9, 25, 10, 180, 0, 177, 83, 167, 0, 13, 25, 7, 25, 10]
abbrev dktJ10_removeNode_10 : List UInt8 := dkwJ10_removeNode_10 ++ dktJ10_removeNode_11
def dkwJ10_removeNode_9 : List UInt8 := [25, 10, 193, 0, 180, 153, 0, 19, 25, 10, 192, 0, 180, 42, 25, 6, 21, 5, 182, 0, 232, 167, 0, 33]
abbrev dktJ10_removeNode_9 : List UInt8 := dkwJ10_removeNode_9 ++ dktJ10_removeNode_10
def dkwJ10_removeNode_8 : List UInt8 := [180, 0, 162, 89, 58, 13, 45, 165, 0, 16, 45, 198, 0, 95, 45, 25, 13, 182, 0, 173, 153, 0, 86]
abbrev dktJ10_removeNode_8 : List UInt8 := dkwJ10_removeNode_8 ++ dktJ10_removeNode_9
def dkwJ10_removeNode_7 : List UInt8 := [25, 11, 180, 0, 177, 89, 58, 11, 199, 255, 203, 25, 10, 198, 0, 116, 21, 4, 153, 0, 28, 25, 10]
abbrev dktJ10_removeNode_7 : List UInt8 := dkwJ10_removeNode_7 ++ dktJ10_removeNode_8
def dkwJ10_removeNode_6 : List UInt8 := [198, 0, 19, 44, 25, 12, 182, 0, 173, 153, 0, 10, 25, 11, 58, 10, 167, 0, 18, 25, 11, 58, 7]
abbrev dktJ10_removeNode_6 : List UInt8 := dkwJ10_removeNode_6 ++ dktJ10_removeNode_7
def dkwJ10_removeNode_5 : List UInt8 := [25, 11, 180, 0, 168, 27, 160, 0, 35, 25, 11, 180, 0, 170, 89, 58, 12, 44, 165, 0, 16, 44]
abbrev dktJ10_removeNode_5 : List UInt8 := dkwJ10_removeNode_5 ++ dktJ10_removeNode_6
def dkwJ10_removeNode_4 : List UInt8 := [25, 7, 193, 0, 180, 153, 0, 18, 25, 7, 192, 0, 180, 27, 44, 182, 0, 182, 58, 10, 167, 0, 59]
abbrev dktJ10_removeNode_4 : List UInt8 := dkwJ10_removeNode_4 ++ dktJ10_removeNode_5
def dkwJ10_removeNode_3 : List UInt8 := [182, 0, 173, 153, 0, 10, 25, 7, 58, 10, 167, 0, 93, 25, 7, 180, 0, 177, 89, 58, 11, 198, 0, 82]
abbrev dktJ10_removeNode_3 : List UInt8 := dkwJ10_removeNode_3 ++ dktJ10_removeNode_4
def dkwJ10_removeNode_2 : List UInt8 := [160, 0, 35, 25, 7, 180, 0, 170, 89, 58, 12, 44, 165, 0, 16, 44, 198, 0, 19, 44, 25, 12]
abbrev dktJ10_removeNode_2 : List UInt8 := dkwJ10_removeNode_2 ++ dktJ10_removeNode_3
def dkwJ10_removeNode_1 : List UInt8 := [100, 27, 126, 89, 54, 9, 50, 89, 58, 7, 198, 0, 255, 1, 58, 10, 25, 7, 180, 0, 168, 27]
abbrev dktJ10_removeNode_1 : List UInt8 := dkwJ10_removeNode_1 ++ dktJ10_removeNode_2
def dkwJ10_removeNode_0 : List UInt8 := [42, 180, 0, 105, 89, 58, 6, 198, 1, 26, 25, 6, 190, 89, 54, 8, 158, 1, 17, 25, 6, 21, 8, 4]
abbrev dktJ10_removeNode_0 : List UInt8 := dkwJ10_removeNode_0 ++ dktJ10_removeNode_1
theorem dksJ10_removeNode_0 : cJ10_removeNode.data.toList.drop 0 = dktJ10_removeNode_0 := by decide +kernel
theorem dksJ10_removeNode_1 : cJ10_removeNode.data.toList.drop 24 = dktJ10_removeNode_1 := dk_seg dksJ10_removeNode_0 24 rfl rfl
theorem dksJ10_removeNode_2 : cJ10_removeNode.data.toList.drop 46 = dktJ10_removeNode_2 := dk_seg dksJ10_removeNode_1 22 rfl rfl
theorem dksJ10_removeNode_3 : cJ10_removeNode.data.toList.drop 68 = dktJ10_removeNode_3 := dk_seg dksJ10_removeNode_2 22 rfl rfl
theorem dksJ10_removeNode_4 : cJ10_removeNode.data.toList.drop 92 = dktJ10_removeNode_4 := dk_seg dksJ10_removeNode_3 24 rfl rfl
theorem dksJ10_removeNode_5 : cJ10_removeNode.data.toList.drop 115 = dktJ10_removeNode_5 := dk_seg dksJ10_removeNode_4 23 rfl rfl
theorem dksJ10_removeNode_6 : cJ10_removeNode.data.toList.drop 137 = dktJ10_removeNode_6 := dk_seg dksJ10_removeNode_5 22 rfl rfl
theorem dksJ10_removeNode_7 : cJ10_removeNode.data.toList.drop 160 = dktJ10_removeNode_7 := dk_seg dksJ10_removeNode_6 23 rfl rfl
theorem dksJ10_removeNode_8 : cJ10_removeNode.data.toList.drop 183 = dktJ10_removeNode_8 := dk_seg dksJ10_removeNode_7 23 rfl rfl
theorem dksJ10_removeNode_9 : cJ10_removeNode.data.toList.drop 206 = dktJ10_removeNode_9 := dk_seg dksJ10_removeNode_8 23 rfl rfl
theorem dksJ10_removeNode_10 : cJ10_removeNode.data.toList.drop 230 = dktJ10_removeNode_10 := dk_seg dksJ10_removeNode_9 24 rfl rfl
theorem dksJ10_removeNode_11 : cJ10_removeNode.data.toList.drop 254 = dktJ10_removeNode_11 := dk_seg dksJ10_removeNode_10 24 rfl rfl
theorem dksJ10_removeNode_12 : cJ10_removeNode.data.toList.drop 277 = dktJ10_removeNode_12 := dk_seg dksJ10_removeNode_11 23 rfl rfl
theorem dJ10_removeNode_0 : decode cJ10_removeNode 0 = .ok (.aload_n 0, 1) := dk_42 (dk_at dksJ10_removeNode_0 0 rfl rfl)
theorem dJ10_removeNode_1 : decode cJ10_removeNode 1 = .ok (.getfield 105, 3) := dk_180 0 105 (dk_at dksJ10_removeNode_0 1 rfl rfl)
theorem dJ10_removeNode_4 : decode cJ10_removeNode 4 = .ok (.dup, 1) := dk_89 (dk_at dksJ10_removeNode_0 4 rfl rfl)
theorem dJ10_removeNode_5 : decode cJ10_removeNode 5 = .ok (.astore 6, 2) := dk_58 6 (dk_at dksJ10_removeNode_0 5 rfl rfl)
theorem dJ10_removeNode_7 : decode cJ10_removeNode 7 = .ok (.ifnull 282, 3) := dk_198 1 26 (dk_at dksJ10_removeNode_0 7 rfl rfl)
theorem dJ10_removeNode_10 : decode cJ10_removeNode 10 = .ok (.aload 6, 2) := dk_25 6 (dk_at dksJ10_removeNode_0 10 rfl rfl)
theorem dJ10_removeNode_12 : decode cJ10_removeNode 12 = .ok (.arraylength, 1) := dk_190 (dk_at dksJ10_removeNode_0 12 rfl rfl)
theorem dJ10_removeNode_13 : decode cJ10_removeNode 13 = .ok (.dup, 1) := dk_89 (dk_at dksJ10_removeNode_0 13 rfl rfl)
theorem dJ10_removeNode_14 : decode cJ10_removeNode 14 = .ok (.istore 8, 2) := dk_54 8 (dk_at dksJ10_removeNode_0 14 rfl rfl)
theorem dJ10_removeNode_16 : decode cJ10_removeNode 16 = .ok (.ifCond .le 273, 3) := dk_158 1 17 (dk_at dksJ10_removeNode_0 16 rfl rfl)
theorem dJ10_removeNode_19 : decode cJ10_removeNode 19 = .ok (.aload 6, 2) := dk_25 6 (dk_at dksJ10_removeNode_0 19 rfl rfl)
theorem dJ10_removeNode_21 : decode cJ10_removeNode 21 = .ok (.iload 8, 2) := dk_21 8 (dk_at dksJ10_removeNode_0 21 rfl rfl)
theorem dJ10_removeNode_23 : decode cJ10_removeNode 23 = .ok (.iconst 1, 1) := dk_4 (dk_at dksJ10_removeNode_0 23 rfl rfl)
theorem dJ10_removeNode_24 : decode cJ10_removeNode 24 = .ok (.isub, 1) := dk_100 (dk_at dksJ10_removeNode_1 0 rfl rfl)
theorem dJ10_removeNode_25 : decode cJ10_removeNode 25 = .ok (.iload_n 1, 1) := dk_27 (dk_at dksJ10_removeNode_1 1 rfl rfl)
theorem dJ10_removeNode_26 : decode cJ10_removeNode 26 = .ok (.iand, 1) := dk_126 (dk_at dksJ10_removeNode_1 2 rfl rfl)
theorem dJ10_removeNode_27 : decode cJ10_removeNode 27 = .ok (.dup, 1) := dk_89 (dk_at dksJ10_removeNode_1 3 rfl rfl)
theorem dJ10_removeNode_28 : decode cJ10_removeNode 28 = .ok (.istore 9, 2) := dk_54 9 (dk_at dksJ10_removeNode_1 4 rfl rfl)
theorem dJ10_removeNode_30 : decode cJ10_removeNode 30 = .ok (.aaload, 1) := dk_50 (dk_at dksJ10_removeNode_1 6 rfl rfl)
theorem dJ10_removeNode_31 : decode cJ10_removeNode 31 = .ok (.dup, 1) := dk_89 (dk_at dksJ10_removeNode_1 7 rfl rfl)
theorem dJ10_removeNode_32 : decode cJ10_removeNode 32 = .ok (.astore 7, 2) := dk_58 7 (dk_at dksJ10_removeNode_1 8 rfl rfl)
theorem dJ10_removeNode_34 : decode cJ10_removeNode 34 = .ok (.ifnull 255, 3) := dk_198 0 255 (dk_at dksJ10_removeNode_1 10 rfl rfl)
theorem dJ10_removeNode_37 : decode cJ10_removeNode 37 = .ok (.aconst_null, 1) := dk_1 (dk_at dksJ10_removeNode_1 13 rfl rfl)
theorem dJ10_removeNode_38 : decode cJ10_removeNode 38 = .ok (.astore 10, 2) := dk_58 10 (dk_at dksJ10_removeNode_1 14 rfl rfl)
theorem dJ10_removeNode_40 : decode cJ10_removeNode 40 = .ok (.aload 7, 2) := dk_25 7 (dk_at dksJ10_removeNode_1 16 rfl rfl)
theorem dJ10_removeNode_42 : decode cJ10_removeNode 42 = .ok (.getfield 168, 3) := dk_180 0 168 (dk_at dksJ10_removeNode_1 18 rfl rfl)
theorem dJ10_removeNode_45 : decode cJ10_removeNode 45 = .ok (.iload_n 1, 1) := dk_27 (dk_at dksJ10_removeNode_1 21 rfl rfl)
theorem dJ10_removeNode_46 : decode cJ10_removeNode 46 = .ok (.if_icmp .ne 35, 3) := dk_160 0 35 (dk_at dksJ10_removeNode_2 0 rfl rfl)
theorem dJ10_removeNode_49 : decode cJ10_removeNode 49 = .ok (.aload 7, 2) := dk_25 7 (dk_at dksJ10_removeNode_2 3 rfl rfl)
theorem dJ10_removeNode_51 : decode cJ10_removeNode 51 = .ok (.getfield 170, 3) := dk_180 0 170 (dk_at dksJ10_removeNode_2 5 rfl rfl)
theorem dJ10_removeNode_54 : decode cJ10_removeNode 54 = .ok (.dup, 1) := dk_89 (dk_at dksJ10_removeNode_2 8 rfl rfl)
theorem dJ10_removeNode_55 : decode cJ10_removeNode 55 = .ok (.astore 12, 2) := dk_58 12 (dk_at dksJ10_removeNode_2 9 rfl rfl)
theorem dJ10_removeNode_57 : decode cJ10_removeNode 57 = .ok (.aload_n 2, 1) := dk_44 (dk_at dksJ10_removeNode_2 11 rfl rfl)
theorem dJ10_removeNode_58 : decode cJ10_removeNode 58 = .ok (.if_acmp .eq 16, 3) := dk_165 0 16 (dk_at dksJ10_removeNode_2 12 rfl rfl)
theorem dJ10_removeNode_61 : decode cJ10_removeNode 61 = .ok (.aload_n 2, 1) := dk_44 (dk_at dksJ10_removeNode_2 15 rfl rfl)
theorem dJ10_removeNode_62 : decode cJ10_removeNode 62 = .ok (.ifnull 19, 3) := dk_198 0 19 (dk_at dksJ10_removeNode_2 16 rfl rfl)
theorem dJ10_removeNode_65 : decode cJ10_removeNode 65 = .ok (.aload_n 2, 1) := dk_44 (dk_at dksJ10_removeNode_2 19 rfl rfl)
theorem dJ10_removeNode_66 : decode cJ10_removeNode 66 = .ok (.aload 12, 2) := dk_25 12 (dk_at dksJ10_removeNode_2 20 rfl rfl)
theorem dJ10_removeNode_68 : decode cJ10_removeNode 68 = .ok (.invokevirtual 173, 3) := dk_182 0 173 (dk_at dksJ10_removeNode_3 0 rfl rfl)
theorem dJ10_removeNode_71 : decode cJ10_removeNode 71 = .ok (.ifCond .eq 10, 3) := dk_153 0 10 (dk_at dksJ10_removeNode_3 3 rfl rfl)
theorem dJ10_removeNode_74 : decode cJ10_removeNode 74 = .ok (.aload 7, 2) := dk_25 7 (dk_at dksJ10_removeNode_3 6 rfl rfl)
theorem dJ10_removeNode_76 : decode cJ10_removeNode 76 = .ok (.astore 10, 2) := dk_58 10 (dk_at dksJ10_removeNode_3 8 rfl rfl)
theorem dJ10_removeNode_78 : decode cJ10_removeNode 78 = .ok (.goto 93, 3) := dk_167 0 93 (dk_at dksJ10_removeNode_3 10 rfl rfl)
theorem dJ10_removeNode_81 : decode cJ10_removeNode 81 = .ok (.aload 7, 2) := dk_25 7 (dk_at dksJ10_removeNode_3 13 rfl rfl)
theorem dJ10_removeNode_83 : decode cJ10_removeNode 83 = .ok (.getfield 177, 3) := dk_180 0 177 (dk_at dksJ10_removeNode_3 15 rfl rfl)
theorem dJ10_removeNode_86 : decode cJ10_removeNode 86 = .ok (.dup, 1) := dk_89 (dk_at dksJ10_removeNode_3 18 rfl rfl)
theorem dJ10_removeNode_87 : decode cJ10_removeNode 87 = .ok (.astore 11, 2) := dk_58 11 (dk_at dksJ10_removeNode_3 19 rfl rfl)
theorem dJ10_removeNode_89 : decode cJ10_removeNode 89 = .ok (.ifnull 82, 3) := dk_198 0 82 (dk_at dksJ10_removeNode_3 21 rfl rfl)
theorem dJ10_removeNode_92 : decode cJ10_removeNode 92 = .ok (.aload 7, 2) := dk_25 7 (dk_at dksJ10_removeNode_4 0 rfl rfl)
theorem dJ10_removeNode_94 : decode cJ10_removeNode 94 = .ok (.instanceof 180, 3) := dk_193 0 180 (dk_at dksJ10_removeNode_4 2 rfl rfl)
theorem dJ10_removeNode_97 : decode cJ10_removeNode 97 = .ok (.ifCond .eq 18, 3) := dk_153 0 18 (dk_at dksJ10_removeNode_4 5 rfl rfl)
theorem dJ10_removeNode_100 : decode cJ10_removeNode 100 = .ok (.aload 7, 2) := dk_25 7 (dk_at dksJ10_removeNode_4 8 rfl rfl)
theorem dJ10_removeNode_102 : decode cJ10_removeNode 102 = .ok (.checkcast 180, 3) := dk_192 0 180 (dk_at dksJ10_removeNode_4 10 rfl rfl)
theorem dJ10_removeNode_105 : decode cJ10_removeNode 105 = .ok (.iload_n 1, 1) := dk_27 (dk_at dksJ10_removeNode_4 13 rfl rfl)
theorem dJ10_removeNode_106 : decode cJ10_removeNode 106 = .ok (.aload_n 2, 1) := dk_44 (dk_at dksJ10_removeNode_4 14 rfl rfl)
theorem dJ10_removeNode_107 : decode cJ10_removeNode 107 = .ok (.invokevirtual 182, 3) := dk_182 0 182 (dk_at dksJ10_removeNode_4 15 rfl rfl)
theorem dJ10_removeNode_110 : decode cJ10_removeNode 110 = .ok (.astore 10, 2) := dk_58 10 (dk_at dksJ10_removeNode_4 18 rfl rfl)
theorem dJ10_removeNode_112 : decode cJ10_removeNode 112 = .ok (.goto 59, 3) := dk_167 0 59 (dk_at dksJ10_removeNode_4 20 rfl rfl)
theorem dJ10_removeNode_115 : decode cJ10_removeNode 115 = .ok (.aload 11, 2) := dk_25 11 (dk_at dksJ10_removeNode_5 0 rfl rfl)
theorem dJ10_removeNode_117 : decode cJ10_removeNode 117 = .ok (.getfield 168, 3) := dk_180 0 168 (dk_at dksJ10_removeNode_5 2 rfl rfl)
theorem dJ10_removeNode_120 : decode cJ10_removeNode 120 = .ok (.iload_n 1, 1) := dk_27 (dk_at dksJ10_removeNode_5 5 rfl rfl)
theorem dJ10_removeNode_121 : decode cJ10_removeNode 121 = .ok (.if_icmp .ne 35, 3) := dk_160 0 35 (dk_at dksJ10_removeNode_5 6 rfl rfl)
theorem dJ10_removeNode_124 : decode cJ10_removeNode 124 = .ok (.aload 11, 2) := dk_25 11 (dk_at dksJ10_removeNode_5 9 rfl rfl)
theorem dJ10_removeNode_126 : decode cJ10_removeNode 126 = .ok (.getfield 170, 3) := dk_180 0 170 (dk_at dksJ10_removeNode_5 11 rfl rfl)
theorem dJ10_removeNode_129 : decode cJ10_removeNode 129 = .ok (.dup, 1) := dk_89 (dk_at dksJ10_removeNode_5 14 rfl rfl)
theorem dJ10_removeNode_130 : decode cJ10_removeNode 130 = .ok (.astore 12, 2) := dk_58 12 (dk_at dksJ10_removeNode_5 15 rfl rfl)
theorem dJ10_removeNode_132 : decode cJ10_removeNode 132 = .ok (.aload_n 2, 1) := dk_44 (dk_at dksJ10_removeNode_5 17 rfl rfl)
theorem dJ10_removeNode_133 : decode cJ10_removeNode 133 = .ok (.if_acmp .eq 16, 3) := dk_165 0 16 (dk_at dksJ10_removeNode_5 18 rfl rfl)
theorem dJ10_removeNode_136 : decode cJ10_removeNode 136 = .ok (.aload_n 2, 1) := dk_44 (dk_at dksJ10_removeNode_5 21 rfl rfl)
theorem dJ10_removeNode_137 : decode cJ10_removeNode 137 = .ok (.ifnull 19, 3) := dk_198 0 19 (dk_at dksJ10_removeNode_6 0 rfl rfl)
theorem dJ10_removeNode_140 : decode cJ10_removeNode 140 = .ok (.aload_n 2, 1) := dk_44 (dk_at dksJ10_removeNode_6 3 rfl rfl)
theorem dJ10_removeNode_141 : decode cJ10_removeNode 141 = .ok (.aload 12, 2) := dk_25 12 (dk_at dksJ10_removeNode_6 4 rfl rfl)
theorem dJ10_removeNode_143 : decode cJ10_removeNode 143 = .ok (.invokevirtual 173, 3) := dk_182 0 173 (dk_at dksJ10_removeNode_6 6 rfl rfl)
theorem dJ10_removeNode_146 : decode cJ10_removeNode 146 = .ok (.ifCond .eq 10, 3) := dk_153 0 10 (dk_at dksJ10_removeNode_6 9 rfl rfl)
theorem dJ10_removeNode_149 : decode cJ10_removeNode 149 = .ok (.aload 11, 2) := dk_25 11 (dk_at dksJ10_removeNode_6 12 rfl rfl)
theorem dJ10_removeNode_151 : decode cJ10_removeNode 151 = .ok (.astore 10, 2) := dk_58 10 (dk_at dksJ10_removeNode_6 14 rfl rfl)
theorem dJ10_removeNode_153 : decode cJ10_removeNode 153 = .ok (.goto 18, 3) := dk_167 0 18 (dk_at dksJ10_removeNode_6 16 rfl rfl)
theorem dJ10_removeNode_156 : decode cJ10_removeNode 156 = .ok (.aload 11, 2) := dk_25 11 (dk_at dksJ10_removeNode_6 19 rfl rfl)
theorem dJ10_removeNode_158 : decode cJ10_removeNode 158 = .ok (.astore 7, 2) := dk_58 7 (dk_at dksJ10_removeNode_6 21 rfl rfl)
theorem dJ10_removeNode_160 : decode cJ10_removeNode 160 = .ok (.aload 11, 2) := dk_25 11 (dk_at dksJ10_removeNode_7 0 rfl rfl)
theorem dJ10_removeNode_162 : decode cJ10_removeNode 162 = .ok (.getfield 177, 3) := dk_180 0 177 (dk_at dksJ10_removeNode_7 2 rfl rfl)
theorem dJ10_removeNode_165 : decode cJ10_removeNode 165 = .ok (.dup, 1) := dk_89 (dk_at dksJ10_removeNode_7 5 rfl rfl)
theorem dJ10_removeNode_166 : decode cJ10_removeNode 166 = .ok (.astore 11, 2) := dk_58 11 (dk_at dksJ10_removeNode_7 6 rfl rfl)
theorem dJ10_removeNode_168 : decode cJ10_removeNode 168 = .ok (.ifnonnull (-53), 3) := dk_199 255 203 (dk_at dksJ10_removeNode_7 8 rfl rfl)
theorem dJ10_removeNode_171 : decode cJ10_removeNode 171 = .ok (.aload 10, 2) := dk_25 10 (dk_at dksJ10_removeNode_7 11 rfl rfl)
theorem dJ10_removeNode_173 : decode cJ10_removeNode 173 = .ok (.ifnull 116, 3) := dk_198 0 116 (dk_at dksJ10_removeNode_7 13 rfl rfl)
theorem dJ10_removeNode_176 : decode cJ10_removeNode 176 = .ok (.iload 4, 2) := dk_21 4 (dk_at dksJ10_removeNode_7 16 rfl rfl)
theorem dJ10_removeNode_178 : decode cJ10_removeNode 178 = .ok (.ifCond .eq 28, 3) := dk_153 0 28 (dk_at dksJ10_removeNode_7 18 rfl rfl)
theorem dJ10_removeNode_181 : decode cJ10_removeNode 181 = .ok (.aload 10, 2) := dk_25 10 (dk_at dksJ10_removeNode_7 21 rfl rfl)
theorem dJ10_removeNode_183 : decode cJ10_removeNode 183 = .ok (.getfield 162, 3) := dk_180 0 162 (dk_at dksJ10_removeNode_8 0 rfl rfl)
theorem dJ10_removeNode_186 : decode cJ10_removeNode 186 = .ok (.dup, 1) := dk_89 (dk_at dksJ10_removeNode_8 3 rfl rfl)
theorem dJ10_removeNode_187 : decode cJ10_removeNode 187 = .ok (.astore 13, 2) := dk_58 13 (dk_at dksJ10_removeNode_8 4 rfl rfl)
theorem dJ10_removeNode_189 : decode cJ10_removeNode 189 = .ok (.aload_n 3, 1) := dk_45 (dk_at dksJ10_removeNode_8 6 rfl rfl)
theorem dJ10_removeNode_190 : decode cJ10_removeNode 190 = .ok (.if_acmp .eq 16, 3) := dk_165 0 16 (dk_at dksJ10_removeNode_8 7 rfl rfl)
theorem dJ10_removeNode_193 : decode cJ10_removeNode 193 = .ok (.aload_n 3, 1) := dk_45 (dk_at dksJ10_removeNode_8 10 rfl rfl)
theorem dJ10_removeNode_194 : decode cJ10_removeNode 194 = .ok (.ifnull 95, 3) := dk_198 0 95 (dk_at dksJ10_removeNode_8 11 rfl rfl)
theorem dJ10_removeNode_197 : decode cJ10_removeNode 197 = .ok (.aload_n 3, 1) := dk_45 (dk_at dksJ10_removeNode_8 14 rfl rfl)
theorem dJ10_removeNode_198 : decode cJ10_removeNode 198 = .ok (.aload 13, 2) := dk_25 13 (dk_at dksJ10_removeNode_8 15 rfl rfl)
theorem dJ10_removeNode_200 : decode cJ10_removeNode 200 = .ok (.invokevirtual 173, 3) := dk_182 0 173 (dk_at dksJ10_removeNode_8 17 rfl rfl)
theorem dJ10_removeNode_203 : decode cJ10_removeNode 203 = .ok (.ifCond .eq 86, 3) := dk_153 0 86 (dk_at dksJ10_removeNode_8 20 rfl rfl)
theorem dJ10_removeNode_206 : decode cJ10_removeNode 206 = .ok (.aload 10, 2) := dk_25 10 (dk_at dksJ10_removeNode_9 0 rfl rfl)
theorem dJ10_removeNode_208 : decode cJ10_removeNode 208 = .ok (.instanceof 180, 3) := dk_193 0 180 (dk_at dksJ10_removeNode_9 2 rfl rfl)
theorem dJ10_removeNode_211 : decode cJ10_removeNode 211 = .ok (.ifCond .eq 19, 3) := dk_153 0 19 (dk_at dksJ10_removeNode_9 5 rfl rfl)
theorem dJ10_removeNode_214 : decode cJ10_removeNode 214 = .ok (.aload 10, 2) := dk_25 10 (dk_at dksJ10_removeNode_9 8 rfl rfl)
theorem dJ10_removeNode_216 : decode cJ10_removeNode 216 = .ok (.checkcast 180, 3) := dk_192 0 180 (dk_at dksJ10_removeNode_9 10 rfl rfl)
theorem dJ10_removeNode_219 : decode cJ10_removeNode 219 = .ok (.aload_n 0, 1) := dk_42 (dk_at dksJ10_removeNode_9 13 rfl rfl)
theorem dJ10_removeNode_220 : decode cJ10_removeNode 220 = .ok (.aload 6, 2) := dk_25 6 (dk_at dksJ10_removeNode_9 14 rfl rfl)
theorem dJ10_removeNode_222 : decode cJ10_removeNode 222 = .ok (.iload 5, 2) := dk_21 5 (dk_at dksJ10_removeNode_9 16 rfl rfl)
theorem dJ10_removeNode_224 : decode cJ10_removeNode 224 = .ok (.invokevirtual 232, 3) := dk_182 0 232 (dk_at dksJ10_removeNode_9 18 rfl rfl)
theorem dJ10_removeNode_227 : decode cJ10_removeNode 227 = .ok (.goto 33, 3) := dk_167 0 33 (dk_at dksJ10_removeNode_9 21 rfl rfl)
theorem dJ10_removeNode_230 : decode cJ10_removeNode 230 = .ok (.aload 10, 2) := dk_25 10 (dk_at dksJ10_removeNode_10 0 rfl rfl)
theorem dJ10_removeNode_232 : decode cJ10_removeNode 232 = .ok (.aload 7, 2) := dk_25 7 (dk_at dksJ10_removeNode_10 2 rfl rfl)
theorem dJ10_removeNode_234 : decode cJ10_removeNode 234 = .ok (.if_acmp .ne 16, 3) := dk_166 0 16 (dk_at dksJ10_removeNode_10 4 rfl rfl)
theorem dJ10_removeNode_237 : decode cJ10_removeNode 237 = .ok (.aload 6, 2) := dk_25 6 (dk_at dksJ10_removeNode_10 7 rfl rfl)
theorem dJ10_removeNode_239 : decode cJ10_removeNode 239 = .ok (.iload 9, 2) := dk_21 9 (dk_at dksJ10_removeNode_10 9 rfl rfl)
theorem dJ10_removeNode_241 : decode cJ10_removeNode 241 = .ok (.aload 10, 2) := dk_25 10 (dk_at dksJ10_removeNode_10 11 rfl rfl)
theorem dJ10_removeNode_243 : decode cJ10_removeNode 243 = .ok (.getfield 177, 3) := dk_180 0 177 (dk_at dksJ10_removeNode_10 13 rfl rfl)
theorem dJ10_removeNode_246 : decode cJ10_removeNode 246 = .ok (.aastore, 1) := dk_83 (dk_at dksJ10_removeNode_10 16 rfl rfl)
theorem dJ10_removeNode_247 : decode cJ10_removeNode 247 = .ok (.goto 13, 3) := dk_167 0 13 (dk_at dksJ10_removeNode_10 17 rfl rfl)
theorem dJ10_removeNode_250 : decode cJ10_removeNode 250 = .ok (.aload 7, 2) := dk_25 7 (dk_at dksJ10_removeNode_10 20 rfl rfl)
theorem dJ10_removeNode_252 : decode cJ10_removeNode 252 = .ok (.aload 10, 2) := dk_25 10 (dk_at dksJ10_removeNode_10 22 rfl rfl)
theorem dJ10_removeNode_254 : decode cJ10_removeNode 254 = .ok (.getfield 177, 3) := dk_180 0 177 (dk_at dksJ10_removeNode_11 0 rfl rfl)
theorem dJ10_removeNode_257 : decode cJ10_removeNode 257 = .ok (.putfield 177, 3) := dk_181 0 177 (dk_at dksJ10_removeNode_11 3 rfl rfl)
theorem dJ10_removeNode_260 : decode cJ10_removeNode 260 = .ok (.aload_n 0, 1) := dk_42 (dk_at dksJ10_removeNode_11 6 rfl rfl)
theorem dJ10_removeNode_261 : decode cJ10_removeNode 261 = .ok (.dup, 1) := dk_89 (dk_at dksJ10_removeNode_11 7 rfl rfl)
theorem dJ10_removeNode_262 : decode cJ10_removeNode 262 = .ok (.getfield 202, 3) := dk_180 0 202 (dk_at dksJ10_removeNode_11 8 rfl rfl)
theorem dJ10_removeNode_265 : decode cJ10_removeNode 265 = .ok (.iconst 1, 1) := dk_4 (dk_at dksJ10_removeNode_11 11 rfl rfl)
theorem dJ10_removeNode_266 : decode cJ10_removeNode 266 = .ok (.iadd, 1) := dk_96 (dk_at dksJ10_removeNode_11 12 rfl rfl)
theorem dJ10_removeNode_267 : decode cJ10_removeNode 267 = .ok (.putfield 202, 3) := dk_181 0 202 (dk_at dksJ10_removeNode_11 13 rfl rfl)
theorem dJ10_removeNode_270 : decode cJ10_removeNode 270 = .ok (.aload_n 0, 1) := dk_42 (dk_at dksJ10_removeNode_11 16 rfl rfl)
theorem dJ10_removeNode_271 : decode cJ10_removeNode 271 = .ok (.dup, 1) := dk_89 (dk_at dksJ10_removeNode_11 17 rfl rfl)
theorem dJ10_removeNode_272 : decode cJ10_removeNode 272 = .ok (.getfield 156, 3) := dk_180 0 156 (dk_at dksJ10_removeNode_11 18 rfl rfl)
theorem dJ10_removeNode_275 : decode cJ10_removeNode 275 = .ok (.iconst 1, 1) := dk_4 (dk_at dksJ10_removeNode_11 21 rfl rfl)
theorem dJ10_removeNode_276 : decode cJ10_removeNode 276 = .ok (.isub, 1) := dk_100 (dk_at dksJ10_removeNode_11 22 rfl rfl)
theorem dJ10_removeNode_277 : decode cJ10_removeNode 277 = .ok (.putfield 156, 3) := dk_181 0 156 (dk_at dksJ10_removeNode_12 0 rfl rfl)
theorem dJ10_removeNode_280 : decode cJ10_removeNode 280 = .ok (.aload_n 0, 1) := dk_42 (dk_at dksJ10_removeNode_12 3 rfl rfl)
theorem dJ10_removeNode_281 : decode cJ10_removeNode 281 = .ok (.aload 10, 2) := dk_25 10 (dk_at dksJ10_removeNode_12 4 rfl rfl)
theorem dJ10_removeNode_283 : decode cJ10_removeNode 283 = .ok (.invokevirtual 236, 3) := dk_182 0 236 (dk_at dksJ10_removeNode_12 6 rfl rfl)
theorem dJ10_removeNode_286 : decode cJ10_removeNode 286 = .ok (.aload 10, 2) := dk_25 10 (dk_at dksJ10_removeNode_12 9 rfl rfl)
theorem dJ10_removeNode_288 : decode cJ10_removeNode 288 = .ok (.areturn, 1) := dk_176 (dk_at dksJ10_removeNode_12 11 rfl rfl)
theorem dJ10_removeNode_289 : decode cJ10_removeNode 289 = .ok (.aconst_null, 1) := dk_1 (dk_at dksJ10_removeNode_12 12 rfl rfl)
theorem dJ10_removeNode_290 : decode cJ10_removeNode 290 = .ok (.areturn, 1) := dk_176 (dk_at dksJ10_removeNode_12 13 rfl rfl)
abbrev cJ10_afterNodeRemoval : ByteArray := prog_109_method_53_code
def yJ10_afterNodeRemoval : MethodName := ⟨RJ10, "afterNodeRemoval", "(Ljava/util/HashMap$Node;)V"⟩
theorem dJ10_afterNodeRemoval_0 : decode cJ10_afterNodeRemoval 0 = .ok (.return_, 1) := by decide +kernel
theorem q438 : (Jvm.Cond.initialized "java/util/HashMap") ∈ lw_all := lw_g (lw_at lw_m1 46 rfl) rfl
theorem q636 : (Jvm.Cond.fieldLink "java/util/HashMap" (239 : Nat) "java/util/HashMap" "keySet" "Ljava/util/Set;") ∈ lw_all := lw_g (lw_at lw_m2 4 rfl) rfl
theorem q637 : (Jvm.Cond.sameField "java/util/HashMap" "java/util/AbstractMap" "keySet" "Ljava/util/Set;") ∈ lw_all := lw_g (lw_at lw_m2 5 rfl) rfl
theorem q1825 : (Jvm.Cond.instantiable "java/util/HashMap" (8 : Nat)) ∈ lw_all := lw_g (lw_at lw_m6 233 rfl) rfl
theorem q1827 : (Jvm.Cond.instanceMethod ({ cls := "java/util/HashMap", name := "<init>", desc := "()V" } : Jvm.MethodName)) ∈ lw_all := lw_g (lw_at lw_m6 235 rfl) rfl
theorem q1828 : (Jvm.Cond.code ({ cls := "java/util/HashMap", name := "<init>", desc := "()V" } : Jvm.MethodName) prog_109_method_7_code (1 : Nat) (Option.none : Option Jvm.ClassFile.FieldType)) ∈ lw_all := lw_g (lw_at lw_m6 236 rfl) rfl
theorem q1829 : (Jvm.Cond.methodLink "java/util/HashMap" (43 : Nat) ({ cls := "java/util/AbstractMap", name := "<init>", desc := "()V" } : Jvm.MethodName)) ∈ lw_all := lw_g (lw_at lw_m6 237 rfl) rfl
theorem q1830 : (Jvm.Cond.constantFloat "java/util/HashMap" (92 : Nat) (1061158912 : UInt32)) ∈ lw_all := lw_g (lw_at lw_m6 238 rfl) rfl
theorem q1832 : (Jvm.Cond.fieldLink "java/util/HashMap" (105 : Nat) "java/util/HashMap" "table" "[Ljava/util/HashMap$Node;") ∈ lw_all := lw_g (lw_at lw_m7 0 rfl) rfl
theorem q1834 : (Jvm.Cond.fieldLink "java/util/HashMap" (156 : Nat) "java/util/HashMap" "size" "I") ∈ lw_all := lw_g (lw_at lw_m7 2 rfl) rfl
theorem q1836 : (Jvm.Cond.fieldLink "java/util/HashMap" (202 : Nat) "java/util/HashMap" "modCount" "I") ∈ lw_all := lw_g (lw_at lw_m7 4 rfl) rfl
theorem q1837 : (Jvm.Cond.fieldLink "java/util/HashMap" (88 : Nat) "java/util/HashMap" "threshold" "I") ∈ lw_all := lw_g (lw_at lw_m7 5 rfl) rfl
theorem q1838 : (Jvm.Cond.fieldLink "java/util/HashMap" (81 : Nat) "java/util/HashMap" "loadFactor" "F") ∈ lw_all := lw_g (lw_at lw_m7 6 rfl) rfl
theorem q1839 : (Jvm.Cond.lays "java/util/HashMap" "java/util/HashMap" "table" "[Ljava/util/HashMap$Node;") ∈ lw_all := lw_g (lw_at lw_m7 7 rfl) rfl
theorem q1840 : (Jvm.Cond.soleField "java/util/HashMap" "table") ∈ lw_all := lw_g (lw_at lw_m7 8 rfl) rfl
theorem q1841 : (Jvm.Cond.lays "java/util/HashMap" "java/util/HashMap" "entrySet" "Ljava/util/Set;") ∈ lw_all := lw_g (lw_at lw_m7 9 rfl) rfl
theorem q1842 : (Jvm.Cond.soleField "java/util/HashMap" "entrySet") ∈ lw_all := lw_g (lw_at lw_m7 10 rfl) rfl
theorem q1843 : (Jvm.Cond.lays "java/util/HashMap" "java/util/HashMap" "size" "I") ∈ lw_all := lw_g (lw_at lw_m7 11 rfl) rfl
theorem q1844 : (Jvm.Cond.soleField "java/util/HashMap" "size") ∈ lw_all := lw_g (lw_at lw_m7 12 rfl) rfl
theorem q1845 : (Jvm.Cond.lays "java/util/HashMap" "java/util/HashMap" "modCount" "I") ∈ lw_all := lw_g (lw_at lw_m7 13 rfl) rfl
theorem q1846 : (Jvm.Cond.soleField "java/util/HashMap" "modCount") ∈ lw_all := lw_g (lw_at lw_m7 14 rfl) rfl
theorem q1847 : (Jvm.Cond.lays "java/util/HashMap" "java/util/HashMap" "threshold" "I") ∈ lw_all := lw_g (lw_at lw_m7 15 rfl) rfl
theorem q1848 : (Jvm.Cond.soleField "java/util/HashMap" "threshold") ∈ lw_all := lw_g (lw_at lw_m7 16 rfl) rfl
theorem q1849 : (Jvm.Cond.laysFinal "java/util/HashMap" "java/util/HashMap" "loadFactor" "F") ∈ lw_all := lw_g (lw_at lw_m7 17 rfl) rfl
theorem q1850 : (Jvm.Cond.soleField "java/util/HashMap" "loadFactor") ∈ lw_all := lw_g (lw_at lw_m7 18 rfl) rfl
theorem q1851 : (Jvm.Cond.lays "java/util/HashMap" "java/util/AbstractMap" "keySet" "Ljava/util/Set;") ∈ lw_all := lw_g (lw_at lw_m7 19 rfl) rfl
theorem q1852 : (Jvm.Cond.lays "java/util/HashMap" "java/util/AbstractMap" "values" "Ljava/util/Collection;") ∈ lw_all := lw_g (lw_at lw_m7 20 rfl) rfl
theorem q1853 : (Jvm.Cond.superclass "java/util/HashMap" "java/util/AbstractMap") ∈ lw_all := lw_g (lw_at lw_m7 21 rfl) rfl
theorem q2048 : (Jvm.Cond.selects "java/util/HashMap" ({ cls := "java/lang/Object", name := "getClass", desc := "()Ljava/lang/Class;" } : Jvm.MethodName) ({ cls := "java/lang/Object", name := "getClass", desc := "()Ljava/lang/Class;" } : Jvm.MethodName)) ∈ lw_all := lw_g (lw_at lw_m7 216 rfl) rfl
theorem q3585 : (Jvm.Cond.instanceMethod ({ cls := "java/util/HashMap", name := "put", desc := "(Ljava/lang/Object;Ljava/lang/Object;)Ljava/lang/Object;" } : Jvm.MethodName)) ∈ lw_all := lw_g (lw_at lw_m14 73 rfl) rfl
theorem q3586 : (Jvm.Cond.selects "java/util/HashMap" ({ cls := "java/util/HashMap", name := "put", desc := "(Ljava/lang/Object;Ljava/lang/Object;)Ljava/lang/Object;" } : Jvm.MethodName) ({ cls := "java/util/HashMap", name := "put", desc := "(Ljava/lang/Object;Ljava/lang/Object;)Ljava/lang/Object;" } : Jvm.MethodName)) ∈ lw_all := lw_g (lw_at lw_m14 74 rfl) rfl
theorem q3587 : (Jvm.Cond.code ({ cls := "java/util/HashMap", name := "put", desc := "(Ljava/lang/Object;Ljava/lang/Object;)Ljava/lang/Object;" } : Jvm.MethodName) prog_109_method_15_code (3 : Nat) (Option.some (Jvm.ClassFile.FieldType.object "java/lang/Object"))) ∈ lw_all := lw_g (lw_at lw_m14 75 rfl) rfl
theorem q3588 : (Jvm.Cond.methodLink "java/util/HashMap" (149 : Nat) ({ cls := "java/util/HashMap", name := "hash", desc := "(Ljava/lang/Object;)I" } : Jvm.MethodName)) ∈ lw_all := lw_g (lw_at lw_m14 76 rfl) rfl
theorem q3589 : (Jvm.Cond.static ({ cls := "java/util/HashMap", name := "hash", desc := "(Ljava/lang/Object;)I" } : Jvm.MethodName)) ∈ lw_all := lw_g (lw_at lw_m14 77 rfl) rfl
theorem q3590 : (Jvm.Cond.code ({ cls := "java/util/HashMap", name := "hash", desc := "(Ljava/lang/Object;)I" } : Jvm.MethodName) prog_109_method_1_code (2 : Nat) (Option.some Jvm.ClassFile.FieldType.int)) ∈ lw_all := lw_g (lw_at lw_m14 78 rfl) rfl
theorem q3592 : (Jvm.Cond.methodLink "java/util/HashMap" (1 : Nat) ({ cls := "java/lang/Object", name := "hashCode", desc := "()I" } : Jvm.MethodName)) ∈ lw_all := lw_g (lw_at lw_m14 80 rfl) rfl
theorem q3737 : (Jvm.Cond.methodLink "java/util/HashMap" (152 : Nat) ({ cls := "java/util/HashMap", name := "putVal", desc := "(ILjava/lang/Object;Ljava/lang/Object;ZZ)Ljava/lang/Object;" } : Jvm.MethodName)) ∈ lw_all := lw_g (lw_at lw_m14 225 rfl) rfl
theorem q3738 : (Jvm.Cond.instanceMethod ({ cls := "java/util/HashMap", name := "putVal", desc := "(ILjava/lang/Object;Ljava/lang/Object;ZZ)Ljava/lang/Object;" } : Jvm.MethodName)) ∈ lw_all := lw_g (lw_at lw_m14 226 rfl) rfl
theorem q3739 : (Jvm.Cond.selects "java/util/HashMap" ({ cls := "java/util/HashMap", name := "putVal", desc := "(ILjava/lang/Object;Ljava/lang/Object;ZZ)Ljava/lang/Object;" } : Jvm.MethodName) ({ cls := "java/util/HashMap", name := "putVal", desc := "(ILjava/lang/Object;Ljava/lang/Object;ZZ)Ljava/lang/Object;" } : Jvm.MethodName)) ∈ lw_all := lw_g (lw_at lw_m14 227 rfl) rfl
theorem q3740 : (Jvm.Cond.code ({ cls := "java/util/HashMap", name := "putVal", desc := "(ILjava/lang/Object;Ljava/lang/Object;ZZ)Ljava/lang/Object;" } : Jvm.MethodName) prog_109_method_16_code (13 : Nat) (Option.some (Jvm.ClassFile.FieldType.object "java/lang/Object"))) ∈ lw_all := lw_g (lw_at lw_m14 228 rfl) rfl
theorem q3741 : (Jvm.Cond.methodLink "java/util/HashMap" (117 : Nat) ({ cls := "java/util/HashMap", name := "resize", desc := "()[Ljava/util/HashMap$Node;" } : Jvm.MethodName)) ∈ lw_all := lw_g (lw_at lw_m14 229 rfl) rfl
theorem q3742 : (Jvm.Cond.instanceMethod ({ cls := "java/util/HashMap", name := "resize", desc := "()[Ljava/util/HashMap$Node;" } : Jvm.MethodName)) ∈ lw_all := lw_g (lw_at lw_m14 230 rfl) rfl
theorem q3743 : (Jvm.Cond.selects "java/util/HashMap" ({ cls := "java/util/HashMap", name := "resize", desc := "()[Ljava/util/HashMap$Node;" } : Jvm.MethodName) ({ cls := "java/util/HashMap", name := "resize", desc := "()[Ljava/util/HashMap$Node;" } : Jvm.MethodName)) ∈ lw_all := lw_g (lw_at lw_m14 231 rfl) rfl
theorem q3744 : (Jvm.Cond.code ({ cls := "java/util/HashMap", name := "resize", desc := "()[Ljava/util/HashMap$Node;" } : Jvm.MethodName) prog_109_method_17_code (14 : Nat) (Option.some (Jvm.ClassFile.FieldType.array (Jvm.ClassFile.FieldType.object "java/util/HashMap$Node")))) ∈ lw_all := lw_g (lw_at lw_m14 232 rfl) rfl
theorem q3745 : (Jvm.Cond.constant "java/util/HashMap" (42 : Nat) (1073741824 : Int32)) ∈ lw_all := lw_g (lw_at lw_m14 233 rfl) rfl
theorem q3746 : (Jvm.Cond.constant "java/util/HashMap" (209 : Nat) (2147483647 : Int32)) ∈ lw_all := lw_g (lw_at lw_m14 234 rfl) rfl
theorem q3747 : (Jvm.Cond.constantFloat "java/util/HashMap" (210 : Nat) (1317011456 : UInt32)) ∈ lw_all := lw_g (lw_at lw_m14 235 rfl) rfl
theorem q3748 : (Jvm.Cond.classLink "java/util/HashMap" (163 : Nat) "java/util/HashMap$Node") ∈ lw_all := lw_g (lw_at lw_m14 236 rfl) rfl
theorem q3750 : (Jvm.Cond.classLink "java/util/HashMap" (180 : Nat) "java/util/HashMap$TreeNode") ∈ lw_all := lw_g (lw_at lw_m14 238 rfl) rfl
theorem q3751 : (Jvm.Cond.methodLink "java/util/HashMap" (211 : Nat) ({ cls := "java/util/HashMap$TreeNode", name := "split", desc := "(Ljava/util/HashMap;[Ljava/util/HashMap$Node;II)V" } : Jvm.MethodName)) ∈ lw_all := lw_g (lw_at lw_m14 239 rfl) rfl
theorem q3761 : (Jvm.Cond.instanceMethod ({ cls := "java/util/HashMap", name := "replacementNode", desc := "(Ljava/util/HashMap$Node;Ljava/util/HashMap$Node;)Ljava/util/HashMap$Node;" } : Jvm.MethodName)) ∈ lw_all := lw_g (lw_at lw_m15 9 rfl) rfl
theorem q3762 : (Jvm.Cond.selects "java/util/HashMap" ({ cls := "java/util/HashMap", name := "replacementNode", desc := "(Ljava/util/HashMap$Node;Ljava/util/HashMap$Node;)Ljava/util/HashMap$Node;" } : Jvm.MethodName) ({ cls := "java/util/HashMap", name := "replacementNode", desc := "(Ljava/util/HashMap$Node;Ljava/util/HashMap$Node;)Ljava/util/HashMap$Node;" } : Jvm.MethodName)) ∈ lw_all := lw_g (lw_at lw_m15 10 rfl) rfl
theorem q3763 : (Jvm.Cond.code ({ cls := "java/util/HashMap", name := "replacementNode", desc := "(Ljava/util/HashMap$Node;Ljava/util/HashMap$Node;)Ljava/util/HashMap$Node;" } : Jvm.MethodName) prog_109_method_47_code (3 : Nat) (Option.some (Jvm.ClassFile.FieldType.object "java/util/HashMap$Node"))) ∈ lw_all := lw_g (lw_at lw_m15 11 rfl) rfl
theorem q3765 : (Jvm.Cond.methodLink "java/util/HashMap" (375 : Nat) ({ cls := "java/util/HashMap$Node", name := "<init>", desc := "(ILjava/lang/Object;Ljava/lang/Object;Ljava/util/HashMap$Node;)V" } : Jvm.MethodName)) ∈ lw_all := lw_g (lw_at lw_m15 13 rfl) rfl
theorem q3773 : (Jvm.Cond.fieldLink "java/util/HashMap" (168 : Nat) "java/util/HashMap$Node" "hash" "I") ∈ lw_all := lw_g (lw_at lw_m15 21 rfl) rfl
theorem q3779 : (Jvm.Cond.fieldLink "java/util/HashMap" (170 : Nat) "java/util/HashMap$Node" "key" "Ljava/lang/Object;") ∈ lw_all := lw_g (lw_at lw_m15 27 rfl) rfl
theorem q3781 : (Jvm.Cond.fieldLink "java/util/HashMap" (162 : Nat) "java/util/HashMap$Node" "value" "Ljava/lang/Object;") ∈ lw_all := lw_g (lw_at lw_m15 29 rfl) rfl
theorem q3787 : (Jvm.Cond.fieldLink "java/util/HashMap" (177 : Nat) "java/util/HashMap$Node" "next" "Ljava/util/HashMap$Node;") ∈ lw_all := lw_g (lw_at lw_m15 35 rfl) rfl
theorem q3788 : (Jvm.Cond.fieldLink "java/util/HashMap" (223 : Nat) "java/util/HashMap$TreeNode" "next" "Ljava/util/HashMap$Node;") ∈ lw_all := lw_g (lw_at lw_m15 36 rfl) rfl
theorem q3803 : (Jvm.Cond.static ({ cls := "java/util/HashMap", name := "comparableClassFor", desc := "(Ljava/lang/Object;)Ljava/lang/Class;" } : Jvm.MethodName)) ∈ lw_all := lw_g (lw_at lw_m15 51 rfl) rfl
theorem q3804 : (Jvm.Cond.code ({ cls := "java/util/HashMap", name := "comparableClassFor", desc := "(Ljava/lang/Object;)Ljava/lang/Class;" } : Jvm.MethodName) prog_109_method_2_code (9 : Nat) (Option.some (Jvm.ClassFile.FieldType.object "java/lang/Class"))) ∈ lw_all := lw_g (lw_at lw_m15 52 rfl) rfl
theorem q3805 : (Jvm.Cond.classLink "java/util/HashMap" (7 : Nat) "java/lang/Comparable") ∈ lw_all := lw_g (lw_at lw_m15 53 rfl) rfl
theorem q3806 : (Jvm.Cond.methodLink "java/util/HashMap" (9 : Nat) ({ cls := "java/lang/Object", name := "getClass", desc := "()Ljava/lang/Class;" } : Jvm.MethodName)) ∈ lw_all := lw_g (lw_at lw_m15 54 rfl) rfl
theorem q3807 : (Jvm.Cond.classLink "java/util/HashMap" (13 : Nat) "java/lang/String") ∈ lw_all := lw_g (lw_at lw_m15 55 rfl) rfl
theorem q3809 : (Jvm.Cond.static ({ cls := "java/util/HashMap", name := "compareComparables", desc := "(Ljava/lang/Class;Ljava/lang/Object;Ljava/lang/Object;)I" } : Jvm.MethodName)) ∈ lw_all := lw_g (lw_at lw_m15 57 rfl) rfl
theorem q3810 : (Jvm.Cond.code ({ cls := "java/util/HashMap", name := "compareComparables", desc := "(Ljava/lang/Class;Ljava/lang/Object;Ljava/lang/Object;)I" } : Jvm.MethodName) prog_109_method_3_code (3 : Nat) (Option.some Jvm.ClassFile.FieldType.int)) ∈ lw_all := lw_g (lw_at lw_m15 58 rfl) rfl
theorem q3811 : (Jvm.Cond.interfaceEntry "java/util/HashMap" (30 : Nat)) ∈ lw_tbl := lw_at lw_m15 59 rfl
theorem q3812 : (Jvm.Cond.methodLink "java/util/HashMap" (30 : Nat) ({ cls := "java/lang/Comparable", name := "compareTo", desc := "(Ljava/lang/Object;)I" } : Jvm.MethodName)) ∈ lw_all := lw_g (lw_at lw_m15 60 rfl) rfl
theorem q4053 : (Jvm.Cond.methodLink "java/util/HashMap" (186 : Nat) ({ cls := "java/util/HashMap", name := "newNode", desc := "(ILjava/lang/Object;Ljava/lang/Object;Ljava/util/HashMap$Node;)Ljava/util/HashMap$Node;" } : Jvm.MethodName)) ∈ lw_all := lw_g (lw_at lw_m16 61 rfl) rfl
theorem q4054 : (Jvm.Cond.instanceMethod ({ cls := "java/util/HashMap", name := "newNode", desc := "(ILjava/lang/Object;Ljava/lang/Object;Ljava/util/HashMap$Node;)Ljava/util/HashMap$Node;" } : Jvm.MethodName)) ∈ lw_all := lw_g (lw_at lw_m16 62 rfl) rfl
theorem q4055 : (Jvm.Cond.selects "java/util/HashMap" ({ cls := "java/util/HashMap", name := "newNode", desc := "(ILjava/lang/Object;Ljava/lang/Object;Ljava/util/HashMap$Node;)Ljava/util/HashMap$Node;" } : Jvm.MethodName) ({ cls := "java/util/HashMap", name := "newNode", desc := "(ILjava/lang/Object;Ljava/lang/Object;Ljava/util/HashMap$Node;)Ljava/util/HashMap$Node;" } : Jvm.MethodName)) ∈ lw_all := lw_g (lw_at lw_m16 63 rfl) rfl
theorem q4056 : (Jvm.Cond.code ({ cls := "java/util/HashMap", name := "newNode", desc := "(ILjava/lang/Object;Ljava/lang/Object;Ljava/util/HashMap$Node;)Ljava/util/HashMap$Node;" } : Jvm.MethodName) prog_109_method_46_code (5 : Nat) (Option.some (Jvm.ClassFile.FieldType.object "java/util/HashMap$Node"))) ∈ lw_all := lw_g (lw_at lw_m16 64 rfl) rfl
theorem q4057 : (Jvm.Cond.methodLink "java/util/HashMap" (173 : Nat) ({ cls := "java/lang/Object", name := "equals", desc := "(Ljava/lang/Object;)Z" } : Jvm.MethodName)) ∈ lw_all := lw_g (lw_at lw_m16 65 rfl) rfl
theorem q4058 : (Jvm.Cond.methodLink "java/util/HashMap" (190 : Nat) ({ cls := "java/util/HashMap$TreeNode", name := "putTreeVal", desc := "(Ljava/util/HashMap;[Ljava/util/HashMap$Node;ILjava/lang/Object;Ljava/lang/Object;)Ljava/util/HashMap$TreeNode;" } : Jvm.MethodName)) ∈ lw_all := lw_g (lw_at lw_m16 66 rfl) rfl
theorem q4072 : (Jvm.Cond.instanceMethod ({ cls := "java/util/HashMap", name := "newTreeNode", desc := "(ILjava/lang/Object;Ljava/lang/Object;Ljava/util/HashMap$Node;)Ljava/util/HashMap$TreeNode;" } : Jvm.MethodName)) ∈ lw_all := lw_g (lw_at lw_m16 80 rfl) rfl
theorem q4073 : (Jvm.Cond.selects "java/util/HashMap" ({ cls := "java/util/HashMap", name := "newTreeNode", desc := "(ILjava/lang/Object;Ljava/lang/Object;Ljava/util/HashMap$Node;)Ljava/util/HashMap$TreeNode;" } : Jvm.MethodName) ({ cls := "java/util/HashMap", name := "newTreeNode", desc := "(ILjava/lang/Object;Ljava/lang/Object;Ljava/util/HashMap$Node;)Ljava/util/HashMap$TreeNode;" } : Jvm.MethodName)) ∈ lw_all := lw_g (lw_at lw_m16 81 rfl) rfl
theorem q4074 : (Jvm.Cond.code ({ cls := "java/util/HashMap", name := "newTreeNode", desc := "(ILjava/lang/Object;Ljava/lang/Object;Ljava/util/HashMap$Node;)Ljava/util/HashMap$TreeNode;" } : Jvm.MethodName) prog_109_method_48_code (5 : Nat) (Option.some (Jvm.ClassFile.FieldType.object "java/util/HashMap$TreeNode"))) ∈ lw_all := lw_g (lw_at lw_m16 82 rfl) rfl
theorem q4076 : (Jvm.Cond.methodLink "java/util/HashMap" (378 : Nat) ({ cls := "java/util/HashMap$TreeNode", name := "<init>", desc := "(ILjava/lang/Object;Ljava/lang/Object;Ljava/util/HashMap$Node;)V" } : Jvm.MethodName)) ∈ lw_all := lw_g (lw_at lw_m16 84 rfl) rfl
theorem q4087 : (Jvm.Cond.fieldLink "java/util/HashMap" (219 : Nat) "java/util/HashMap$TreeNode" "prev" "Ljava/util/HashMap$TreeNode;") ∈ lw_all := lw_g (lw_at lw_m16 95 rfl) rfl
theorem q4108 : (Jvm.Cond.methodLink "java/util/HashMap" (194 : Nat) ({ cls := "java/util/HashMap", name := "treeifyBin", desc := "([Ljava/util/HashMap$Node;I)V" } : Jvm.MethodName)) ∈ lw_all := lw_g (lw_at lw_m16 116 rfl) rfl
theorem q4109 : (Jvm.Cond.instanceMethod ({ cls := "java/util/HashMap", name := "treeifyBin", desc := "([Ljava/util/HashMap$Node;I)V" } : Jvm.MethodName)) ∈ lw_all := lw_g (lw_at lw_m16 117 rfl) rfl
theorem q4110 : (Jvm.Cond.selects "java/util/HashMap" ({ cls := "java/util/HashMap", name := "treeifyBin", desc := "([Ljava/util/HashMap$Node;I)V" } : Jvm.MethodName) ({ cls := "java/util/HashMap", name := "treeifyBin", desc := "([Ljava/util/HashMap$Node;I)V" } : Jvm.MethodName)) ∈ lw_all := lw_g (lw_at lw_m16 118 rfl) rfl
theorem q4111 : (Jvm.Cond.code ({ cls := "java/util/HashMap", name := "treeifyBin", desc := "([Ljava/util/HashMap$Node;I)V" } : Jvm.MethodName) prog_109_method_18_code (9 : Nat) (Option.none : Option Jvm.ClassFile.FieldType)) ∈ lw_all := lw_g (lw_at lw_m16 119 rfl) rfl
theorem q4112 : (Jvm.Cond.methodLink "java/util/HashMap" (215 : Nat) ({ cls := "java/util/HashMap", name := "replacementTreeNode", desc := "(Ljava/util/HashMap$Node;Ljava/util/HashMap$Node;)Ljava/util/HashMap$TreeNode;" } : Jvm.MethodName)) ∈ lw_all := lw_g (lw_at lw_m16 120 rfl) rfl
theorem q4113 : (Jvm.Cond.instanceMethod ({ cls := "java/util/HashMap", name := "replacementTreeNode", desc := "(Ljava/util/HashMap$Node;Ljava/util/HashMap$Node;)Ljava/util/HashMap$TreeNode;" } : Jvm.MethodName)) ∈ lw_all := lw_g (lw_at lw_m16 121 rfl) rfl
theorem q4114 : (Jvm.Cond.selects "java/util/HashMap" ({ cls := "java/util/HashMap", name := "replacementTreeNode", desc := "(Ljava/util/HashMap$Node;Ljava/util/HashMap$Node;)Ljava/util/HashMap$TreeNode;" } : Jvm.MethodName) ({ cls := "java/util/HashMap", name := "replacementTreeNode", desc := "(Ljava/util/HashMap$Node;Ljava/util/HashMap$Node;)Ljava/util/HashMap$TreeNode;" } : Jvm.MethodName)) ∈ lw_all := lw_g (lw_at lw_m16 122 rfl) rfl
theorem q4115 : (Jvm.Cond.code ({ cls := "java/util/HashMap", name := "replacementTreeNode", desc := "(Ljava/util/HashMap$Node;Ljava/util/HashMap$Node;)Ljava/util/HashMap$TreeNode;" } : Jvm.MethodName) prog_109_method_49_code (3 : Nat) (Option.some (Jvm.ClassFile.FieldType.object "java/util/HashMap$TreeNode"))) ∈ lw_all := lw_g (lw_at lw_m16 123 rfl) rfl
theorem q4116 : (Jvm.Cond.methodLink "java/util/HashMap" (224 : Nat) ({ cls := "java/util/HashMap$TreeNode", name := "treeify", desc := "([Ljava/util/HashMap$Node;)V" } : Jvm.MethodName)) ∈ lw_all := lw_g (lw_at lw_m16 124 rfl) rfl
theorem q4117 : (Jvm.Cond.methodLink "java/util/HashMap" (198 : Nat) ({ cls := "java/util/HashMap", name := "afterNodeAccess", desc := "(Ljava/util/HashMap$Node;)V" } : Jvm.MethodName)) ∈ lw_all := lw_g (lw_at lw_m16 125 rfl) rfl
theorem q4118 : (Jvm.Cond.instanceMethod ({ cls := "java/util/HashMap", name := "afterNodeAccess", desc := "(Ljava/util/HashMap$Node;)V" } : Jvm.MethodName)) ∈ lw_all := lw_g (lw_at lw_m16 126 rfl) rfl
theorem q4119 : (Jvm.Cond.selects "java/util/HashMap" ({ cls := "java/util/HashMap", name := "afterNodeAccess", desc := "(Ljava/util/HashMap$Node;)V" } : Jvm.MethodName) ({ cls := "java/util/HashMap", name := "afterNodeAccess", desc := "(Ljava/util/HashMap$Node;)V" } : Jvm.MethodName)) ∈ lw_all := lw_g (lw_at lw_m16 127 rfl) rfl
theorem q4120 : (Jvm.Cond.code ({ cls := "java/util/HashMap", name := "afterNodeAccess", desc := "(Ljava/util/HashMap$Node;)V" } : Jvm.MethodName) prog_109_method_51_code (2 : Nat) (Option.none : Option Jvm.ClassFile.FieldType)) ∈ lw_all := lw_g (lw_at lw_m16 128 rfl) rfl
theorem q4121 : (Jvm.Cond.methodLink "java/util/HashMap" (205 : Nat) ({ cls := "java/util/HashMap", name := "afterNodeInsertion", desc := "(Z)V" } : Jvm.MethodName)) ∈ lw_all := lw_g (lw_at lw_m16 129 rfl) rfl
theorem q4122 : (Jvm.Cond.instanceMethod ({ cls := "java/util/HashMap", name := "afterNodeInsertion", desc := "(Z)V" } : Jvm.MethodName)) ∈ lw_all := lw_g (lw_at lw_m16 130 rfl) rfl
theorem q4123 : (Jvm.Cond.selects "java/util/HashMap" ({ cls := "java/util/HashMap", name := "afterNodeInsertion", desc := "(Z)V" } : Jvm.MethodName) ({ cls := "java/util/HashMap", name := "afterNodeInsertion", desc := "(Z)V" } : Jvm.MethodName)) ∈ lw_all := lw_g (lw_at lw_m16 131 rfl) rfl
theorem q4124 : (Jvm.Cond.code ({ cls := "java/util/HashMap", name := "afterNodeInsertion", desc := "(Z)V" } : Jvm.MethodName) prog_109_method_52_code (2 : Nat) (Option.none : Option Jvm.ClassFile.FieldType)) ∈ lw_all := lw_g (lw_at lw_m16 132 rfl) rfl
theorem q4431 : (Jvm.Cond.instanceMethod ({ cls := "java/util/HashMap", name := "keySet", desc := "()Ljava/util/Set;" } : Jvm.MethodName)) ∈ lw_all := lw_g (lw_at lw_m17 199 rfl) rfl
theorem q4432 : (Jvm.Cond.selects "java/util/HashMap" ({ cls := "java/util/HashMap", name := "keySet", desc := "()Ljava/util/Set;" } : Jvm.MethodName) ({ cls := "java/util/HashMap", name := "keySet", desc := "()Ljava/util/Set;" } : Jvm.MethodName)) ∈ lw_all := lw_g (lw_at lw_m17 200 rfl) rfl
theorem q4433 : (Jvm.Cond.code ({ cls := "java/util/HashMap", name := "keySet", desc := "()Ljava/util/Set;" } : Jvm.MethodName) prog_109_method_24_code (2 : Nat) (Option.some (Jvm.ClassFile.FieldType.object "java/util/Set"))) ∈ lw_all := lw_g (lw_at lw_m17 201 rfl) rfl
theorem q4434 : (Jvm.Cond.classLink "java/util/HashMap" (243 : Nat) "java/util/HashMap$KeySet") ∈ lw_all := lw_g (lw_at lw_m17 202 rfl) rfl
theorem q4436 : (Jvm.Cond.methodLink "java/util/HashMap" (245 : Nat) ({ cls := "java/util/HashMap$KeySet", name := "<init>", desc := "(Ljava/util/HashMap;)V" } : Jvm.MethodName)) ∈ lw_all := lw_g (lw_at lw_m17 204 rfl) rfl
theorem q4619 : (Jvm.Cond.instanceMethod ({ cls := "java/util/HashMap", name := "removeNode", desc := "(ILjava/lang/Object;Ljava/lang/Object;ZZ)Ljava/util/HashMap$Node;" } : Jvm.MethodName)) ∈ lw_all := lw_g (lw_at lw_m18 147 rfl) rfl
theorem q4620 : (Jvm.Cond.selects "java/util/HashMap" ({ cls := "java/util/HashMap", name := "removeNode", desc := "(ILjava/lang/Object;Ljava/lang/Object;ZZ)Ljava/util/HashMap$Node;" } : Jvm.MethodName) ({ cls := "java/util/HashMap", name := "removeNode", desc := "(ILjava/lang/Object;Ljava/lang/Object;ZZ)Ljava/util/HashMap$Node;" } : Jvm.MethodName)) ∈ lw_all := lw_g (lw_at lw_m18 148 rfl) rfl
theorem q4621 : (Jvm.Cond.code ({ cls := "java/util/HashMap", name := "removeNode", desc := "(ILjava/lang/Object;Ljava/lang/Object;ZZ)Ljava/util/HashMap$Node;" } : Jvm.MethodName) prog_109_method_21_code (14 : Nat) (Option.some (Jvm.ClassFile.FieldType.object "java/util/HashMap$Node"))) ∈ lw_all := lw_g (lw_at lw_m18 149 rfl) rfl
theorem q4622 : (Jvm.Cond.methodLink "java/util/HashMap" (182 : Nat) ({ cls := "java/util/HashMap$TreeNode", name := "getTreeNode", desc := "(ILjava/lang/Object;)Ljava/util/HashMap$TreeNode;" } : Jvm.MethodName)) ∈ lw_all := lw_g (lw_at lw_m18 150 rfl) rfl
theorem q4626 : (Jvm.Cond.methodLink "java/util/HashMap" (232 : Nat) ({ cls := "java/util/HashMap$TreeNode", name := "removeTreeNode", desc := "(Ljava/util/HashMap;[Ljava/util/HashMap$Node;Z)V" } : Jvm.MethodName)) ∈ lw_all := lw_g (lw_at lw_m18 154 rfl) rfl
theorem q4633 : (Jvm.Cond.methodLink "java/util/HashMap" (236 : Nat) ({ cls := "java/util/HashMap", name := "afterNodeRemoval", desc := "(Ljava/util/HashMap$Node;)V" } : Jvm.MethodName)) ∈ lw_all := lw_g (lw_at lw_m18 161 rfl) rfl
theorem q4634 : (Jvm.Cond.instanceMethod ({ cls := "java/util/HashMap", name := "afterNodeRemoval", desc := "(Ljava/util/HashMap$Node;)V" } : Jvm.MethodName)) ∈ lw_all := lw_g (lw_at lw_m18 162 rfl) rfl
theorem q4635 : (Jvm.Cond.selects "java/util/HashMap" ({ cls := "java/util/HashMap", name := "afterNodeRemoval", desc := "(Ljava/util/HashMap$Node;)V" } : Jvm.MethodName) ({ cls := "java/util/HashMap", name := "afterNodeRemoval", desc := "(Ljava/util/HashMap$Node;)V" } : Jvm.MethodName)) ∈ lw_all := lw_g (lw_at lw_m18 163 rfl) rfl
theorem q4636 : (Jvm.Cond.code ({ cls := "java/util/HashMap", name := "afterNodeRemoval", desc := "(Ljava/util/HashMap$Node;)V" } : Jvm.MethodName) prog_109_method_53_code (2 : Nat) (Option.none : Option Jvm.ClassFile.FieldType)) ∈ lw_all := lw_g (lw_at lw_m18 164 rfl) rfl
theorem q9659 : (Jvm.Cond.castable "java/util/HashMap" "java/lang/Object") ∈ lw_tbl := lw_at lw_m39 147 rfl
theorem in_J10 : ∀ w ∈ wsJ100, w ∈ lw_all := lw_in wsJ100 [1851, 1852, 1839, 1841, 1843, 1845, 1847, 1849] (by decide +kernel) (by decide +kernel)
