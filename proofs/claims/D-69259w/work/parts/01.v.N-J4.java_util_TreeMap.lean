/-! java/util/TreeMap -/
set_option maxRecDepth 100000
def RJ4 : String := "java/util/TreeMap"
def TJ4 : u_T := fun k => match k with
  | 0 => ("java/util/AbstractMap", "keySet", "Ljava/util/Set;", false)
  | 1 => ("java/util/AbstractMap", "values", "Ljava/util/Collection;", false)
  | 2 => ("java/util/TreeMap", "comparator", "Ljava/util/Comparator;", true)
  | 3 => ("java/util/TreeMap", "root", "Ljava/util/TreeMap$Entry;", false)
  | 4 => ("java/util/TreeMap", "size", "I", false)
  | 5 => ("java/util/TreeMap", "modCount", "I", false)
  | 6 => ("java/util/TreeMap", "entrySet", "Ljava/util/TreeMap$EntrySet;", false)
  | 7 => ("java/util/TreeMap", "navigableKeySet", "Ljava/util/TreeMap$KeySet;", false)
  | _ => ("java/util/TreeMap", "descendingMap", "Ljava/util/NavigableMap;", false)
def tyJ4 : Nat → FieldType := fun k => match k with
  | 0 => .object "java/util/Set"
  | 1 => .object "java/util/Collection"
  | 2 => .object "java/util/Comparator"
  | 3 => .object "java/util/TreeMap$Entry"
  | 4 => .int
  | 5 => .int
  | 6 => .object "java/util/TreeMap$EntrySet"
  | 7 => .object "java/util/TreeMap$KeySet"
  | _ => .object "java/util/NavigableMap"
abbrev wsJ40 : List Cond := u_ws RJ4 TJ4 9
theorem nmJ4 : ∀ a, a < 9 → ∀ b, b < 9 → a ≠ b → (TJ4 a).2.1 ≠ (TJ4 b).2.1 := by decide +kernel
theorem tyJ4_ok : ∀ k, k < 9 → parseFieldDescriptor (TJ4 k).2.2.1 = some (tyJ4 k) := by decide +kernel
abbrev cJ4_init : ByteArray := prog_129_method_1_code
def yJ4_init : MethodName := ⟨RJ4, "<init>", "()V"⟩
def dkwJ4_init_0 : List UInt8 := [42, 183, 0, 1, 42, 3, 181, 0, 7, 42, 3, 181, 0, 13, 42, 1, 181, 0, 16, 177]
abbrev dktJ4_init_0 : List UInt8 := dkwJ4_init_0 ++ []
theorem dksJ4_init_0 : cJ4_init.data.toList.drop 0 = dktJ4_init_0 := by decide +kernel
theorem dJ4_init_0 : decode cJ4_init 0 = .ok (.aload_n 0, 1) := dk_42 (dk_at dksJ4_init_0 0 rfl rfl)
theorem dJ4_init_1 : decode cJ4_init 1 = .ok (.invokespecial 1, 3) := dk_183 0 1 (dk_at dksJ4_init_0 1 rfl rfl)
theorem dJ4_init_4 : decode cJ4_init 4 = .ok (.aload_n 0, 1) := dk_42 (dk_at dksJ4_init_0 4 rfl rfl)
theorem dJ4_init_5 : decode cJ4_init 5 = .ok (.iconst 0, 1) := dk_3 (dk_at dksJ4_init_0 5 rfl rfl)
theorem dJ4_init_6 : decode cJ4_init 6 = .ok (.putfield 7, 3) := dk_181 0 7 (dk_at dksJ4_init_0 6 rfl rfl)
theorem dJ4_init_9 : decode cJ4_init 9 = .ok (.aload_n 0, 1) := dk_42 (dk_at dksJ4_init_0 9 rfl rfl)
theorem dJ4_init_10 : decode cJ4_init 10 = .ok (.iconst 0, 1) := dk_3 (dk_at dksJ4_init_0 10 rfl rfl)
theorem dJ4_init_11 : decode cJ4_init 11 = .ok (.putfield 13, 3) := dk_181 0 13 (dk_at dksJ4_init_0 11 rfl rfl)
theorem dJ4_init_14 : decode cJ4_init 14 = .ok (.aload_n 0, 1) := dk_42 (dk_at dksJ4_init_0 14 rfl rfl)
theorem dJ4_init_15 : decode cJ4_init 15 = .ok (.aconst_null, 1) := dk_1 (dk_at dksJ4_init_0 15 rfl rfl)
theorem dJ4_init_16 : decode cJ4_init 16 = .ok (.putfield 16, 3) := dk_181 0 16 (dk_at dksJ4_init_0 16 rfl rfl)
theorem dJ4_init_19 : decode cJ4_init 19 = .ok (.return_, 1) := dk_177 (dk_at dksJ4_init_0 19 rfl rfl)
abbrev cJ4_successor : ByteArray := prog_129_method_74_code
def yJ4_successor : MethodName := ⟨RJ4, "successor", "(Ljava/util/TreeMap$Entry;)Ljava/util/TreeMap$Entry;"⟩
def dkwJ4_successor_2 : List UInt8 := [44, 43, 180, 0, 114, 166, 0, 13, 43, 77, 43, 180, 0, 124, 76, 167, 255, 237, 43, 176]
abbrev dktJ4_successor_2 : List UInt8 := dkwJ4_successor_2 ++ []
def dkwJ4_successor_1 : List UInt8 := [198, 0, 11, 43, 180, 0, 111, 76, 167, 255, 244, 43, 176, 42, 180, 0, 124, 76, 42, 77, 43, 198, 0, 21]
abbrev dktJ4_successor_1 : List UInt8 := dkwJ4_successor_1 ++ dktJ4_successor_2
def dkwJ4_successor_0 : List UInt8 := [42, 199, 0, 5, 1, 176, 42, 180, 0, 114, 198, 0, 25, 42, 180, 0, 114, 76, 43, 180, 0, 111]
abbrev dktJ4_successor_0 : List UInt8 := dkwJ4_successor_0 ++ dktJ4_successor_1
theorem dksJ4_successor_0 : cJ4_successor.data.toList.drop 0 = dktJ4_successor_0 := by decide +kernel
theorem dksJ4_successor_1 : cJ4_successor.data.toList.drop 22 = dktJ4_successor_1 := dk_seg dksJ4_successor_0 22 rfl rfl
theorem dksJ4_successor_2 : cJ4_successor.data.toList.drop 46 = dktJ4_successor_2 := dk_seg dksJ4_successor_1 24 rfl rfl
theorem dJ4_successor_0 : decode cJ4_successor 0 = .ok (.aload_n 0, 1) := dk_42 (dk_at dksJ4_successor_0 0 rfl rfl)
theorem dJ4_successor_1 : decode cJ4_successor 1 = .ok (.ifnonnull 5, 3) := dk_199 0 5 (dk_at dksJ4_successor_0 1 rfl rfl)
theorem dJ4_successor_4 : decode cJ4_successor 4 = .ok (.aconst_null, 1) := dk_1 (dk_at dksJ4_successor_0 4 rfl rfl)
theorem dJ4_successor_5 : decode cJ4_successor 5 = .ok (.areturn, 1) := dk_176 (dk_at dksJ4_successor_0 5 rfl rfl)
theorem dJ4_successor_6 : decode cJ4_successor 6 = .ok (.aload_n 0, 1) := dk_42 (dk_at dksJ4_successor_0 6 rfl rfl)
theorem dJ4_successor_7 : decode cJ4_successor 7 = .ok (.getfield 114, 3) := dk_180 0 114 (dk_at dksJ4_successor_0 7 rfl rfl)
theorem dJ4_successor_10 : decode cJ4_successor 10 = .ok (.ifnull 25, 3) := dk_198 0 25 (dk_at dksJ4_successor_0 10 rfl rfl)
theorem dJ4_successor_13 : decode cJ4_successor 13 = .ok (.aload_n 0, 1) := dk_42 (dk_at dksJ4_successor_0 13 rfl rfl)
theorem dJ4_successor_14 : decode cJ4_successor 14 = .ok (.getfield 114, 3) := dk_180 0 114 (dk_at dksJ4_successor_0 14 rfl rfl)
theorem dJ4_successor_17 : decode cJ4_successor 17 = .ok (.astore_n 1, 1) := dk_76 (dk_at dksJ4_successor_0 17 rfl rfl)
theorem dJ4_successor_18 : decode cJ4_successor 18 = .ok (.aload_n 1, 1) := dk_43 (dk_at dksJ4_successor_0 18 rfl rfl)
theorem dJ4_successor_19 : decode cJ4_successor 19 = .ok (.getfield 111, 3) := dk_180 0 111 (dk_at dksJ4_successor_0 19 rfl rfl)
theorem dJ4_successor_22 : decode cJ4_successor 22 = .ok (.ifnull 11, 3) := dk_198 0 11 (dk_at dksJ4_successor_1 0 rfl rfl)
theorem dJ4_successor_25 : decode cJ4_successor 25 = .ok (.aload_n 1, 1) := dk_43 (dk_at dksJ4_successor_1 3 rfl rfl)
theorem dJ4_successor_26 : decode cJ4_successor 26 = .ok (.getfield 111, 3) := dk_180 0 111 (dk_at dksJ4_successor_1 4 rfl rfl)
theorem dJ4_successor_29 : decode cJ4_successor 29 = .ok (.astore_n 1, 1) := dk_76 (dk_at dksJ4_successor_1 7 rfl rfl)
theorem dJ4_successor_30 : decode cJ4_successor 30 = .ok (.goto (-12), 3) := dk_167 255 244 (dk_at dksJ4_successor_1 8 rfl rfl)
theorem dJ4_successor_33 : decode cJ4_successor 33 = .ok (.aload_n 1, 1) := dk_43 (dk_at dksJ4_successor_1 11 rfl rfl)
theorem dJ4_successor_34 : decode cJ4_successor 34 = .ok (.areturn, 1) := dk_176 (dk_at dksJ4_successor_1 12 rfl rfl)
theorem dJ4_successor_35 : decode cJ4_successor 35 = .ok (.aload_n 0, 1) := dk_42 (dk_at dksJ4_successor_1 13 rfl rfl)
theorem dJ4_successor_36 : decode cJ4_successor 36 = .ok (.getfield 124, 3) := dk_180 0 124 (dk_at dksJ4_successor_1 14 rfl rfl)
theorem dJ4_successor_39 : decode cJ4_successor 39 = .ok (.astore_n 1, 1) := dk_76 (dk_at dksJ4_successor_1 17 rfl rfl)
theorem dJ4_successor_40 : decode cJ4_successor 40 = .ok (.aload_n 0, 1) := dk_42 (dk_at dksJ4_successor_1 18 rfl rfl)
theorem dJ4_successor_41 : decode cJ4_successor 41 = .ok (.astore_n 2, 1) := dk_77 (dk_at dksJ4_successor_1 19 rfl rfl)
theorem dJ4_successor_42 : decode cJ4_successor 42 = .ok (.aload_n 1, 1) := dk_43 (dk_at dksJ4_successor_1 20 rfl rfl)
theorem dJ4_successor_43 : decode cJ4_successor 43 = .ok (.ifnull 21, 3) := dk_198 0 21 (dk_at dksJ4_successor_1 21 rfl rfl)
theorem dJ4_successor_46 : decode cJ4_successor 46 = .ok (.aload_n 2, 1) := dk_44 (dk_at dksJ4_successor_2 0 rfl rfl)
theorem dJ4_successor_47 : decode cJ4_successor 47 = .ok (.aload_n 1, 1) := dk_43 (dk_at dksJ4_successor_2 1 rfl rfl)
theorem dJ4_successor_48 : decode cJ4_successor 48 = .ok (.getfield 114, 3) := dk_180 0 114 (dk_at dksJ4_successor_2 2 rfl rfl)
theorem dJ4_successor_51 : decode cJ4_successor 51 = .ok (.if_acmp .ne 13, 3) := dk_166 0 13 (dk_at dksJ4_successor_2 5 rfl rfl)
theorem dJ4_successor_54 : decode cJ4_successor 54 = .ok (.aload_n 1, 1) := dk_43 (dk_at dksJ4_successor_2 8 rfl rfl)
theorem dJ4_successor_55 : decode cJ4_successor 55 = .ok (.astore_n 2, 1) := dk_77 (dk_at dksJ4_successor_2 9 rfl rfl)
theorem dJ4_successor_56 : decode cJ4_successor 56 = .ok (.aload_n 1, 1) := dk_43 (dk_at dksJ4_successor_2 10 rfl rfl)
theorem dJ4_successor_57 : decode cJ4_successor 57 = .ok (.getfield 124, 3) := dk_180 0 124 (dk_at dksJ4_successor_2 11 rfl rfl)
theorem dJ4_successor_60 : decode cJ4_successor 60 = .ok (.astore_n 1, 1) := dk_76 (dk_at dksJ4_successor_2 14 rfl rfl)
theorem dJ4_successor_61 : decode cJ4_successor 61 = .ok (.goto (-19), 3) := dk_167 255 237 (dk_at dksJ4_successor_2 15 rfl rfl)
theorem dJ4_successor_64 : decode cJ4_successor 64 = .ok (.aload_n 1, 1) := dk_43 (dk_at dksJ4_successor_2 18 rfl rfl)
theorem dJ4_successor_65 : decode cJ4_successor 65 = .ok (.areturn, 1) := dk_176 (dk_at dksJ4_successor_2 19 rfl rfl)
abbrev cJ4_containsKey : ByteArray := prog_129_method_6_code
def yJ4_containsKey : MethodName := ⟨RJ4, "containsKey", "(Ljava/lang/Object;)Z"⟩
def dkwJ4_containsKey_0 : List UInt8 := [42, 43, 182, 0, 50, 198, 0, 7, 4, 167, 0, 4, 3, 172]
abbrev dktJ4_containsKey_0 : List UInt8 := dkwJ4_containsKey_0 ++ []
theorem dksJ4_containsKey_0 : cJ4_containsKey.data.toList.drop 0 = dktJ4_containsKey_0 := by decide +kernel
theorem dJ4_containsKey_0 : decode cJ4_containsKey 0 = .ok (.aload_n 0, 1) := dk_42 (dk_at dksJ4_containsKey_0 0 rfl rfl)
theorem dJ4_containsKey_1 : decode cJ4_containsKey 1 = .ok (.aload_n 1, 1) := dk_43 (dk_at dksJ4_containsKey_0 1 rfl rfl)
theorem dJ4_containsKey_2 : decode cJ4_containsKey 2 = .ok (.invokevirtual 50, 3) := dk_182 0 50 (dk_at dksJ4_containsKey_0 2 rfl rfl)
theorem dJ4_containsKey_5 : decode cJ4_containsKey 5 = .ok (.ifnull 7, 3) := dk_198 0 7 (dk_at dksJ4_containsKey_0 5 rfl rfl)
theorem dJ4_containsKey_8 : decode cJ4_containsKey 8 = .ok (.iconst 1, 1) := dk_4 (dk_at dksJ4_containsKey_0 8 rfl rfl)
theorem dJ4_containsKey_9 : decode cJ4_containsKey 9 = .ok (.goto 4, 3) := dk_167 0 4 (dk_at dksJ4_containsKey_0 9 rfl rfl)
theorem dJ4_containsKey_12 : decode cJ4_containsKey 12 = .ok (.iconst 0, 1) := dk_3 (dk_at dksJ4_containsKey_0 12 rfl rfl)
theorem dJ4_containsKey_13 : decode cJ4_containsKey 13 = .ok (.ireturn, 1) := dk_172 (dk_at dksJ4_containsKey_0 13 rfl rfl)
abbrev cJ4_getEntry : ByteArray := prog_129_method_15_code
def yJ4_getEntry : MethodName := ⟨RJ4, "getEntry", "(Ljava/lang/Object;)Ljava/util/TreeMap$Entry;"⟩
def dkwJ4_getEntry_3 : List UInt8 := [45, 176, 167, 255, 212, 1, 176]
abbrev dktJ4_getEntry_3 : List UInt8 := dkwJ4_getEntry_3 ++ []
def dkwJ4_getEntry_2 : List UInt8 := [156, 0, 11, 45, 180, 0, 111, 78, 167, 0, 18, 21, 4, 158, 0, 11, 45, 180, 0, 114, 78, 167, 0, 5]
abbrev dktJ4_getEntry_2 : List UInt8 := dkwJ4_getEntry_2 ++ dktJ4_getEntry_3
def dkwJ4_getEntry_1 : List UInt8 := [180, 0, 101, 78, 45, 198, 0, 46, 44, 45, 180, 0, 105, 185, 0, 107, 2, 0, 54, 4, 21, 4]
abbrev dktJ4_getEntry_1 : List UInt8 := dkwJ4_getEntry_1 ++ dktJ4_getEntry_2
def dkwJ4_getEntry_0 : List UInt8 := [42, 180, 0, 16, 198, 0, 9, 42, 43, 182, 0, 92, 176, 43, 184, 0, 95, 87, 43, 192, 0, 99, 77, 42]
abbrev dktJ4_getEntry_0 : List UInt8 := dkwJ4_getEntry_0 ++ dktJ4_getEntry_1
theorem dksJ4_getEntry_0 : cJ4_getEntry.data.toList.drop 0 = dktJ4_getEntry_0 := by decide +kernel
theorem dksJ4_getEntry_1 : cJ4_getEntry.data.toList.drop 24 = dktJ4_getEntry_1 := dk_seg dksJ4_getEntry_0 24 rfl rfl
theorem dksJ4_getEntry_2 : cJ4_getEntry.data.toList.drop 46 = dktJ4_getEntry_2 := dk_seg dksJ4_getEntry_1 22 rfl rfl
theorem dksJ4_getEntry_3 : cJ4_getEntry.data.toList.drop 70 = dktJ4_getEntry_3 := dk_seg dksJ4_getEntry_2 24 rfl rfl
theorem dJ4_getEntry_0 : decode cJ4_getEntry 0 = .ok (.aload_n 0, 1) := dk_42 (dk_at dksJ4_getEntry_0 0 rfl rfl)
theorem dJ4_getEntry_1 : decode cJ4_getEntry 1 = .ok (.getfield 16, 3) := dk_180 0 16 (dk_at dksJ4_getEntry_0 1 rfl rfl)
theorem dJ4_getEntry_4 : decode cJ4_getEntry 4 = .ok (.ifnull 9, 3) := dk_198 0 9 (dk_at dksJ4_getEntry_0 4 rfl rfl)
theorem dJ4_getEntry_7 : decode cJ4_getEntry 7 = .ok (.aload_n 0, 1) := dk_42 (dk_at dksJ4_getEntry_0 7 rfl rfl)
theorem dJ4_getEntry_8 : decode cJ4_getEntry 8 = .ok (.aload_n 1, 1) := dk_43 (dk_at dksJ4_getEntry_0 8 rfl rfl)
theorem dJ4_getEntry_9 : decode cJ4_getEntry 9 = .ok (.invokevirtual 92, 3) := dk_182 0 92 (dk_at dksJ4_getEntry_0 9 rfl rfl)
theorem dJ4_getEntry_12 : decode cJ4_getEntry 12 = .ok (.areturn, 1) := dk_176 (dk_at dksJ4_getEntry_0 12 rfl rfl)
theorem dJ4_getEntry_13 : decode cJ4_getEntry 13 = .ok (.aload_n 1, 1) := dk_43 (dk_at dksJ4_getEntry_0 13 rfl rfl)
theorem dJ4_getEntry_14 : decode cJ4_getEntry 14 = .ok (.invokestatic 95, 3) := dk_184 0 95 (dk_at dksJ4_getEntry_0 14 rfl rfl)
theorem dJ4_getEntry_17 : decode cJ4_getEntry 17 = .ok (.pop, 1) := dk_87 (dk_at dksJ4_getEntry_0 17 rfl rfl)
theorem dJ4_getEntry_18 : decode cJ4_getEntry 18 = .ok (.aload_n 1, 1) := dk_43 (dk_at dksJ4_getEntry_0 18 rfl rfl)
theorem dJ4_getEntry_19 : decode cJ4_getEntry 19 = .ok (.checkcast 99, 3) := dk_192 0 99 (dk_at dksJ4_getEntry_0 19 rfl rfl)
theorem dJ4_getEntry_22 : decode cJ4_getEntry 22 = .ok (.astore_n 2, 1) := dk_77 (dk_at dksJ4_getEntry_0 22 rfl rfl)
theorem dJ4_getEntry_23 : decode cJ4_getEntry 23 = .ok (.aload_n 0, 1) := dk_42 (dk_at dksJ4_getEntry_0 23 rfl rfl)
theorem dJ4_getEntry_24 : decode cJ4_getEntry 24 = .ok (.getfield 101, 3) := dk_180 0 101 (dk_at dksJ4_getEntry_1 0 rfl rfl)
theorem dJ4_getEntry_27 : decode cJ4_getEntry 27 = .ok (.astore_n 3, 1) := dk_78 (dk_at dksJ4_getEntry_1 3 rfl rfl)
theorem dJ4_getEntry_28 : decode cJ4_getEntry 28 = .ok (.aload_n 3, 1) := dk_45 (dk_at dksJ4_getEntry_1 4 rfl rfl)
theorem dJ4_getEntry_29 : decode cJ4_getEntry 29 = .ok (.ifnull 46, 3) := dk_198 0 46 (dk_at dksJ4_getEntry_1 5 rfl rfl)
theorem dJ4_getEntry_32 : decode cJ4_getEntry 32 = .ok (.aload_n 2, 1) := dk_44 (dk_at dksJ4_getEntry_1 8 rfl rfl)
theorem dJ4_getEntry_33 : decode cJ4_getEntry 33 = .ok (.aload_n 3, 1) := dk_45 (dk_at dksJ4_getEntry_1 9 rfl rfl)
theorem dJ4_getEntry_34 : decode cJ4_getEntry 34 = .ok (.getfield 105, 3) := dk_180 0 105 (dk_at dksJ4_getEntry_1 10 rfl rfl)
theorem dJ4_getEntry_37 : decode cJ4_getEntry 37 = .ok (.invokeinterface 107 2, 5) := by decide +kernel
theorem dJ4_getEntry_42 : decode cJ4_getEntry 42 = .ok (.istore 4, 2) := dk_54 4 (dk_at dksJ4_getEntry_1 18 rfl rfl)
theorem dJ4_getEntry_44 : decode cJ4_getEntry 44 = .ok (.iload 4, 2) := dk_21 4 (dk_at dksJ4_getEntry_1 20 rfl rfl)
theorem dJ4_getEntry_46 : decode cJ4_getEntry 46 = .ok (.ifCond .ge 11, 3) := dk_156 0 11 (dk_at dksJ4_getEntry_2 0 rfl rfl)
theorem dJ4_getEntry_49 : decode cJ4_getEntry 49 = .ok (.aload_n 3, 1) := dk_45 (dk_at dksJ4_getEntry_2 3 rfl rfl)
theorem dJ4_getEntry_50 : decode cJ4_getEntry 50 = .ok (.getfield 111, 3) := dk_180 0 111 (dk_at dksJ4_getEntry_2 4 rfl rfl)
theorem dJ4_getEntry_53 : decode cJ4_getEntry 53 = .ok (.astore_n 3, 1) := dk_78 (dk_at dksJ4_getEntry_2 7 rfl rfl)
theorem dJ4_getEntry_54 : decode cJ4_getEntry 54 = .ok (.goto 18, 3) := dk_167 0 18 (dk_at dksJ4_getEntry_2 8 rfl rfl)
theorem dJ4_getEntry_57 : decode cJ4_getEntry 57 = .ok (.iload 4, 2) := dk_21 4 (dk_at dksJ4_getEntry_2 11 rfl rfl)
theorem dJ4_getEntry_59 : decode cJ4_getEntry 59 = .ok (.ifCond .le 11, 3) := dk_158 0 11 (dk_at dksJ4_getEntry_2 13 rfl rfl)
theorem dJ4_getEntry_62 : decode cJ4_getEntry 62 = .ok (.aload_n 3, 1) := dk_45 (dk_at dksJ4_getEntry_2 16 rfl rfl)
theorem dJ4_getEntry_63 : decode cJ4_getEntry 63 = .ok (.getfield 114, 3) := dk_180 0 114 (dk_at dksJ4_getEntry_2 17 rfl rfl)
theorem dJ4_getEntry_66 : decode cJ4_getEntry 66 = .ok (.astore_n 3, 1) := dk_78 (dk_at dksJ4_getEntry_2 20 rfl rfl)
theorem dJ4_getEntry_67 : decode cJ4_getEntry 67 = .ok (.goto 5, 3) := dk_167 0 5 (dk_at dksJ4_getEntry_2 21 rfl rfl)
theorem dJ4_getEntry_70 : decode cJ4_getEntry 70 = .ok (.aload_n 3, 1) := dk_45 (dk_at dksJ4_getEntry_3 0 rfl rfl)
theorem dJ4_getEntry_71 : decode cJ4_getEntry 71 = .ok (.areturn, 1) := dk_176 (dk_at dksJ4_getEntry_3 1 rfl rfl)
theorem dJ4_getEntry_72 : decode cJ4_getEntry 72 = .ok (.goto (-44), 3) := dk_167 255 212 (dk_at dksJ4_getEntry_3 2 rfl rfl)
theorem dJ4_getEntry_75 : decode cJ4_getEntry 75 = .ok (.aconst_null, 1) := dk_1 (dk_at dksJ4_getEntry_3 5 rfl rfl)
theorem dJ4_getEntry_76 : decode cJ4_getEntry 76 = .ok (.areturn, 1) := dk_176 (dk_at dksJ4_getEntry_3 6 rfl rfl)
abbrev cJ4_getEntryUsingComparator : ByteArray := prog_129_method_16_code
def yJ4_getEntryUsingComparator : MethodName := ⟨RJ4, "getEntryUsingComparator", "(Ljava/lang/Object;)Ljava/util/TreeMap$Entry;"⟩
def dkwJ4_getEntryUsingComparator_3 : List UInt8 := [1, 176]
abbrev dktJ4_getEntryUsingComparator_3 : List UInt8 := dkwJ4_getEntryUsingComparator_3 ++ []
def dkwJ4_getEntryUsingComparator_2 : List UInt8 := [167, 0, 21, 21, 5, 158, 0, 13, 25, 4, 180, 0, 114, 58, 4, 167, 0, 6, 25, 4, 176, 167, 255, 204]
abbrev dktJ4_getEntryUsingComparator_2 : List UInt8 := dkwJ4_getEntryUsingComparator_2 ++ dktJ4_getEntryUsingComparator_3
def dkwJ4_getEntryUsingComparator_1 : List UInt8 := [25, 4, 180, 0, 105, 185, 0, 117, 3, 0, 54, 5, 21, 5, 156, 0, 13, 25, 4, 180, 0, 111, 58, 4]
abbrev dktJ4_getEntryUsingComparator_1 : List UInt8 := dkwJ4_getEntryUsingComparator_1 ++ dktJ4_getEntryUsingComparator_2
def dkwJ4_getEntryUsingComparator_0 : List UInt8 := [43, 77, 42, 180, 0, 16, 78, 45, 198, 0, 64, 42, 180, 0, 101, 58, 4, 25, 4, 198, 0, 53, 45, 44]
abbrev dktJ4_getEntryUsingComparator_0 : List UInt8 := dkwJ4_getEntryUsingComparator_0 ++ dktJ4_getEntryUsingComparator_1
theorem dksJ4_getEntryUsingComparator_0 : cJ4_getEntryUsingComparator.data.toList.drop 0 = dktJ4_getEntryUsingComparator_0 := by decide +kernel
theorem dksJ4_getEntryUsingComparator_1 : cJ4_getEntryUsingComparator.data.toList.drop 24 = dktJ4_getEntryUsingComparator_1 := dk_seg dksJ4_getEntryUsingComparator_0 24 rfl rfl
theorem dksJ4_getEntryUsingComparator_2 : cJ4_getEntryUsingComparator.data.toList.drop 48 = dktJ4_getEntryUsingComparator_2 := dk_seg dksJ4_getEntryUsingComparator_1 24 rfl rfl
theorem dksJ4_getEntryUsingComparator_3 : cJ4_getEntryUsingComparator.data.toList.drop 72 = dktJ4_getEntryUsingComparator_3 := dk_seg dksJ4_getEntryUsingComparator_2 24 rfl rfl
theorem dJ4_getEntryUsingComparator_0 : decode cJ4_getEntryUsingComparator 0 = .ok (.aload_n 1, 1) := dk_43 (dk_at dksJ4_getEntryUsingComparator_0 0 rfl rfl)
theorem dJ4_getEntryUsingComparator_1 : decode cJ4_getEntryUsingComparator 1 = .ok (.astore_n 2, 1) := dk_77 (dk_at dksJ4_getEntryUsingComparator_0 1 rfl rfl)
theorem dJ4_getEntryUsingComparator_2 : decode cJ4_getEntryUsingComparator 2 = .ok (.aload_n 0, 1) := dk_42 (dk_at dksJ4_getEntryUsingComparator_0 2 rfl rfl)
theorem dJ4_getEntryUsingComparator_3 : decode cJ4_getEntryUsingComparator 3 = .ok (.getfield 16, 3) := dk_180 0 16 (dk_at dksJ4_getEntryUsingComparator_0 3 rfl rfl)
theorem dJ4_getEntryUsingComparator_6 : decode cJ4_getEntryUsingComparator 6 = .ok (.astore_n 3, 1) := dk_78 (dk_at dksJ4_getEntryUsingComparator_0 6 rfl rfl)
theorem dJ4_getEntryUsingComparator_7 : decode cJ4_getEntryUsingComparator 7 = .ok (.aload_n 3, 1) := dk_45 (dk_at dksJ4_getEntryUsingComparator_0 7 rfl rfl)
theorem dJ4_getEntryUsingComparator_8 : decode cJ4_getEntryUsingComparator 8 = .ok (.ifnull 64, 3) := dk_198 0 64 (dk_at dksJ4_getEntryUsingComparator_0 8 rfl rfl)
theorem dJ4_getEntryUsingComparator_11 : decode cJ4_getEntryUsingComparator 11 = .ok (.aload_n 0, 1) := dk_42 (dk_at dksJ4_getEntryUsingComparator_0 11 rfl rfl)
theorem dJ4_getEntryUsingComparator_12 : decode cJ4_getEntryUsingComparator 12 = .ok (.getfield 101, 3) := dk_180 0 101 (dk_at dksJ4_getEntryUsingComparator_0 12 rfl rfl)
theorem dJ4_getEntryUsingComparator_15 : decode cJ4_getEntryUsingComparator 15 = .ok (.astore 4, 2) := dk_58 4 (dk_at dksJ4_getEntryUsingComparator_0 15 rfl rfl)
theorem dJ4_getEntryUsingComparator_17 : decode cJ4_getEntryUsingComparator 17 = .ok (.aload 4, 2) := dk_25 4 (dk_at dksJ4_getEntryUsingComparator_0 17 rfl rfl)
theorem dJ4_getEntryUsingComparator_19 : decode cJ4_getEntryUsingComparator 19 = .ok (.ifnull 53, 3) := dk_198 0 53 (dk_at dksJ4_getEntryUsingComparator_0 19 rfl rfl)
theorem dJ4_getEntryUsingComparator_22 : decode cJ4_getEntryUsingComparator 22 = .ok (.aload_n 3, 1) := dk_45 (dk_at dksJ4_getEntryUsingComparator_0 22 rfl rfl)
theorem dJ4_getEntryUsingComparator_23 : decode cJ4_getEntryUsingComparator 23 = .ok (.aload_n 2, 1) := dk_44 (dk_at dksJ4_getEntryUsingComparator_0 23 rfl rfl)
theorem dJ4_getEntryUsingComparator_24 : decode cJ4_getEntryUsingComparator 24 = .ok (.aload 4, 2) := dk_25 4 (dk_at dksJ4_getEntryUsingComparator_1 0 rfl rfl)
theorem dJ4_getEntryUsingComparator_26 : decode cJ4_getEntryUsingComparator 26 = .ok (.getfield 105, 3) := dk_180 0 105 (dk_at dksJ4_getEntryUsingComparator_1 2 rfl rfl)
theorem dJ4_getEntryUsingComparator_29 : decode cJ4_getEntryUsingComparator 29 = .ok (.invokeinterface 117 3, 5) := by decide +kernel
theorem dJ4_getEntryUsingComparator_34 : decode cJ4_getEntryUsingComparator 34 = .ok (.istore 5, 2) := dk_54 5 (dk_at dksJ4_getEntryUsingComparator_1 10 rfl rfl)
theorem dJ4_getEntryUsingComparator_36 : decode cJ4_getEntryUsingComparator 36 = .ok (.iload 5, 2) := dk_21 5 (dk_at dksJ4_getEntryUsingComparator_1 12 rfl rfl)
theorem dJ4_getEntryUsingComparator_38 : decode cJ4_getEntryUsingComparator 38 = .ok (.ifCond .ge 13, 3) := dk_156 0 13 (dk_at dksJ4_getEntryUsingComparator_1 14 rfl rfl)
theorem dJ4_getEntryUsingComparator_41 : decode cJ4_getEntryUsingComparator 41 = .ok (.aload 4, 2) := dk_25 4 (dk_at dksJ4_getEntryUsingComparator_1 17 rfl rfl)
theorem dJ4_getEntryUsingComparator_43 : decode cJ4_getEntryUsingComparator 43 = .ok (.getfield 111, 3) := dk_180 0 111 (dk_at dksJ4_getEntryUsingComparator_1 19 rfl rfl)
theorem dJ4_getEntryUsingComparator_46 : decode cJ4_getEntryUsingComparator 46 = .ok (.astore 4, 2) := dk_58 4 (dk_at dksJ4_getEntryUsingComparator_1 22 rfl rfl)
theorem dJ4_getEntryUsingComparator_48 : decode cJ4_getEntryUsingComparator 48 = .ok (.goto 21, 3) := dk_167 0 21 (dk_at dksJ4_getEntryUsingComparator_2 0 rfl rfl)
theorem dJ4_getEntryUsingComparator_51 : decode cJ4_getEntryUsingComparator 51 = .ok (.iload 5, 2) := dk_21 5 (dk_at dksJ4_getEntryUsingComparator_2 3 rfl rfl)
theorem dJ4_getEntryUsingComparator_53 : decode cJ4_getEntryUsingComparator 53 = .ok (.ifCond .le 13, 3) := dk_158 0 13 (dk_at dksJ4_getEntryUsingComparator_2 5 rfl rfl)
theorem dJ4_getEntryUsingComparator_56 : decode cJ4_getEntryUsingComparator 56 = .ok (.aload 4, 2) := dk_25 4 (dk_at dksJ4_getEntryUsingComparator_2 8 rfl rfl)
theorem dJ4_getEntryUsingComparator_58 : decode cJ4_getEntryUsingComparator 58 = .ok (.getfield 114, 3) := dk_180 0 114 (dk_at dksJ4_getEntryUsingComparator_2 10 rfl rfl)
theorem dJ4_getEntryUsingComparator_61 : decode cJ4_getEntryUsingComparator 61 = .ok (.astore 4, 2) := dk_58 4 (dk_at dksJ4_getEntryUsingComparator_2 13 rfl rfl)
theorem dJ4_getEntryUsingComparator_63 : decode cJ4_getEntryUsingComparator 63 = .ok (.goto 6, 3) := dk_167 0 6 (dk_at dksJ4_getEntryUsingComparator_2 15 rfl rfl)
theorem dJ4_getEntryUsingComparator_66 : decode cJ4_getEntryUsingComparator 66 = .ok (.aload 4, 2) := dk_25 4 (dk_at dksJ4_getEntryUsingComparator_2 18 rfl rfl)
theorem dJ4_getEntryUsingComparator_68 : decode cJ4_getEntryUsingComparator 68 = .ok (.areturn, 1) := dk_176 (dk_at dksJ4_getEntryUsingComparator_2 20 rfl rfl)
theorem dJ4_getEntryUsingComparator_69 : decode cJ4_getEntryUsingComparator 69 = .ok (.goto (-52), 3) := dk_167 255 204 (dk_at dksJ4_getEntryUsingComparator_2 21 rfl rfl)
theorem dJ4_getEntryUsingComparator_72 : decode cJ4_getEntryUsingComparator 72 = .ok (.aconst_null, 1) := dk_1 (dk_at dksJ4_getEntryUsingComparator_3 0 rfl rfl)
theorem dJ4_getEntryUsingComparator_73 : decode cJ4_getEntryUsingComparator 73 = .ok (.areturn, 1) := dk_176 (dk_at dksJ4_getEntryUsingComparator_3 1 rfl rfl)
abbrev cJ4_put : ByteArray := prog_129_method_21_code
def yJ4_put : MethodName := ⟨RJ4, "put", "(Ljava/lang/Object;Ljava/lang/Object;)Ljava/lang/Object;"⟩
def dkwJ4_put_0 : List UInt8 := [42, 43, 44, 4, 182, 0, 127, 176]
abbrev dktJ4_put_0 : List UInt8 := dkwJ4_put_0 ++ []
theorem dksJ4_put_0 : cJ4_put.data.toList.drop 0 = dktJ4_put_0 := by decide +kernel
theorem dJ4_put_0 : decode cJ4_put 0 = .ok (.aload_n 0, 1) := dk_42 (dk_at dksJ4_put_0 0 rfl rfl)
theorem dJ4_put_1 : decode cJ4_put 1 = .ok (.aload_n 1, 1) := dk_43 (dk_at dksJ4_put_0 1 rfl rfl)
theorem dJ4_put_2 : decode cJ4_put 2 = .ok (.aload_n 2, 1) := dk_44 (dk_at dksJ4_put_0 2 rfl rfl)
theorem dJ4_put_3 : decode cJ4_put 3 = .ok (.iconst 1, 1) := dk_4 (dk_at dksJ4_put_0 3 rfl rfl)
theorem dJ4_put_4 : decode cJ4_put 4 = .ok (.invokevirtual 127, 3) := dk_182 0 127 (dk_at dksJ4_put_0 4 rfl rfl)
theorem dJ4_put_7 : decode cJ4_put 7 = .ok (.areturn, 1) := dk_176 (dk_at dksJ4_put_0 7 rfl rfl)
abbrev cJ4_put_2 : ByteArray := prog_129_method_31_code
def yJ4_put_2 : MethodName := ⟨RJ4, "put", "(Ljava/lang/Object;Ljava/lang/Object;Z)Ljava/lang/Object;"⟩
def dkwJ4_put_2_9 : List UInt8 := [4, 167, 0, 4, 3, 182, 0, 139, 1, 176]
abbrev dktJ4_put_2_9 : List UInt8 := dkwJ4_put_2_9 ++ []
def dkwJ4_put_2_8 : List UInt8 := [25, 4, 44, 181, 0, 58, 25, 9, 176, 25, 4, 199, 255, 181, 42, 43, 44, 25, 6, 21, 5, 156, 0, 7]
abbrev dktJ4_put_2_8 : List UInt8 := dkwJ4_put_2_8 ++ dktJ4_put_2_9
def dkwJ4_put_2_7 : List UInt8 := [180, 0, 114, 58, 4, 167, 0, 28, 25, 4, 180, 0, 58, 58, 9, 29, 154, 0, 8, 25, 9, 199, 0, 9]
abbrev dktJ4_put_2_7 : List UInt8 := dkwJ4_put_2_7 ++ dktJ4_put_2_8
def dkwJ4_put_2_6 : List UInt8 := [21, 5, 156, 0, 13, 25, 4, 180, 0, 111, 58, 4, 167, 0, 43, 21, 5, 158, 0, 13, 25, 4]
abbrev dktJ4_put_2_6 : List UInt8 := dkwJ4_put_2_6 ++ dktJ4_put_2_7
def dkwJ4_put_2_5 : List UInt8 := [192, 0, 99, 58, 8, 25, 4, 58, 6, 25, 8, 25, 4, 180, 0, 105, 185, 0, 107, 2, 0, 54, 5]
abbrev dktJ4_put_2_5 : List UInt8 := dkwJ4_put_2_5 ++ dktJ4_put_2_6
def dkwJ4_put_2_4 : List UInt8 := [25, 4, 44, 181, 0, 58, 25, 8, 176, 25, 4, 199, 255, 180, 167, 0, 92, 43, 184, 0, 95, 87, 43]
abbrev dktJ4_put_2_4 : List UInt8 := dkwJ4_put_2_4 ++ dktJ4_put_2_5
def dkwJ4_put_2_3 : List UInt8 := [180, 0, 114, 58, 4, 167, 0, 28, 25, 4, 180, 0, 58, 58, 8, 29, 154, 0, 8, 25, 8, 199, 0, 9]
abbrev dktJ4_put_2_3 : List UInt8 := dkwJ4_put_2_3 ++ dktJ4_put_2_4
def dkwJ4_put_2_2 : List UInt8 := [54, 5, 21, 5, 156, 0, 13, 25, 4, 180, 0, 111, 58, 4, 167, 0, 43, 21, 5, 158, 0, 13, 25, 4]
abbrev dktJ4_put_2_2 : List UInt8 := dkwJ4_put_2_2 ++ dktJ4_put_2_3
def dkwJ4_put_2_1 : List UInt8 := [58, 7, 25, 7, 198, 0, 85, 25, 4, 58, 6, 25, 7, 43, 25, 4, 180, 0, 105, 185, 0, 117, 3, 0]
abbrev dktJ4_put_2_1 : List UInt8 := dkwJ4_put_2_1 ++ dktJ4_put_2_2
def dkwJ4_put_2_0 : List UInt8 := [42, 180, 0, 101, 58, 4, 25, 4, 199, 0, 11, 42, 43, 44, 182, 0, 135, 1, 176, 42, 180, 0, 16]
abbrev dktJ4_put_2_0 : List UInt8 := dkwJ4_put_2_0 ++ dktJ4_put_2_1
theorem dksJ4_put_2_0 : cJ4_put_2.data.toList.drop 0 = dktJ4_put_2_0 := by decide +kernel
theorem dksJ4_put_2_1 : cJ4_put_2.data.toList.drop 23 = dktJ4_put_2_1 := dk_seg dksJ4_put_2_0 23 rfl rfl
theorem dksJ4_put_2_2 : cJ4_put_2.data.toList.drop 47 = dktJ4_put_2_2 := dk_seg dksJ4_put_2_1 24 rfl rfl
theorem dksJ4_put_2_3 : cJ4_put_2.data.toList.drop 71 = dktJ4_put_2_3 := dk_seg dksJ4_put_2_2 24 rfl rfl
theorem dksJ4_put_2_4 : cJ4_put_2.data.toList.drop 95 = dktJ4_put_2_4 := dk_seg dksJ4_put_2_3 24 rfl rfl
theorem dksJ4_put_2_5 : cJ4_put_2.data.toList.drop 118 = dktJ4_put_2_5 := dk_seg dksJ4_put_2_4 23 rfl rfl
theorem dksJ4_put_2_6 : cJ4_put_2.data.toList.drop 141 = dktJ4_put_2_6 := dk_seg dksJ4_put_2_5 23 rfl rfl
theorem dksJ4_put_2_7 : cJ4_put_2.data.toList.drop 163 = dktJ4_put_2_7 := dk_seg dksJ4_put_2_6 22 rfl rfl
theorem dksJ4_put_2_8 : cJ4_put_2.data.toList.drop 187 = dktJ4_put_2_8 := dk_seg dksJ4_put_2_7 24 rfl rfl
theorem dksJ4_put_2_9 : cJ4_put_2.data.toList.drop 211 = dktJ4_put_2_9 := dk_seg dksJ4_put_2_8 24 rfl rfl
theorem dJ4_put_2_0 : decode cJ4_put_2 0 = .ok (.aload_n 0, 1) := dk_42 (dk_at dksJ4_put_2_0 0 rfl rfl)
theorem dJ4_put_2_1 : decode cJ4_put_2 1 = .ok (.getfield 101, 3) := dk_180 0 101 (dk_at dksJ4_put_2_0 1 rfl rfl)
theorem dJ4_put_2_4 : decode cJ4_put_2 4 = .ok (.astore 4, 2) := dk_58 4 (dk_at dksJ4_put_2_0 4 rfl rfl)
theorem dJ4_put_2_6 : decode cJ4_put_2 6 = .ok (.aload 4, 2) := dk_25 4 (dk_at dksJ4_put_2_0 6 rfl rfl)
theorem dJ4_put_2_8 : decode cJ4_put_2 8 = .ok (.ifnonnull 11, 3) := dk_199 0 11 (dk_at dksJ4_put_2_0 8 rfl rfl)
theorem dJ4_put_2_11 : decode cJ4_put_2 11 = .ok (.aload_n 0, 1) := dk_42 (dk_at dksJ4_put_2_0 11 rfl rfl)
theorem dJ4_put_2_12 : decode cJ4_put_2 12 = .ok (.aload_n 1, 1) := dk_43 (dk_at dksJ4_put_2_0 12 rfl rfl)
theorem dJ4_put_2_13 : decode cJ4_put_2 13 = .ok (.aload_n 2, 1) := dk_44 (dk_at dksJ4_put_2_0 13 rfl rfl)
theorem dJ4_put_2_14 : decode cJ4_put_2 14 = .ok (.invokevirtual 135, 3) := dk_182 0 135 (dk_at dksJ4_put_2_0 14 rfl rfl)
theorem dJ4_put_2_17 : decode cJ4_put_2 17 = .ok (.aconst_null, 1) := dk_1 (dk_at dksJ4_put_2_0 17 rfl rfl)
theorem dJ4_put_2_18 : decode cJ4_put_2 18 = .ok (.areturn, 1) := dk_176 (dk_at dksJ4_put_2_0 18 rfl rfl)
theorem dJ4_put_2_19 : decode cJ4_put_2 19 = .ok (.aload_n 0, 1) := dk_42 (dk_at dksJ4_put_2_0 19 rfl rfl)
theorem dJ4_put_2_20 : decode cJ4_put_2 20 = .ok (.getfield 16, 3) := dk_180 0 16 (dk_at dksJ4_put_2_0 20 rfl rfl)
theorem dJ4_put_2_23 : decode cJ4_put_2 23 = .ok (.astore 7, 2) := dk_58 7 (dk_at dksJ4_put_2_1 0 rfl rfl)
theorem dJ4_put_2_25 : decode cJ4_put_2 25 = .ok (.aload 7, 2) := dk_25 7 (dk_at dksJ4_put_2_1 2 rfl rfl)
theorem dJ4_put_2_27 : decode cJ4_put_2 27 = .ok (.ifnull 85, 3) := dk_198 0 85 (dk_at dksJ4_put_2_1 4 rfl rfl)
theorem dJ4_put_2_30 : decode cJ4_put_2 30 = .ok (.aload 4, 2) := dk_25 4 (dk_at dksJ4_put_2_1 7 rfl rfl)
theorem dJ4_put_2_32 : decode cJ4_put_2 32 = .ok (.astore 6, 2) := dk_58 6 (dk_at dksJ4_put_2_1 9 rfl rfl)
theorem dJ4_put_2_34 : decode cJ4_put_2 34 = .ok (.aload 7, 2) := dk_25 7 (dk_at dksJ4_put_2_1 11 rfl rfl)
theorem dJ4_put_2_36 : decode cJ4_put_2 36 = .ok (.aload_n 1, 1) := dk_43 (dk_at dksJ4_put_2_1 13 rfl rfl)
theorem dJ4_put_2_37 : decode cJ4_put_2 37 = .ok (.aload 4, 2) := dk_25 4 (dk_at dksJ4_put_2_1 14 rfl rfl)
theorem dJ4_put_2_39 : decode cJ4_put_2 39 = .ok (.getfield 105, 3) := dk_180 0 105 (dk_at dksJ4_put_2_1 16 rfl rfl)
theorem dJ4_put_2_42 : decode cJ4_put_2 42 = .ok (.invokeinterface 117 3, 5) := by decide +kernel
theorem dJ4_put_2_47 : decode cJ4_put_2 47 = .ok (.istore 5, 2) := dk_54 5 (dk_at dksJ4_put_2_2 0 rfl rfl)
theorem dJ4_put_2_49 : decode cJ4_put_2 49 = .ok (.iload 5, 2) := dk_21 5 (dk_at dksJ4_put_2_2 2 rfl rfl)
theorem dJ4_put_2_51 : decode cJ4_put_2 51 = .ok (.ifCond .ge 13, 3) := dk_156 0 13 (dk_at dksJ4_put_2_2 4 rfl rfl)
theorem dJ4_put_2_54 : decode cJ4_put_2 54 = .ok (.aload 4, 2) := dk_25 4 (dk_at dksJ4_put_2_2 7 rfl rfl)
theorem dJ4_put_2_56 : decode cJ4_put_2 56 = .ok (.getfield 111, 3) := dk_180 0 111 (dk_at dksJ4_put_2_2 9 rfl rfl)
theorem dJ4_put_2_59 : decode cJ4_put_2 59 = .ok (.astore 4, 2) := dk_58 4 (dk_at dksJ4_put_2_2 12 rfl rfl)
theorem dJ4_put_2_61 : decode cJ4_put_2 61 = .ok (.goto 43, 3) := dk_167 0 43 (dk_at dksJ4_put_2_2 14 rfl rfl)
theorem dJ4_put_2_64 : decode cJ4_put_2 64 = .ok (.iload 5, 2) := dk_21 5 (dk_at dksJ4_put_2_2 17 rfl rfl)
theorem dJ4_put_2_66 : decode cJ4_put_2 66 = .ok (.ifCond .le 13, 3) := dk_158 0 13 (dk_at dksJ4_put_2_2 19 rfl rfl)
theorem dJ4_put_2_69 : decode cJ4_put_2 69 = .ok (.aload 4, 2) := dk_25 4 (dk_at dksJ4_put_2_2 22 rfl rfl)
theorem dJ4_put_2_71 : decode cJ4_put_2 71 = .ok (.getfield 114, 3) := dk_180 0 114 (dk_at dksJ4_put_2_3 0 rfl rfl)
theorem dJ4_put_2_74 : decode cJ4_put_2 74 = .ok (.astore 4, 2) := dk_58 4 (dk_at dksJ4_put_2_3 3 rfl rfl)
theorem dJ4_put_2_76 : decode cJ4_put_2 76 = .ok (.goto 28, 3) := dk_167 0 28 (dk_at dksJ4_put_2_3 5 rfl rfl)
theorem dJ4_put_2_79 : decode cJ4_put_2 79 = .ok (.aload 4, 2) := dk_25 4 (dk_at dksJ4_put_2_3 8 rfl rfl)
theorem dJ4_put_2_81 : decode cJ4_put_2 81 = .ok (.getfield 58, 3) := dk_180 0 58 (dk_at dksJ4_put_2_3 10 rfl rfl)
theorem dJ4_put_2_84 : decode cJ4_put_2 84 = .ok (.astore 8, 2) := dk_58 8 (dk_at dksJ4_put_2_3 13 rfl rfl)
theorem dJ4_put_2_86 : decode cJ4_put_2 86 = .ok (.iload_n 3, 1) := dk_29 (dk_at dksJ4_put_2_3 15 rfl rfl)
theorem dJ4_put_2_87 : decode cJ4_put_2 87 = .ok (.ifCond .ne 8, 3) := dk_154 0 8 (dk_at dksJ4_put_2_3 16 rfl rfl)
theorem dJ4_put_2_90 : decode cJ4_put_2 90 = .ok (.aload 8, 2) := dk_25 8 (dk_at dksJ4_put_2_3 19 rfl rfl)
theorem dJ4_put_2_92 : decode cJ4_put_2 92 = .ok (.ifnonnull 9, 3) := dk_199 0 9 (dk_at dksJ4_put_2_3 21 rfl rfl)
theorem dJ4_put_2_95 : decode cJ4_put_2 95 = .ok (.aload 4, 2) := dk_25 4 (dk_at dksJ4_put_2_4 0 rfl rfl)
theorem dJ4_put_2_97 : decode cJ4_put_2 97 = .ok (.aload_n 2, 1) := dk_44 (dk_at dksJ4_put_2_4 2 rfl rfl)
theorem dJ4_put_2_98 : decode cJ4_put_2 98 = .ok (.putfield 58, 3) := dk_181 0 58 (dk_at dksJ4_put_2_4 3 rfl rfl)
theorem dJ4_put_2_101 : decode cJ4_put_2 101 = .ok (.aload 8, 2) := dk_25 8 (dk_at dksJ4_put_2_4 6 rfl rfl)
theorem dJ4_put_2_103 : decode cJ4_put_2 103 = .ok (.areturn, 1) := dk_176 (dk_at dksJ4_put_2_4 8 rfl rfl)
theorem dJ4_put_2_104 : decode cJ4_put_2 104 = .ok (.aload 4, 2) := dk_25 4 (dk_at dksJ4_put_2_4 9 rfl rfl)
theorem dJ4_put_2_106 : decode cJ4_put_2 106 = .ok (.ifnonnull (-76), 3) := dk_199 255 180 (dk_at dksJ4_put_2_4 11 rfl rfl)
theorem dJ4_put_2_109 : decode cJ4_put_2 109 = .ok (.goto 92, 3) := dk_167 0 92 (dk_at dksJ4_put_2_4 14 rfl rfl)
theorem dJ4_put_2_112 : decode cJ4_put_2 112 = .ok (.aload_n 1, 1) := dk_43 (dk_at dksJ4_put_2_4 17 rfl rfl)
theorem dJ4_put_2_113 : decode cJ4_put_2 113 = .ok (.invokestatic 95, 3) := dk_184 0 95 (dk_at dksJ4_put_2_4 18 rfl rfl)
theorem dJ4_put_2_116 : decode cJ4_put_2 116 = .ok (.pop, 1) := dk_87 (dk_at dksJ4_put_2_4 21 rfl rfl)
theorem dJ4_put_2_117 : decode cJ4_put_2 117 = .ok (.aload_n 1, 1) := dk_43 (dk_at dksJ4_put_2_4 22 rfl rfl)
theorem dJ4_put_2_118 : decode cJ4_put_2 118 = .ok (.checkcast 99, 3) := dk_192 0 99 (dk_at dksJ4_put_2_5 0 rfl rfl)
theorem dJ4_put_2_121 : decode cJ4_put_2 121 = .ok (.astore 8, 2) := dk_58 8 (dk_at dksJ4_put_2_5 3 rfl rfl)
theorem dJ4_put_2_123 : decode cJ4_put_2 123 = .ok (.aload 4, 2) := dk_25 4 (dk_at dksJ4_put_2_5 5 rfl rfl)
theorem dJ4_put_2_125 : decode cJ4_put_2 125 = .ok (.astore 6, 2) := dk_58 6 (dk_at dksJ4_put_2_5 7 rfl rfl)
theorem dJ4_put_2_127 : decode cJ4_put_2 127 = .ok (.aload 8, 2) := dk_25 8 (dk_at dksJ4_put_2_5 9 rfl rfl)
theorem dJ4_put_2_129 : decode cJ4_put_2 129 = .ok (.aload 4, 2) := dk_25 4 (dk_at dksJ4_put_2_5 11 rfl rfl)
theorem dJ4_put_2_131 : decode cJ4_put_2 131 = .ok (.getfield 105, 3) := dk_180 0 105 (dk_at dksJ4_put_2_5 13 rfl rfl)
theorem dJ4_put_2_134 : decode cJ4_put_2 134 = .ok (.invokeinterface 107 2, 5) := by decide +kernel
theorem dJ4_put_2_139 : decode cJ4_put_2 139 = .ok (.istore 5, 2) := dk_54 5 (dk_at dksJ4_put_2_5 21 rfl rfl)
theorem dJ4_put_2_141 : decode cJ4_put_2 141 = .ok (.iload 5, 2) := dk_21 5 (dk_at dksJ4_put_2_6 0 rfl rfl)
theorem dJ4_put_2_143 : decode cJ4_put_2 143 = .ok (.ifCond .ge 13, 3) := dk_156 0 13 (dk_at dksJ4_put_2_6 2 rfl rfl)
theorem dJ4_put_2_146 : decode cJ4_put_2 146 = .ok (.aload 4, 2) := dk_25 4 (dk_at dksJ4_put_2_6 5 rfl rfl)
theorem dJ4_put_2_148 : decode cJ4_put_2 148 = .ok (.getfield 111, 3) := dk_180 0 111 (dk_at dksJ4_put_2_6 7 rfl rfl)
theorem dJ4_put_2_151 : decode cJ4_put_2 151 = .ok (.astore 4, 2) := dk_58 4 (dk_at dksJ4_put_2_6 10 rfl rfl)
theorem dJ4_put_2_153 : decode cJ4_put_2 153 = .ok (.goto 43, 3) := dk_167 0 43 (dk_at dksJ4_put_2_6 12 rfl rfl)
theorem dJ4_put_2_156 : decode cJ4_put_2 156 = .ok (.iload 5, 2) := dk_21 5 (dk_at dksJ4_put_2_6 15 rfl rfl)
theorem dJ4_put_2_158 : decode cJ4_put_2 158 = .ok (.ifCond .le 13, 3) := dk_158 0 13 (dk_at dksJ4_put_2_6 17 rfl rfl)
theorem dJ4_put_2_161 : decode cJ4_put_2 161 = .ok (.aload 4, 2) := dk_25 4 (dk_at dksJ4_put_2_6 20 rfl rfl)
theorem dJ4_put_2_163 : decode cJ4_put_2 163 = .ok (.getfield 114, 3) := dk_180 0 114 (dk_at dksJ4_put_2_7 0 rfl rfl)
theorem dJ4_put_2_166 : decode cJ4_put_2 166 = .ok (.astore 4, 2) := dk_58 4 (dk_at dksJ4_put_2_7 3 rfl rfl)
theorem dJ4_put_2_168 : decode cJ4_put_2 168 = .ok (.goto 28, 3) := dk_167 0 28 (dk_at dksJ4_put_2_7 5 rfl rfl)
theorem dJ4_put_2_171 : decode cJ4_put_2 171 = .ok (.aload 4, 2) := dk_25 4 (dk_at dksJ4_put_2_7 8 rfl rfl)
theorem dJ4_put_2_173 : decode cJ4_put_2 173 = .ok (.getfield 58, 3) := dk_180 0 58 (dk_at dksJ4_put_2_7 10 rfl rfl)
theorem dJ4_put_2_176 : decode cJ4_put_2 176 = .ok (.astore 9, 2) := dk_58 9 (dk_at dksJ4_put_2_7 13 rfl rfl)
theorem dJ4_put_2_178 : decode cJ4_put_2 178 = .ok (.iload_n 3, 1) := dk_29 (dk_at dksJ4_put_2_7 15 rfl rfl)
theorem dJ4_put_2_179 : decode cJ4_put_2 179 = .ok (.ifCond .ne 8, 3) := dk_154 0 8 (dk_at dksJ4_put_2_7 16 rfl rfl)
theorem dJ4_put_2_182 : decode cJ4_put_2 182 = .ok (.aload 9, 2) := dk_25 9 (dk_at dksJ4_put_2_7 19 rfl rfl)
theorem dJ4_put_2_184 : decode cJ4_put_2 184 = .ok (.ifnonnull 9, 3) := dk_199 0 9 (dk_at dksJ4_put_2_7 21 rfl rfl)
theorem dJ4_put_2_187 : decode cJ4_put_2 187 = .ok (.aload 4, 2) := dk_25 4 (dk_at dksJ4_put_2_8 0 rfl rfl)
theorem dJ4_put_2_189 : decode cJ4_put_2 189 = .ok (.aload_n 2, 1) := dk_44 (dk_at dksJ4_put_2_8 2 rfl rfl)
theorem dJ4_put_2_190 : decode cJ4_put_2 190 = .ok (.putfield 58, 3) := dk_181 0 58 (dk_at dksJ4_put_2_8 3 rfl rfl)
theorem dJ4_put_2_193 : decode cJ4_put_2 193 = .ok (.aload 9, 2) := dk_25 9 (dk_at dksJ4_put_2_8 6 rfl rfl)
theorem dJ4_put_2_195 : decode cJ4_put_2 195 = .ok (.areturn, 1) := dk_176 (dk_at dksJ4_put_2_8 8 rfl rfl)
theorem dJ4_put_2_196 : decode cJ4_put_2 196 = .ok (.aload 4, 2) := dk_25 4 (dk_at dksJ4_put_2_8 9 rfl rfl)
theorem dJ4_put_2_198 : decode cJ4_put_2 198 = .ok (.ifnonnull (-75), 3) := dk_199 255 181 (dk_at dksJ4_put_2_8 11 rfl rfl)
theorem dJ4_put_2_201 : decode cJ4_put_2 201 = .ok (.aload_n 0, 1) := dk_42 (dk_at dksJ4_put_2_8 14 rfl rfl)
theorem dJ4_put_2_202 : decode cJ4_put_2 202 = .ok (.aload_n 1, 1) := dk_43 (dk_at dksJ4_put_2_8 15 rfl rfl)
theorem dJ4_put_2_203 : decode cJ4_put_2 203 = .ok (.aload_n 2, 1) := dk_44 (dk_at dksJ4_put_2_8 16 rfl rfl)
theorem dJ4_put_2_204 : decode cJ4_put_2 204 = .ok (.aload 6, 2) := dk_25 6 (dk_at dksJ4_put_2_8 17 rfl rfl)
theorem dJ4_put_2_206 : decode cJ4_put_2 206 = .ok (.iload 5, 2) := dk_21 5 (dk_at dksJ4_put_2_8 19 rfl rfl)
theorem dJ4_put_2_208 : decode cJ4_put_2 208 = .ok (.ifCond .ge 7, 3) := dk_156 0 7 (dk_at dksJ4_put_2_8 21 rfl rfl)
theorem dJ4_put_2_211 : decode cJ4_put_2 211 = .ok (.iconst 1, 1) := dk_4 (dk_at dksJ4_put_2_9 0 rfl rfl)
theorem dJ4_put_2_212 : decode cJ4_put_2 212 = .ok (.goto 4, 3) := dk_167 0 4 (dk_at dksJ4_put_2_9 1 rfl rfl)
theorem dJ4_put_2_215 : decode cJ4_put_2 215 = .ok (.iconst 0, 1) := dk_3 (dk_at dksJ4_put_2_9 4 rfl rfl)
theorem dJ4_put_2_216 : decode cJ4_put_2 216 = .ok (.invokevirtual 139, 3) := dk_182 0 139 (dk_at dksJ4_put_2_9 5 rfl rfl)
theorem dJ4_put_2_219 : decode cJ4_put_2 219 = .ok (.aconst_null, 1) := dk_1 (dk_at dksJ4_put_2_9 8 rfl rfl)
theorem dJ4_put_2_220 : decode cJ4_put_2 220 = .ok (.areturn, 1) := dk_176 (dk_at dksJ4_put_2_9 9 rfl rfl)
abbrev cJ4_addEntryToEmptyMap : ByteArray := prog_129_method_30_code
def yJ4_addEntryToEmptyMap : MethodName := ⟨RJ4, "addEntryToEmptyMap", "(Ljava/lang/Object;Ljava/lang/Object;)V"⟩
def dkwJ4_addEntryToEmptyMap_1 : List UInt8 := [181, 0, 7, 42, 89, 180, 0, 13, 4, 96, 181, 0, 13, 177]
abbrev dktJ4_addEntryToEmptyMap_1 : List UInt8 := dkwJ4_addEntryToEmptyMap_1 ++ []
def dkwJ4_addEntryToEmptyMap_0 : List UInt8 := [42, 43, 43, 182, 0, 123, 87, 42, 187, 0, 59, 89, 43, 44, 1, 183, 0, 167, 181, 0, 101, 42, 4]
abbrev dktJ4_addEntryToEmptyMap_0 : List UInt8 := dkwJ4_addEntryToEmptyMap_0 ++ dktJ4_addEntryToEmptyMap_1
theorem dksJ4_addEntryToEmptyMap_0 : cJ4_addEntryToEmptyMap.data.toList.drop 0 = dktJ4_addEntryToEmptyMap_0 := by decide +kernel
theorem dksJ4_addEntryToEmptyMap_1 : cJ4_addEntryToEmptyMap.data.toList.drop 23 = dktJ4_addEntryToEmptyMap_1 := dk_seg dksJ4_addEntryToEmptyMap_0 23 rfl rfl
theorem dJ4_addEntryToEmptyMap_0 : decode cJ4_addEntryToEmptyMap 0 = .ok (.aload_n 0, 1) := dk_42 (dk_at dksJ4_addEntryToEmptyMap_0 0 rfl rfl)
theorem dJ4_addEntryToEmptyMap_1 : decode cJ4_addEntryToEmptyMap 1 = .ok (.aload_n 1, 1) := dk_43 (dk_at dksJ4_addEntryToEmptyMap_0 1 rfl rfl)
theorem dJ4_addEntryToEmptyMap_2 : decode cJ4_addEntryToEmptyMap 2 = .ok (.aload_n 1, 1) := dk_43 (dk_at dksJ4_addEntryToEmptyMap_0 2 rfl rfl)
theorem dJ4_addEntryToEmptyMap_3 : decode cJ4_addEntryToEmptyMap 3 = .ok (.invokevirtual 123, 3) := dk_182 0 123 (dk_at dksJ4_addEntryToEmptyMap_0 3 rfl rfl)
theorem dJ4_addEntryToEmptyMap_6 : decode cJ4_addEntryToEmptyMap 6 = .ok (.pop, 1) := dk_87 (dk_at dksJ4_addEntryToEmptyMap_0 6 rfl rfl)
theorem dJ4_addEntryToEmptyMap_7 : decode cJ4_addEntryToEmptyMap 7 = .ok (.aload_n 0, 1) := dk_42 (dk_at dksJ4_addEntryToEmptyMap_0 7 rfl rfl)
theorem dJ4_addEntryToEmptyMap_8 : decode cJ4_addEntryToEmptyMap 8 = .ok (.new 59, 3) := dk_187 0 59 (dk_at dksJ4_addEntryToEmptyMap_0 8 rfl rfl)
theorem dJ4_addEntryToEmptyMap_11 : decode cJ4_addEntryToEmptyMap 11 = .ok (.dup, 1) := dk_89 (dk_at dksJ4_addEntryToEmptyMap_0 11 rfl rfl)
theorem dJ4_addEntryToEmptyMap_12 : decode cJ4_addEntryToEmptyMap 12 = .ok (.aload_n 1, 1) := dk_43 (dk_at dksJ4_addEntryToEmptyMap_0 12 rfl rfl)
theorem dJ4_addEntryToEmptyMap_13 : decode cJ4_addEntryToEmptyMap 13 = .ok (.aload_n 2, 1) := dk_44 (dk_at dksJ4_addEntryToEmptyMap_0 13 rfl rfl)
theorem dJ4_addEntryToEmptyMap_14 : decode cJ4_addEntryToEmptyMap 14 = .ok (.aconst_null, 1) := dk_1 (dk_at dksJ4_addEntryToEmptyMap_0 14 rfl rfl)
theorem dJ4_addEntryToEmptyMap_15 : decode cJ4_addEntryToEmptyMap 15 = .ok (.invokespecial 167, 3) := dk_183 0 167 (dk_at dksJ4_addEntryToEmptyMap_0 15 rfl rfl)
theorem dJ4_addEntryToEmptyMap_18 : decode cJ4_addEntryToEmptyMap 18 = .ok (.putfield 101, 3) := dk_181 0 101 (dk_at dksJ4_addEntryToEmptyMap_0 18 rfl rfl)
theorem dJ4_addEntryToEmptyMap_21 : decode cJ4_addEntryToEmptyMap 21 = .ok (.aload_n 0, 1) := dk_42 (dk_at dksJ4_addEntryToEmptyMap_0 21 rfl rfl)
theorem dJ4_addEntryToEmptyMap_22 : decode cJ4_addEntryToEmptyMap 22 = .ok (.iconst 1, 1) := dk_4 (dk_at dksJ4_addEntryToEmptyMap_0 22 rfl rfl)
theorem dJ4_addEntryToEmptyMap_23 : decode cJ4_addEntryToEmptyMap 23 = .ok (.putfield 7, 3) := dk_181 0 7 (dk_at dksJ4_addEntryToEmptyMap_1 0 rfl rfl)
theorem dJ4_addEntryToEmptyMap_26 : decode cJ4_addEntryToEmptyMap 26 = .ok (.aload_n 0, 1) := dk_42 (dk_at dksJ4_addEntryToEmptyMap_1 3 rfl rfl)
theorem dJ4_addEntryToEmptyMap_27 : decode cJ4_addEntryToEmptyMap 27 = .ok (.dup, 1) := dk_89 (dk_at dksJ4_addEntryToEmptyMap_1 4 rfl rfl)
theorem dJ4_addEntryToEmptyMap_28 : decode cJ4_addEntryToEmptyMap 28 = .ok (.getfield 13, 3) := dk_180 0 13 (dk_at dksJ4_addEntryToEmptyMap_1 5 rfl rfl)
theorem dJ4_addEntryToEmptyMap_31 : decode cJ4_addEntryToEmptyMap 31 = .ok (.iconst 1, 1) := dk_4 (dk_at dksJ4_addEntryToEmptyMap_1 8 rfl rfl)
theorem dJ4_addEntryToEmptyMap_32 : decode cJ4_addEntryToEmptyMap 32 = .ok (.iadd, 1) := dk_96 (dk_at dksJ4_addEntryToEmptyMap_1 9 rfl rfl)
theorem dJ4_addEntryToEmptyMap_33 : decode cJ4_addEntryToEmptyMap 33 = .ok (.putfield 13, 3) := dk_181 0 13 (dk_at dksJ4_addEntryToEmptyMap_1 10 rfl rfl)
theorem dJ4_addEntryToEmptyMap_36 : decode cJ4_addEntryToEmptyMap 36 = .ok (.return_, 1) := dk_177 (dk_at dksJ4_addEntryToEmptyMap_1 13 rfl rfl)
abbrev cJ4_compare : ByteArray := prog_129_method_67_code
def yJ4_compare : MethodName := ⟨RJ4, "compare", "(Ljava/lang/Object;Ljava/lang/Object;)I"⟩
def dkwJ4_compare_1 : List UInt8 := [43, 44, 185, 0, 117, 3, 0, 172]
abbrev dktJ4_compare_1 : List UInt8 := dkwJ4_compare_1 ++ []
def dkwJ4_compare_0 : List UInt8 := [42, 180, 0, 16, 199, 0, 16, 43, 192, 0, 99, 44, 185, 0, 107, 2, 0, 167, 0, 14, 42, 180, 0, 16]
abbrev dktJ4_compare_0 : List UInt8 := dkwJ4_compare_0 ++ dktJ4_compare_1
theorem dksJ4_compare_0 : cJ4_compare.data.toList.drop 0 = dktJ4_compare_0 := by decide +kernel
theorem dksJ4_compare_1 : cJ4_compare.data.toList.drop 24 = dktJ4_compare_1 := dk_seg dksJ4_compare_0 24 rfl rfl
theorem dJ4_compare_0 : decode cJ4_compare 0 = .ok (.aload_n 0, 1) := dk_42 (dk_at dksJ4_compare_0 0 rfl rfl)
theorem dJ4_compare_1 : decode cJ4_compare 1 = .ok (.getfield 16, 3) := dk_180 0 16 (dk_at dksJ4_compare_0 1 rfl rfl)
theorem dJ4_compare_4 : decode cJ4_compare 4 = .ok (.ifnonnull 16, 3) := dk_199 0 16 (dk_at dksJ4_compare_0 4 rfl rfl)
theorem dJ4_compare_7 : decode cJ4_compare 7 = .ok (.aload_n 1, 1) := dk_43 (dk_at dksJ4_compare_0 7 rfl rfl)
theorem dJ4_compare_8 : decode cJ4_compare 8 = .ok (.checkcast 99, 3) := dk_192 0 99 (dk_at dksJ4_compare_0 8 rfl rfl)
theorem dJ4_compare_11 : decode cJ4_compare 11 = .ok (.aload_n 2, 1) := dk_44 (dk_at dksJ4_compare_0 11 rfl rfl)
theorem dJ4_compare_12 : decode cJ4_compare 12 = .ok (.invokeinterface 107 2, 5) := by decide +kernel
theorem dJ4_compare_17 : decode cJ4_compare 17 = .ok (.goto 14, 3) := dk_167 0 14 (dk_at dksJ4_compare_0 17 rfl rfl)
theorem dJ4_compare_20 : decode cJ4_compare 20 = .ok (.aload_n 0, 1) := dk_42 (dk_at dksJ4_compare_0 20 rfl rfl)
theorem dJ4_compare_21 : decode cJ4_compare 21 = .ok (.getfield 16, 3) := dk_180 0 16 (dk_at dksJ4_compare_0 21 rfl rfl)
theorem dJ4_compare_24 : decode cJ4_compare 24 = .ok (.aload_n 1, 1) := dk_43 (dk_at dksJ4_compare_1 0 rfl rfl)
theorem dJ4_compare_25 : decode cJ4_compare 25 = .ok (.aload_n 2, 1) := dk_44 (dk_at dksJ4_compare_1 1 rfl rfl)
theorem dJ4_compare_26 : decode cJ4_compare 26 = .ok (.invokeinterface 117 3, 5) := by decide +kernel
theorem dJ4_compare_31 : decode cJ4_compare 31 = .ok (.ireturn, 1) := dk_172 (dk_at dksJ4_compare_1 7 rfl rfl)
abbrev cJ4_addEntry : ByteArray := prog_129_method_29_code
def yJ4_addEntry : MethodName := ⟨RJ4, "addEntry", "(Ljava/lang/Object;Ljava/lang/Object;Ljava/util/TreeMap$Entry;Z)V"⟩
def dkwJ4_addEntry_2 : List UInt8 := [181, 0, 7, 42, 89, 180, 0, 13, 4, 96, 181, 0, 13, 177]
abbrev dktJ4_addEntry_2 : List UInt8 := dkwJ4_addEntry_2 ++ []
def dkwJ4_addEntry_1 : List UInt8 := [167, 0, 9, 45, 25, 5, 181, 0, 114, 42, 25, 5, 182, 0, 170, 42, 89, 180, 0, 7, 4, 96]
abbrev dktJ4_addEntry_1 : List UInt8 := dkwJ4_addEntry_1 ++ dktJ4_addEntry_2
def dkwJ4_addEntry_0 : List UInt8 := [187, 0, 59, 89, 43, 44, 45, 183, 0, 167, 58, 5, 21, 4, 153, 0, 12, 45, 25, 5, 181, 0, 111]
abbrev dktJ4_addEntry_0 : List UInt8 := dkwJ4_addEntry_0 ++ dktJ4_addEntry_1
theorem dksJ4_addEntry_0 : cJ4_addEntry.data.toList.drop 0 = dktJ4_addEntry_0 := by decide +kernel
theorem dksJ4_addEntry_1 : cJ4_addEntry.data.toList.drop 23 = dktJ4_addEntry_1 := dk_seg dksJ4_addEntry_0 23 rfl rfl
theorem dksJ4_addEntry_2 : cJ4_addEntry.data.toList.drop 45 = dktJ4_addEntry_2 := dk_seg dksJ4_addEntry_1 22 rfl rfl
theorem dJ4_addEntry_0 : decode cJ4_addEntry 0 = .ok (.new 59, 3) := dk_187 0 59 (dk_at dksJ4_addEntry_0 0 rfl rfl)
theorem dJ4_addEntry_3 : decode cJ4_addEntry 3 = .ok (.dup, 1) := dk_89 (dk_at dksJ4_addEntry_0 3 rfl rfl)
theorem dJ4_addEntry_4 : decode cJ4_addEntry 4 = .ok (.aload_n 1, 1) := dk_43 (dk_at dksJ4_addEntry_0 4 rfl rfl)
theorem dJ4_addEntry_5 : decode cJ4_addEntry 5 = .ok (.aload_n 2, 1) := dk_44 (dk_at dksJ4_addEntry_0 5 rfl rfl)
theorem dJ4_addEntry_6 : decode cJ4_addEntry 6 = .ok (.aload_n 3, 1) := dk_45 (dk_at dksJ4_addEntry_0 6 rfl rfl)
theorem dJ4_addEntry_7 : decode cJ4_addEntry 7 = .ok (.invokespecial 167, 3) := dk_183 0 167 (dk_at dksJ4_addEntry_0 7 rfl rfl)
theorem dJ4_addEntry_10 : decode cJ4_addEntry 10 = .ok (.astore 5, 2) := dk_58 5 (dk_at dksJ4_addEntry_0 10 rfl rfl)
theorem dJ4_addEntry_12 : decode cJ4_addEntry 12 = .ok (.iload 4, 2) := dk_21 4 (dk_at dksJ4_addEntry_0 12 rfl rfl)
theorem dJ4_addEntry_14 : decode cJ4_addEntry 14 = .ok (.ifCond .eq 12, 3) := dk_153 0 12 (dk_at dksJ4_addEntry_0 14 rfl rfl)
theorem dJ4_addEntry_17 : decode cJ4_addEntry 17 = .ok (.aload_n 3, 1) := dk_45 (dk_at dksJ4_addEntry_0 17 rfl rfl)
theorem dJ4_addEntry_18 : decode cJ4_addEntry 18 = .ok (.aload 5, 2) := dk_25 5 (dk_at dksJ4_addEntry_0 18 rfl rfl)
theorem dJ4_addEntry_20 : decode cJ4_addEntry 20 = .ok (.putfield 111, 3) := dk_181 0 111 (dk_at dksJ4_addEntry_0 20 rfl rfl)
theorem dJ4_addEntry_23 : decode cJ4_addEntry 23 = .ok (.goto 9, 3) := dk_167 0 9 (dk_at dksJ4_addEntry_1 0 rfl rfl)
theorem dJ4_addEntry_26 : decode cJ4_addEntry 26 = .ok (.aload_n 3, 1) := dk_45 (dk_at dksJ4_addEntry_1 3 rfl rfl)
theorem dJ4_addEntry_27 : decode cJ4_addEntry 27 = .ok (.aload 5, 2) := dk_25 5 (dk_at dksJ4_addEntry_1 4 rfl rfl)
theorem dJ4_addEntry_29 : decode cJ4_addEntry 29 = .ok (.putfield 114, 3) := dk_181 0 114 (dk_at dksJ4_addEntry_1 6 rfl rfl)
theorem dJ4_addEntry_32 : decode cJ4_addEntry 32 = .ok (.aload_n 0, 1) := dk_42 (dk_at dksJ4_addEntry_1 9 rfl rfl)
theorem dJ4_addEntry_33 : decode cJ4_addEntry 33 = .ok (.aload 5, 2) := dk_25 5 (dk_at dksJ4_addEntry_1 10 rfl rfl)
theorem dJ4_addEntry_35 : decode cJ4_addEntry 35 = .ok (.invokevirtual 170, 3) := dk_182 0 170 (dk_at dksJ4_addEntry_1 12 rfl rfl)
theorem dJ4_addEntry_38 : decode cJ4_addEntry 38 = .ok (.aload_n 0, 1) := dk_42 (dk_at dksJ4_addEntry_1 15 rfl rfl)
theorem dJ4_addEntry_39 : decode cJ4_addEntry 39 = .ok (.dup, 1) := dk_89 (dk_at dksJ4_addEntry_1 16 rfl rfl)
theorem dJ4_addEntry_40 : decode cJ4_addEntry 40 = .ok (.getfield 7, 3) := dk_180 0 7 (dk_at dksJ4_addEntry_1 17 rfl rfl)
theorem dJ4_addEntry_43 : decode cJ4_addEntry 43 = .ok (.iconst 1, 1) := dk_4 (dk_at dksJ4_addEntry_1 20 rfl rfl)
theorem dJ4_addEntry_44 : decode cJ4_addEntry 44 = .ok (.iadd, 1) := dk_96 (dk_at dksJ4_addEntry_1 21 rfl rfl)
theorem dJ4_addEntry_45 : decode cJ4_addEntry 45 = .ok (.putfield 7, 3) := dk_181 0 7 (dk_at dksJ4_addEntry_2 0 rfl rfl)
theorem dJ4_addEntry_48 : decode cJ4_addEntry 48 = .ok (.aload_n 0, 1) := dk_42 (dk_at dksJ4_addEntry_2 3 rfl rfl)
theorem dJ4_addEntry_49 : decode cJ4_addEntry 49 = .ok (.dup, 1) := dk_89 (dk_at dksJ4_addEntry_2 4 rfl rfl)
theorem dJ4_addEntry_50 : decode cJ4_addEntry 50 = .ok (.getfield 13, 3) := dk_180 0 13 (dk_at dksJ4_addEntry_2 5 rfl rfl)
theorem dJ4_addEntry_53 : decode cJ4_addEntry 53 = .ok (.iconst 1, 1) := dk_4 (dk_at dksJ4_addEntry_2 8 rfl rfl)
theorem dJ4_addEntry_54 : decode cJ4_addEntry 54 = .ok (.iadd, 1) := dk_96 (dk_at dksJ4_addEntry_2 9 rfl rfl)
theorem dJ4_addEntry_55 : decode cJ4_addEntry 55 = .ok (.putfield 13, 3) := dk_181 0 13 (dk_at dksJ4_addEntry_2 10 rfl rfl)
theorem dJ4_addEntry_58 : decode cJ4_addEntry 58 = .ok (.return_, 1) := dk_177 (dk_at dksJ4_addEntry_2 13 rfl rfl)
abbrev cJ4_fixAfterInsertion : ByteArray := prog_129_method_83_code
def yJ4_fixAfterInsertion : MethodName := ⟨RJ4, "fixAfterInsertion", "(Ljava/util/TreeMap$Entry;)V"⟩
def dkwJ4_fixAfterInsertion_11 : List UInt8 := [42, 180, 0, 101, 4, 181, 1, 34, 177]
abbrev dktJ4_fixAfterInsertion_11 : List UInt8 := dkwJ4_fixAfterInsertion_11 ++ []
def dkwJ4_fixAfterInsertion_10 : List UInt8 := [184, 1, 38, 184, 1, 38, 3, 184, 1, 51, 42, 43, 184, 1, 38, 184, 1, 38, 182, 1, 55, 167, 255, 6]
abbrev dktJ4_fixAfterInsertion_10 : List UInt8 := dkwJ4_fixAfterInsertion_10 ++ dktJ4_fixAfterInsertion_11
def dkwJ4_fixAfterInsertion_9 : List UInt8 := [166, 0, 13, 43, 184, 1, 38, 76, 42, 43, 182, 1, 58, 43, 184, 1, 38, 4, 184, 1, 51, 43]
abbrev dktJ4_fixAfterInsertion_9 : List UInt8 := dkwJ4_fixAfterInsertion_9 ++ dktJ4_fixAfterInsertion_10
def dkwJ4_fixAfterInsertion_8 : List UInt8 := [184, 1, 51, 43, 184, 1, 38, 184, 1, 38, 76, 167, 0, 54, 43, 43, 184, 1, 38, 184, 1, 41]
abbrev dktJ4_fixAfterInsertion_8 : List UInt8 := dkwJ4_fixAfterInsertion_8 ++ dktJ4_fixAfterInsertion_9
def dkwJ4_fixAfterInsertion_7 : List UInt8 := [154, 0, 38, 43, 184, 1, 38, 4, 184, 1, 51, 44, 4, 184, 1, 51, 43, 184, 1, 38, 184, 1, 38, 3]
abbrev dktJ4_fixAfterInsertion_7 : List UInt8 := dkwJ4_fixAfterInsertion_7 ++ dktJ4_fixAfterInsertion_8
def dkwJ4_fixAfterInsertion_6 : List UInt8 := [184, 1, 38, 182, 1, 58, 167, 255, 113, 43, 184, 1, 38, 184, 1, 38, 184, 1, 41, 77, 44, 184, 1, 47]
abbrev dktJ4_fixAfterInsertion_6 : List UInt8 := dkwJ4_fixAfterInsertion_6 ++ dktJ4_fixAfterInsertion_7
def dkwJ4_fixAfterInsertion_5 : List UInt8 := [43, 184, 1, 38, 4, 184, 1, 51, 43, 184, 1, 38, 184, 1, 38, 3, 184, 1, 51, 42, 43, 184, 1, 38]
abbrev dktJ4_fixAfterInsertion_5 : List UInt8 := dkwJ4_fixAfterInsertion_5 ++ dktJ4_fixAfterInsertion_6
def dkwJ4_fixAfterInsertion_4 : List UInt8 := [167, 0, 54, 43, 43, 184, 1, 38, 184, 1, 44, 166, 0, 13, 43, 184, 1, 38, 76, 42, 43, 182, 1, 55]
abbrev dktJ4_fixAfterInsertion_4 : List UInt8 := dkwJ4_fixAfterInsertion_4 ++ dktJ4_fixAfterInsertion_5
def dkwJ4_fixAfterInsertion_3 : List UInt8 := [184, 1, 51, 43, 184, 1, 38, 184, 1, 38, 3, 184, 1, 51, 43, 184, 1, 38, 184, 1, 38, 76]
abbrev dktJ4_fixAfterInsertion_3 : List UInt8 := dkwJ4_fixAfterInsertion_3 ++ dktJ4_fixAfterInsertion_4
def dkwJ4_fixAfterInsertion_2 : List UInt8 := [184, 1, 38, 184, 1, 44, 77, 44, 184, 1, 47, 154, 0, 38, 43, 184, 1, 38, 4, 184, 1, 51, 44, 4]
abbrev dktJ4_fixAfterInsertion_2 : List UInt8 := dkwJ4_fixAfterInsertion_2 ++ dktJ4_fixAfterInsertion_3
def dkwJ4_fixAfterInsertion_1 : List UInt8 := [154, 0, 234, 43, 184, 1, 38, 43, 184, 1, 38, 184, 1, 38, 184, 1, 41, 166, 0, 110, 43, 184, 1, 38]
abbrev dktJ4_fixAfterInsertion_1 : List UInt8 := dkwJ4_fixAfterInsertion_1 ++ dktJ4_fixAfterInsertion_2
def dkwJ4_fixAfterInsertion_0 : List UInt8 := [43, 3, 181, 1, 34, 43, 198, 0, 252, 43, 42, 180, 0, 101, 165, 0, 244, 43, 180, 0, 124, 180, 1, 34]
abbrev dktJ4_fixAfterInsertion_0 : List UInt8 := dkwJ4_fixAfterInsertion_0 ++ dktJ4_fixAfterInsertion_1
theorem dksJ4_fixAfterInsertion_0 : cJ4_fixAfterInsertion.data.toList.drop 0 = dktJ4_fixAfterInsertion_0 := by decide +kernel
theorem dksJ4_fixAfterInsertion_1 : cJ4_fixAfterInsertion.data.toList.drop 24 = dktJ4_fixAfterInsertion_1 := dk_seg dksJ4_fixAfterInsertion_0 24 rfl rfl
theorem dksJ4_fixAfterInsertion_2 : cJ4_fixAfterInsertion.data.toList.drop 48 = dktJ4_fixAfterInsertion_2 := dk_seg dksJ4_fixAfterInsertion_1 24 rfl rfl
theorem dksJ4_fixAfterInsertion_3 : cJ4_fixAfterInsertion.data.toList.drop 72 = dktJ4_fixAfterInsertion_3 := dk_seg dksJ4_fixAfterInsertion_2 24 rfl rfl
theorem dksJ4_fixAfterInsertion_4 : cJ4_fixAfterInsertion.data.toList.drop 94 = dktJ4_fixAfterInsertion_4 := dk_seg dksJ4_fixAfterInsertion_3 22 rfl rfl
theorem dksJ4_fixAfterInsertion_5 : cJ4_fixAfterInsertion.data.toList.drop 118 = dktJ4_fixAfterInsertion_5 := dk_seg dksJ4_fixAfterInsertion_4 24 rfl rfl
theorem dksJ4_fixAfterInsertion_6 : cJ4_fixAfterInsertion.data.toList.drop 142 = dktJ4_fixAfterInsertion_6 := dk_seg dksJ4_fixAfterInsertion_5 24 rfl rfl
theorem dksJ4_fixAfterInsertion_7 : cJ4_fixAfterInsertion.data.toList.drop 166 = dktJ4_fixAfterInsertion_7 := dk_seg dksJ4_fixAfterInsertion_6 24 rfl rfl
theorem dksJ4_fixAfterInsertion_8 : cJ4_fixAfterInsertion.data.toList.drop 190 = dktJ4_fixAfterInsertion_8 := dk_seg dksJ4_fixAfterInsertion_7 24 rfl rfl
theorem dksJ4_fixAfterInsertion_9 : cJ4_fixAfterInsertion.data.toList.drop 212 = dktJ4_fixAfterInsertion_9 := dk_seg dksJ4_fixAfterInsertion_8 22 rfl rfl
theorem dksJ4_fixAfterInsertion_10 : cJ4_fixAfterInsertion.data.toList.drop 234 = dktJ4_fixAfterInsertion_10 := dk_seg dksJ4_fixAfterInsertion_9 22 rfl rfl
theorem dksJ4_fixAfterInsertion_11 : cJ4_fixAfterInsertion.data.toList.drop 258 = dktJ4_fixAfterInsertion_11 := dk_seg dksJ4_fixAfterInsertion_10 24 rfl rfl
theorem dJ4_fixAfterInsertion_0 : decode cJ4_fixAfterInsertion 0 = .ok (.aload_n 1, 1) := dk_43 (dk_at dksJ4_fixAfterInsertion_0 0 rfl rfl)
theorem dJ4_fixAfterInsertion_1 : decode cJ4_fixAfterInsertion 1 = .ok (.iconst 0, 1) := dk_3 (dk_at dksJ4_fixAfterInsertion_0 1 rfl rfl)
theorem dJ4_fixAfterInsertion_2 : decode cJ4_fixAfterInsertion 2 = .ok (.putfield 290, 3) := dk_181 1 34 (dk_at dksJ4_fixAfterInsertion_0 2 rfl rfl)
theorem dJ4_fixAfterInsertion_5 : decode cJ4_fixAfterInsertion 5 = .ok (.aload_n 1, 1) := dk_43 (dk_at dksJ4_fixAfterInsertion_0 5 rfl rfl)
theorem dJ4_fixAfterInsertion_6 : decode cJ4_fixAfterInsertion 6 = .ok (.ifnull 252, 3) := dk_198 0 252 (dk_at dksJ4_fixAfterInsertion_0 6 rfl rfl)
theorem dJ4_fixAfterInsertion_9 : decode cJ4_fixAfterInsertion 9 = .ok (.aload_n 1, 1) := dk_43 (dk_at dksJ4_fixAfterInsertion_0 9 rfl rfl)
theorem dJ4_fixAfterInsertion_10 : decode cJ4_fixAfterInsertion 10 = .ok (.aload_n 0, 1) := dk_42 (dk_at dksJ4_fixAfterInsertion_0 10 rfl rfl)
theorem dJ4_fixAfterInsertion_11 : decode cJ4_fixAfterInsertion 11 = .ok (.getfield 101, 3) := dk_180 0 101 (dk_at dksJ4_fixAfterInsertion_0 11 rfl rfl)
theorem dJ4_fixAfterInsertion_14 : decode cJ4_fixAfterInsertion 14 = .ok (.if_acmp .eq 244, 3) := dk_165 0 244 (dk_at dksJ4_fixAfterInsertion_0 14 rfl rfl)
theorem dJ4_fixAfterInsertion_17 : decode cJ4_fixAfterInsertion 17 = .ok (.aload_n 1, 1) := dk_43 (dk_at dksJ4_fixAfterInsertion_0 17 rfl rfl)
theorem dJ4_fixAfterInsertion_18 : decode cJ4_fixAfterInsertion 18 = .ok (.getfield 124, 3) := dk_180 0 124 (dk_at dksJ4_fixAfterInsertion_0 18 rfl rfl)
theorem dJ4_fixAfterInsertion_21 : decode cJ4_fixAfterInsertion 21 = .ok (.getfield 290, 3) := dk_180 1 34 (dk_at dksJ4_fixAfterInsertion_0 21 rfl rfl)
theorem dJ4_fixAfterInsertion_24 : decode cJ4_fixAfterInsertion 24 = .ok (.ifCond .ne 234, 3) := dk_154 0 234 (dk_at dksJ4_fixAfterInsertion_1 0 rfl rfl)
theorem dJ4_fixAfterInsertion_27 : decode cJ4_fixAfterInsertion 27 = .ok (.aload_n 1, 1) := dk_43 (dk_at dksJ4_fixAfterInsertion_1 3 rfl rfl)
theorem dJ4_fixAfterInsertion_28 : decode cJ4_fixAfterInsertion 28 = .ok (.invokestatic 294, 3) := dk_184 1 38 (dk_at dksJ4_fixAfterInsertion_1 4 rfl rfl)
theorem dJ4_fixAfterInsertion_31 : decode cJ4_fixAfterInsertion 31 = .ok (.aload_n 1, 1) := dk_43 (dk_at dksJ4_fixAfterInsertion_1 7 rfl rfl)
theorem dJ4_fixAfterInsertion_32 : decode cJ4_fixAfterInsertion 32 = .ok (.invokestatic 294, 3) := dk_184 1 38 (dk_at dksJ4_fixAfterInsertion_1 8 rfl rfl)
theorem dJ4_fixAfterInsertion_35 : decode cJ4_fixAfterInsertion 35 = .ok (.invokestatic 294, 3) := dk_184 1 38 (dk_at dksJ4_fixAfterInsertion_1 11 rfl rfl)
theorem dJ4_fixAfterInsertion_38 : decode cJ4_fixAfterInsertion 38 = .ok (.invokestatic 297, 3) := dk_184 1 41 (dk_at dksJ4_fixAfterInsertion_1 14 rfl rfl)
theorem dJ4_fixAfterInsertion_41 : decode cJ4_fixAfterInsertion 41 = .ok (.if_acmp .ne 110, 3) := dk_166 0 110 (dk_at dksJ4_fixAfterInsertion_1 17 rfl rfl)
theorem dJ4_fixAfterInsertion_44 : decode cJ4_fixAfterInsertion 44 = .ok (.aload_n 1, 1) := dk_43 (dk_at dksJ4_fixAfterInsertion_1 20 rfl rfl)
theorem dJ4_fixAfterInsertion_45 : decode cJ4_fixAfterInsertion 45 = .ok (.invokestatic 294, 3) := dk_184 1 38 (dk_at dksJ4_fixAfterInsertion_1 21 rfl rfl)
theorem dJ4_fixAfterInsertion_48 : decode cJ4_fixAfterInsertion 48 = .ok (.invokestatic 294, 3) := dk_184 1 38 (dk_at dksJ4_fixAfterInsertion_2 0 rfl rfl)
theorem dJ4_fixAfterInsertion_51 : decode cJ4_fixAfterInsertion 51 = .ok (.invokestatic 300, 3) := dk_184 1 44 (dk_at dksJ4_fixAfterInsertion_2 3 rfl rfl)
theorem dJ4_fixAfterInsertion_54 : decode cJ4_fixAfterInsertion 54 = .ok (.astore_n 2, 1) := dk_77 (dk_at dksJ4_fixAfterInsertion_2 6 rfl rfl)
theorem dJ4_fixAfterInsertion_55 : decode cJ4_fixAfterInsertion 55 = .ok (.aload_n 2, 1) := dk_44 (dk_at dksJ4_fixAfterInsertion_2 7 rfl rfl)
theorem dJ4_fixAfterInsertion_56 : decode cJ4_fixAfterInsertion 56 = .ok (.invokestatic 303, 3) := dk_184 1 47 (dk_at dksJ4_fixAfterInsertion_2 8 rfl rfl)
theorem dJ4_fixAfterInsertion_59 : decode cJ4_fixAfterInsertion 59 = .ok (.ifCond .ne 38, 3) := dk_154 0 38 (dk_at dksJ4_fixAfterInsertion_2 11 rfl rfl)
theorem dJ4_fixAfterInsertion_62 : decode cJ4_fixAfterInsertion 62 = .ok (.aload_n 1, 1) := dk_43 (dk_at dksJ4_fixAfterInsertion_2 14 rfl rfl)
theorem dJ4_fixAfterInsertion_63 : decode cJ4_fixAfterInsertion 63 = .ok (.invokestatic 294, 3) := dk_184 1 38 (dk_at dksJ4_fixAfterInsertion_2 15 rfl rfl)
theorem dJ4_fixAfterInsertion_66 : decode cJ4_fixAfterInsertion 66 = .ok (.iconst 1, 1) := dk_4 (dk_at dksJ4_fixAfterInsertion_2 18 rfl rfl)
theorem dJ4_fixAfterInsertion_67 : decode cJ4_fixAfterInsertion 67 = .ok (.invokestatic 307, 3) := dk_184 1 51 (dk_at dksJ4_fixAfterInsertion_2 19 rfl rfl)
theorem dJ4_fixAfterInsertion_70 : decode cJ4_fixAfterInsertion 70 = .ok (.aload_n 2, 1) := dk_44 (dk_at dksJ4_fixAfterInsertion_2 22 rfl rfl)
theorem dJ4_fixAfterInsertion_71 : decode cJ4_fixAfterInsertion 71 = .ok (.iconst 1, 1) := dk_4 (dk_at dksJ4_fixAfterInsertion_2 23 rfl rfl)
theorem dJ4_fixAfterInsertion_72 : decode cJ4_fixAfterInsertion 72 = .ok (.invokestatic 307, 3) := dk_184 1 51 (dk_at dksJ4_fixAfterInsertion_3 0 rfl rfl)
theorem dJ4_fixAfterInsertion_75 : decode cJ4_fixAfterInsertion 75 = .ok (.aload_n 1, 1) := dk_43 (dk_at dksJ4_fixAfterInsertion_3 3 rfl rfl)
theorem dJ4_fixAfterInsertion_76 : decode cJ4_fixAfterInsertion 76 = .ok (.invokestatic 294, 3) := dk_184 1 38 (dk_at dksJ4_fixAfterInsertion_3 4 rfl rfl)
theorem dJ4_fixAfterInsertion_79 : decode cJ4_fixAfterInsertion 79 = .ok (.invokestatic 294, 3) := dk_184 1 38 (dk_at dksJ4_fixAfterInsertion_3 7 rfl rfl)
theorem dJ4_fixAfterInsertion_82 : decode cJ4_fixAfterInsertion 82 = .ok (.iconst 0, 1) := dk_3 (dk_at dksJ4_fixAfterInsertion_3 10 rfl rfl)
theorem dJ4_fixAfterInsertion_83 : decode cJ4_fixAfterInsertion 83 = .ok (.invokestatic 307, 3) := dk_184 1 51 (dk_at dksJ4_fixAfterInsertion_3 11 rfl rfl)
theorem dJ4_fixAfterInsertion_86 : decode cJ4_fixAfterInsertion 86 = .ok (.aload_n 1, 1) := dk_43 (dk_at dksJ4_fixAfterInsertion_3 14 rfl rfl)
theorem dJ4_fixAfterInsertion_87 : decode cJ4_fixAfterInsertion 87 = .ok (.invokestatic 294, 3) := dk_184 1 38 (dk_at dksJ4_fixAfterInsertion_3 15 rfl rfl)
theorem dJ4_fixAfterInsertion_90 : decode cJ4_fixAfterInsertion 90 = .ok (.invokestatic 294, 3) := dk_184 1 38 (dk_at dksJ4_fixAfterInsertion_3 18 rfl rfl)
theorem dJ4_fixAfterInsertion_93 : decode cJ4_fixAfterInsertion 93 = .ok (.astore_n 1, 1) := dk_76 (dk_at dksJ4_fixAfterInsertion_3 21 rfl rfl)
theorem dJ4_fixAfterInsertion_94 : decode cJ4_fixAfterInsertion 94 = .ok (.goto 54, 3) := dk_167 0 54 (dk_at dksJ4_fixAfterInsertion_4 0 rfl rfl)
theorem dJ4_fixAfterInsertion_97 : decode cJ4_fixAfterInsertion 97 = .ok (.aload_n 1, 1) := dk_43 (dk_at dksJ4_fixAfterInsertion_4 3 rfl rfl)
theorem dJ4_fixAfterInsertion_98 : decode cJ4_fixAfterInsertion 98 = .ok (.aload_n 1, 1) := dk_43 (dk_at dksJ4_fixAfterInsertion_4 4 rfl rfl)
theorem dJ4_fixAfterInsertion_99 : decode cJ4_fixAfterInsertion 99 = .ok (.invokestatic 294, 3) := dk_184 1 38 (dk_at dksJ4_fixAfterInsertion_4 5 rfl rfl)
theorem dJ4_fixAfterInsertion_102 : decode cJ4_fixAfterInsertion 102 = .ok (.invokestatic 300, 3) := dk_184 1 44 (dk_at dksJ4_fixAfterInsertion_4 8 rfl rfl)
theorem dJ4_fixAfterInsertion_105 : decode cJ4_fixAfterInsertion 105 = .ok (.if_acmp .ne 13, 3) := dk_166 0 13 (dk_at dksJ4_fixAfterInsertion_4 11 rfl rfl)
theorem dJ4_fixAfterInsertion_108 : decode cJ4_fixAfterInsertion 108 = .ok (.aload_n 1, 1) := dk_43 (dk_at dksJ4_fixAfterInsertion_4 14 rfl rfl)
theorem dJ4_fixAfterInsertion_109 : decode cJ4_fixAfterInsertion 109 = .ok (.invokestatic 294, 3) := dk_184 1 38 (dk_at dksJ4_fixAfterInsertion_4 15 rfl rfl)
theorem dJ4_fixAfterInsertion_112 : decode cJ4_fixAfterInsertion 112 = .ok (.astore_n 1, 1) := dk_76 (dk_at dksJ4_fixAfterInsertion_4 18 rfl rfl)
theorem dJ4_fixAfterInsertion_113 : decode cJ4_fixAfterInsertion 113 = .ok (.aload_n 0, 1) := dk_42 (dk_at dksJ4_fixAfterInsertion_4 19 rfl rfl)
theorem dJ4_fixAfterInsertion_114 : decode cJ4_fixAfterInsertion 114 = .ok (.aload_n 1, 1) := dk_43 (dk_at dksJ4_fixAfterInsertion_4 20 rfl rfl)
theorem dJ4_fixAfterInsertion_115 : decode cJ4_fixAfterInsertion 115 = .ok (.invokevirtual 311, 3) := dk_182 1 55 (dk_at dksJ4_fixAfterInsertion_4 21 rfl rfl)
theorem dJ4_fixAfterInsertion_118 : decode cJ4_fixAfterInsertion 118 = .ok (.aload_n 1, 1) := dk_43 (dk_at dksJ4_fixAfterInsertion_5 0 rfl rfl)
theorem dJ4_fixAfterInsertion_119 : decode cJ4_fixAfterInsertion 119 = .ok (.invokestatic 294, 3) := dk_184 1 38 (dk_at dksJ4_fixAfterInsertion_5 1 rfl rfl)
theorem dJ4_fixAfterInsertion_122 : decode cJ4_fixAfterInsertion 122 = .ok (.iconst 1, 1) := dk_4 (dk_at dksJ4_fixAfterInsertion_5 4 rfl rfl)
theorem dJ4_fixAfterInsertion_123 : decode cJ4_fixAfterInsertion 123 = .ok (.invokestatic 307, 3) := dk_184 1 51 (dk_at dksJ4_fixAfterInsertion_5 5 rfl rfl)
theorem dJ4_fixAfterInsertion_126 : decode cJ4_fixAfterInsertion 126 = .ok (.aload_n 1, 1) := dk_43 (dk_at dksJ4_fixAfterInsertion_5 8 rfl rfl)
theorem dJ4_fixAfterInsertion_127 : decode cJ4_fixAfterInsertion 127 = .ok (.invokestatic 294, 3) := dk_184 1 38 (dk_at dksJ4_fixAfterInsertion_5 9 rfl rfl)
theorem dJ4_fixAfterInsertion_130 : decode cJ4_fixAfterInsertion 130 = .ok (.invokestatic 294, 3) := dk_184 1 38 (dk_at dksJ4_fixAfterInsertion_5 12 rfl rfl)
theorem dJ4_fixAfterInsertion_133 : decode cJ4_fixAfterInsertion 133 = .ok (.iconst 0, 1) := dk_3 (dk_at dksJ4_fixAfterInsertion_5 15 rfl rfl)
theorem dJ4_fixAfterInsertion_134 : decode cJ4_fixAfterInsertion 134 = .ok (.invokestatic 307, 3) := dk_184 1 51 (dk_at dksJ4_fixAfterInsertion_5 16 rfl rfl)
theorem dJ4_fixAfterInsertion_137 : decode cJ4_fixAfterInsertion 137 = .ok (.aload_n 0, 1) := dk_42 (dk_at dksJ4_fixAfterInsertion_5 19 rfl rfl)
theorem dJ4_fixAfterInsertion_138 : decode cJ4_fixAfterInsertion 138 = .ok (.aload_n 1, 1) := dk_43 (dk_at dksJ4_fixAfterInsertion_5 20 rfl rfl)
theorem dJ4_fixAfterInsertion_139 : decode cJ4_fixAfterInsertion 139 = .ok (.invokestatic 294, 3) := dk_184 1 38 (dk_at dksJ4_fixAfterInsertion_5 21 rfl rfl)
theorem dJ4_fixAfterInsertion_142 : decode cJ4_fixAfterInsertion 142 = .ok (.invokestatic 294, 3) := dk_184 1 38 (dk_at dksJ4_fixAfterInsertion_6 0 rfl rfl)
theorem dJ4_fixAfterInsertion_145 : decode cJ4_fixAfterInsertion 145 = .ok (.invokevirtual 314, 3) := dk_182 1 58 (dk_at dksJ4_fixAfterInsertion_6 3 rfl rfl)
theorem dJ4_fixAfterInsertion_148 : decode cJ4_fixAfterInsertion 148 = .ok (.goto (-143), 3) := dk_167 255 113 (dk_at dksJ4_fixAfterInsertion_6 6 rfl rfl)
theorem dJ4_fixAfterInsertion_151 : decode cJ4_fixAfterInsertion 151 = .ok (.aload_n 1, 1) := dk_43 (dk_at dksJ4_fixAfterInsertion_6 9 rfl rfl)
theorem dJ4_fixAfterInsertion_152 : decode cJ4_fixAfterInsertion 152 = .ok (.invokestatic 294, 3) := dk_184 1 38 (dk_at dksJ4_fixAfterInsertion_6 10 rfl rfl)
theorem dJ4_fixAfterInsertion_155 : decode cJ4_fixAfterInsertion 155 = .ok (.invokestatic 294, 3) := dk_184 1 38 (dk_at dksJ4_fixAfterInsertion_6 13 rfl rfl)
theorem dJ4_fixAfterInsertion_158 : decode cJ4_fixAfterInsertion 158 = .ok (.invokestatic 297, 3) := dk_184 1 41 (dk_at dksJ4_fixAfterInsertion_6 16 rfl rfl)
theorem dJ4_fixAfterInsertion_161 : decode cJ4_fixAfterInsertion 161 = .ok (.astore_n 2, 1) := dk_77 (dk_at dksJ4_fixAfterInsertion_6 19 rfl rfl)
theorem dJ4_fixAfterInsertion_162 : decode cJ4_fixAfterInsertion 162 = .ok (.aload_n 2, 1) := dk_44 (dk_at dksJ4_fixAfterInsertion_6 20 rfl rfl)
theorem dJ4_fixAfterInsertion_163 : decode cJ4_fixAfterInsertion 163 = .ok (.invokestatic 303, 3) := dk_184 1 47 (dk_at dksJ4_fixAfterInsertion_6 21 rfl rfl)
theorem dJ4_fixAfterInsertion_166 : decode cJ4_fixAfterInsertion 166 = .ok (.ifCond .ne 38, 3) := dk_154 0 38 (dk_at dksJ4_fixAfterInsertion_7 0 rfl rfl)
theorem dJ4_fixAfterInsertion_169 : decode cJ4_fixAfterInsertion 169 = .ok (.aload_n 1, 1) := dk_43 (dk_at dksJ4_fixAfterInsertion_7 3 rfl rfl)
theorem dJ4_fixAfterInsertion_170 : decode cJ4_fixAfterInsertion 170 = .ok (.invokestatic 294, 3) := dk_184 1 38 (dk_at dksJ4_fixAfterInsertion_7 4 rfl rfl)
theorem dJ4_fixAfterInsertion_173 : decode cJ4_fixAfterInsertion 173 = .ok (.iconst 1, 1) := dk_4 (dk_at dksJ4_fixAfterInsertion_7 7 rfl rfl)
theorem dJ4_fixAfterInsertion_174 : decode cJ4_fixAfterInsertion 174 = .ok (.invokestatic 307, 3) := dk_184 1 51 (dk_at dksJ4_fixAfterInsertion_7 8 rfl rfl)
theorem dJ4_fixAfterInsertion_177 : decode cJ4_fixAfterInsertion 177 = .ok (.aload_n 2, 1) := dk_44 (dk_at dksJ4_fixAfterInsertion_7 11 rfl rfl)
theorem dJ4_fixAfterInsertion_178 : decode cJ4_fixAfterInsertion 178 = .ok (.iconst 1, 1) := dk_4 (dk_at dksJ4_fixAfterInsertion_7 12 rfl rfl)
theorem dJ4_fixAfterInsertion_179 : decode cJ4_fixAfterInsertion 179 = .ok (.invokestatic 307, 3) := dk_184 1 51 (dk_at dksJ4_fixAfterInsertion_7 13 rfl rfl)
theorem dJ4_fixAfterInsertion_182 : decode cJ4_fixAfterInsertion 182 = .ok (.aload_n 1, 1) := dk_43 (dk_at dksJ4_fixAfterInsertion_7 16 rfl rfl)
theorem dJ4_fixAfterInsertion_183 : decode cJ4_fixAfterInsertion 183 = .ok (.invokestatic 294, 3) := dk_184 1 38 (dk_at dksJ4_fixAfterInsertion_7 17 rfl rfl)
theorem dJ4_fixAfterInsertion_186 : decode cJ4_fixAfterInsertion 186 = .ok (.invokestatic 294, 3) := dk_184 1 38 (dk_at dksJ4_fixAfterInsertion_7 20 rfl rfl)
theorem dJ4_fixAfterInsertion_189 : decode cJ4_fixAfterInsertion 189 = .ok (.iconst 0, 1) := dk_3 (dk_at dksJ4_fixAfterInsertion_7 23 rfl rfl)
theorem dJ4_fixAfterInsertion_190 : decode cJ4_fixAfterInsertion 190 = .ok (.invokestatic 307, 3) := dk_184 1 51 (dk_at dksJ4_fixAfterInsertion_8 0 rfl rfl)
theorem dJ4_fixAfterInsertion_193 : decode cJ4_fixAfterInsertion 193 = .ok (.aload_n 1, 1) := dk_43 (dk_at dksJ4_fixAfterInsertion_8 3 rfl rfl)
theorem dJ4_fixAfterInsertion_194 : decode cJ4_fixAfterInsertion 194 = .ok (.invokestatic 294, 3) := dk_184 1 38 (dk_at dksJ4_fixAfterInsertion_8 4 rfl rfl)
theorem dJ4_fixAfterInsertion_197 : decode cJ4_fixAfterInsertion 197 = .ok (.invokestatic 294, 3) := dk_184 1 38 (dk_at dksJ4_fixAfterInsertion_8 7 rfl rfl)
theorem dJ4_fixAfterInsertion_200 : decode cJ4_fixAfterInsertion 200 = .ok (.astore_n 1, 1) := dk_76 (dk_at dksJ4_fixAfterInsertion_8 10 rfl rfl)
theorem dJ4_fixAfterInsertion_201 : decode cJ4_fixAfterInsertion 201 = .ok (.goto 54, 3) := dk_167 0 54 (dk_at dksJ4_fixAfterInsertion_8 11 rfl rfl)
theorem dJ4_fixAfterInsertion_204 : decode cJ4_fixAfterInsertion 204 = .ok (.aload_n 1, 1) := dk_43 (dk_at dksJ4_fixAfterInsertion_8 14 rfl rfl)
theorem dJ4_fixAfterInsertion_205 : decode cJ4_fixAfterInsertion 205 = .ok (.aload_n 1, 1) := dk_43 (dk_at dksJ4_fixAfterInsertion_8 15 rfl rfl)
theorem dJ4_fixAfterInsertion_206 : decode cJ4_fixAfterInsertion 206 = .ok (.invokestatic 294, 3) := dk_184 1 38 (dk_at dksJ4_fixAfterInsertion_8 16 rfl rfl)
theorem dJ4_fixAfterInsertion_209 : decode cJ4_fixAfterInsertion 209 = .ok (.invokestatic 297, 3) := dk_184 1 41 (dk_at dksJ4_fixAfterInsertion_8 19 rfl rfl)
theorem dJ4_fixAfterInsertion_212 : decode cJ4_fixAfterInsertion 212 = .ok (.if_acmp .ne 13, 3) := dk_166 0 13 (dk_at dksJ4_fixAfterInsertion_9 0 rfl rfl)
theorem dJ4_fixAfterInsertion_215 : decode cJ4_fixAfterInsertion 215 = .ok (.aload_n 1, 1) := dk_43 (dk_at dksJ4_fixAfterInsertion_9 3 rfl rfl)
theorem dJ4_fixAfterInsertion_216 : decode cJ4_fixAfterInsertion 216 = .ok (.invokestatic 294, 3) := dk_184 1 38 (dk_at dksJ4_fixAfterInsertion_9 4 rfl rfl)
theorem dJ4_fixAfterInsertion_219 : decode cJ4_fixAfterInsertion 219 = .ok (.astore_n 1, 1) := dk_76 (dk_at dksJ4_fixAfterInsertion_9 7 rfl rfl)
theorem dJ4_fixAfterInsertion_220 : decode cJ4_fixAfterInsertion 220 = .ok (.aload_n 0, 1) := dk_42 (dk_at dksJ4_fixAfterInsertion_9 8 rfl rfl)
theorem dJ4_fixAfterInsertion_221 : decode cJ4_fixAfterInsertion 221 = .ok (.aload_n 1, 1) := dk_43 (dk_at dksJ4_fixAfterInsertion_9 9 rfl rfl)
theorem dJ4_fixAfterInsertion_222 : decode cJ4_fixAfterInsertion 222 = .ok (.invokevirtual 314, 3) := dk_182 1 58 (dk_at dksJ4_fixAfterInsertion_9 10 rfl rfl)
theorem dJ4_fixAfterInsertion_225 : decode cJ4_fixAfterInsertion 225 = .ok (.aload_n 1, 1) := dk_43 (dk_at dksJ4_fixAfterInsertion_9 13 rfl rfl)
theorem dJ4_fixAfterInsertion_226 : decode cJ4_fixAfterInsertion 226 = .ok (.invokestatic 294, 3) := dk_184 1 38 (dk_at dksJ4_fixAfterInsertion_9 14 rfl rfl)
theorem dJ4_fixAfterInsertion_229 : decode cJ4_fixAfterInsertion 229 = .ok (.iconst 1, 1) := dk_4 (dk_at dksJ4_fixAfterInsertion_9 17 rfl rfl)
theorem dJ4_fixAfterInsertion_230 : decode cJ4_fixAfterInsertion 230 = .ok (.invokestatic 307, 3) := dk_184 1 51 (dk_at dksJ4_fixAfterInsertion_9 18 rfl rfl)
theorem dJ4_fixAfterInsertion_233 : decode cJ4_fixAfterInsertion 233 = .ok (.aload_n 1, 1) := dk_43 (dk_at dksJ4_fixAfterInsertion_9 21 rfl rfl)
theorem dJ4_fixAfterInsertion_234 : decode cJ4_fixAfterInsertion 234 = .ok (.invokestatic 294, 3) := dk_184 1 38 (dk_at dksJ4_fixAfterInsertion_10 0 rfl rfl)
theorem dJ4_fixAfterInsertion_237 : decode cJ4_fixAfterInsertion 237 = .ok (.invokestatic 294, 3) := dk_184 1 38 (dk_at dksJ4_fixAfterInsertion_10 3 rfl rfl)
theorem dJ4_fixAfterInsertion_240 : decode cJ4_fixAfterInsertion 240 = .ok (.iconst 0, 1) := dk_3 (dk_at dksJ4_fixAfterInsertion_10 6 rfl rfl)
theorem dJ4_fixAfterInsertion_241 : decode cJ4_fixAfterInsertion 241 = .ok (.invokestatic 307, 3) := dk_184 1 51 (dk_at dksJ4_fixAfterInsertion_10 7 rfl rfl)
theorem dJ4_fixAfterInsertion_244 : decode cJ4_fixAfterInsertion 244 = .ok (.aload_n 0, 1) := dk_42 (dk_at dksJ4_fixAfterInsertion_10 10 rfl rfl)
theorem dJ4_fixAfterInsertion_245 : decode cJ4_fixAfterInsertion 245 = .ok (.aload_n 1, 1) := dk_43 (dk_at dksJ4_fixAfterInsertion_10 11 rfl rfl)
theorem dJ4_fixAfterInsertion_246 : decode cJ4_fixAfterInsertion 246 = .ok (.invokestatic 294, 3) := dk_184 1 38 (dk_at dksJ4_fixAfterInsertion_10 12 rfl rfl)
theorem dJ4_fixAfterInsertion_249 : decode cJ4_fixAfterInsertion 249 = .ok (.invokestatic 294, 3) := dk_184 1 38 (dk_at dksJ4_fixAfterInsertion_10 15 rfl rfl)
theorem dJ4_fixAfterInsertion_252 : decode cJ4_fixAfterInsertion 252 = .ok (.invokevirtual 311, 3) := dk_182 1 55 (dk_at dksJ4_fixAfterInsertion_10 18 rfl rfl)
theorem dJ4_fixAfterInsertion_255 : decode cJ4_fixAfterInsertion 255 = .ok (.goto (-250), 3) := dk_167 255 6 (dk_at dksJ4_fixAfterInsertion_10 21 rfl rfl)
theorem dJ4_fixAfterInsertion_258 : decode cJ4_fixAfterInsertion 258 = .ok (.aload_n 0, 1) := dk_42 (dk_at dksJ4_fixAfterInsertion_11 0 rfl rfl)
theorem dJ4_fixAfterInsertion_259 : decode cJ4_fixAfterInsertion 259 = .ok (.getfield 101, 3) := dk_180 0 101 (dk_at dksJ4_fixAfterInsertion_11 1 rfl rfl)
theorem dJ4_fixAfterInsertion_262 : decode cJ4_fixAfterInsertion 262 = .ok (.iconst 1, 1) := dk_4 (dk_at dksJ4_fixAfterInsertion_11 4 rfl rfl)
theorem dJ4_fixAfterInsertion_263 : decode cJ4_fixAfterInsertion 263 = .ok (.putfield 290, 3) := dk_181 1 34 (dk_at dksJ4_fixAfterInsertion_11 5 rfl rfl)
theorem dJ4_fixAfterInsertion_266 : decode cJ4_fixAfterInsertion 266 = .ok (.return_, 1) := dk_177 (dk_at dksJ4_fixAfterInsertion_11 8 rfl rfl)
abbrev cJ4_parentOf : ByteArray := prog_129_method_77_code
def yJ4_parentOf : MethodName := ⟨RJ4, "parentOf", "(Ljava/util/TreeMap$Entry;)Ljava/util/TreeMap$Entry;"⟩
def dkwJ4_parentOf_0 : List UInt8 := [42, 199, 0, 7, 1, 167, 0, 7, 42, 180, 0, 124, 176]
abbrev dktJ4_parentOf_0 : List UInt8 := dkwJ4_parentOf_0 ++ []
theorem dksJ4_parentOf_0 : cJ4_parentOf.data.toList.drop 0 = dktJ4_parentOf_0 := by decide +kernel
theorem dJ4_parentOf_0 : decode cJ4_parentOf 0 = .ok (.aload_n 0, 1) := dk_42 (dk_at dksJ4_parentOf_0 0 rfl rfl)
theorem dJ4_parentOf_1 : decode cJ4_parentOf 1 = .ok (.ifnonnull 7, 3) := dk_199 0 7 (dk_at dksJ4_parentOf_0 1 rfl rfl)
theorem dJ4_parentOf_4 : decode cJ4_parentOf 4 = .ok (.aconst_null, 1) := dk_1 (dk_at dksJ4_parentOf_0 4 rfl rfl)
theorem dJ4_parentOf_5 : decode cJ4_parentOf 5 = .ok (.goto 7, 3) := dk_167 0 7 (dk_at dksJ4_parentOf_0 5 rfl rfl)
theorem dJ4_parentOf_8 : decode cJ4_parentOf 8 = .ok (.aload_n 0, 1) := dk_42 (dk_at dksJ4_parentOf_0 8 rfl rfl)
theorem dJ4_parentOf_9 : decode cJ4_parentOf 9 = .ok (.getfield 124, 3) := dk_180 0 124 (dk_at dksJ4_parentOf_0 9 rfl rfl)
theorem dJ4_parentOf_12 : decode cJ4_parentOf 12 = .ok (.areturn, 1) := dk_176 (dk_at dksJ4_parentOf_0 12 rfl rfl)
abbrev cJ4_leftOf : ByteArray := prog_129_method_79_code
def yJ4_leftOf : MethodName := ⟨RJ4, "leftOf", "(Ljava/util/TreeMap$Entry;)Ljava/util/TreeMap$Entry;"⟩
def dkwJ4_leftOf_0 : List UInt8 := [42, 199, 0, 7, 1, 167, 0, 7, 42, 180, 0, 111, 176]
abbrev dktJ4_leftOf_0 : List UInt8 := dkwJ4_leftOf_0 ++ []
theorem dksJ4_leftOf_0 : cJ4_leftOf.data.toList.drop 0 = dktJ4_leftOf_0 := by decide +kernel
theorem dJ4_leftOf_0 : decode cJ4_leftOf 0 = .ok (.aload_n 0, 1) := dk_42 (dk_at dksJ4_leftOf_0 0 rfl rfl)
theorem dJ4_leftOf_1 : decode cJ4_leftOf 1 = .ok (.ifnonnull 7, 3) := dk_199 0 7 (dk_at dksJ4_leftOf_0 1 rfl rfl)
theorem dJ4_leftOf_4 : decode cJ4_leftOf 4 = .ok (.aconst_null, 1) := dk_1 (dk_at dksJ4_leftOf_0 4 rfl rfl)
theorem dJ4_leftOf_5 : decode cJ4_leftOf 5 = .ok (.goto 7, 3) := dk_167 0 7 (dk_at dksJ4_leftOf_0 5 rfl rfl)
theorem dJ4_leftOf_8 : decode cJ4_leftOf 8 = .ok (.aload_n 0, 1) := dk_42 (dk_at dksJ4_leftOf_0 8 rfl rfl)
theorem dJ4_leftOf_9 : decode cJ4_leftOf 9 = .ok (.getfield 111, 3) := dk_180 0 111 (dk_at dksJ4_leftOf_0 9 rfl rfl)
theorem dJ4_leftOf_12 : decode cJ4_leftOf 12 = .ok (.areturn, 1) := dk_176 (dk_at dksJ4_leftOf_0 12 rfl rfl)
abbrev cJ4_rightOf : ByteArray := prog_129_method_80_code
def yJ4_rightOf : MethodName := ⟨RJ4, "rightOf", "(Ljava/util/TreeMap$Entry;)Ljava/util/TreeMap$Entry;"⟩
def dkwJ4_rightOf_0 : List UInt8 := [42, 199, 0, 7, 1, 167, 0, 7, 42, 180, 0, 114, 176]
abbrev dktJ4_rightOf_0 : List UInt8 := dkwJ4_rightOf_0 ++ []
theorem dksJ4_rightOf_0 : cJ4_rightOf.data.toList.drop 0 = dktJ4_rightOf_0 := by decide +kernel
theorem dJ4_rightOf_0 : decode cJ4_rightOf 0 = .ok (.aload_n 0, 1) := dk_42 (dk_at dksJ4_rightOf_0 0 rfl rfl)
theorem dJ4_rightOf_1 : decode cJ4_rightOf 1 = .ok (.ifnonnull 7, 3) := dk_199 0 7 (dk_at dksJ4_rightOf_0 1 rfl rfl)
theorem dJ4_rightOf_4 : decode cJ4_rightOf 4 = .ok (.aconst_null, 1) := dk_1 (dk_at dksJ4_rightOf_0 4 rfl rfl)
theorem dJ4_rightOf_5 : decode cJ4_rightOf 5 = .ok (.goto 7, 3) := dk_167 0 7 (dk_at dksJ4_rightOf_0 5 rfl rfl)
theorem dJ4_rightOf_8 : decode cJ4_rightOf 8 = .ok (.aload_n 0, 1) := dk_42 (dk_at dksJ4_rightOf_0 8 rfl rfl)
theorem dJ4_rightOf_9 : decode cJ4_rightOf 9 = .ok (.getfield 114, 3) := dk_180 0 114 (dk_at dksJ4_rightOf_0 9 rfl rfl)
theorem dJ4_rightOf_12 : decode cJ4_rightOf 12 = .ok (.areturn, 1) := dk_176 (dk_at dksJ4_rightOf_0 12 rfl rfl)
abbrev cJ4_colorOf : ByteArray := prog_129_method_76_code
def yJ4_colorOf : MethodName := ⟨RJ4, "colorOf", "(Ljava/util/TreeMap$Entry;)Z"⟩
def dkwJ4_colorOf_0 : List UInt8 := [42, 199, 0, 7, 4, 167, 0, 7, 42, 180, 1, 34, 172]
abbrev dktJ4_colorOf_0 : List UInt8 := dkwJ4_colorOf_0 ++ []
theorem dksJ4_colorOf_0 : cJ4_colorOf.data.toList.drop 0 = dktJ4_colorOf_0 := by decide +kernel
theorem dJ4_colorOf_0 : decode cJ4_colorOf 0 = .ok (.aload_n 0, 1) := dk_42 (dk_at dksJ4_colorOf_0 0 rfl rfl)
theorem dJ4_colorOf_1 : decode cJ4_colorOf 1 = .ok (.ifnonnull 7, 3) := dk_199 0 7 (dk_at dksJ4_colorOf_0 1 rfl rfl)
theorem dJ4_colorOf_4 : decode cJ4_colorOf 4 = .ok (.iconst 1, 1) := dk_4 (dk_at dksJ4_colorOf_0 4 rfl rfl)
theorem dJ4_colorOf_5 : decode cJ4_colorOf 5 = .ok (.goto 7, 3) := dk_167 0 7 (dk_at dksJ4_colorOf_0 5 rfl rfl)
theorem dJ4_colorOf_8 : decode cJ4_colorOf 8 = .ok (.aload_n 0, 1) := dk_42 (dk_at dksJ4_colorOf_0 8 rfl rfl)
theorem dJ4_colorOf_9 : decode cJ4_colorOf 9 = .ok (.getfield 290, 3) := dk_180 1 34 (dk_at dksJ4_colorOf_0 9 rfl rfl)
theorem dJ4_colorOf_12 : decode cJ4_colorOf 12 = .ok (.ireturn, 1) := dk_172 (dk_at dksJ4_colorOf_0 12 rfl rfl)
abbrev cJ4_setColor : ByteArray := prog_129_method_78_code
def yJ4_setColor : MethodName := ⟨RJ4, "setColor", "(Ljava/util/TreeMap$Entry;Z)V"⟩
def dkwJ4_setColor_0 : List UInt8 := [42, 198, 0, 8, 42, 27, 181, 1, 34, 177]
abbrev dktJ4_setColor_0 : List UInt8 := dkwJ4_setColor_0 ++ []
theorem dksJ4_setColor_0 : cJ4_setColor.data.toList.drop 0 = dktJ4_setColor_0 := by decide +kernel
theorem dJ4_setColor_0 : decode cJ4_setColor 0 = .ok (.aload_n 0, 1) := dk_42 (dk_at dksJ4_setColor_0 0 rfl rfl)
theorem dJ4_setColor_1 : decode cJ4_setColor 1 = .ok (.ifnull 8, 3) := dk_198 0 8 (dk_at dksJ4_setColor_0 1 rfl rfl)
theorem dJ4_setColor_4 : decode cJ4_setColor 4 = .ok (.aload_n 0, 1) := dk_42 (dk_at dksJ4_setColor_0 4 rfl rfl)
theorem dJ4_setColor_5 : decode cJ4_setColor 5 = .ok (.iload_n 1, 1) := dk_27 (dk_at dksJ4_setColor_0 5 rfl rfl)
theorem dJ4_setColor_6 : decode cJ4_setColor 6 = .ok (.putfield 290, 3) := dk_181 1 34 (dk_at dksJ4_setColor_0 6 rfl rfl)
theorem dJ4_setColor_9 : decode cJ4_setColor 9 = .ok (.return_, 1) := dk_177 (dk_at dksJ4_setColor_0 9 rfl rfl)
abbrev cJ4_rotateLeft : ByteArray := prog_129_method_81_code
def yJ4_rotateLeft : MethodName := ⟨RJ4, "rotateLeft", "(Ljava/util/TreeMap$Entry;)V"⟩
def dkwJ4_rotateLeft_4 : List UInt8 := [177]
abbrev dktJ4_rotateLeft_4 : List UInt8 := dkwJ4_rotateLeft_4 ++ []
def dkwJ4_rotateLeft_3 : List UInt8 := [181, 0, 111, 167, 0, 11, 43, 180, 0, 124, 44, 181, 0, 114, 44, 43, 181, 0, 111, 43, 44, 181, 0, 124]
abbrev dktJ4_rotateLeft_3 : List UInt8 := dkwJ4_rotateLeft_3 ++ dktJ4_rotateLeft_4
def dkwJ4_rotateLeft_2 : List UInt8 := [44, 181, 0, 101, 167, 0, 33, 43, 180, 0, 124, 180, 0, 111, 43, 166, 0, 14, 43, 180, 0, 124, 44]
abbrev dktJ4_rotateLeft_2 : List UInt8 := dkwJ4_rotateLeft_2 ++ dktJ4_rotateLeft_3
def dkwJ4_rotateLeft_1 : List UInt8 := [44, 180, 0, 111, 43, 181, 0, 124, 44, 43, 180, 0, 124, 181, 0, 124, 43, 180, 0, 124, 199, 0, 11, 42]
abbrev dktJ4_rotateLeft_1 : List UInt8 := dkwJ4_rotateLeft_1 ++ dktJ4_rotateLeft_2
def dkwJ4_rotateLeft_0 : List UInt8 := [43, 198, 0, 94, 43, 180, 0, 114, 77, 43, 44, 180, 0, 111, 181, 0, 114, 44, 180, 0, 111, 198, 0, 11]
abbrev dktJ4_rotateLeft_0 : List UInt8 := dkwJ4_rotateLeft_0 ++ dktJ4_rotateLeft_1
theorem dksJ4_rotateLeft_0 : cJ4_rotateLeft.data.toList.drop 0 = dktJ4_rotateLeft_0 := by decide +kernel
theorem dksJ4_rotateLeft_1 : cJ4_rotateLeft.data.toList.drop 24 = dktJ4_rotateLeft_1 := dk_seg dksJ4_rotateLeft_0 24 rfl rfl
theorem dksJ4_rotateLeft_2 : cJ4_rotateLeft.data.toList.drop 48 = dktJ4_rotateLeft_2 := dk_seg dksJ4_rotateLeft_1 24 rfl rfl
theorem dksJ4_rotateLeft_3 : cJ4_rotateLeft.data.toList.drop 71 = dktJ4_rotateLeft_3 := dk_seg dksJ4_rotateLeft_2 23 rfl rfl
theorem dksJ4_rotateLeft_4 : cJ4_rotateLeft.data.toList.drop 95 = dktJ4_rotateLeft_4 := dk_seg dksJ4_rotateLeft_3 24 rfl rfl
theorem dJ4_rotateLeft_0 : decode cJ4_rotateLeft 0 = .ok (.aload_n 1, 1) := dk_43 (dk_at dksJ4_rotateLeft_0 0 rfl rfl)
theorem dJ4_rotateLeft_1 : decode cJ4_rotateLeft 1 = .ok (.ifnull 94, 3) := dk_198 0 94 (dk_at dksJ4_rotateLeft_0 1 rfl rfl)
theorem dJ4_rotateLeft_4 : decode cJ4_rotateLeft 4 = .ok (.aload_n 1, 1) := dk_43 (dk_at dksJ4_rotateLeft_0 4 rfl rfl)
theorem dJ4_rotateLeft_5 : decode cJ4_rotateLeft 5 = .ok (.getfield 114, 3) := dk_180 0 114 (dk_at dksJ4_rotateLeft_0 5 rfl rfl)
theorem dJ4_rotateLeft_8 : decode cJ4_rotateLeft 8 = .ok (.astore_n 2, 1) := dk_77 (dk_at dksJ4_rotateLeft_0 8 rfl rfl)
theorem dJ4_rotateLeft_9 : decode cJ4_rotateLeft 9 = .ok (.aload_n 1, 1) := dk_43 (dk_at dksJ4_rotateLeft_0 9 rfl rfl)
theorem dJ4_rotateLeft_10 : decode cJ4_rotateLeft 10 = .ok (.aload_n 2, 1) := dk_44 (dk_at dksJ4_rotateLeft_0 10 rfl rfl)
theorem dJ4_rotateLeft_11 : decode cJ4_rotateLeft 11 = .ok (.getfield 111, 3) := dk_180 0 111 (dk_at dksJ4_rotateLeft_0 11 rfl rfl)
theorem dJ4_rotateLeft_14 : decode cJ4_rotateLeft 14 = .ok (.putfield 114, 3) := dk_181 0 114 (dk_at dksJ4_rotateLeft_0 14 rfl rfl)
theorem dJ4_rotateLeft_17 : decode cJ4_rotateLeft 17 = .ok (.aload_n 2, 1) := dk_44 (dk_at dksJ4_rotateLeft_0 17 rfl rfl)
theorem dJ4_rotateLeft_18 : decode cJ4_rotateLeft 18 = .ok (.getfield 111, 3) := dk_180 0 111 (dk_at dksJ4_rotateLeft_0 18 rfl rfl)
theorem dJ4_rotateLeft_21 : decode cJ4_rotateLeft 21 = .ok (.ifnull 11, 3) := dk_198 0 11 (dk_at dksJ4_rotateLeft_0 21 rfl rfl)
theorem dJ4_rotateLeft_24 : decode cJ4_rotateLeft 24 = .ok (.aload_n 2, 1) := dk_44 (dk_at dksJ4_rotateLeft_1 0 rfl rfl)
theorem dJ4_rotateLeft_25 : decode cJ4_rotateLeft 25 = .ok (.getfield 111, 3) := dk_180 0 111 (dk_at dksJ4_rotateLeft_1 1 rfl rfl)
theorem dJ4_rotateLeft_28 : decode cJ4_rotateLeft 28 = .ok (.aload_n 1, 1) := dk_43 (dk_at dksJ4_rotateLeft_1 4 rfl rfl)
theorem dJ4_rotateLeft_29 : decode cJ4_rotateLeft 29 = .ok (.putfield 124, 3) := dk_181 0 124 (dk_at dksJ4_rotateLeft_1 5 rfl rfl)
theorem dJ4_rotateLeft_32 : decode cJ4_rotateLeft 32 = .ok (.aload_n 2, 1) := dk_44 (dk_at dksJ4_rotateLeft_1 8 rfl rfl)
theorem dJ4_rotateLeft_33 : decode cJ4_rotateLeft 33 = .ok (.aload_n 1, 1) := dk_43 (dk_at dksJ4_rotateLeft_1 9 rfl rfl)
theorem dJ4_rotateLeft_34 : decode cJ4_rotateLeft 34 = .ok (.getfield 124, 3) := dk_180 0 124 (dk_at dksJ4_rotateLeft_1 10 rfl rfl)
theorem dJ4_rotateLeft_37 : decode cJ4_rotateLeft 37 = .ok (.putfield 124, 3) := dk_181 0 124 (dk_at dksJ4_rotateLeft_1 13 rfl rfl)
theorem dJ4_rotateLeft_40 : decode cJ4_rotateLeft 40 = .ok (.aload_n 1, 1) := dk_43 (dk_at dksJ4_rotateLeft_1 16 rfl rfl)
theorem dJ4_rotateLeft_41 : decode cJ4_rotateLeft 41 = .ok (.getfield 124, 3) := dk_180 0 124 (dk_at dksJ4_rotateLeft_1 17 rfl rfl)
theorem dJ4_rotateLeft_44 : decode cJ4_rotateLeft 44 = .ok (.ifnonnull 11, 3) := dk_199 0 11 (dk_at dksJ4_rotateLeft_1 20 rfl rfl)
theorem dJ4_rotateLeft_47 : decode cJ4_rotateLeft 47 = .ok (.aload_n 0, 1) := dk_42 (dk_at dksJ4_rotateLeft_1 23 rfl rfl)
theorem dJ4_rotateLeft_48 : decode cJ4_rotateLeft 48 = .ok (.aload_n 2, 1) := dk_44 (dk_at dksJ4_rotateLeft_2 0 rfl rfl)
theorem dJ4_rotateLeft_49 : decode cJ4_rotateLeft 49 = .ok (.putfield 101, 3) := dk_181 0 101 (dk_at dksJ4_rotateLeft_2 1 rfl rfl)
theorem dJ4_rotateLeft_52 : decode cJ4_rotateLeft 52 = .ok (.goto 33, 3) := dk_167 0 33 (dk_at dksJ4_rotateLeft_2 4 rfl rfl)
theorem dJ4_rotateLeft_55 : decode cJ4_rotateLeft 55 = .ok (.aload_n 1, 1) := dk_43 (dk_at dksJ4_rotateLeft_2 7 rfl rfl)
theorem dJ4_rotateLeft_56 : decode cJ4_rotateLeft 56 = .ok (.getfield 124, 3) := dk_180 0 124 (dk_at dksJ4_rotateLeft_2 8 rfl rfl)
theorem dJ4_rotateLeft_59 : decode cJ4_rotateLeft 59 = .ok (.getfield 111, 3) := dk_180 0 111 (dk_at dksJ4_rotateLeft_2 11 rfl rfl)
theorem dJ4_rotateLeft_62 : decode cJ4_rotateLeft 62 = .ok (.aload_n 1, 1) := dk_43 (dk_at dksJ4_rotateLeft_2 14 rfl rfl)
theorem dJ4_rotateLeft_63 : decode cJ4_rotateLeft 63 = .ok (.if_acmp .ne 14, 3) := dk_166 0 14 (dk_at dksJ4_rotateLeft_2 15 rfl rfl)
theorem dJ4_rotateLeft_66 : decode cJ4_rotateLeft 66 = .ok (.aload_n 1, 1) := dk_43 (dk_at dksJ4_rotateLeft_2 18 rfl rfl)
theorem dJ4_rotateLeft_67 : decode cJ4_rotateLeft 67 = .ok (.getfield 124, 3) := dk_180 0 124 (dk_at dksJ4_rotateLeft_2 19 rfl rfl)
theorem dJ4_rotateLeft_70 : decode cJ4_rotateLeft 70 = .ok (.aload_n 2, 1) := dk_44 (dk_at dksJ4_rotateLeft_2 22 rfl rfl)
theorem dJ4_rotateLeft_71 : decode cJ4_rotateLeft 71 = .ok (.putfield 111, 3) := dk_181 0 111 (dk_at dksJ4_rotateLeft_3 0 rfl rfl)
theorem dJ4_rotateLeft_74 : decode cJ4_rotateLeft 74 = .ok (.goto 11, 3) := dk_167 0 11 (dk_at dksJ4_rotateLeft_3 3 rfl rfl)
theorem dJ4_rotateLeft_77 : decode cJ4_rotateLeft 77 = .ok (.aload_n 1, 1) := dk_43 (dk_at dksJ4_rotateLeft_3 6 rfl rfl)
theorem dJ4_rotateLeft_78 : decode cJ4_rotateLeft 78 = .ok (.getfield 124, 3) := dk_180 0 124 (dk_at dksJ4_rotateLeft_3 7 rfl rfl)
theorem dJ4_rotateLeft_81 : decode cJ4_rotateLeft 81 = .ok (.aload_n 2, 1) := dk_44 (dk_at dksJ4_rotateLeft_3 10 rfl rfl)
theorem dJ4_rotateLeft_82 : decode cJ4_rotateLeft 82 = .ok (.putfield 114, 3) := dk_181 0 114 (dk_at dksJ4_rotateLeft_3 11 rfl rfl)
theorem dJ4_rotateLeft_85 : decode cJ4_rotateLeft 85 = .ok (.aload_n 2, 1) := dk_44 (dk_at dksJ4_rotateLeft_3 14 rfl rfl)
theorem dJ4_rotateLeft_86 : decode cJ4_rotateLeft 86 = .ok (.aload_n 1, 1) := dk_43 (dk_at dksJ4_rotateLeft_3 15 rfl rfl)
theorem dJ4_rotateLeft_87 : decode cJ4_rotateLeft 87 = .ok (.putfield 111, 3) := dk_181 0 111 (dk_at dksJ4_rotateLeft_3 16 rfl rfl)
theorem dJ4_rotateLeft_90 : decode cJ4_rotateLeft 90 = .ok (.aload_n 1, 1) := dk_43 (dk_at dksJ4_rotateLeft_3 19 rfl rfl)
theorem dJ4_rotateLeft_91 : decode cJ4_rotateLeft 91 = .ok (.aload_n 2, 1) := dk_44 (dk_at dksJ4_rotateLeft_3 20 rfl rfl)
theorem dJ4_rotateLeft_92 : decode cJ4_rotateLeft 92 = .ok (.putfield 124, 3) := dk_181 0 124 (dk_at dksJ4_rotateLeft_3 21 rfl rfl)
theorem dJ4_rotateLeft_95 : decode cJ4_rotateLeft 95 = .ok (.return_, 1) := dk_177 (dk_at dksJ4_rotateLeft_4 0 rfl rfl)
abbrev cJ4_rotateRight : ByteArray := prog_129_method_82_code
def yJ4_rotateRight : MethodName := ⟨RJ4, "rotateRight", "(Ljava/util/TreeMap$Entry;)V"⟩
def dkwJ4_rotateRight_4 : List UInt8 := [177]
abbrev dktJ4_rotateRight_4 : List UInt8 := dkwJ4_rotateRight_4 ++ []
def dkwJ4_rotateRight_3 : List UInt8 := [181, 0, 114, 167, 0, 11, 43, 180, 0, 124, 44, 181, 0, 111, 44, 43, 181, 0, 114, 43, 44, 181, 0, 124]
abbrev dktJ4_rotateRight_3 : List UInt8 := dkwJ4_rotateRight_3 ++ dktJ4_rotateRight_4
def dkwJ4_rotateRight_2 : List UInt8 := [44, 181, 0, 101, 167, 0, 33, 43, 180, 0, 124, 180, 0, 114, 43, 166, 0, 14, 43, 180, 0, 124, 44]
abbrev dktJ4_rotateRight_2 : List UInt8 := dkwJ4_rotateRight_2 ++ dktJ4_rotateRight_3
def dkwJ4_rotateRight_1 : List UInt8 := [44, 180, 0, 114, 43, 181, 0, 124, 44, 43, 180, 0, 124, 181, 0, 124, 43, 180, 0, 124, 199, 0, 11, 42]
abbrev dktJ4_rotateRight_1 : List UInt8 := dkwJ4_rotateRight_1 ++ dktJ4_rotateRight_2
def dkwJ4_rotateRight_0 : List UInt8 := [43, 198, 0, 94, 43, 180, 0, 111, 77, 43, 44, 180, 0, 114, 181, 0, 111, 44, 180, 0, 114, 198, 0, 11]
abbrev dktJ4_rotateRight_0 : List UInt8 := dkwJ4_rotateRight_0 ++ dktJ4_rotateRight_1
theorem dksJ4_rotateRight_0 : cJ4_rotateRight.data.toList.drop 0 = dktJ4_rotateRight_0 := by decide +kernel
theorem dksJ4_rotateRight_1 : cJ4_rotateRight.data.toList.drop 24 = dktJ4_rotateRight_1 := dk_seg dksJ4_rotateRight_0 24 rfl rfl
theorem dksJ4_rotateRight_2 : cJ4_rotateRight.data.toList.drop 48 = dktJ4_rotateRight_2 := dk_seg dksJ4_rotateRight_1 24 rfl rfl
theorem dksJ4_rotateRight_3 : cJ4_rotateRight.data.toList.drop 71 = dktJ4_rotateRight_3 := dk_seg dksJ4_rotateRight_2 23 rfl rfl
theorem dksJ4_rotateRight_4 : cJ4_rotateRight.data.toList.drop 95 = dktJ4_rotateRight_4 := dk_seg dksJ4_rotateRight_3 24 rfl rfl
theorem dJ4_rotateRight_0 : decode cJ4_rotateRight 0 = .ok (.aload_n 1, 1) := dk_43 (dk_at dksJ4_rotateRight_0 0 rfl rfl)
theorem dJ4_rotateRight_1 : decode cJ4_rotateRight 1 = .ok (.ifnull 94, 3) := dk_198 0 94 (dk_at dksJ4_rotateRight_0 1 rfl rfl)
theorem dJ4_rotateRight_4 : decode cJ4_rotateRight 4 = .ok (.aload_n 1, 1) := dk_43 (dk_at dksJ4_rotateRight_0 4 rfl rfl)
theorem dJ4_rotateRight_5 : decode cJ4_rotateRight 5 = .ok (.getfield 111, 3) := dk_180 0 111 (dk_at dksJ4_rotateRight_0 5 rfl rfl)
theorem dJ4_rotateRight_8 : decode cJ4_rotateRight 8 = .ok (.astore_n 2, 1) := dk_77 (dk_at dksJ4_rotateRight_0 8 rfl rfl)
theorem dJ4_rotateRight_9 : decode cJ4_rotateRight 9 = .ok (.aload_n 1, 1) := dk_43 (dk_at dksJ4_rotateRight_0 9 rfl rfl)
theorem dJ4_rotateRight_10 : decode cJ4_rotateRight 10 = .ok (.aload_n 2, 1) := dk_44 (dk_at dksJ4_rotateRight_0 10 rfl rfl)
theorem dJ4_rotateRight_11 : decode cJ4_rotateRight 11 = .ok (.getfield 114, 3) := dk_180 0 114 (dk_at dksJ4_rotateRight_0 11 rfl rfl)
theorem dJ4_rotateRight_14 : decode cJ4_rotateRight 14 = .ok (.putfield 111, 3) := dk_181 0 111 (dk_at dksJ4_rotateRight_0 14 rfl rfl)
theorem dJ4_rotateRight_17 : decode cJ4_rotateRight 17 = .ok (.aload_n 2, 1) := dk_44 (dk_at dksJ4_rotateRight_0 17 rfl rfl)
theorem dJ4_rotateRight_18 : decode cJ4_rotateRight 18 = .ok (.getfield 114, 3) := dk_180 0 114 (dk_at dksJ4_rotateRight_0 18 rfl rfl)
theorem dJ4_rotateRight_21 : decode cJ4_rotateRight 21 = .ok (.ifnull 11, 3) := dk_198 0 11 (dk_at dksJ4_rotateRight_0 21 rfl rfl)
theorem dJ4_rotateRight_24 : decode cJ4_rotateRight 24 = .ok (.aload_n 2, 1) := dk_44 (dk_at dksJ4_rotateRight_1 0 rfl rfl)
theorem dJ4_rotateRight_25 : decode cJ4_rotateRight 25 = .ok (.getfield 114, 3) := dk_180 0 114 (dk_at dksJ4_rotateRight_1 1 rfl rfl)
theorem dJ4_rotateRight_28 : decode cJ4_rotateRight 28 = .ok (.aload_n 1, 1) := dk_43 (dk_at dksJ4_rotateRight_1 4 rfl rfl)
theorem dJ4_rotateRight_29 : decode cJ4_rotateRight 29 = .ok (.putfield 124, 3) := dk_181 0 124 (dk_at dksJ4_rotateRight_1 5 rfl rfl)
theorem dJ4_rotateRight_32 : decode cJ4_rotateRight 32 = .ok (.aload_n 2, 1) := dk_44 (dk_at dksJ4_rotateRight_1 8 rfl rfl)
theorem dJ4_rotateRight_33 : decode cJ4_rotateRight 33 = .ok (.aload_n 1, 1) := dk_43 (dk_at dksJ4_rotateRight_1 9 rfl rfl)
theorem dJ4_rotateRight_34 : decode cJ4_rotateRight 34 = .ok (.getfield 124, 3) := dk_180 0 124 (dk_at dksJ4_rotateRight_1 10 rfl rfl)
theorem dJ4_rotateRight_37 : decode cJ4_rotateRight 37 = .ok (.putfield 124, 3) := dk_181 0 124 (dk_at dksJ4_rotateRight_1 13 rfl rfl)
theorem dJ4_rotateRight_40 : decode cJ4_rotateRight 40 = .ok (.aload_n 1, 1) := dk_43 (dk_at dksJ4_rotateRight_1 16 rfl rfl)
theorem dJ4_rotateRight_41 : decode cJ4_rotateRight 41 = .ok (.getfield 124, 3) := dk_180 0 124 (dk_at dksJ4_rotateRight_1 17 rfl rfl)
theorem dJ4_rotateRight_44 : decode cJ4_rotateRight 44 = .ok (.ifnonnull 11, 3) := dk_199 0 11 (dk_at dksJ4_rotateRight_1 20 rfl rfl)
theorem dJ4_rotateRight_47 : decode cJ4_rotateRight 47 = .ok (.aload_n 0, 1) := dk_42 (dk_at dksJ4_rotateRight_1 23 rfl rfl)
theorem dJ4_rotateRight_48 : decode cJ4_rotateRight 48 = .ok (.aload_n 2, 1) := dk_44 (dk_at dksJ4_rotateRight_2 0 rfl rfl)
theorem dJ4_rotateRight_49 : decode cJ4_rotateRight 49 = .ok (.putfield 101, 3) := dk_181 0 101 (dk_at dksJ4_rotateRight_2 1 rfl rfl)
theorem dJ4_rotateRight_52 : decode cJ4_rotateRight 52 = .ok (.goto 33, 3) := dk_167 0 33 (dk_at dksJ4_rotateRight_2 4 rfl rfl)
theorem dJ4_rotateRight_55 : decode cJ4_rotateRight 55 = .ok (.aload_n 1, 1) := dk_43 (dk_at dksJ4_rotateRight_2 7 rfl rfl)
theorem dJ4_rotateRight_56 : decode cJ4_rotateRight 56 = .ok (.getfield 124, 3) := dk_180 0 124 (dk_at dksJ4_rotateRight_2 8 rfl rfl)
theorem dJ4_rotateRight_59 : decode cJ4_rotateRight 59 = .ok (.getfield 114, 3) := dk_180 0 114 (dk_at dksJ4_rotateRight_2 11 rfl rfl)
theorem dJ4_rotateRight_62 : decode cJ4_rotateRight 62 = .ok (.aload_n 1, 1) := dk_43 (dk_at dksJ4_rotateRight_2 14 rfl rfl)
theorem dJ4_rotateRight_63 : decode cJ4_rotateRight 63 = .ok (.if_acmp .ne 14, 3) := dk_166 0 14 (dk_at dksJ4_rotateRight_2 15 rfl rfl)
theorem dJ4_rotateRight_66 : decode cJ4_rotateRight 66 = .ok (.aload_n 1, 1) := dk_43 (dk_at dksJ4_rotateRight_2 18 rfl rfl)
theorem dJ4_rotateRight_67 : decode cJ4_rotateRight 67 = .ok (.getfield 124, 3) := dk_180 0 124 (dk_at dksJ4_rotateRight_2 19 rfl rfl)
theorem dJ4_rotateRight_70 : decode cJ4_rotateRight 70 = .ok (.aload_n 2, 1) := dk_44 (dk_at dksJ4_rotateRight_2 22 rfl rfl)
theorem dJ4_rotateRight_71 : decode cJ4_rotateRight 71 = .ok (.putfield 114, 3) := dk_181 0 114 (dk_at dksJ4_rotateRight_3 0 rfl rfl)
theorem dJ4_rotateRight_74 : decode cJ4_rotateRight 74 = .ok (.goto 11, 3) := dk_167 0 11 (dk_at dksJ4_rotateRight_3 3 rfl rfl)
theorem dJ4_rotateRight_77 : decode cJ4_rotateRight 77 = .ok (.aload_n 1, 1) := dk_43 (dk_at dksJ4_rotateRight_3 6 rfl rfl)
theorem dJ4_rotateRight_78 : decode cJ4_rotateRight 78 = .ok (.getfield 124, 3) := dk_180 0 124 (dk_at dksJ4_rotateRight_3 7 rfl rfl)
theorem dJ4_rotateRight_81 : decode cJ4_rotateRight 81 = .ok (.aload_n 2, 1) := dk_44 (dk_at dksJ4_rotateRight_3 10 rfl rfl)
theorem dJ4_rotateRight_82 : decode cJ4_rotateRight 82 = .ok (.putfield 111, 3) := dk_181 0 111 (dk_at dksJ4_rotateRight_3 11 rfl rfl)
theorem dJ4_rotateRight_85 : decode cJ4_rotateRight 85 = .ok (.aload_n 2, 1) := dk_44 (dk_at dksJ4_rotateRight_3 14 rfl rfl)
theorem dJ4_rotateRight_86 : decode cJ4_rotateRight 86 = .ok (.aload_n 1, 1) := dk_43 (dk_at dksJ4_rotateRight_3 15 rfl rfl)
theorem dJ4_rotateRight_87 : decode cJ4_rotateRight 87 = .ok (.putfield 114, 3) := dk_181 0 114 (dk_at dksJ4_rotateRight_3 16 rfl rfl)
theorem dJ4_rotateRight_90 : decode cJ4_rotateRight 90 = .ok (.aload_n 1, 1) := dk_43 (dk_at dksJ4_rotateRight_3 19 rfl rfl)
theorem dJ4_rotateRight_91 : decode cJ4_rotateRight 91 = .ok (.aload_n 2, 1) := dk_44 (dk_at dksJ4_rotateRight_3 20 rfl rfl)
theorem dJ4_rotateRight_92 : decode cJ4_rotateRight 92 = .ok (.putfield 124, 3) := dk_181 0 124 (dk_at dksJ4_rotateRight_3 21 rfl rfl)
theorem dJ4_rotateRight_95 : decode cJ4_rotateRight 95 = .ok (.return_, 1) := dk_177 (dk_at dksJ4_rotateRight_4 0 rfl rfl)
abbrev cJ4_get : ByteArray := prog_129_method_8_code
def yJ4_get : MethodName := ⟨RJ4, "get", "(Ljava/lang/Object;)Ljava/lang/Object;"⟩
def dkwJ4_get_0 : List UInt8 := [42, 43, 182, 0, 50, 77, 44, 199, 0, 7, 1, 167, 0, 7, 44, 180, 0, 58, 176]
abbrev dktJ4_get_0 : List UInt8 := dkwJ4_get_0 ++ []
theorem dksJ4_get_0 : cJ4_get.data.toList.drop 0 = dktJ4_get_0 := by decide +kernel
theorem dJ4_get_0 : decode cJ4_get 0 = .ok (.aload_n 0, 1) := dk_42 (dk_at dksJ4_get_0 0 rfl rfl)
theorem dJ4_get_1 : decode cJ4_get 1 = .ok (.aload_n 1, 1) := dk_43 (dk_at dksJ4_get_0 1 rfl rfl)
theorem dJ4_get_2 : decode cJ4_get 2 = .ok (.invokevirtual 50, 3) := dk_182 0 50 (dk_at dksJ4_get_0 2 rfl rfl)
theorem dJ4_get_5 : decode cJ4_get 5 = .ok (.astore_n 2, 1) := dk_77 (dk_at dksJ4_get_0 5 rfl rfl)
theorem dJ4_get_6 : decode cJ4_get 6 = .ok (.aload_n 2, 1) := dk_44 (dk_at dksJ4_get_0 6 rfl rfl)
theorem dJ4_get_7 : decode cJ4_get 7 = .ok (.ifnonnull 7, 3) := dk_199 0 7 (dk_at dksJ4_get_0 7 rfl rfl)
theorem dJ4_get_10 : decode cJ4_get 10 = .ok (.aconst_null, 1) := dk_1 (dk_at dksJ4_get_0 10 rfl rfl)
theorem dJ4_get_11 : decode cJ4_get 11 = .ok (.goto 7, 3) := dk_167 0 7 (dk_at dksJ4_get_0 11 rfl rfl)
theorem dJ4_get_14 : decode cJ4_get 14 = .ok (.aload_n 2, 1) := dk_44 (dk_at dksJ4_get_0 14 rfl rfl)
theorem dJ4_get_15 : decode cJ4_get 15 = .ok (.getfield 58, 3) := dk_180 0 58 (dk_at dksJ4_get_0 15 rfl rfl)
theorem dJ4_get_18 : decode cJ4_get 18 = .ok (.areturn, 1) := dk_176 (dk_at dksJ4_get_0 18 rfl rfl)
abbrev cJ4_entrySet : ByteArray := prog_129_method_53_code
def yJ4_entrySet : MethodName := ⟨RJ4, "entrySet", "()Ljava/util/Set;"⟩
def dkwJ4_entrySet_1 : List UInt8 := [181, 0, 188, 176]
abbrev dktJ4_entrySet_1 : List UInt8 := dkwJ4_entrySet_1 ++ []
def dkwJ4_entrySet_0 : List UInt8 := [42, 180, 0, 188, 76, 43, 198, 0, 7, 43, 167, 0, 16, 42, 187, 0, 242, 89, 42, 183, 0, 244, 90]
abbrev dktJ4_entrySet_0 : List UInt8 := dkwJ4_entrySet_0 ++ dktJ4_entrySet_1
theorem dksJ4_entrySet_0 : cJ4_entrySet.data.toList.drop 0 = dktJ4_entrySet_0 := by decide +kernel
theorem dksJ4_entrySet_1 : cJ4_entrySet.data.toList.drop 23 = dktJ4_entrySet_1 := dk_seg dksJ4_entrySet_0 23 rfl rfl
theorem dJ4_entrySet_0 : decode cJ4_entrySet 0 = .ok (.aload_n 0, 1) := dk_42 (dk_at dksJ4_entrySet_0 0 rfl rfl)
theorem dJ4_entrySet_1 : decode cJ4_entrySet 1 = .ok (.getfield 188, 3) := dk_180 0 188 (dk_at dksJ4_entrySet_0 1 rfl rfl)
theorem dJ4_entrySet_4 : decode cJ4_entrySet 4 = .ok (.astore_n 1, 1) := dk_76 (dk_at dksJ4_entrySet_0 4 rfl rfl)
theorem dJ4_entrySet_5 : decode cJ4_entrySet 5 = .ok (.aload_n 1, 1) := dk_43 (dk_at dksJ4_entrySet_0 5 rfl rfl)
theorem dJ4_entrySet_6 : decode cJ4_entrySet 6 = .ok (.ifnull 7, 3) := dk_198 0 7 (dk_at dksJ4_entrySet_0 6 rfl rfl)
theorem dJ4_entrySet_9 : decode cJ4_entrySet 9 = .ok (.aload_n 1, 1) := dk_43 (dk_at dksJ4_entrySet_0 9 rfl rfl)
theorem dJ4_entrySet_10 : decode cJ4_entrySet 10 = .ok (.goto 16, 3) := dk_167 0 16 (dk_at dksJ4_entrySet_0 10 rfl rfl)
theorem dJ4_entrySet_13 : decode cJ4_entrySet 13 = .ok (.aload_n 0, 1) := dk_42 (dk_at dksJ4_entrySet_0 13 rfl rfl)
theorem dJ4_entrySet_14 : decode cJ4_entrySet 14 = .ok (.new 242, 3) := dk_187 0 242 (dk_at dksJ4_entrySet_0 14 rfl rfl)
theorem dJ4_entrySet_17 : decode cJ4_entrySet 17 = .ok (.dup, 1) := dk_89 (dk_at dksJ4_entrySet_0 17 rfl rfl)
theorem dJ4_entrySet_18 : decode cJ4_entrySet 18 = .ok (.aload_n 0, 1) := dk_42 (dk_at dksJ4_entrySet_0 18 rfl rfl)
theorem dJ4_entrySet_19 : decode cJ4_entrySet 19 = .ok (.invokespecial 244, 3) := dk_183 0 244 (dk_at dksJ4_entrySet_0 19 rfl rfl)
theorem dJ4_entrySet_22 : decode cJ4_entrySet 22 = .ok (.dup_x1, 1) := dk_90 (dk_at dksJ4_entrySet_0 22 rfl rfl)
theorem dJ4_entrySet_23 : decode cJ4_entrySet 23 = .ok (.putfield 188, 3) := dk_181 0 188 (dk_at dksJ4_entrySet_1 0 rfl rfl)
theorem dJ4_entrySet_26 : decode cJ4_entrySet 26 = .ok (.areturn, 1) := dk_176 (dk_at dksJ4_entrySet_1 3 rfl rfl)
abbrev cJ4_getFirstEntry : ByteArray := prog_129_method_72_code
def yJ4_getFirstEntry : MethodName := ⟨RJ4, "getFirstEntry", "()Ljava/util/TreeMap$Entry;"⟩
def dkwJ4_getFirstEntry_1 : List UInt8 := [43, 176]
abbrev dktJ4_getFirstEntry_1 : List UInt8 := dkwJ4_getFirstEntry_1 ++ []
def dkwJ4_getFirstEntry_0 : List UInt8 := [42, 180, 0, 101, 76, 43, 198, 0, 18, 43, 180, 0, 111, 198, 0, 11, 43, 180, 0, 111, 76, 167, 255, 244]
abbrev dktJ4_getFirstEntry_0 : List UInt8 := dkwJ4_getFirstEntry_0 ++ dktJ4_getFirstEntry_1
theorem dksJ4_getFirstEntry_0 : cJ4_getFirstEntry.data.toList.drop 0 = dktJ4_getFirstEntry_0 := by decide +kernel
theorem dksJ4_getFirstEntry_1 : cJ4_getFirstEntry.data.toList.drop 24 = dktJ4_getFirstEntry_1 := dk_seg dksJ4_getFirstEntry_0 24 rfl rfl
theorem dJ4_getFirstEntry_0 : decode cJ4_getFirstEntry 0 = .ok (.aload_n 0, 1) := dk_42 (dk_at dksJ4_getFirstEntry_0 0 rfl rfl)
theorem dJ4_getFirstEntry_1 : decode cJ4_getFirstEntry 1 = .ok (.getfield 101, 3) := dk_180 0 101 (dk_at dksJ4_getFirstEntry_0 1 rfl rfl)
theorem dJ4_getFirstEntry_4 : decode cJ4_getFirstEntry 4 = .ok (.astore_n 1, 1) := dk_76 (dk_at dksJ4_getFirstEntry_0 4 rfl rfl)
theorem dJ4_getFirstEntry_5 : decode cJ4_getFirstEntry 5 = .ok (.aload_n 1, 1) := dk_43 (dk_at dksJ4_getFirstEntry_0 5 rfl rfl)
theorem dJ4_getFirstEntry_6 : decode cJ4_getFirstEntry 6 = .ok (.ifnull 18, 3) := dk_198 0 18 (dk_at dksJ4_getFirstEntry_0 6 rfl rfl)
theorem dJ4_getFirstEntry_9 : decode cJ4_getFirstEntry 9 = .ok (.aload_n 1, 1) := dk_43 (dk_at dksJ4_getFirstEntry_0 9 rfl rfl)
theorem dJ4_getFirstEntry_10 : decode cJ4_getFirstEntry 10 = .ok (.getfield 111, 3) := dk_180 0 111 (dk_at dksJ4_getFirstEntry_0 10 rfl rfl)
theorem dJ4_getFirstEntry_13 : decode cJ4_getFirstEntry 13 = .ok (.ifnull 11, 3) := dk_198 0 11 (dk_at dksJ4_getFirstEntry_0 13 rfl rfl)
theorem dJ4_getFirstEntry_16 : decode cJ4_getFirstEntry 16 = .ok (.aload_n 1, 1) := dk_43 (dk_at dksJ4_getFirstEntry_0 16 rfl rfl)
theorem dJ4_getFirstEntry_17 : decode cJ4_getFirstEntry 17 = .ok (.getfield 111, 3) := dk_180 0 111 (dk_at dksJ4_getFirstEntry_0 17 rfl rfl)
theorem dJ4_getFirstEntry_20 : decode cJ4_getFirstEntry 20 = .ok (.astore_n 1, 1) := dk_76 (dk_at dksJ4_getFirstEntry_0 20 rfl rfl)
theorem dJ4_getFirstEntry_21 : decode cJ4_getFirstEntry 21 = .ok (.goto (-12), 3) := dk_167 255 244 (dk_at dksJ4_getFirstEntry_0 21 rfl rfl)
theorem dJ4_getFirstEntry_24 : decode cJ4_getFirstEntry 24 = .ok (.aload_n 1, 1) := dk_43 (dk_at dksJ4_getFirstEntry_1 0 rfl rfl)
theorem dJ4_getFirstEntry_25 : decode cJ4_getFirstEntry 25 = .ok (.areturn, 1) := dk_176 (dk_at dksJ4_getFirstEntry_1 1 rfl rfl)
abbrev cJ4_deleteEntry : ByteArray := prog_129_method_84_code
def yJ4_deleteEntry : MethodName := ⟨RJ4, "deleteEntry", "(Ljava/util/TreeMap$Entry;)V"⟩
def dkwJ4_deleteEntry_10 : List UInt8 := [180, 0, 124, 1, 181, 0, 114, 43, 1, 181, 0, 124, 177]
abbrev dktJ4_deleteEntry_10 : List UInt8 := dkwJ4_deleteEntry_10 ++ []
def dkwJ4_deleteEntry_9 : List UInt8 := [180, 0, 124, 1, 181, 0, 111, 167, 0, 22, 43, 43, 180, 0, 124, 180, 0, 114, 166, 0, 11, 43]
abbrev dktJ4_deleteEntry_9 : List UInt8 := dkwJ4_deleteEntry_9 ++ dktJ4_deleteEntry_10
def dkwJ4_deleteEntry_8 : List UInt8 := [182, 1, 61, 43, 180, 0, 124, 198, 0, 49, 43, 43, 180, 0, 124, 180, 0, 111, 166, 0, 14, 43]
abbrev dktJ4_deleteEntry_8 : List UInt8 := dkwJ4_deleteEntry_8 ++ dktJ4_deleteEntry_9
def dkwJ4_deleteEntry_7 : List UInt8 := [180, 0, 124, 199, 0, 11, 42, 1, 181, 0, 101, 167, 0, 69, 43, 180, 1, 34, 4, 160, 0, 8, 42, 43]
abbrev dktJ4_deleteEntry_7 : List UInt8 := dkwJ4_deleteEntry_7 ++ dktJ4_deleteEntry_8
def dkwJ4_deleteEntry_6 : List UInt8 := [181, 0, 114, 181, 0, 111, 43, 180, 1, 34, 4, 160, 0, 92, 42, 44, 182, 1, 61, 167, 0, 84, 43]
abbrev dktJ4_deleteEntry_6 : List UInt8 := dkwJ4_deleteEntry_6 ++ dktJ4_deleteEntry_7
def dkwJ4_deleteEntry_5 : List UInt8 := [181, 0, 111, 167, 0, 11, 43, 180, 0, 124, 44, 181, 0, 114, 43, 43, 43, 1, 90, 181, 0, 124, 90]
abbrev dktJ4_deleteEntry_5 : List UInt8 := dkwJ4_deleteEntry_5 ++ dktJ4_deleteEntry_6
def dkwJ4_deleteEntry_4 : List UInt8 := [44, 181, 0, 101, 167, 0, 33, 43, 43, 180, 0, 124, 180, 0, 111, 166, 0, 14, 43, 180, 0, 124, 44]
abbrev dktJ4_deleteEntry_4 : List UInt8 := dkwJ4_deleteEntry_4 ++ dktJ4_deleteEntry_5
def dkwJ4_deleteEntry_3 : List UInt8 := [180, 0, 114, 77, 44, 198, 0, 87, 44, 43, 180, 0, 124, 181, 0, 124, 43, 180, 0, 124, 199, 0, 11, 42]
abbrev dktJ4_deleteEntry_3 : List UInt8 := dkwJ4_deleteEntry_3 ++ dktJ4_deleteEntry_4
def dkwJ4_deleteEntry_2 : List UInt8 := [44, 180, 0, 58, 181, 0, 58, 44, 76, 43, 180, 0, 111, 198, 0, 10, 43, 180, 0, 111, 167, 0, 7, 43]
abbrev dktJ4_deleteEntry_2 : List UInt8 := dkwJ4_deleteEntry_2 ++ dktJ4_deleteEntry_3
def dkwJ4_deleteEntry_1 : List UInt8 := [198, 0, 33, 43, 180, 0, 114, 198, 0, 26, 43, 184, 0, 68, 77, 43, 44, 180, 0, 105, 181, 0, 105, 43]
abbrev dktJ4_deleteEntry_1 : List UInt8 := dkwJ4_deleteEntry_1 ++ dktJ4_deleteEntry_2
def dkwJ4_deleteEntry_0 : List UInt8 := [42, 89, 180, 0, 13, 4, 96, 181, 0, 13, 42, 89, 180, 0, 7, 4, 100, 181, 0, 7, 43, 180, 0, 111]
abbrev dktJ4_deleteEntry_0 : List UInt8 := dkwJ4_deleteEntry_0 ++ dktJ4_deleteEntry_1
theorem dksJ4_deleteEntry_0 : cJ4_deleteEntry.data.toList.drop 0 = dktJ4_deleteEntry_0 := by decide +kernel
theorem dksJ4_deleteEntry_1 : cJ4_deleteEntry.data.toList.drop 24 = dktJ4_deleteEntry_1 := dk_seg dksJ4_deleteEntry_0 24 rfl rfl
theorem dksJ4_deleteEntry_2 : cJ4_deleteEntry.data.toList.drop 48 = dktJ4_deleteEntry_2 := dk_seg dksJ4_deleteEntry_1 24 rfl rfl
theorem dksJ4_deleteEntry_3 : cJ4_deleteEntry.data.toList.drop 72 = dktJ4_deleteEntry_3 := dk_seg dksJ4_deleteEntry_2 24 rfl rfl
theorem dksJ4_deleteEntry_4 : cJ4_deleteEntry.data.toList.drop 96 = dktJ4_deleteEntry_4 := dk_seg dksJ4_deleteEntry_3 24 rfl rfl
theorem dksJ4_deleteEntry_5 : cJ4_deleteEntry.data.toList.drop 119 = dktJ4_deleteEntry_5 := dk_seg dksJ4_deleteEntry_4 23 rfl rfl
theorem dksJ4_deleteEntry_6 : cJ4_deleteEntry.data.toList.drop 142 = dktJ4_deleteEntry_6 := dk_seg dksJ4_deleteEntry_5 23 rfl rfl
theorem dksJ4_deleteEntry_7 : cJ4_deleteEntry.data.toList.drop 165 = dktJ4_deleteEntry_7 := dk_seg dksJ4_deleteEntry_6 23 rfl rfl
theorem dksJ4_deleteEntry_8 : cJ4_deleteEntry.data.toList.drop 189 = dktJ4_deleteEntry_8 := dk_seg dksJ4_deleteEntry_7 24 rfl rfl
theorem dksJ4_deleteEntry_9 : cJ4_deleteEntry.data.toList.drop 211 = dktJ4_deleteEntry_9 := dk_seg dksJ4_deleteEntry_8 22 rfl rfl
theorem dksJ4_deleteEntry_10 : cJ4_deleteEntry.data.toList.drop 233 = dktJ4_deleteEntry_10 := dk_seg dksJ4_deleteEntry_9 22 rfl rfl
theorem dJ4_deleteEntry_0 : decode cJ4_deleteEntry 0 = .ok (.aload_n 0, 1) := dk_42 (dk_at dksJ4_deleteEntry_0 0 rfl rfl)
theorem dJ4_deleteEntry_1 : decode cJ4_deleteEntry 1 = .ok (.dup, 1) := dk_89 (dk_at dksJ4_deleteEntry_0 1 rfl rfl)
theorem dJ4_deleteEntry_2 : decode cJ4_deleteEntry 2 = .ok (.getfield 13, 3) := dk_180 0 13 (dk_at dksJ4_deleteEntry_0 2 rfl rfl)
theorem dJ4_deleteEntry_5 : decode cJ4_deleteEntry 5 = .ok (.iconst 1, 1) := dk_4 (dk_at dksJ4_deleteEntry_0 5 rfl rfl)
theorem dJ4_deleteEntry_6 : decode cJ4_deleteEntry 6 = .ok (.iadd, 1) := dk_96 (dk_at dksJ4_deleteEntry_0 6 rfl rfl)
theorem dJ4_deleteEntry_7 : decode cJ4_deleteEntry 7 = .ok (.putfield 13, 3) := dk_181 0 13 (dk_at dksJ4_deleteEntry_0 7 rfl rfl)
theorem dJ4_deleteEntry_10 : decode cJ4_deleteEntry 10 = .ok (.aload_n 0, 1) := dk_42 (dk_at dksJ4_deleteEntry_0 10 rfl rfl)
theorem dJ4_deleteEntry_11 : decode cJ4_deleteEntry 11 = .ok (.dup, 1) := dk_89 (dk_at dksJ4_deleteEntry_0 11 rfl rfl)
theorem dJ4_deleteEntry_12 : decode cJ4_deleteEntry 12 = .ok (.getfield 7, 3) := dk_180 0 7 (dk_at dksJ4_deleteEntry_0 12 rfl rfl)
theorem dJ4_deleteEntry_15 : decode cJ4_deleteEntry 15 = .ok (.iconst 1, 1) := dk_4 (dk_at dksJ4_deleteEntry_0 15 rfl rfl)
theorem dJ4_deleteEntry_16 : decode cJ4_deleteEntry 16 = .ok (.isub, 1) := dk_100 (dk_at dksJ4_deleteEntry_0 16 rfl rfl)
theorem dJ4_deleteEntry_17 : decode cJ4_deleteEntry 17 = .ok (.putfield 7, 3) := dk_181 0 7 (dk_at dksJ4_deleteEntry_0 17 rfl rfl)
theorem dJ4_deleteEntry_20 : decode cJ4_deleteEntry 20 = .ok (.aload_n 1, 1) := dk_43 (dk_at dksJ4_deleteEntry_0 20 rfl rfl)
theorem dJ4_deleteEntry_21 : decode cJ4_deleteEntry 21 = .ok (.getfield 111, 3) := dk_180 0 111 (dk_at dksJ4_deleteEntry_0 21 rfl rfl)
theorem dJ4_deleteEntry_24 : decode cJ4_deleteEntry 24 = .ok (.ifnull 33, 3) := dk_198 0 33 (dk_at dksJ4_deleteEntry_1 0 rfl rfl)
theorem dJ4_deleteEntry_27 : decode cJ4_deleteEntry 27 = .ok (.aload_n 1, 1) := dk_43 (dk_at dksJ4_deleteEntry_1 3 rfl rfl)
theorem dJ4_deleteEntry_28 : decode cJ4_deleteEntry 28 = .ok (.getfield 114, 3) := dk_180 0 114 (dk_at dksJ4_deleteEntry_1 4 rfl rfl)
theorem dJ4_deleteEntry_31 : decode cJ4_deleteEntry 31 = .ok (.ifnull 26, 3) := dk_198 0 26 (dk_at dksJ4_deleteEntry_1 7 rfl rfl)
theorem dJ4_deleteEntry_34 : decode cJ4_deleteEntry 34 = .ok (.aload_n 1, 1) := dk_43 (dk_at dksJ4_deleteEntry_1 10 rfl rfl)
theorem dJ4_deleteEntry_35 : decode cJ4_deleteEntry 35 = .ok (.invokestatic 68, 3) := dk_184 0 68 (dk_at dksJ4_deleteEntry_1 11 rfl rfl)
theorem dJ4_deleteEntry_38 : decode cJ4_deleteEntry 38 = .ok (.astore_n 2, 1) := dk_77 (dk_at dksJ4_deleteEntry_1 14 rfl rfl)
theorem dJ4_deleteEntry_39 : decode cJ4_deleteEntry 39 = .ok (.aload_n 1, 1) := dk_43 (dk_at dksJ4_deleteEntry_1 15 rfl rfl)
theorem dJ4_deleteEntry_40 : decode cJ4_deleteEntry 40 = .ok (.aload_n 2, 1) := dk_44 (dk_at dksJ4_deleteEntry_1 16 rfl rfl)
theorem dJ4_deleteEntry_41 : decode cJ4_deleteEntry 41 = .ok (.getfield 105, 3) := dk_180 0 105 (dk_at dksJ4_deleteEntry_1 17 rfl rfl)
theorem dJ4_deleteEntry_44 : decode cJ4_deleteEntry 44 = .ok (.putfield 105, 3) := dk_181 0 105 (dk_at dksJ4_deleteEntry_1 20 rfl rfl)
theorem dJ4_deleteEntry_47 : decode cJ4_deleteEntry 47 = .ok (.aload_n 1, 1) := dk_43 (dk_at dksJ4_deleteEntry_1 23 rfl rfl)
theorem dJ4_deleteEntry_48 : decode cJ4_deleteEntry 48 = .ok (.aload_n 2, 1) := dk_44 (dk_at dksJ4_deleteEntry_2 0 rfl rfl)
theorem dJ4_deleteEntry_49 : decode cJ4_deleteEntry 49 = .ok (.getfield 58, 3) := dk_180 0 58 (dk_at dksJ4_deleteEntry_2 1 rfl rfl)
theorem dJ4_deleteEntry_52 : decode cJ4_deleteEntry 52 = .ok (.putfield 58, 3) := dk_181 0 58 (dk_at dksJ4_deleteEntry_2 4 rfl rfl)
theorem dJ4_deleteEntry_55 : decode cJ4_deleteEntry 55 = .ok (.aload_n 2, 1) := dk_44 (dk_at dksJ4_deleteEntry_2 7 rfl rfl)
theorem dJ4_deleteEntry_56 : decode cJ4_deleteEntry 56 = .ok (.astore_n 1, 1) := dk_76 (dk_at dksJ4_deleteEntry_2 8 rfl rfl)
theorem dJ4_deleteEntry_57 : decode cJ4_deleteEntry 57 = .ok (.aload_n 1, 1) := dk_43 (dk_at dksJ4_deleteEntry_2 9 rfl rfl)
theorem dJ4_deleteEntry_58 : decode cJ4_deleteEntry 58 = .ok (.getfield 111, 3) := dk_180 0 111 (dk_at dksJ4_deleteEntry_2 10 rfl rfl)
theorem dJ4_deleteEntry_61 : decode cJ4_deleteEntry 61 = .ok (.ifnull 10, 3) := dk_198 0 10 (dk_at dksJ4_deleteEntry_2 13 rfl rfl)
theorem dJ4_deleteEntry_64 : decode cJ4_deleteEntry 64 = .ok (.aload_n 1, 1) := dk_43 (dk_at dksJ4_deleteEntry_2 16 rfl rfl)
theorem dJ4_deleteEntry_65 : decode cJ4_deleteEntry 65 = .ok (.getfield 111, 3) := dk_180 0 111 (dk_at dksJ4_deleteEntry_2 17 rfl rfl)
theorem dJ4_deleteEntry_68 : decode cJ4_deleteEntry 68 = .ok (.goto 7, 3) := dk_167 0 7 (dk_at dksJ4_deleteEntry_2 20 rfl rfl)
theorem dJ4_deleteEntry_71 : decode cJ4_deleteEntry 71 = .ok (.aload_n 1, 1) := dk_43 (dk_at dksJ4_deleteEntry_2 23 rfl rfl)
theorem dJ4_deleteEntry_72 : decode cJ4_deleteEntry 72 = .ok (.getfield 114, 3) := dk_180 0 114 (dk_at dksJ4_deleteEntry_3 0 rfl rfl)
theorem dJ4_deleteEntry_75 : decode cJ4_deleteEntry 75 = .ok (.astore_n 2, 1) := dk_77 (dk_at dksJ4_deleteEntry_3 3 rfl rfl)
theorem dJ4_deleteEntry_76 : decode cJ4_deleteEntry 76 = .ok (.aload_n 2, 1) := dk_44 (dk_at dksJ4_deleteEntry_3 4 rfl rfl)
theorem dJ4_deleteEntry_77 : decode cJ4_deleteEntry 77 = .ok (.ifnull 87, 3) := dk_198 0 87 (dk_at dksJ4_deleteEntry_3 5 rfl rfl)
theorem dJ4_deleteEntry_80 : decode cJ4_deleteEntry 80 = .ok (.aload_n 2, 1) := dk_44 (dk_at dksJ4_deleteEntry_3 8 rfl rfl)
theorem dJ4_deleteEntry_81 : decode cJ4_deleteEntry 81 = .ok (.aload_n 1, 1) := dk_43 (dk_at dksJ4_deleteEntry_3 9 rfl rfl)
theorem dJ4_deleteEntry_82 : decode cJ4_deleteEntry 82 = .ok (.getfield 124, 3) := dk_180 0 124 (dk_at dksJ4_deleteEntry_3 10 rfl rfl)
theorem dJ4_deleteEntry_85 : decode cJ4_deleteEntry 85 = .ok (.putfield 124, 3) := dk_181 0 124 (dk_at dksJ4_deleteEntry_3 13 rfl rfl)
theorem dJ4_deleteEntry_88 : decode cJ4_deleteEntry 88 = .ok (.aload_n 1, 1) := dk_43 (dk_at dksJ4_deleteEntry_3 16 rfl rfl)
theorem dJ4_deleteEntry_89 : decode cJ4_deleteEntry 89 = .ok (.getfield 124, 3) := dk_180 0 124 (dk_at dksJ4_deleteEntry_3 17 rfl rfl)
theorem dJ4_deleteEntry_92 : decode cJ4_deleteEntry 92 = .ok (.ifnonnull 11, 3) := dk_199 0 11 (dk_at dksJ4_deleteEntry_3 20 rfl rfl)
theorem dJ4_deleteEntry_95 : decode cJ4_deleteEntry 95 = .ok (.aload_n 0, 1) := dk_42 (dk_at dksJ4_deleteEntry_3 23 rfl rfl)
theorem dJ4_deleteEntry_96 : decode cJ4_deleteEntry 96 = .ok (.aload_n 2, 1) := dk_44 (dk_at dksJ4_deleteEntry_4 0 rfl rfl)
theorem dJ4_deleteEntry_97 : decode cJ4_deleteEntry 97 = .ok (.putfield 101, 3) := dk_181 0 101 (dk_at dksJ4_deleteEntry_4 1 rfl rfl)
theorem dJ4_deleteEntry_100 : decode cJ4_deleteEntry 100 = .ok (.goto 33, 3) := dk_167 0 33 (dk_at dksJ4_deleteEntry_4 4 rfl rfl)
theorem dJ4_deleteEntry_103 : decode cJ4_deleteEntry 103 = .ok (.aload_n 1, 1) := dk_43 (dk_at dksJ4_deleteEntry_4 7 rfl rfl)
theorem dJ4_deleteEntry_104 : decode cJ4_deleteEntry 104 = .ok (.aload_n 1, 1) := dk_43 (dk_at dksJ4_deleteEntry_4 8 rfl rfl)
theorem dJ4_deleteEntry_105 : decode cJ4_deleteEntry 105 = .ok (.getfield 124, 3) := dk_180 0 124 (dk_at dksJ4_deleteEntry_4 9 rfl rfl)
theorem dJ4_deleteEntry_108 : decode cJ4_deleteEntry 108 = .ok (.getfield 111, 3) := dk_180 0 111 (dk_at dksJ4_deleteEntry_4 12 rfl rfl)
theorem dJ4_deleteEntry_111 : decode cJ4_deleteEntry 111 = .ok (.if_acmp .ne 14, 3) := dk_166 0 14 (dk_at dksJ4_deleteEntry_4 15 rfl rfl)
theorem dJ4_deleteEntry_114 : decode cJ4_deleteEntry 114 = .ok (.aload_n 1, 1) := dk_43 (dk_at dksJ4_deleteEntry_4 18 rfl rfl)
theorem dJ4_deleteEntry_115 : decode cJ4_deleteEntry 115 = .ok (.getfield 124, 3) := dk_180 0 124 (dk_at dksJ4_deleteEntry_4 19 rfl rfl)
theorem dJ4_deleteEntry_118 : decode cJ4_deleteEntry 118 = .ok (.aload_n 2, 1) := dk_44 (dk_at dksJ4_deleteEntry_4 22 rfl rfl)
theorem dJ4_deleteEntry_119 : decode cJ4_deleteEntry 119 = .ok (.putfield 111, 3) := dk_181 0 111 (dk_at dksJ4_deleteEntry_5 0 rfl rfl)
theorem dJ4_deleteEntry_122 : decode cJ4_deleteEntry 122 = .ok (.goto 11, 3) := dk_167 0 11 (dk_at dksJ4_deleteEntry_5 3 rfl rfl)
theorem dJ4_deleteEntry_125 : decode cJ4_deleteEntry 125 = .ok (.aload_n 1, 1) := dk_43 (dk_at dksJ4_deleteEntry_5 6 rfl rfl)
theorem dJ4_deleteEntry_126 : decode cJ4_deleteEntry 126 = .ok (.getfield 124, 3) := dk_180 0 124 (dk_at dksJ4_deleteEntry_5 7 rfl rfl)
theorem dJ4_deleteEntry_129 : decode cJ4_deleteEntry 129 = .ok (.aload_n 2, 1) := dk_44 (dk_at dksJ4_deleteEntry_5 10 rfl rfl)
theorem dJ4_deleteEntry_130 : decode cJ4_deleteEntry 130 = .ok (.putfield 114, 3) := dk_181 0 114 (dk_at dksJ4_deleteEntry_5 11 rfl rfl)
theorem dJ4_deleteEntry_133 : decode cJ4_deleteEntry 133 = .ok (.aload_n 1, 1) := dk_43 (dk_at dksJ4_deleteEntry_5 14 rfl rfl)
theorem dJ4_deleteEntry_134 : decode cJ4_deleteEntry 134 = .ok (.aload_n 1, 1) := dk_43 (dk_at dksJ4_deleteEntry_5 15 rfl rfl)
theorem dJ4_deleteEntry_135 : decode cJ4_deleteEntry 135 = .ok (.aload_n 1, 1) := dk_43 (dk_at dksJ4_deleteEntry_5 16 rfl rfl)
theorem dJ4_deleteEntry_136 : decode cJ4_deleteEntry 136 = .ok (.aconst_null, 1) := dk_1 (dk_at dksJ4_deleteEntry_5 17 rfl rfl)
theorem dJ4_deleteEntry_137 : decode cJ4_deleteEntry 137 = .ok (.dup_x1, 1) := dk_90 (dk_at dksJ4_deleteEntry_5 18 rfl rfl)
theorem dJ4_deleteEntry_138 : decode cJ4_deleteEntry 138 = .ok (.putfield 124, 3) := dk_181 0 124 (dk_at dksJ4_deleteEntry_5 19 rfl rfl)
theorem dJ4_deleteEntry_141 : decode cJ4_deleteEntry 141 = .ok (.dup_x1, 1) := dk_90 (dk_at dksJ4_deleteEntry_5 22 rfl rfl)
theorem dJ4_deleteEntry_142 : decode cJ4_deleteEntry 142 = .ok (.putfield 114, 3) := dk_181 0 114 (dk_at dksJ4_deleteEntry_6 0 rfl rfl)
theorem dJ4_deleteEntry_145 : decode cJ4_deleteEntry 145 = .ok (.putfield 111, 3) := dk_181 0 111 (dk_at dksJ4_deleteEntry_6 3 rfl rfl)
theorem dJ4_deleteEntry_148 : decode cJ4_deleteEntry 148 = .ok (.aload_n 1, 1) := dk_43 (dk_at dksJ4_deleteEntry_6 6 rfl rfl)
theorem dJ4_deleteEntry_149 : decode cJ4_deleteEntry 149 = .ok (.getfield 290, 3) := dk_180 1 34 (dk_at dksJ4_deleteEntry_6 7 rfl rfl)
theorem dJ4_deleteEntry_152 : decode cJ4_deleteEntry 152 = .ok (.iconst 1, 1) := dk_4 (dk_at dksJ4_deleteEntry_6 10 rfl rfl)
theorem dJ4_deleteEntry_153 : decode cJ4_deleteEntry 153 = .ok (.if_icmp .ne 92, 3) := dk_160 0 92 (dk_at dksJ4_deleteEntry_6 11 rfl rfl)
theorem dJ4_deleteEntry_156 : decode cJ4_deleteEntry 156 = .ok (.aload_n 0, 1) := dk_42 (dk_at dksJ4_deleteEntry_6 14 rfl rfl)
theorem dJ4_deleteEntry_157 : decode cJ4_deleteEntry 157 = .ok (.aload_n 2, 1) := dk_44 (dk_at dksJ4_deleteEntry_6 15 rfl rfl)
theorem dJ4_deleteEntry_158 : decode cJ4_deleteEntry 158 = .ok (.invokevirtual 317, 3) := dk_182 1 61 (dk_at dksJ4_deleteEntry_6 16 rfl rfl)
theorem dJ4_deleteEntry_161 : decode cJ4_deleteEntry 161 = .ok (.goto 84, 3) := dk_167 0 84 (dk_at dksJ4_deleteEntry_6 19 rfl rfl)
theorem dJ4_deleteEntry_164 : decode cJ4_deleteEntry 164 = .ok (.aload_n 1, 1) := dk_43 (dk_at dksJ4_deleteEntry_6 22 rfl rfl)
theorem dJ4_deleteEntry_165 : decode cJ4_deleteEntry 165 = .ok (.getfield 124, 3) := dk_180 0 124 (dk_at dksJ4_deleteEntry_7 0 rfl rfl)
theorem dJ4_deleteEntry_168 : decode cJ4_deleteEntry 168 = .ok (.ifnonnull 11, 3) := dk_199 0 11 (dk_at dksJ4_deleteEntry_7 3 rfl rfl)
theorem dJ4_deleteEntry_171 : decode cJ4_deleteEntry 171 = .ok (.aload_n 0, 1) := dk_42 (dk_at dksJ4_deleteEntry_7 6 rfl rfl)
theorem dJ4_deleteEntry_172 : decode cJ4_deleteEntry 172 = .ok (.aconst_null, 1) := dk_1 (dk_at dksJ4_deleteEntry_7 7 rfl rfl)
theorem dJ4_deleteEntry_173 : decode cJ4_deleteEntry 173 = .ok (.putfield 101, 3) := dk_181 0 101 (dk_at dksJ4_deleteEntry_7 8 rfl rfl)
theorem dJ4_deleteEntry_176 : decode cJ4_deleteEntry 176 = .ok (.goto 69, 3) := dk_167 0 69 (dk_at dksJ4_deleteEntry_7 11 rfl rfl)
theorem dJ4_deleteEntry_179 : decode cJ4_deleteEntry 179 = .ok (.aload_n 1, 1) := dk_43 (dk_at dksJ4_deleteEntry_7 14 rfl rfl)
theorem dJ4_deleteEntry_180 : decode cJ4_deleteEntry 180 = .ok (.getfield 290, 3) := dk_180 1 34 (dk_at dksJ4_deleteEntry_7 15 rfl rfl)
theorem dJ4_deleteEntry_183 : decode cJ4_deleteEntry 183 = .ok (.iconst 1, 1) := dk_4 (dk_at dksJ4_deleteEntry_7 18 rfl rfl)
theorem dJ4_deleteEntry_184 : decode cJ4_deleteEntry 184 = .ok (.if_icmp .ne 8, 3) := dk_160 0 8 (dk_at dksJ4_deleteEntry_7 19 rfl rfl)
theorem dJ4_deleteEntry_187 : decode cJ4_deleteEntry 187 = .ok (.aload_n 0, 1) := dk_42 (dk_at dksJ4_deleteEntry_7 22 rfl rfl)
theorem dJ4_deleteEntry_188 : decode cJ4_deleteEntry 188 = .ok (.aload_n 1, 1) := dk_43 (dk_at dksJ4_deleteEntry_7 23 rfl rfl)
theorem dJ4_deleteEntry_189 : decode cJ4_deleteEntry 189 = .ok (.invokevirtual 317, 3) := dk_182 1 61 (dk_at dksJ4_deleteEntry_8 0 rfl rfl)
theorem dJ4_deleteEntry_192 : decode cJ4_deleteEntry 192 = .ok (.aload_n 1, 1) := dk_43 (dk_at dksJ4_deleteEntry_8 3 rfl rfl)
theorem dJ4_deleteEntry_193 : decode cJ4_deleteEntry 193 = .ok (.getfield 124, 3) := dk_180 0 124 (dk_at dksJ4_deleteEntry_8 4 rfl rfl)
theorem dJ4_deleteEntry_196 : decode cJ4_deleteEntry 196 = .ok (.ifnull 49, 3) := dk_198 0 49 (dk_at dksJ4_deleteEntry_8 7 rfl rfl)
theorem dJ4_deleteEntry_199 : decode cJ4_deleteEntry 199 = .ok (.aload_n 1, 1) := dk_43 (dk_at dksJ4_deleteEntry_8 10 rfl rfl)
theorem dJ4_deleteEntry_200 : decode cJ4_deleteEntry 200 = .ok (.aload_n 1, 1) := dk_43 (dk_at dksJ4_deleteEntry_8 11 rfl rfl)
theorem dJ4_deleteEntry_201 : decode cJ4_deleteEntry 201 = .ok (.getfield 124, 3) := dk_180 0 124 (dk_at dksJ4_deleteEntry_8 12 rfl rfl)
theorem dJ4_deleteEntry_204 : decode cJ4_deleteEntry 204 = .ok (.getfield 111, 3) := dk_180 0 111 (dk_at dksJ4_deleteEntry_8 15 rfl rfl)
theorem dJ4_deleteEntry_207 : decode cJ4_deleteEntry 207 = .ok (.if_acmp .ne 14, 3) := dk_166 0 14 (dk_at dksJ4_deleteEntry_8 18 rfl rfl)
theorem dJ4_deleteEntry_210 : decode cJ4_deleteEntry 210 = .ok (.aload_n 1, 1) := dk_43 (dk_at dksJ4_deleteEntry_8 21 rfl rfl)
theorem dJ4_deleteEntry_211 : decode cJ4_deleteEntry 211 = .ok (.getfield 124, 3) := dk_180 0 124 (dk_at dksJ4_deleteEntry_9 0 rfl rfl)
theorem dJ4_deleteEntry_214 : decode cJ4_deleteEntry 214 = .ok (.aconst_null, 1) := dk_1 (dk_at dksJ4_deleteEntry_9 3 rfl rfl)
theorem dJ4_deleteEntry_215 : decode cJ4_deleteEntry 215 = .ok (.putfield 111, 3) := dk_181 0 111 (dk_at dksJ4_deleteEntry_9 4 rfl rfl)
theorem dJ4_deleteEntry_218 : decode cJ4_deleteEntry 218 = .ok (.goto 22, 3) := dk_167 0 22 (dk_at dksJ4_deleteEntry_9 7 rfl rfl)
theorem dJ4_deleteEntry_221 : decode cJ4_deleteEntry 221 = .ok (.aload_n 1, 1) := dk_43 (dk_at dksJ4_deleteEntry_9 10 rfl rfl)
theorem dJ4_deleteEntry_222 : decode cJ4_deleteEntry 222 = .ok (.aload_n 1, 1) := dk_43 (dk_at dksJ4_deleteEntry_9 11 rfl rfl)
theorem dJ4_deleteEntry_223 : decode cJ4_deleteEntry 223 = .ok (.getfield 124, 3) := dk_180 0 124 (dk_at dksJ4_deleteEntry_9 12 rfl rfl)
theorem dJ4_deleteEntry_226 : decode cJ4_deleteEntry 226 = .ok (.getfield 114, 3) := dk_180 0 114 (dk_at dksJ4_deleteEntry_9 15 rfl rfl)
theorem dJ4_deleteEntry_229 : decode cJ4_deleteEntry 229 = .ok (.if_acmp .ne 11, 3) := dk_166 0 11 (dk_at dksJ4_deleteEntry_9 18 rfl rfl)
theorem dJ4_deleteEntry_232 : decode cJ4_deleteEntry 232 = .ok (.aload_n 1, 1) := dk_43 (dk_at dksJ4_deleteEntry_9 21 rfl rfl)
theorem dJ4_deleteEntry_233 : decode cJ4_deleteEntry 233 = .ok (.getfield 124, 3) := dk_180 0 124 (dk_at dksJ4_deleteEntry_10 0 rfl rfl)
theorem dJ4_deleteEntry_236 : decode cJ4_deleteEntry 236 = .ok (.aconst_null, 1) := dk_1 (dk_at dksJ4_deleteEntry_10 3 rfl rfl)
theorem dJ4_deleteEntry_237 : decode cJ4_deleteEntry 237 = .ok (.putfield 114, 3) := dk_181 0 114 (dk_at dksJ4_deleteEntry_10 4 rfl rfl)
theorem dJ4_deleteEntry_240 : decode cJ4_deleteEntry 240 = .ok (.aload_n 1, 1) := dk_43 (dk_at dksJ4_deleteEntry_10 7 rfl rfl)
theorem dJ4_deleteEntry_241 : decode cJ4_deleteEntry 241 = .ok (.aconst_null, 1) := dk_1 (dk_at dksJ4_deleteEntry_10 8 rfl rfl)
theorem dJ4_deleteEntry_242 : decode cJ4_deleteEntry 242 = .ok (.putfield 124, 3) := dk_181 0 124 (dk_at dksJ4_deleteEntry_10 9 rfl rfl)
theorem dJ4_deleteEntry_245 : decode cJ4_deleteEntry 245 = .ok (.return_, 1) := dk_177 (dk_at dksJ4_deleteEntry_10 12 rfl rfl)
abbrev cJ4_fixAfterDeletion : ByteArray := prog_129_method_85_code
def yJ4_fixAfterDeletion : MethodName := ⟨RJ4, "fixAfterDeletion", "(Ljava/util/TreeMap$Entry;)V"⟩
def dkwJ4_fixAfterDeletion_14 : List UInt8 := [182, 1, 58, 42, 180, 0, 101, 76, 167, 254, 170, 43, 4, 184, 1, 51, 177]
abbrev dktJ4_fixAfterDeletion_14 : List UInt8 := dkwJ4_fixAfterDeletion_14 ++ []
def dkwJ4_fixAfterDeletion_13 : List UInt8 := [184, 1, 51, 43, 184, 1, 38, 4, 184, 1, 51, 44, 184, 1, 41, 4, 184, 1, 51, 42, 43, 184, 1, 38]
abbrev dktJ4_fixAfterDeletion_13 : List UInt8 := dkwJ4_fixAfterDeletion_13 ++ dktJ4_fixAfterDeletion_14
def dkwJ4_fixAfterDeletion_12 : List UInt8 := [184, 1, 51, 42, 44, 182, 1, 55, 43, 184, 1, 38, 184, 1, 41, 77, 44, 43, 184, 1, 38, 184, 1, 47]
abbrev dktJ4_fixAfterDeletion_12 : List UInt8 := dkwJ4_fixAfterDeletion_12 ++ dktJ4_fixAfterDeletion_13
def dkwJ4_fixAfterDeletion_11 : List UInt8 := [167, 0, 80, 44, 184, 1, 41, 184, 1, 47, 4, 160, 0, 29, 44, 184, 1, 44, 4, 184, 1, 51, 44, 3]
abbrev dktJ4_fixAfterDeletion_11 : List UInt8 := dkwJ4_fixAfterDeletion_11 ++ dktJ4_fixAfterDeletion_12
def dkwJ4_fixAfterDeletion_10 : List UInt8 := [160, 0, 27, 44, 184, 1, 41, 184, 1, 47, 4, 160, 0, 16, 44, 3, 184, 1, 51, 43, 184, 1, 38, 76]
abbrev dktJ4_fixAfterDeletion_10 : List UInt8 := dkwJ4_fixAfterDeletion_10 ++ dktJ4_fixAfterDeletion_11
def dkwJ4_fixAfterDeletion_9 : List UInt8 := [42, 43, 184, 1, 38, 182, 1, 58, 43, 184, 1, 38, 184, 1, 41, 77, 44, 184, 1, 44, 184, 1, 47, 4]
abbrev dktJ4_fixAfterDeletion_9 : List UInt8 := dkwJ4_fixAfterDeletion_9 ++ dktJ4_fixAfterDeletion_10
def dkwJ4_fixAfterDeletion_8 : List UInt8 := [184, 1, 41, 77, 44, 184, 1, 47, 154, 0, 32, 44, 4, 184, 1, 51, 43, 184, 1, 38, 3, 184, 1, 51]
abbrev dktJ4_fixAfterDeletion_8 : List UInt8 := dkwJ4_fixAfterDeletion_8 ++ dktJ4_fixAfterDeletion_9
def dkwJ4_fixAfterDeletion_7 : List UInt8 := [4, 184, 1, 51, 42, 43, 184, 1, 38, 182, 1, 55, 42, 180, 0, 101, 76, 167, 255, 73, 43, 184, 1, 38]
abbrev dktJ4_fixAfterDeletion_7 : List UInt8 := dkwJ4_fixAfterDeletion_7 ++ dktJ4_fixAfterDeletion_8
def dkwJ4_fixAfterDeletion_6 : List UInt8 := [77, 44, 43, 184, 1, 38, 184, 1, 47, 184, 1, 51, 43, 184, 1, 38, 4, 184, 1, 51, 44, 184, 1, 44]
abbrev dktJ4_fixAfterDeletion_6 : List UInt8 := dkwJ4_fixAfterDeletion_6 ++ dktJ4_fixAfterDeletion_7
def dkwJ4_fixAfterDeletion_5 : List UInt8 := [184, 1, 41, 4, 184, 1, 51, 44, 3, 184, 1, 51, 42, 44, 182, 1, 58, 43, 184, 1, 38, 184, 1, 44]
abbrev dktJ4_fixAfterDeletion_5 : List UInt8 := dkwJ4_fixAfterDeletion_5 ++ dktJ4_fixAfterDeletion_6
def dkwJ4_fixAfterDeletion_4 : List UInt8 := [184, 1, 51, 43, 184, 1, 38, 76, 167, 0, 80, 44, 184, 1, 44, 184, 1, 47, 4, 160, 0, 29, 44]
abbrev dktJ4_fixAfterDeletion_4 : List UInt8 := dkwJ4_fixAfterDeletion_4 ++ dktJ4_fixAfterDeletion_5
def dkwJ4_fixAfterDeletion_3 : List UInt8 := [184, 1, 41, 184, 1, 47, 4, 160, 0, 27, 44, 184, 1, 44, 184, 1, 47, 4, 160, 0, 16, 44, 3]
abbrev dktJ4_fixAfterDeletion_3 : List UInt8 := dkwJ4_fixAfterDeletion_3 ++ dktJ4_fixAfterDeletion_4
def dkwJ4_fixAfterDeletion_2 : List UInt8 := [184, 1, 38, 3, 184, 1, 51, 42, 43, 184, 1, 38, 182, 1, 55, 43, 184, 1, 38, 184, 1, 44, 77, 44]
abbrev dktJ4_fixAfterDeletion_2 : List UInt8 := dkwJ4_fixAfterDeletion_2 ++ dktJ4_fixAfterDeletion_3
def dkwJ4_fixAfterDeletion_1 : List UInt8 := [166, 0, 162, 43, 184, 1, 38, 184, 1, 44, 77, 44, 184, 1, 47, 154, 0, 32, 44, 4, 184, 1, 51, 43]
abbrev dktJ4_fixAfterDeletion_1 : List UInt8 := dkwJ4_fixAfterDeletion_1 ++ dktJ4_fixAfterDeletion_2
def dkwJ4_fixAfterDeletion_0 : List UInt8 := [43, 42, 180, 0, 101, 165, 1, 84, 43, 184, 1, 47, 4, 160, 1, 76, 43, 43, 184, 1, 38, 184, 1, 41]
abbrev dktJ4_fixAfterDeletion_0 : List UInt8 := dkwJ4_fixAfterDeletion_0 ++ dktJ4_fixAfterDeletion_1
theorem dksJ4_fixAfterDeletion_0 : cJ4_fixAfterDeletion.data.toList.drop 0 = dktJ4_fixAfterDeletion_0 := by decide +kernel
theorem dksJ4_fixAfterDeletion_1 : cJ4_fixAfterDeletion.data.toList.drop 24 = dktJ4_fixAfterDeletion_1 := dk_seg dksJ4_fixAfterDeletion_0 24 rfl rfl
theorem dksJ4_fixAfterDeletion_2 : cJ4_fixAfterDeletion.data.toList.drop 48 = dktJ4_fixAfterDeletion_2 := dk_seg dksJ4_fixAfterDeletion_1 24 rfl rfl
theorem dksJ4_fixAfterDeletion_3 : cJ4_fixAfterDeletion.data.toList.drop 72 = dktJ4_fixAfterDeletion_3 := dk_seg dksJ4_fixAfterDeletion_2 24 rfl rfl
theorem dksJ4_fixAfterDeletion_4 : cJ4_fixAfterDeletion.data.toList.drop 95 = dktJ4_fixAfterDeletion_4 := dk_seg dksJ4_fixAfterDeletion_3 23 rfl rfl
theorem dksJ4_fixAfterDeletion_5 : cJ4_fixAfterDeletion.data.toList.drop 118 = dktJ4_fixAfterDeletion_5 := dk_seg dksJ4_fixAfterDeletion_4 23 rfl rfl
theorem dksJ4_fixAfterDeletion_6 : cJ4_fixAfterDeletion.data.toList.drop 142 = dktJ4_fixAfterDeletion_6 := dk_seg dksJ4_fixAfterDeletion_5 24 rfl rfl
theorem dksJ4_fixAfterDeletion_7 : cJ4_fixAfterDeletion.data.toList.drop 166 = dktJ4_fixAfterDeletion_7 := dk_seg dksJ4_fixAfterDeletion_6 24 rfl rfl
theorem dksJ4_fixAfterDeletion_8 : cJ4_fixAfterDeletion.data.toList.drop 190 = dktJ4_fixAfterDeletion_8 := dk_seg dksJ4_fixAfterDeletion_7 24 rfl rfl
theorem dksJ4_fixAfterDeletion_9 : cJ4_fixAfterDeletion.data.toList.drop 214 = dktJ4_fixAfterDeletion_9 := dk_seg dksJ4_fixAfterDeletion_8 24 rfl rfl
theorem dksJ4_fixAfterDeletion_10 : cJ4_fixAfterDeletion.data.toList.drop 238 = dktJ4_fixAfterDeletion_10 := dk_seg dksJ4_fixAfterDeletion_9 24 rfl rfl
theorem dksJ4_fixAfterDeletion_11 : cJ4_fixAfterDeletion.data.toList.drop 262 = dktJ4_fixAfterDeletion_11 := dk_seg dksJ4_fixAfterDeletion_10 24 rfl rfl
theorem dksJ4_fixAfterDeletion_12 : cJ4_fixAfterDeletion.data.toList.drop 286 = dktJ4_fixAfterDeletion_12 := dk_seg dksJ4_fixAfterDeletion_11 24 rfl rfl
theorem dksJ4_fixAfterDeletion_13 : cJ4_fixAfterDeletion.data.toList.drop 310 = dktJ4_fixAfterDeletion_13 := dk_seg dksJ4_fixAfterDeletion_12 24 rfl rfl
theorem dksJ4_fixAfterDeletion_14 : cJ4_fixAfterDeletion.data.toList.drop 334 = dktJ4_fixAfterDeletion_14 := dk_seg dksJ4_fixAfterDeletion_13 24 rfl rfl
theorem dJ4_fixAfterDeletion_0 : decode cJ4_fixAfterDeletion 0 = .ok (.aload_n 1, 1) := dk_43 (dk_at dksJ4_fixAfterDeletion_0 0 rfl rfl)
theorem dJ4_fixAfterDeletion_1 : decode cJ4_fixAfterDeletion 1 = .ok (.aload_n 0, 1) := dk_42 (dk_at dksJ4_fixAfterDeletion_0 1 rfl rfl)
theorem dJ4_fixAfterDeletion_2 : decode cJ4_fixAfterDeletion 2 = .ok (.getfield 101, 3) := dk_180 0 101 (dk_at dksJ4_fixAfterDeletion_0 2 rfl rfl)
theorem dJ4_fixAfterDeletion_5 : decode cJ4_fixAfterDeletion 5 = .ok (.if_acmp .eq 340, 3) := dk_165 1 84 (dk_at dksJ4_fixAfterDeletion_0 5 rfl rfl)
theorem dJ4_fixAfterDeletion_8 : decode cJ4_fixAfterDeletion 8 = .ok (.aload_n 1, 1) := dk_43 (dk_at dksJ4_fixAfterDeletion_0 8 rfl rfl)
theorem dJ4_fixAfterDeletion_9 : decode cJ4_fixAfterDeletion 9 = .ok (.invokestatic 303, 3) := dk_184 1 47 (dk_at dksJ4_fixAfterDeletion_0 9 rfl rfl)
theorem dJ4_fixAfterDeletion_12 : decode cJ4_fixAfterDeletion 12 = .ok (.iconst 1, 1) := dk_4 (dk_at dksJ4_fixAfterDeletion_0 12 rfl rfl)
theorem dJ4_fixAfterDeletion_13 : decode cJ4_fixAfterDeletion 13 = .ok (.if_icmp .ne 332, 3) := dk_160 1 76 (dk_at dksJ4_fixAfterDeletion_0 13 rfl rfl)
theorem dJ4_fixAfterDeletion_16 : decode cJ4_fixAfterDeletion 16 = .ok (.aload_n 1, 1) := dk_43 (dk_at dksJ4_fixAfterDeletion_0 16 rfl rfl)
theorem dJ4_fixAfterDeletion_17 : decode cJ4_fixAfterDeletion 17 = .ok (.aload_n 1, 1) := dk_43 (dk_at dksJ4_fixAfterDeletion_0 17 rfl rfl)
theorem dJ4_fixAfterDeletion_18 : decode cJ4_fixAfterDeletion 18 = .ok (.invokestatic 294, 3) := dk_184 1 38 (dk_at dksJ4_fixAfterDeletion_0 18 rfl rfl)
theorem dJ4_fixAfterDeletion_21 : decode cJ4_fixAfterDeletion 21 = .ok (.invokestatic 297, 3) := dk_184 1 41 (dk_at dksJ4_fixAfterDeletion_0 21 rfl rfl)
theorem dJ4_fixAfterDeletion_24 : decode cJ4_fixAfterDeletion 24 = .ok (.if_acmp .ne 162, 3) := dk_166 0 162 (dk_at dksJ4_fixAfterDeletion_1 0 rfl rfl)
theorem dJ4_fixAfterDeletion_27 : decode cJ4_fixAfterDeletion 27 = .ok (.aload_n 1, 1) := dk_43 (dk_at dksJ4_fixAfterDeletion_1 3 rfl rfl)
theorem dJ4_fixAfterDeletion_28 : decode cJ4_fixAfterDeletion 28 = .ok (.invokestatic 294, 3) := dk_184 1 38 (dk_at dksJ4_fixAfterDeletion_1 4 rfl rfl)
theorem dJ4_fixAfterDeletion_31 : decode cJ4_fixAfterDeletion 31 = .ok (.invokestatic 300, 3) := dk_184 1 44 (dk_at dksJ4_fixAfterDeletion_1 7 rfl rfl)
theorem dJ4_fixAfterDeletion_34 : decode cJ4_fixAfterDeletion 34 = .ok (.astore_n 2, 1) := dk_77 (dk_at dksJ4_fixAfterDeletion_1 10 rfl rfl)
theorem dJ4_fixAfterDeletion_35 : decode cJ4_fixAfterDeletion 35 = .ok (.aload_n 2, 1) := dk_44 (dk_at dksJ4_fixAfterDeletion_1 11 rfl rfl)
theorem dJ4_fixAfterDeletion_36 : decode cJ4_fixAfterDeletion 36 = .ok (.invokestatic 303, 3) := dk_184 1 47 (dk_at dksJ4_fixAfterDeletion_1 12 rfl rfl)
theorem dJ4_fixAfterDeletion_39 : decode cJ4_fixAfterDeletion 39 = .ok (.ifCond .ne 32, 3) := dk_154 0 32 (dk_at dksJ4_fixAfterDeletion_1 15 rfl rfl)
theorem dJ4_fixAfterDeletion_42 : decode cJ4_fixAfterDeletion 42 = .ok (.aload_n 2, 1) := dk_44 (dk_at dksJ4_fixAfterDeletion_1 18 rfl rfl)
theorem dJ4_fixAfterDeletion_43 : decode cJ4_fixAfterDeletion 43 = .ok (.iconst 1, 1) := dk_4 (dk_at dksJ4_fixAfterDeletion_1 19 rfl rfl)
theorem dJ4_fixAfterDeletion_44 : decode cJ4_fixAfterDeletion 44 = .ok (.invokestatic 307, 3) := dk_184 1 51 (dk_at dksJ4_fixAfterDeletion_1 20 rfl rfl)
theorem dJ4_fixAfterDeletion_47 : decode cJ4_fixAfterDeletion 47 = .ok (.aload_n 1, 1) := dk_43 (dk_at dksJ4_fixAfterDeletion_1 23 rfl rfl)
theorem dJ4_fixAfterDeletion_48 : decode cJ4_fixAfterDeletion 48 = .ok (.invokestatic 294, 3) := dk_184 1 38 (dk_at dksJ4_fixAfterDeletion_2 0 rfl rfl)
theorem dJ4_fixAfterDeletion_51 : decode cJ4_fixAfterDeletion 51 = .ok (.iconst 0, 1) := dk_3 (dk_at dksJ4_fixAfterDeletion_2 3 rfl rfl)
theorem dJ4_fixAfterDeletion_52 : decode cJ4_fixAfterDeletion 52 = .ok (.invokestatic 307, 3) := dk_184 1 51 (dk_at dksJ4_fixAfterDeletion_2 4 rfl rfl)
theorem dJ4_fixAfterDeletion_55 : decode cJ4_fixAfterDeletion 55 = .ok (.aload_n 0, 1) := dk_42 (dk_at dksJ4_fixAfterDeletion_2 7 rfl rfl)
theorem dJ4_fixAfterDeletion_56 : decode cJ4_fixAfterDeletion 56 = .ok (.aload_n 1, 1) := dk_43 (dk_at dksJ4_fixAfterDeletion_2 8 rfl rfl)
theorem dJ4_fixAfterDeletion_57 : decode cJ4_fixAfterDeletion 57 = .ok (.invokestatic 294, 3) := dk_184 1 38 (dk_at dksJ4_fixAfterDeletion_2 9 rfl rfl)
theorem dJ4_fixAfterDeletion_60 : decode cJ4_fixAfterDeletion 60 = .ok (.invokevirtual 311, 3) := dk_182 1 55 (dk_at dksJ4_fixAfterDeletion_2 12 rfl rfl)
theorem dJ4_fixAfterDeletion_63 : decode cJ4_fixAfterDeletion 63 = .ok (.aload_n 1, 1) := dk_43 (dk_at dksJ4_fixAfterDeletion_2 15 rfl rfl)
theorem dJ4_fixAfterDeletion_64 : decode cJ4_fixAfterDeletion 64 = .ok (.invokestatic 294, 3) := dk_184 1 38 (dk_at dksJ4_fixAfterDeletion_2 16 rfl rfl)
theorem dJ4_fixAfterDeletion_67 : decode cJ4_fixAfterDeletion 67 = .ok (.invokestatic 300, 3) := dk_184 1 44 (dk_at dksJ4_fixAfterDeletion_2 19 rfl rfl)
theorem dJ4_fixAfterDeletion_70 : decode cJ4_fixAfterDeletion 70 = .ok (.astore_n 2, 1) := dk_77 (dk_at dksJ4_fixAfterDeletion_2 22 rfl rfl)
theorem dJ4_fixAfterDeletion_71 : decode cJ4_fixAfterDeletion 71 = .ok (.aload_n 2, 1) := dk_44 (dk_at dksJ4_fixAfterDeletion_2 23 rfl rfl)
theorem dJ4_fixAfterDeletion_72 : decode cJ4_fixAfterDeletion 72 = .ok (.invokestatic 297, 3) := dk_184 1 41 (dk_at dksJ4_fixAfterDeletion_3 0 rfl rfl)
theorem dJ4_fixAfterDeletion_75 : decode cJ4_fixAfterDeletion 75 = .ok (.invokestatic 303, 3) := dk_184 1 47 (dk_at dksJ4_fixAfterDeletion_3 3 rfl rfl)
theorem dJ4_fixAfterDeletion_78 : decode cJ4_fixAfterDeletion 78 = .ok (.iconst 1, 1) := dk_4 (dk_at dksJ4_fixAfterDeletion_3 6 rfl rfl)
theorem dJ4_fixAfterDeletion_79 : decode cJ4_fixAfterDeletion 79 = .ok (.if_icmp .ne 27, 3) := dk_160 0 27 (dk_at dksJ4_fixAfterDeletion_3 7 rfl rfl)
theorem dJ4_fixAfterDeletion_82 : decode cJ4_fixAfterDeletion 82 = .ok (.aload_n 2, 1) := dk_44 (dk_at dksJ4_fixAfterDeletion_3 10 rfl rfl)
theorem dJ4_fixAfterDeletion_83 : decode cJ4_fixAfterDeletion 83 = .ok (.invokestatic 300, 3) := dk_184 1 44 (dk_at dksJ4_fixAfterDeletion_3 11 rfl rfl)
theorem dJ4_fixAfterDeletion_86 : decode cJ4_fixAfterDeletion 86 = .ok (.invokestatic 303, 3) := dk_184 1 47 (dk_at dksJ4_fixAfterDeletion_3 14 rfl rfl)
theorem dJ4_fixAfterDeletion_89 : decode cJ4_fixAfterDeletion 89 = .ok (.iconst 1, 1) := dk_4 (dk_at dksJ4_fixAfterDeletion_3 17 rfl rfl)
theorem dJ4_fixAfterDeletion_90 : decode cJ4_fixAfterDeletion 90 = .ok (.if_icmp .ne 16, 3) := dk_160 0 16 (dk_at dksJ4_fixAfterDeletion_3 18 rfl rfl)
theorem dJ4_fixAfterDeletion_93 : decode cJ4_fixAfterDeletion 93 = .ok (.aload_n 2, 1) := dk_44 (dk_at dksJ4_fixAfterDeletion_3 21 rfl rfl)
theorem dJ4_fixAfterDeletion_94 : decode cJ4_fixAfterDeletion 94 = .ok (.iconst 0, 1) := dk_3 (dk_at dksJ4_fixAfterDeletion_3 22 rfl rfl)
theorem dJ4_fixAfterDeletion_95 : decode cJ4_fixAfterDeletion 95 = .ok (.invokestatic 307, 3) := dk_184 1 51 (dk_at dksJ4_fixAfterDeletion_4 0 rfl rfl)
theorem dJ4_fixAfterDeletion_98 : decode cJ4_fixAfterDeletion 98 = .ok (.aload_n 1, 1) := dk_43 (dk_at dksJ4_fixAfterDeletion_4 3 rfl rfl)
theorem dJ4_fixAfterDeletion_99 : decode cJ4_fixAfterDeletion 99 = .ok (.invokestatic 294, 3) := dk_184 1 38 (dk_at dksJ4_fixAfterDeletion_4 4 rfl rfl)
theorem dJ4_fixAfterDeletion_102 : decode cJ4_fixAfterDeletion 102 = .ok (.astore_n 1, 1) := dk_76 (dk_at dksJ4_fixAfterDeletion_4 7 rfl rfl)
theorem dJ4_fixAfterDeletion_103 : decode cJ4_fixAfterDeletion 103 = .ok (.goto 80, 3) := dk_167 0 80 (dk_at dksJ4_fixAfterDeletion_4 8 rfl rfl)
theorem dJ4_fixAfterDeletion_106 : decode cJ4_fixAfterDeletion 106 = .ok (.aload_n 2, 1) := dk_44 (dk_at dksJ4_fixAfterDeletion_4 11 rfl rfl)
theorem dJ4_fixAfterDeletion_107 : decode cJ4_fixAfterDeletion 107 = .ok (.invokestatic 300, 3) := dk_184 1 44 (dk_at dksJ4_fixAfterDeletion_4 12 rfl rfl)
theorem dJ4_fixAfterDeletion_110 : decode cJ4_fixAfterDeletion 110 = .ok (.invokestatic 303, 3) := dk_184 1 47 (dk_at dksJ4_fixAfterDeletion_4 15 rfl rfl)
theorem dJ4_fixAfterDeletion_113 : decode cJ4_fixAfterDeletion 113 = .ok (.iconst 1, 1) := dk_4 (dk_at dksJ4_fixAfterDeletion_4 18 rfl rfl)
theorem dJ4_fixAfterDeletion_114 : decode cJ4_fixAfterDeletion 114 = .ok (.if_icmp .ne 29, 3) := dk_160 0 29 (dk_at dksJ4_fixAfterDeletion_4 19 rfl rfl)
theorem dJ4_fixAfterDeletion_117 : decode cJ4_fixAfterDeletion 117 = .ok (.aload_n 2, 1) := dk_44 (dk_at dksJ4_fixAfterDeletion_4 22 rfl rfl)
theorem dJ4_fixAfterDeletion_118 : decode cJ4_fixAfterDeletion 118 = .ok (.invokestatic 297, 3) := dk_184 1 41 (dk_at dksJ4_fixAfterDeletion_5 0 rfl rfl)
theorem dJ4_fixAfterDeletion_121 : decode cJ4_fixAfterDeletion 121 = .ok (.iconst 1, 1) := dk_4 (dk_at dksJ4_fixAfterDeletion_5 3 rfl rfl)
theorem dJ4_fixAfterDeletion_122 : decode cJ4_fixAfterDeletion 122 = .ok (.invokestatic 307, 3) := dk_184 1 51 (dk_at dksJ4_fixAfterDeletion_5 4 rfl rfl)
theorem dJ4_fixAfterDeletion_125 : decode cJ4_fixAfterDeletion 125 = .ok (.aload_n 2, 1) := dk_44 (dk_at dksJ4_fixAfterDeletion_5 7 rfl rfl)
theorem dJ4_fixAfterDeletion_126 : decode cJ4_fixAfterDeletion 126 = .ok (.iconst 0, 1) := dk_3 (dk_at dksJ4_fixAfterDeletion_5 8 rfl rfl)
theorem dJ4_fixAfterDeletion_127 : decode cJ4_fixAfterDeletion 127 = .ok (.invokestatic 307, 3) := dk_184 1 51 (dk_at dksJ4_fixAfterDeletion_5 9 rfl rfl)
theorem dJ4_fixAfterDeletion_130 : decode cJ4_fixAfterDeletion 130 = .ok (.aload_n 0, 1) := dk_42 (dk_at dksJ4_fixAfterDeletion_5 12 rfl rfl)
theorem dJ4_fixAfterDeletion_131 : decode cJ4_fixAfterDeletion 131 = .ok (.aload_n 2, 1) := dk_44 (dk_at dksJ4_fixAfterDeletion_5 13 rfl rfl)
theorem dJ4_fixAfterDeletion_132 : decode cJ4_fixAfterDeletion 132 = .ok (.invokevirtual 314, 3) := dk_182 1 58 (dk_at dksJ4_fixAfterDeletion_5 14 rfl rfl)
theorem dJ4_fixAfterDeletion_135 : decode cJ4_fixAfterDeletion 135 = .ok (.aload_n 1, 1) := dk_43 (dk_at dksJ4_fixAfterDeletion_5 17 rfl rfl)
theorem dJ4_fixAfterDeletion_136 : decode cJ4_fixAfterDeletion 136 = .ok (.invokestatic 294, 3) := dk_184 1 38 (dk_at dksJ4_fixAfterDeletion_5 18 rfl rfl)
theorem dJ4_fixAfterDeletion_139 : decode cJ4_fixAfterDeletion 139 = .ok (.invokestatic 300, 3) := dk_184 1 44 (dk_at dksJ4_fixAfterDeletion_5 21 rfl rfl)
theorem dJ4_fixAfterDeletion_142 : decode cJ4_fixAfterDeletion 142 = .ok (.astore_n 2, 1) := dk_77 (dk_at dksJ4_fixAfterDeletion_6 0 rfl rfl)
theorem dJ4_fixAfterDeletion_143 : decode cJ4_fixAfterDeletion 143 = .ok (.aload_n 2, 1) := dk_44 (dk_at dksJ4_fixAfterDeletion_6 1 rfl rfl)
theorem dJ4_fixAfterDeletion_144 : decode cJ4_fixAfterDeletion 144 = .ok (.aload_n 1, 1) := dk_43 (dk_at dksJ4_fixAfterDeletion_6 2 rfl rfl)
theorem dJ4_fixAfterDeletion_145 : decode cJ4_fixAfterDeletion 145 = .ok (.invokestatic 294, 3) := dk_184 1 38 (dk_at dksJ4_fixAfterDeletion_6 3 rfl rfl)
theorem dJ4_fixAfterDeletion_148 : decode cJ4_fixAfterDeletion 148 = .ok (.invokestatic 303, 3) := dk_184 1 47 (dk_at dksJ4_fixAfterDeletion_6 6 rfl rfl)
theorem dJ4_fixAfterDeletion_151 : decode cJ4_fixAfterDeletion 151 = .ok (.invokestatic 307, 3) := dk_184 1 51 (dk_at dksJ4_fixAfterDeletion_6 9 rfl rfl)
theorem dJ4_fixAfterDeletion_154 : decode cJ4_fixAfterDeletion 154 = .ok (.aload_n 1, 1) := dk_43 (dk_at dksJ4_fixAfterDeletion_6 12 rfl rfl)
theorem dJ4_fixAfterDeletion_155 : decode cJ4_fixAfterDeletion 155 = .ok (.invokestatic 294, 3) := dk_184 1 38 (dk_at dksJ4_fixAfterDeletion_6 13 rfl rfl)
theorem dJ4_fixAfterDeletion_158 : decode cJ4_fixAfterDeletion 158 = .ok (.iconst 1, 1) := dk_4 (dk_at dksJ4_fixAfterDeletion_6 16 rfl rfl)
theorem dJ4_fixAfterDeletion_159 : decode cJ4_fixAfterDeletion 159 = .ok (.invokestatic 307, 3) := dk_184 1 51 (dk_at dksJ4_fixAfterDeletion_6 17 rfl rfl)
theorem dJ4_fixAfterDeletion_162 : decode cJ4_fixAfterDeletion 162 = .ok (.aload_n 2, 1) := dk_44 (dk_at dksJ4_fixAfterDeletion_6 20 rfl rfl)
theorem dJ4_fixAfterDeletion_163 : decode cJ4_fixAfterDeletion 163 = .ok (.invokestatic 300, 3) := dk_184 1 44 (dk_at dksJ4_fixAfterDeletion_6 21 rfl rfl)
theorem dJ4_fixAfterDeletion_166 : decode cJ4_fixAfterDeletion 166 = .ok (.iconst 1, 1) := dk_4 (dk_at dksJ4_fixAfterDeletion_7 0 rfl rfl)
theorem dJ4_fixAfterDeletion_167 : decode cJ4_fixAfterDeletion 167 = .ok (.invokestatic 307, 3) := dk_184 1 51 (dk_at dksJ4_fixAfterDeletion_7 1 rfl rfl)
theorem dJ4_fixAfterDeletion_170 : decode cJ4_fixAfterDeletion 170 = .ok (.aload_n 0, 1) := dk_42 (dk_at dksJ4_fixAfterDeletion_7 4 rfl rfl)
theorem dJ4_fixAfterDeletion_171 : decode cJ4_fixAfterDeletion 171 = .ok (.aload_n 1, 1) := dk_43 (dk_at dksJ4_fixAfterDeletion_7 5 rfl rfl)
theorem dJ4_fixAfterDeletion_172 : decode cJ4_fixAfterDeletion 172 = .ok (.invokestatic 294, 3) := dk_184 1 38 (dk_at dksJ4_fixAfterDeletion_7 6 rfl rfl)
theorem dJ4_fixAfterDeletion_175 : decode cJ4_fixAfterDeletion 175 = .ok (.invokevirtual 311, 3) := dk_182 1 55 (dk_at dksJ4_fixAfterDeletion_7 9 rfl rfl)
theorem dJ4_fixAfterDeletion_178 : decode cJ4_fixAfterDeletion 178 = .ok (.aload_n 0, 1) := dk_42 (dk_at dksJ4_fixAfterDeletion_7 12 rfl rfl)
theorem dJ4_fixAfterDeletion_179 : decode cJ4_fixAfterDeletion 179 = .ok (.getfield 101, 3) := dk_180 0 101 (dk_at dksJ4_fixAfterDeletion_7 13 rfl rfl)
theorem dJ4_fixAfterDeletion_182 : decode cJ4_fixAfterDeletion 182 = .ok (.astore_n 1, 1) := dk_76 (dk_at dksJ4_fixAfterDeletion_7 16 rfl rfl)
theorem dJ4_fixAfterDeletion_183 : decode cJ4_fixAfterDeletion 183 = .ok (.goto (-183), 3) := dk_167 255 73 (dk_at dksJ4_fixAfterDeletion_7 17 rfl rfl)
theorem dJ4_fixAfterDeletion_186 : decode cJ4_fixAfterDeletion 186 = .ok (.aload_n 1, 1) := dk_43 (dk_at dksJ4_fixAfterDeletion_7 20 rfl rfl)
theorem dJ4_fixAfterDeletion_187 : decode cJ4_fixAfterDeletion 187 = .ok (.invokestatic 294, 3) := dk_184 1 38 (dk_at dksJ4_fixAfterDeletion_7 21 rfl rfl)
theorem dJ4_fixAfterDeletion_190 : decode cJ4_fixAfterDeletion 190 = .ok (.invokestatic 297, 3) := dk_184 1 41 (dk_at dksJ4_fixAfterDeletion_8 0 rfl rfl)
theorem dJ4_fixAfterDeletion_193 : decode cJ4_fixAfterDeletion 193 = .ok (.astore_n 2, 1) := dk_77 (dk_at dksJ4_fixAfterDeletion_8 3 rfl rfl)
theorem dJ4_fixAfterDeletion_194 : decode cJ4_fixAfterDeletion 194 = .ok (.aload_n 2, 1) := dk_44 (dk_at dksJ4_fixAfterDeletion_8 4 rfl rfl)
theorem dJ4_fixAfterDeletion_195 : decode cJ4_fixAfterDeletion 195 = .ok (.invokestatic 303, 3) := dk_184 1 47 (dk_at dksJ4_fixAfterDeletion_8 5 rfl rfl)
theorem dJ4_fixAfterDeletion_198 : decode cJ4_fixAfterDeletion 198 = .ok (.ifCond .ne 32, 3) := dk_154 0 32 (dk_at dksJ4_fixAfterDeletion_8 8 rfl rfl)
theorem dJ4_fixAfterDeletion_201 : decode cJ4_fixAfterDeletion 201 = .ok (.aload_n 2, 1) := dk_44 (dk_at dksJ4_fixAfterDeletion_8 11 rfl rfl)
theorem dJ4_fixAfterDeletion_202 : decode cJ4_fixAfterDeletion 202 = .ok (.iconst 1, 1) := dk_4 (dk_at dksJ4_fixAfterDeletion_8 12 rfl rfl)
theorem dJ4_fixAfterDeletion_203 : decode cJ4_fixAfterDeletion 203 = .ok (.invokestatic 307, 3) := dk_184 1 51 (dk_at dksJ4_fixAfterDeletion_8 13 rfl rfl)
theorem dJ4_fixAfterDeletion_206 : decode cJ4_fixAfterDeletion 206 = .ok (.aload_n 1, 1) := dk_43 (dk_at dksJ4_fixAfterDeletion_8 16 rfl rfl)
theorem dJ4_fixAfterDeletion_207 : decode cJ4_fixAfterDeletion 207 = .ok (.invokestatic 294, 3) := dk_184 1 38 (dk_at dksJ4_fixAfterDeletion_8 17 rfl rfl)
theorem dJ4_fixAfterDeletion_210 : decode cJ4_fixAfterDeletion 210 = .ok (.iconst 0, 1) := dk_3 (dk_at dksJ4_fixAfterDeletion_8 20 rfl rfl)
theorem dJ4_fixAfterDeletion_211 : decode cJ4_fixAfterDeletion 211 = .ok (.invokestatic 307, 3) := dk_184 1 51 (dk_at dksJ4_fixAfterDeletion_8 21 rfl rfl)
theorem dJ4_fixAfterDeletion_214 : decode cJ4_fixAfterDeletion 214 = .ok (.aload_n 0, 1) := dk_42 (dk_at dksJ4_fixAfterDeletion_9 0 rfl rfl)
theorem dJ4_fixAfterDeletion_215 : decode cJ4_fixAfterDeletion 215 = .ok (.aload_n 1, 1) := dk_43 (dk_at dksJ4_fixAfterDeletion_9 1 rfl rfl)
theorem dJ4_fixAfterDeletion_216 : decode cJ4_fixAfterDeletion 216 = .ok (.invokestatic 294, 3) := dk_184 1 38 (dk_at dksJ4_fixAfterDeletion_9 2 rfl rfl)
theorem dJ4_fixAfterDeletion_219 : decode cJ4_fixAfterDeletion 219 = .ok (.invokevirtual 314, 3) := dk_182 1 58 (dk_at dksJ4_fixAfterDeletion_9 5 rfl rfl)
theorem dJ4_fixAfterDeletion_222 : decode cJ4_fixAfterDeletion 222 = .ok (.aload_n 1, 1) := dk_43 (dk_at dksJ4_fixAfterDeletion_9 8 rfl rfl)
theorem dJ4_fixAfterDeletion_223 : decode cJ4_fixAfterDeletion 223 = .ok (.invokestatic 294, 3) := dk_184 1 38 (dk_at dksJ4_fixAfterDeletion_9 9 rfl rfl)
theorem dJ4_fixAfterDeletion_226 : decode cJ4_fixAfterDeletion 226 = .ok (.invokestatic 297, 3) := dk_184 1 41 (dk_at dksJ4_fixAfterDeletion_9 12 rfl rfl)
theorem dJ4_fixAfterDeletion_229 : decode cJ4_fixAfterDeletion 229 = .ok (.astore_n 2, 1) := dk_77 (dk_at dksJ4_fixAfterDeletion_9 15 rfl rfl)
theorem dJ4_fixAfterDeletion_230 : decode cJ4_fixAfterDeletion 230 = .ok (.aload_n 2, 1) := dk_44 (dk_at dksJ4_fixAfterDeletion_9 16 rfl rfl)
theorem dJ4_fixAfterDeletion_231 : decode cJ4_fixAfterDeletion 231 = .ok (.invokestatic 300, 3) := dk_184 1 44 (dk_at dksJ4_fixAfterDeletion_9 17 rfl rfl)
theorem dJ4_fixAfterDeletion_234 : decode cJ4_fixAfterDeletion 234 = .ok (.invokestatic 303, 3) := dk_184 1 47 (dk_at dksJ4_fixAfterDeletion_9 20 rfl rfl)
theorem dJ4_fixAfterDeletion_237 : decode cJ4_fixAfterDeletion 237 = .ok (.iconst 1, 1) := dk_4 (dk_at dksJ4_fixAfterDeletion_9 23 rfl rfl)
theorem dJ4_fixAfterDeletion_238 : decode cJ4_fixAfterDeletion 238 = .ok (.if_icmp .ne 27, 3) := dk_160 0 27 (dk_at dksJ4_fixAfterDeletion_10 0 rfl rfl)
theorem dJ4_fixAfterDeletion_241 : decode cJ4_fixAfterDeletion 241 = .ok (.aload_n 2, 1) := dk_44 (dk_at dksJ4_fixAfterDeletion_10 3 rfl rfl)
theorem dJ4_fixAfterDeletion_242 : decode cJ4_fixAfterDeletion 242 = .ok (.invokestatic 297, 3) := dk_184 1 41 (dk_at dksJ4_fixAfterDeletion_10 4 rfl rfl)
theorem dJ4_fixAfterDeletion_245 : decode cJ4_fixAfterDeletion 245 = .ok (.invokestatic 303, 3) := dk_184 1 47 (dk_at dksJ4_fixAfterDeletion_10 7 rfl rfl)
theorem dJ4_fixAfterDeletion_248 : decode cJ4_fixAfterDeletion 248 = .ok (.iconst 1, 1) := dk_4 (dk_at dksJ4_fixAfterDeletion_10 10 rfl rfl)
theorem dJ4_fixAfterDeletion_249 : decode cJ4_fixAfterDeletion 249 = .ok (.if_icmp .ne 16, 3) := dk_160 0 16 (dk_at dksJ4_fixAfterDeletion_10 11 rfl rfl)
theorem dJ4_fixAfterDeletion_252 : decode cJ4_fixAfterDeletion 252 = .ok (.aload_n 2, 1) := dk_44 (dk_at dksJ4_fixAfterDeletion_10 14 rfl rfl)
theorem dJ4_fixAfterDeletion_253 : decode cJ4_fixAfterDeletion 253 = .ok (.iconst 0, 1) := dk_3 (dk_at dksJ4_fixAfterDeletion_10 15 rfl rfl)
theorem dJ4_fixAfterDeletion_254 : decode cJ4_fixAfterDeletion 254 = .ok (.invokestatic 307, 3) := dk_184 1 51 (dk_at dksJ4_fixAfterDeletion_10 16 rfl rfl)
theorem dJ4_fixAfterDeletion_257 : decode cJ4_fixAfterDeletion 257 = .ok (.aload_n 1, 1) := dk_43 (dk_at dksJ4_fixAfterDeletion_10 19 rfl rfl)
theorem dJ4_fixAfterDeletion_258 : decode cJ4_fixAfterDeletion 258 = .ok (.invokestatic 294, 3) := dk_184 1 38 (dk_at dksJ4_fixAfterDeletion_10 20 rfl rfl)
theorem dJ4_fixAfterDeletion_261 : decode cJ4_fixAfterDeletion 261 = .ok (.astore_n 1, 1) := dk_76 (dk_at dksJ4_fixAfterDeletion_10 23 rfl rfl)
theorem dJ4_fixAfterDeletion_262 : decode cJ4_fixAfterDeletion 262 = .ok (.goto 80, 3) := dk_167 0 80 (dk_at dksJ4_fixAfterDeletion_11 0 rfl rfl)
theorem dJ4_fixAfterDeletion_265 : decode cJ4_fixAfterDeletion 265 = .ok (.aload_n 2, 1) := dk_44 (dk_at dksJ4_fixAfterDeletion_11 3 rfl rfl)
theorem dJ4_fixAfterDeletion_266 : decode cJ4_fixAfterDeletion 266 = .ok (.invokestatic 297, 3) := dk_184 1 41 (dk_at dksJ4_fixAfterDeletion_11 4 rfl rfl)
theorem dJ4_fixAfterDeletion_269 : decode cJ4_fixAfterDeletion 269 = .ok (.invokestatic 303, 3) := dk_184 1 47 (dk_at dksJ4_fixAfterDeletion_11 7 rfl rfl)
theorem dJ4_fixAfterDeletion_272 : decode cJ4_fixAfterDeletion 272 = .ok (.iconst 1, 1) := dk_4 (dk_at dksJ4_fixAfterDeletion_11 10 rfl rfl)
theorem dJ4_fixAfterDeletion_273 : decode cJ4_fixAfterDeletion 273 = .ok (.if_icmp .ne 29, 3) := dk_160 0 29 (dk_at dksJ4_fixAfterDeletion_11 11 rfl rfl)
theorem dJ4_fixAfterDeletion_276 : decode cJ4_fixAfterDeletion 276 = .ok (.aload_n 2, 1) := dk_44 (dk_at dksJ4_fixAfterDeletion_11 14 rfl rfl)
theorem dJ4_fixAfterDeletion_277 : decode cJ4_fixAfterDeletion 277 = .ok (.invokestatic 300, 3) := dk_184 1 44 (dk_at dksJ4_fixAfterDeletion_11 15 rfl rfl)
theorem dJ4_fixAfterDeletion_280 : decode cJ4_fixAfterDeletion 280 = .ok (.iconst 1, 1) := dk_4 (dk_at dksJ4_fixAfterDeletion_11 18 rfl rfl)
theorem dJ4_fixAfterDeletion_281 : decode cJ4_fixAfterDeletion 281 = .ok (.invokestatic 307, 3) := dk_184 1 51 (dk_at dksJ4_fixAfterDeletion_11 19 rfl rfl)
theorem dJ4_fixAfterDeletion_284 : decode cJ4_fixAfterDeletion 284 = .ok (.aload_n 2, 1) := dk_44 (dk_at dksJ4_fixAfterDeletion_11 22 rfl rfl)
theorem dJ4_fixAfterDeletion_285 : decode cJ4_fixAfterDeletion 285 = .ok (.iconst 0, 1) := dk_3 (dk_at dksJ4_fixAfterDeletion_11 23 rfl rfl)
theorem dJ4_fixAfterDeletion_286 : decode cJ4_fixAfterDeletion 286 = .ok (.invokestatic 307, 3) := dk_184 1 51 (dk_at dksJ4_fixAfterDeletion_12 0 rfl rfl)
theorem dJ4_fixAfterDeletion_289 : decode cJ4_fixAfterDeletion 289 = .ok (.aload_n 0, 1) := dk_42 (dk_at dksJ4_fixAfterDeletion_12 3 rfl rfl)
theorem dJ4_fixAfterDeletion_290 : decode cJ4_fixAfterDeletion 290 = .ok (.aload_n 2, 1) := dk_44 (dk_at dksJ4_fixAfterDeletion_12 4 rfl rfl)
theorem dJ4_fixAfterDeletion_291 : decode cJ4_fixAfterDeletion 291 = .ok (.invokevirtual 311, 3) := dk_182 1 55 (dk_at dksJ4_fixAfterDeletion_12 5 rfl rfl)
theorem dJ4_fixAfterDeletion_294 : decode cJ4_fixAfterDeletion 294 = .ok (.aload_n 1, 1) := dk_43 (dk_at dksJ4_fixAfterDeletion_12 8 rfl rfl)
theorem dJ4_fixAfterDeletion_295 : decode cJ4_fixAfterDeletion 295 = .ok (.invokestatic 294, 3) := dk_184 1 38 (dk_at dksJ4_fixAfterDeletion_12 9 rfl rfl)
theorem dJ4_fixAfterDeletion_298 : decode cJ4_fixAfterDeletion 298 = .ok (.invokestatic 297, 3) := dk_184 1 41 (dk_at dksJ4_fixAfterDeletion_12 12 rfl rfl)
theorem dJ4_fixAfterDeletion_301 : decode cJ4_fixAfterDeletion 301 = .ok (.astore_n 2, 1) := dk_77 (dk_at dksJ4_fixAfterDeletion_12 15 rfl rfl)
theorem dJ4_fixAfterDeletion_302 : decode cJ4_fixAfterDeletion 302 = .ok (.aload_n 2, 1) := dk_44 (dk_at dksJ4_fixAfterDeletion_12 16 rfl rfl)
theorem dJ4_fixAfterDeletion_303 : decode cJ4_fixAfterDeletion 303 = .ok (.aload_n 1, 1) := dk_43 (dk_at dksJ4_fixAfterDeletion_12 17 rfl rfl)
theorem dJ4_fixAfterDeletion_304 : decode cJ4_fixAfterDeletion 304 = .ok (.invokestatic 294, 3) := dk_184 1 38 (dk_at dksJ4_fixAfterDeletion_12 18 rfl rfl)
theorem dJ4_fixAfterDeletion_307 : decode cJ4_fixAfterDeletion 307 = .ok (.invokestatic 303, 3) := dk_184 1 47 (dk_at dksJ4_fixAfterDeletion_12 21 rfl rfl)
theorem dJ4_fixAfterDeletion_310 : decode cJ4_fixAfterDeletion 310 = .ok (.invokestatic 307, 3) := dk_184 1 51 (dk_at dksJ4_fixAfterDeletion_13 0 rfl rfl)
theorem dJ4_fixAfterDeletion_313 : decode cJ4_fixAfterDeletion 313 = .ok (.aload_n 1, 1) := dk_43 (dk_at dksJ4_fixAfterDeletion_13 3 rfl rfl)
theorem dJ4_fixAfterDeletion_314 : decode cJ4_fixAfterDeletion 314 = .ok (.invokestatic 294, 3) := dk_184 1 38 (dk_at dksJ4_fixAfterDeletion_13 4 rfl rfl)
theorem dJ4_fixAfterDeletion_317 : decode cJ4_fixAfterDeletion 317 = .ok (.iconst 1, 1) := dk_4 (dk_at dksJ4_fixAfterDeletion_13 7 rfl rfl)
theorem dJ4_fixAfterDeletion_318 : decode cJ4_fixAfterDeletion 318 = .ok (.invokestatic 307, 3) := dk_184 1 51 (dk_at dksJ4_fixAfterDeletion_13 8 rfl rfl)
theorem dJ4_fixAfterDeletion_321 : decode cJ4_fixAfterDeletion 321 = .ok (.aload_n 2, 1) := dk_44 (dk_at dksJ4_fixAfterDeletion_13 11 rfl rfl)
theorem dJ4_fixAfterDeletion_322 : decode cJ4_fixAfterDeletion 322 = .ok (.invokestatic 297, 3) := dk_184 1 41 (dk_at dksJ4_fixAfterDeletion_13 12 rfl rfl)
theorem dJ4_fixAfterDeletion_325 : decode cJ4_fixAfterDeletion 325 = .ok (.iconst 1, 1) := dk_4 (dk_at dksJ4_fixAfterDeletion_13 15 rfl rfl)
theorem dJ4_fixAfterDeletion_326 : decode cJ4_fixAfterDeletion 326 = .ok (.invokestatic 307, 3) := dk_184 1 51 (dk_at dksJ4_fixAfterDeletion_13 16 rfl rfl)
theorem dJ4_fixAfterDeletion_329 : decode cJ4_fixAfterDeletion 329 = .ok (.aload_n 0, 1) := dk_42 (dk_at dksJ4_fixAfterDeletion_13 19 rfl rfl)
theorem dJ4_fixAfterDeletion_330 : decode cJ4_fixAfterDeletion 330 = .ok (.aload_n 1, 1) := dk_43 (dk_at dksJ4_fixAfterDeletion_13 20 rfl rfl)
theorem dJ4_fixAfterDeletion_331 : decode cJ4_fixAfterDeletion 331 = .ok (.invokestatic 294, 3) := dk_184 1 38 (dk_at dksJ4_fixAfterDeletion_13 21 rfl rfl)
theorem dJ4_fixAfterDeletion_334 : decode cJ4_fixAfterDeletion 334 = .ok (.invokevirtual 314, 3) := dk_182 1 58 (dk_at dksJ4_fixAfterDeletion_14 0 rfl rfl)
theorem dJ4_fixAfterDeletion_337 : decode cJ4_fixAfterDeletion 337 = .ok (.aload_n 0, 1) := dk_42 (dk_at dksJ4_fixAfterDeletion_14 3 rfl rfl)
theorem dJ4_fixAfterDeletion_338 : decode cJ4_fixAfterDeletion 338 = .ok (.getfield 101, 3) := dk_180 0 101 (dk_at dksJ4_fixAfterDeletion_14 4 rfl rfl)
theorem dJ4_fixAfterDeletion_341 : decode cJ4_fixAfterDeletion 341 = .ok (.astore_n 1, 1) := dk_76 (dk_at dksJ4_fixAfterDeletion_14 7 rfl rfl)
theorem dJ4_fixAfterDeletion_342 : decode cJ4_fixAfterDeletion 342 = .ok (.goto (-342), 3) := dk_167 254 170 (dk_at dksJ4_fixAfterDeletion_14 8 rfl rfl)
theorem dJ4_fixAfterDeletion_345 : decode cJ4_fixAfterDeletion 345 = .ok (.aload_n 1, 1) := dk_43 (dk_at dksJ4_fixAfterDeletion_14 11 rfl rfl)
theorem dJ4_fixAfterDeletion_346 : decode cJ4_fixAfterDeletion 346 = .ok (.iconst 1, 1) := dk_4 (dk_at dksJ4_fixAfterDeletion_14 12 rfl rfl)
theorem dJ4_fixAfterDeletion_347 : decode cJ4_fixAfterDeletion 347 = .ok (.invokestatic 307, 3) := dk_184 1 51 (dk_at dksJ4_fixAfterDeletion_14 13 rfl rfl)
theorem dJ4_fixAfterDeletion_350 : decode cJ4_fixAfterDeletion 350 = .ok (.return_, 1) := dk_177 (dk_at dksJ4_fixAfterDeletion_14 16 rfl rfl)
abbrev cJ4_floorEntry : ByteArray := prog_129_method_43_code
def yJ4_floorEntry : MethodName := ⟨RJ4, "floorEntry", "(Ljava/lang/Object;)Ljava/util/Map$Entry;"⟩
def dkwJ4_floorEntry_0 : List UInt8 := [42, 43, 182, 0, 210, 184, 0, 200, 176]
abbrev dktJ4_floorEntry_0 : List UInt8 := dkwJ4_floorEntry_0 ++ []
theorem dksJ4_floorEntry_0 : cJ4_floorEntry.data.toList.drop 0 = dktJ4_floorEntry_0 := by decide +kernel
theorem dJ4_floorEntry_0 : decode cJ4_floorEntry 0 = .ok (.aload_n 0, 1) := dk_42 (dk_at dksJ4_floorEntry_0 0 rfl rfl)
theorem dJ4_floorEntry_1 : decode cJ4_floorEntry 1 = .ok (.aload_n 1, 1) := dk_43 (dk_at dksJ4_floorEntry_0 1 rfl rfl)
theorem dJ4_floorEntry_2 : decode cJ4_floorEntry 2 = .ok (.invokevirtual 210, 3) := dk_182 0 210 (dk_at dksJ4_floorEntry_0 2 rfl rfl)
theorem dJ4_floorEntry_5 : decode cJ4_floorEntry 5 = .ok (.invokestatic 200, 3) := dk_184 0 200 (dk_at dksJ4_floorEntry_0 5 rfl rfl)
theorem dJ4_floorEntry_8 : decode cJ4_floorEntry 8 = .ok (.areturn, 1) := dk_176 (dk_at dksJ4_floorEntry_0 8 rfl rfl)
abbrev cJ4_getFloorEntry : ByteArray := prog_129_method_18_code
def yJ4_getFloorEntry : MethodName := ⟨RJ4, "getFloorEntry", "(Ljava/lang/Object;)Ljava/util/TreeMap$Entry;"⟩
def dkwJ4_getFloorEntry_4 : List UInt8 := [167, 255, 230, 25, 4, 176, 44, 176, 167, 255, 159, 1, 176]
abbrev dktJ4_getFloorEntry_4 : List UInt8 := dkwJ4_getFloorEntry_4 ++ []
def dkwJ4_getFloorEntry_3 : List UInt8 := [198, 0, 27, 25, 5, 25, 4, 180, 0, 111, 166, 0, 17, 25, 4, 58, 5, 25, 4, 180, 0, 124, 58, 4]
abbrev dktJ4_getFloorEntry_3 : List UInt8 := dkwJ4_getFloorEntry_3 ++ dktJ4_getFloorEntry_4
def dkwJ4_getFloorEntry_2 : List UInt8 := [198, 0, 11, 44, 180, 0, 111, 77, 167, 0, 46, 44, 180, 0, 124, 58, 4, 44, 58, 5, 25, 4]
abbrev dktJ4_getFloorEntry_2 : List UInt8 := dkwJ4_getFloorEntry_2 ++ dktJ4_getFloorEntry_3
def dkwJ4_getFloorEntry_1 : List UInt8 := [180, 0, 114, 198, 0, 11, 44, 180, 0, 114, 77, 167, 0, 67, 44, 176, 29, 156, 0, 59, 44, 180, 0, 111]
abbrev dktJ4_getFloorEntry_1 : List UInt8 := dkwJ4_getFloorEntry_1 ++ dktJ4_getFloorEntry_2
def dkwJ4_getFloorEntry_0 : List UInt8 := [42, 180, 0, 101, 77, 44, 198, 0, 99, 42, 43, 44, 180, 0, 105, 182, 0, 123, 62, 29, 158, 0, 20, 44]
abbrev dktJ4_getFloorEntry_0 : List UInt8 := dkwJ4_getFloorEntry_0 ++ dktJ4_getFloorEntry_1
theorem dksJ4_getFloorEntry_0 : cJ4_getFloorEntry.data.toList.drop 0 = dktJ4_getFloorEntry_0 := by decide +kernel
theorem dksJ4_getFloorEntry_1 : cJ4_getFloorEntry.data.toList.drop 24 = dktJ4_getFloorEntry_1 := dk_seg dksJ4_getFloorEntry_0 24 rfl rfl
theorem dksJ4_getFloorEntry_2 : cJ4_getFloorEntry.data.toList.drop 48 = dktJ4_getFloorEntry_2 := dk_seg dksJ4_getFloorEntry_1 24 rfl rfl
theorem dksJ4_getFloorEntry_3 : cJ4_getFloorEntry.data.toList.drop 70 = dktJ4_getFloorEntry_3 := dk_seg dksJ4_getFloorEntry_2 22 rfl rfl
theorem dksJ4_getFloorEntry_4 : cJ4_getFloorEntry.data.toList.drop 94 = dktJ4_getFloorEntry_4 := dk_seg dksJ4_getFloorEntry_3 24 rfl rfl
theorem dJ4_getFloorEntry_0 : decode cJ4_getFloorEntry 0 = .ok (.aload_n 0, 1) := dk_42 (dk_at dksJ4_getFloorEntry_0 0 rfl rfl)
theorem dJ4_getFloorEntry_1 : decode cJ4_getFloorEntry 1 = .ok (.getfield 101, 3) := dk_180 0 101 (dk_at dksJ4_getFloorEntry_0 1 rfl rfl)
theorem dJ4_getFloorEntry_4 : decode cJ4_getFloorEntry 4 = .ok (.astore_n 2, 1) := dk_77 (dk_at dksJ4_getFloorEntry_0 4 rfl rfl)
theorem dJ4_getFloorEntry_5 : decode cJ4_getFloorEntry 5 = .ok (.aload_n 2, 1) := dk_44 (dk_at dksJ4_getFloorEntry_0 5 rfl rfl)
theorem dJ4_getFloorEntry_6 : decode cJ4_getFloorEntry 6 = .ok (.ifnull 99, 3) := dk_198 0 99 (dk_at dksJ4_getFloorEntry_0 6 rfl rfl)
theorem dJ4_getFloorEntry_9 : decode cJ4_getFloorEntry 9 = .ok (.aload_n 0, 1) := dk_42 (dk_at dksJ4_getFloorEntry_0 9 rfl rfl)
theorem dJ4_getFloorEntry_10 : decode cJ4_getFloorEntry 10 = .ok (.aload_n 1, 1) := dk_43 (dk_at dksJ4_getFloorEntry_0 10 rfl rfl)
theorem dJ4_getFloorEntry_11 : decode cJ4_getFloorEntry 11 = .ok (.aload_n 2, 1) := dk_44 (dk_at dksJ4_getFloorEntry_0 11 rfl rfl)
theorem dJ4_getFloorEntry_12 : decode cJ4_getFloorEntry 12 = .ok (.getfield 105, 3) := dk_180 0 105 (dk_at dksJ4_getFloorEntry_0 12 rfl rfl)
theorem dJ4_getFloorEntry_15 : decode cJ4_getFloorEntry 15 = .ok (.invokevirtual 123, 3) := dk_182 0 123 (dk_at dksJ4_getFloorEntry_0 15 rfl rfl)
theorem dJ4_getFloorEntry_18 : decode cJ4_getFloorEntry 18 = .ok (.istore_n 3, 1) := dk_62 (dk_at dksJ4_getFloorEntry_0 18 rfl rfl)
theorem dJ4_getFloorEntry_19 : decode cJ4_getFloorEntry 19 = .ok (.iload_n 3, 1) := dk_29 (dk_at dksJ4_getFloorEntry_0 19 rfl rfl)
theorem dJ4_getFloorEntry_20 : decode cJ4_getFloorEntry 20 = .ok (.ifCond .le 20, 3) := dk_158 0 20 (dk_at dksJ4_getFloorEntry_0 20 rfl rfl)
theorem dJ4_getFloorEntry_23 : decode cJ4_getFloorEntry 23 = .ok (.aload_n 2, 1) := dk_44 (dk_at dksJ4_getFloorEntry_0 23 rfl rfl)
theorem dJ4_getFloorEntry_24 : decode cJ4_getFloorEntry 24 = .ok (.getfield 114, 3) := dk_180 0 114 (dk_at dksJ4_getFloorEntry_1 0 rfl rfl)
theorem dJ4_getFloorEntry_27 : decode cJ4_getFloorEntry 27 = .ok (.ifnull 11, 3) := dk_198 0 11 (dk_at dksJ4_getFloorEntry_1 3 rfl rfl)
theorem dJ4_getFloorEntry_30 : decode cJ4_getFloorEntry 30 = .ok (.aload_n 2, 1) := dk_44 (dk_at dksJ4_getFloorEntry_1 6 rfl rfl)
theorem dJ4_getFloorEntry_31 : decode cJ4_getFloorEntry 31 = .ok (.getfield 114, 3) := dk_180 0 114 (dk_at dksJ4_getFloorEntry_1 7 rfl rfl)
theorem dJ4_getFloorEntry_34 : decode cJ4_getFloorEntry 34 = .ok (.astore_n 2, 1) := dk_77 (dk_at dksJ4_getFloorEntry_1 10 rfl rfl)
theorem dJ4_getFloorEntry_35 : decode cJ4_getFloorEntry 35 = .ok (.goto 67, 3) := dk_167 0 67 (dk_at dksJ4_getFloorEntry_1 11 rfl rfl)
theorem dJ4_getFloorEntry_38 : decode cJ4_getFloorEntry 38 = .ok (.aload_n 2, 1) := dk_44 (dk_at dksJ4_getFloorEntry_1 14 rfl rfl)
theorem dJ4_getFloorEntry_39 : decode cJ4_getFloorEntry 39 = .ok (.areturn, 1) := dk_176 (dk_at dksJ4_getFloorEntry_1 15 rfl rfl)
theorem dJ4_getFloorEntry_40 : decode cJ4_getFloorEntry 40 = .ok (.iload_n 3, 1) := dk_29 (dk_at dksJ4_getFloorEntry_1 16 rfl rfl)
theorem dJ4_getFloorEntry_41 : decode cJ4_getFloorEntry 41 = .ok (.ifCond .ge 59, 3) := dk_156 0 59 (dk_at dksJ4_getFloorEntry_1 17 rfl rfl)
theorem dJ4_getFloorEntry_44 : decode cJ4_getFloorEntry 44 = .ok (.aload_n 2, 1) := dk_44 (dk_at dksJ4_getFloorEntry_1 20 rfl rfl)
theorem dJ4_getFloorEntry_45 : decode cJ4_getFloorEntry 45 = .ok (.getfield 111, 3) := dk_180 0 111 (dk_at dksJ4_getFloorEntry_1 21 rfl rfl)
theorem dJ4_getFloorEntry_48 : decode cJ4_getFloorEntry 48 = .ok (.ifnull 11, 3) := dk_198 0 11 (dk_at dksJ4_getFloorEntry_2 0 rfl rfl)
theorem dJ4_getFloorEntry_51 : decode cJ4_getFloorEntry 51 = .ok (.aload_n 2, 1) := dk_44 (dk_at dksJ4_getFloorEntry_2 3 rfl rfl)
theorem dJ4_getFloorEntry_52 : decode cJ4_getFloorEntry 52 = .ok (.getfield 111, 3) := dk_180 0 111 (dk_at dksJ4_getFloorEntry_2 4 rfl rfl)
theorem dJ4_getFloorEntry_55 : decode cJ4_getFloorEntry 55 = .ok (.astore_n 2, 1) := dk_77 (dk_at dksJ4_getFloorEntry_2 7 rfl rfl)
theorem dJ4_getFloorEntry_56 : decode cJ4_getFloorEntry 56 = .ok (.goto 46, 3) := dk_167 0 46 (dk_at dksJ4_getFloorEntry_2 8 rfl rfl)
theorem dJ4_getFloorEntry_59 : decode cJ4_getFloorEntry 59 = .ok (.aload_n 2, 1) := dk_44 (dk_at dksJ4_getFloorEntry_2 11 rfl rfl)
theorem dJ4_getFloorEntry_60 : decode cJ4_getFloorEntry 60 = .ok (.getfield 124, 3) := dk_180 0 124 (dk_at dksJ4_getFloorEntry_2 12 rfl rfl)
theorem dJ4_getFloorEntry_63 : decode cJ4_getFloorEntry 63 = .ok (.astore 4, 2) := dk_58 4 (dk_at dksJ4_getFloorEntry_2 15 rfl rfl)
theorem dJ4_getFloorEntry_65 : decode cJ4_getFloorEntry 65 = .ok (.aload_n 2, 1) := dk_44 (dk_at dksJ4_getFloorEntry_2 17 rfl rfl)
theorem dJ4_getFloorEntry_66 : decode cJ4_getFloorEntry 66 = .ok (.astore 5, 2) := dk_58 5 (dk_at dksJ4_getFloorEntry_2 18 rfl rfl)
theorem dJ4_getFloorEntry_68 : decode cJ4_getFloorEntry 68 = .ok (.aload 4, 2) := dk_25 4 (dk_at dksJ4_getFloorEntry_2 20 rfl rfl)
theorem dJ4_getFloorEntry_70 : decode cJ4_getFloorEntry 70 = .ok (.ifnull 27, 3) := dk_198 0 27 (dk_at dksJ4_getFloorEntry_3 0 rfl rfl)
theorem dJ4_getFloorEntry_73 : decode cJ4_getFloorEntry 73 = .ok (.aload 5, 2) := dk_25 5 (dk_at dksJ4_getFloorEntry_3 3 rfl rfl)
theorem dJ4_getFloorEntry_75 : decode cJ4_getFloorEntry 75 = .ok (.aload 4, 2) := dk_25 4 (dk_at dksJ4_getFloorEntry_3 5 rfl rfl)
theorem dJ4_getFloorEntry_77 : decode cJ4_getFloorEntry 77 = .ok (.getfield 111, 3) := dk_180 0 111 (dk_at dksJ4_getFloorEntry_3 7 rfl rfl)
theorem dJ4_getFloorEntry_80 : decode cJ4_getFloorEntry 80 = .ok (.if_acmp .ne 17, 3) := dk_166 0 17 (dk_at dksJ4_getFloorEntry_3 10 rfl rfl)
theorem dJ4_getFloorEntry_83 : decode cJ4_getFloorEntry 83 = .ok (.aload 4, 2) := dk_25 4 (dk_at dksJ4_getFloorEntry_3 13 rfl rfl)
theorem dJ4_getFloorEntry_85 : decode cJ4_getFloorEntry 85 = .ok (.astore 5, 2) := dk_58 5 (dk_at dksJ4_getFloorEntry_3 15 rfl rfl)
theorem dJ4_getFloorEntry_87 : decode cJ4_getFloorEntry 87 = .ok (.aload 4, 2) := dk_25 4 (dk_at dksJ4_getFloorEntry_3 17 rfl rfl)
theorem dJ4_getFloorEntry_89 : decode cJ4_getFloorEntry 89 = .ok (.getfield 124, 3) := dk_180 0 124 (dk_at dksJ4_getFloorEntry_3 19 rfl rfl)
theorem dJ4_getFloorEntry_92 : decode cJ4_getFloorEntry 92 = .ok (.astore 4, 2) := dk_58 4 (dk_at dksJ4_getFloorEntry_3 22 rfl rfl)
theorem dJ4_getFloorEntry_94 : decode cJ4_getFloorEntry 94 = .ok (.goto (-26), 3) := dk_167 255 230 (dk_at dksJ4_getFloorEntry_4 0 rfl rfl)
theorem dJ4_getFloorEntry_97 : decode cJ4_getFloorEntry 97 = .ok (.aload 4, 2) := dk_25 4 (dk_at dksJ4_getFloorEntry_4 3 rfl rfl)
theorem dJ4_getFloorEntry_99 : decode cJ4_getFloorEntry 99 = .ok (.areturn, 1) := dk_176 (dk_at dksJ4_getFloorEntry_4 5 rfl rfl)
theorem dJ4_getFloorEntry_100 : decode cJ4_getFloorEntry 100 = .ok (.aload_n 2, 1) := dk_44 (dk_at dksJ4_getFloorEntry_4 6 rfl rfl)
theorem dJ4_getFloorEntry_101 : decode cJ4_getFloorEntry 101 = .ok (.areturn, 1) := dk_176 (dk_at dksJ4_getFloorEntry_4 7 rfl rfl)
theorem dJ4_getFloorEntry_102 : decode cJ4_getFloorEntry 102 = .ok (.goto (-97), 3) := dk_167 255 159 (dk_at dksJ4_getFloorEntry_4 8 rfl rfl)
theorem dJ4_getFloorEntry_105 : decode cJ4_getFloorEntry 105 = .ok (.aconst_null, 1) := dk_1 (dk_at dksJ4_getFloorEntry_4 11 rfl rfl)
theorem dJ4_getFloorEntry_106 : decode cJ4_getFloorEntry 106 = .ok (.areturn, 1) := dk_176 (dk_at dksJ4_getFloorEntry_4 12 rfl rfl)
abbrev cJ4_exportEntry : ByteArray := prog_129_method_69_code
def yJ4_exportEntry : MethodName := ⟨RJ4, "exportEntry", "(Ljava/util/TreeMap$Entry;)Ljava/util/Map$Entry;"⟩
def dkwJ4_exportEntry_0 : List UInt8 := [42, 199, 0, 7, 1, 167, 0, 11, 187, 1, 26, 89, 42, 183, 1, 28, 176]
abbrev dktJ4_exportEntry_0 : List UInt8 := dkwJ4_exportEntry_0 ++ []
theorem dksJ4_exportEntry_0 : cJ4_exportEntry.data.toList.drop 0 = dktJ4_exportEntry_0 := by decide +kernel
theorem dJ4_exportEntry_0 : decode cJ4_exportEntry 0 = .ok (.aload_n 0, 1) := dk_42 (dk_at dksJ4_exportEntry_0 0 rfl rfl)
theorem dJ4_exportEntry_1 : decode cJ4_exportEntry 1 = .ok (.ifnonnull 7, 3) := dk_199 0 7 (dk_at dksJ4_exportEntry_0 1 rfl rfl)
theorem dJ4_exportEntry_4 : decode cJ4_exportEntry 4 = .ok (.aconst_null, 1) := dk_1 (dk_at dksJ4_exportEntry_0 4 rfl rfl)
theorem dJ4_exportEntry_5 : decode cJ4_exportEntry 5 = .ok (.goto 11, 3) := dk_167 0 11 (dk_at dksJ4_exportEntry_0 5 rfl rfl)
theorem dJ4_exportEntry_8 : decode cJ4_exportEntry 8 = .ok (.new 282, 3) := dk_187 1 26 (dk_at dksJ4_exportEntry_0 8 rfl rfl)
theorem dJ4_exportEntry_11 : decode cJ4_exportEntry 11 = .ok (.dup, 1) := dk_89 (dk_at dksJ4_exportEntry_0 11 rfl rfl)
theorem dJ4_exportEntry_12 : decode cJ4_exportEntry 12 = .ok (.aload_n 0, 1) := dk_42 (dk_at dksJ4_exportEntry_0 12 rfl rfl)
theorem dJ4_exportEntry_13 : decode cJ4_exportEntry 13 = .ok (.invokespecial 284, 3) := dk_183 1 28 (dk_at dksJ4_exportEntry_0 13 rfl rfl)
theorem dJ4_exportEntry_16 : decode cJ4_exportEntry 16 = .ok (.areturn, 1) := dk_176 (dk_at dksJ4_exportEntry_0 16 rfl rfl)
theorem q403 : (Jvm.Cond.initialized "java/util/TreeMap") ∈ lw_all := lw_g (lw_at lw_m1 11 rfl) rfl
theorem q622 : (Jvm.Cond.instantiable "java/util/TreeMap" (9 : Nat)) ∈ lw_all := lw_g (lw_at lw_m1 230 rfl) rfl
theorem q624 : (Jvm.Cond.instanceMethod ({ cls := "java/util/TreeMap", name := "<init>", desc := "()V" } : Jvm.MethodName)) ∈ lw_all := lw_g (lw_at lw_m1 232 rfl) rfl
theorem q625 : (Jvm.Cond.code ({ cls := "java/util/TreeMap", name := "<init>", desc := "()V" } : Jvm.MethodName) prog_129_method_1_code (1 : Nat) (Option.none : Option Jvm.ClassFile.FieldType)) ∈ lw_all := lw_g (lw_at lw_m1 233 rfl) rfl
theorem q626 : (Jvm.Cond.methodLink "java/util/TreeMap" (1 : Nat) ({ cls := "java/util/AbstractMap", name := "<init>", desc := "()V" } : Jvm.MethodName)) ∈ lw_all := lw_g (lw_at lw_m1 234 rfl) rfl
theorem q630 : (Jvm.Cond.fieldLink "java/util/TreeMap" (16 : Nat) "java/util/TreeMap" "comparator" "Ljava/util/Comparator;") ∈ lw_all := lw_g (lw_at lw_m1 238 rfl) rfl
theorem q631 : (Jvm.Cond.fieldLink "java/util/TreeMap" (101 : Nat) "java/util/TreeMap" "root" "Ljava/util/TreeMap$Entry;") ∈ lw_all := lw_g (lw_at lw_m1 239 rfl) rfl
theorem q632 : (Jvm.Cond.fieldLink "java/util/TreeMap" (7 : Nat) "java/util/TreeMap" "size" "I") ∈ lw_all := lw_g (lw_at lw_m2 0 rfl) rfl
theorem q633 : (Jvm.Cond.fieldLink "java/util/TreeMap" (13 : Nat) "java/util/TreeMap" "modCount" "I") ∈ lw_all := lw_g (lw_at lw_m2 1 rfl) rfl
theorem q635 : (Jvm.Cond.fieldLink "java/util/TreeMap" (188 : Nat) "java/util/TreeMap" "entrySet" "Ljava/util/TreeMap$EntrySet;") ∈ lw_all := lw_g (lw_at lw_m2 3 rfl) rfl
theorem q638 : (Jvm.Cond.laysFinal "java/util/TreeMap" "java/util/TreeMap" "comparator" "Ljava/util/Comparator;") ∈ lw_all := lw_g (lw_at lw_m2 6 rfl) rfl
theorem q639 : (Jvm.Cond.soleField "java/util/TreeMap" "comparator") ∈ lw_all := lw_g (lw_at lw_m2 7 rfl) rfl
theorem q640 : (Jvm.Cond.lays "java/util/TreeMap" "java/util/TreeMap" "root" "Ljava/util/TreeMap$Entry;") ∈ lw_all := lw_g (lw_at lw_m2 8 rfl) rfl
theorem q641 : (Jvm.Cond.soleField "java/util/TreeMap" "root") ∈ lw_all := lw_g (lw_at lw_m2 9 rfl) rfl
theorem q642 : (Jvm.Cond.lays "java/util/TreeMap" "java/util/TreeMap" "size" "I") ∈ lw_all := lw_g (lw_at lw_m2 10 rfl) rfl
theorem q643 : (Jvm.Cond.soleField "java/util/TreeMap" "size") ∈ lw_all := lw_g (lw_at lw_m2 11 rfl) rfl
theorem q644 : (Jvm.Cond.lays "java/util/TreeMap" "java/util/TreeMap" "modCount" "I") ∈ lw_all := lw_g (lw_at lw_m2 12 rfl) rfl
theorem q645 : (Jvm.Cond.soleField "java/util/TreeMap" "modCount") ∈ lw_all := lw_g (lw_at lw_m2 13 rfl) rfl
theorem q646 : (Jvm.Cond.lays "java/util/TreeMap" "java/util/TreeMap" "entrySet" "Ljava/util/TreeMap$EntrySet;") ∈ lw_all := lw_g (lw_at lw_m2 14 rfl) rfl
theorem q647 : (Jvm.Cond.soleField "java/util/TreeMap" "entrySet") ∈ lw_all := lw_g (lw_at lw_m2 15 rfl) rfl
theorem q648 : (Jvm.Cond.lays "java/util/TreeMap" "java/util/TreeMap" "navigableKeySet" "Ljava/util/TreeMap$KeySet;") ∈ lw_all := lw_g (lw_at lw_m2 16 rfl) rfl
theorem q649 : (Jvm.Cond.soleField "java/util/TreeMap" "navigableKeySet") ∈ lw_all := lw_g (lw_at lw_m2 17 rfl) rfl
theorem q650 : (Jvm.Cond.lays "java/util/TreeMap" "java/util/TreeMap" "descendingMap" "Ljava/util/NavigableMap;") ∈ lw_all := lw_g (lw_at lw_m2 18 rfl) rfl
theorem q651 : (Jvm.Cond.soleField "java/util/TreeMap" "descendingMap") ∈ lw_all := lw_g (lw_at lw_m2 19 rfl) rfl
theorem q652 : (Jvm.Cond.lays "java/util/TreeMap" "java/util/AbstractMap" "keySet" "Ljava/util/Set;") ∈ lw_all := lw_g (lw_at lw_m2 20 rfl) rfl
theorem q654 : (Jvm.Cond.lays "java/util/TreeMap" "java/util/AbstractMap" "values" "Ljava/util/Collection;") ∈ lw_all := lw_g (lw_at lw_m2 22 rfl) rfl
theorem q656 : (Jvm.Cond.superclass "java/util/TreeMap" "java/util/AbstractMap") ∈ lw_all := lw_g (lw_at lw_m2 24 rfl) rfl
theorem q2054 : (Jvm.Cond.selects "java/util/TreeMap" ({ cls := "java/lang/Object", name := "getClass", desc := "()Ljava/lang/Class;" } : Jvm.MethodName) ({ cls := "java/lang/Object", name := "getClass", desc := "()Ljava/lang/Class;" } : Jvm.MethodName)) ∈ lw_all := lw_g (lw_at lw_m7 222 rfl) rfl
theorem q3043 : (Jvm.Cond.static ({ cls := "java/util/TreeMap", name := "successor", desc := "(Ljava/util/TreeMap$Entry;)Ljava/util/TreeMap$Entry;" } : Jvm.MethodName)) ∈ lw_all := lw_g (lw_at lw_m12 11 rfl) rfl
theorem q3044 : (Jvm.Cond.code ({ cls := "java/util/TreeMap", name := "successor", desc := "(Ljava/util/TreeMap$Entry;)Ljava/util/TreeMap$Entry;" } : Jvm.MethodName) prog_129_method_74_code (3 : Nat) (Option.some (Jvm.ClassFile.FieldType.object "java/util/TreeMap$Entry"))) ∈ lw_all := lw_g (lw_at lw_m12 12 rfl) rfl
theorem q4209 : (Jvm.Cond.instanceMethod ({ cls := "java/util/TreeMap", name := "containsKey", desc := "(Ljava/lang/Object;)Z" } : Jvm.MethodName)) ∈ lw_all := lw_g (lw_at lw_m16 217 rfl) rfl
theorem q4210 : (Jvm.Cond.selects "java/util/TreeMap" ({ cls := "java/util/TreeMap", name := "containsKey", desc := "(Ljava/lang/Object;)Z" } : Jvm.MethodName) ({ cls := "java/util/TreeMap", name := "containsKey", desc := "(Ljava/lang/Object;)Z" } : Jvm.MethodName)) ∈ lw_all := lw_g (lw_at lw_m16 218 rfl) rfl
theorem q4211 : (Jvm.Cond.code ({ cls := "java/util/TreeMap", name := "containsKey", desc := "(Ljava/lang/Object;)Z" } : Jvm.MethodName) prog_129_method_6_code (2 : Nat) (Option.some Jvm.ClassFile.FieldType.boolean)) ∈ lw_all := lw_g (lw_at lw_m16 219 rfl) rfl
theorem q4212 : (Jvm.Cond.methodLink "java/util/TreeMap" (50 : Nat) ({ cls := "java/util/TreeMap", name := "getEntry", desc := "(Ljava/lang/Object;)Ljava/util/TreeMap$Entry;" } : Jvm.MethodName)) ∈ lw_all := lw_g (lw_at lw_m16 220 rfl) rfl
theorem q4213 : (Jvm.Cond.instanceMethod ({ cls := "java/util/TreeMap", name := "getEntry", desc := "(Ljava/lang/Object;)Ljava/util/TreeMap$Entry;" } : Jvm.MethodName)) ∈ lw_all := lw_g (lw_at lw_m16 221 rfl) rfl
theorem q4214 : (Jvm.Cond.selects "java/util/TreeMap" ({ cls := "java/util/TreeMap", name := "getEntry", desc := "(Ljava/lang/Object;)Ljava/util/TreeMap$Entry;" } : Jvm.MethodName) ({ cls := "java/util/TreeMap", name := "getEntry", desc := "(Ljava/lang/Object;)Ljava/util/TreeMap$Entry;" } : Jvm.MethodName)) ∈ lw_all := lw_g (lw_at lw_m16 222 rfl) rfl
theorem q4215 : (Jvm.Cond.code ({ cls := "java/util/TreeMap", name := "getEntry", desc := "(Ljava/lang/Object;)Ljava/util/TreeMap$Entry;" } : Jvm.MethodName) prog_129_method_15_code (5 : Nat) (Option.some (Jvm.ClassFile.FieldType.object "java/util/TreeMap$Entry"))) ∈ lw_all := lw_g (lw_at lw_m16 223 rfl) rfl
theorem q4216 : (Jvm.Cond.methodLink "java/util/TreeMap" (92 : Nat) ({ cls := "java/util/TreeMap", name := "getEntryUsingComparator", desc := "(Ljava/lang/Object;)Ljava/util/TreeMap$Entry;" } : Jvm.MethodName)) ∈ lw_all := lw_g (lw_at lw_m16 224 rfl) rfl
theorem q4217 : (Jvm.Cond.instanceMethod ({ cls := "java/util/TreeMap", name := "getEntryUsingComparator", desc := "(Ljava/lang/Object;)Ljava/util/TreeMap$Entry;" } : Jvm.MethodName)) ∈ lw_all := lw_g (lw_at lw_m16 225 rfl) rfl
theorem q4218 : (Jvm.Cond.selects "java/util/TreeMap" ({ cls := "java/util/TreeMap", name := "getEntryUsingComparator", desc := "(Ljava/lang/Object;)Ljava/util/TreeMap$Entry;" } : Jvm.MethodName) ({ cls := "java/util/TreeMap", name := "getEntryUsingComparator", desc := "(Ljava/lang/Object;)Ljava/util/TreeMap$Entry;" } : Jvm.MethodName)) ∈ lw_all := lw_g (lw_at lw_m16 226 rfl) rfl
theorem q4219 : (Jvm.Cond.code ({ cls := "java/util/TreeMap", name := "getEntryUsingComparator", desc := "(Ljava/lang/Object;)Ljava/util/TreeMap$Entry;" } : Jvm.MethodName) prog_129_method_16_code (6 : Nat) (Option.some (Jvm.ClassFile.FieldType.object "java/util/TreeMap$Entry"))) ∈ lw_all := lw_g (lw_at lw_m16 227 rfl) rfl
theorem q4220 : (Jvm.Cond.interfaceEntry "java/util/TreeMap" (117 : Nat)) ∈ lw_tbl := lw_at lw_m16 228 rfl
theorem q4221 : (Jvm.Cond.methodLink "java/util/TreeMap" (117 : Nat) ({ cls := "java/util/Comparator", name := "compare", desc := "(Ljava/lang/Object;Ljava/lang/Object;)I" } : Jvm.MethodName)) ∈ lw_all := lw_g (lw_at lw_m16 229 rfl) rfl
theorem q4224 : (Jvm.Cond.methodLink "java/util/TreeMap" (95 : Nat) ({ cls := "java/util/Objects", name := "requireNonNull", desc := "(Ljava/lang/Object;)Ljava/lang/Object;" } : Jvm.MethodName)) ∈ lw_all := lw_g (lw_at lw_m16 232 rfl) rfl
theorem q4227 : (Jvm.Cond.classLink "java/util/TreeMap" (99 : Nat) "java/lang/Comparable") ∈ lw_all := lw_g (lw_at lw_m16 235 rfl) rfl
theorem q4228 : (Jvm.Cond.interfaceEntry "java/util/TreeMap" (107 : Nat)) ∈ lw_tbl := lw_at lw_m16 236 rfl
theorem q4229 : (Jvm.Cond.methodLink "java/util/TreeMap" (107 : Nat) ({ cls := "java/lang/Comparable", name := "compareTo", desc := "(Ljava/lang/Object;)I" } : Jvm.MethodName)) ∈ lw_all := lw_g (lw_at lw_m16 237 rfl) rfl
theorem q4237 : (Jvm.Cond.instanceMethod ({ cls := "java/util/TreeMap", name := "put", desc := "(Ljava/lang/Object;Ljava/lang/Object;)Ljava/lang/Object;" } : Jvm.MethodName)) ∈ lw_all := lw_g (lw_at lw_m17 5 rfl) rfl
theorem q4238 : (Jvm.Cond.selects "java/util/TreeMap" ({ cls := "java/util/TreeMap", name := "put", desc := "(Ljava/lang/Object;Ljava/lang/Object;)Ljava/lang/Object;" } : Jvm.MethodName) ({ cls := "java/util/TreeMap", name := "put", desc := "(Ljava/lang/Object;Ljava/lang/Object;)Ljava/lang/Object;" } : Jvm.MethodName)) ∈ lw_all := lw_g (lw_at lw_m17 6 rfl) rfl
theorem q4239 : (Jvm.Cond.code ({ cls := "java/util/TreeMap", name := "put", desc := "(Ljava/lang/Object;Ljava/lang/Object;)Ljava/lang/Object;" } : Jvm.MethodName) prog_129_method_21_code (3 : Nat) (Option.some (Jvm.ClassFile.FieldType.object "java/lang/Object"))) ∈ lw_all := lw_g (lw_at lw_m17 7 rfl) rfl
theorem q4240 : (Jvm.Cond.methodLink "java/util/TreeMap" (127 : Nat) ({ cls := "java/util/TreeMap", name := "put", desc := "(Ljava/lang/Object;Ljava/lang/Object;Z)Ljava/lang/Object;" } : Jvm.MethodName)) ∈ lw_all := lw_g (lw_at lw_m17 8 rfl) rfl
theorem q4241 : (Jvm.Cond.privateMethod ({ cls := "java/util/TreeMap", name := "put", desc := "(Ljava/lang/Object;Ljava/lang/Object;Z)Ljava/lang/Object;" } : Jvm.MethodName)) ∈ lw_tbl := lw_at lw_m17 9 rfl
theorem q4242 : (Jvm.Cond.instanceMethod ({ cls := "java/util/TreeMap", name := "put", desc := "(Ljava/lang/Object;Ljava/lang/Object;Z)Ljava/lang/Object;" } : Jvm.MethodName)) ∈ lw_all := lw_g (lw_at lw_m17 10 rfl) rfl
theorem q4243 : (Jvm.Cond.code ({ cls := "java/util/TreeMap", name := "put", desc := "(Ljava/lang/Object;Ljava/lang/Object;Z)Ljava/lang/Object;" } : Jvm.MethodName) prog_129_method_31_code (10 : Nat) (Option.some (Jvm.ClassFile.FieldType.object "java/lang/Object"))) ∈ lw_all := lw_g (lw_at lw_m17 11 rfl) rfl
theorem q4244 : (Jvm.Cond.methodLink "java/util/TreeMap" (135 : Nat) ({ cls := "java/util/TreeMap", name := "addEntryToEmptyMap", desc := "(Ljava/lang/Object;Ljava/lang/Object;)V" } : Jvm.MethodName)) ∈ lw_all := lw_g (lw_at lw_m17 12 rfl) rfl
theorem q4245 : (Jvm.Cond.privateMethod ({ cls := "java/util/TreeMap", name := "addEntryToEmptyMap", desc := "(Ljava/lang/Object;Ljava/lang/Object;)V" } : Jvm.MethodName)) ∈ lw_tbl := lw_at lw_m17 13 rfl
theorem q4246 : (Jvm.Cond.instanceMethod ({ cls := "java/util/TreeMap", name := "addEntryToEmptyMap", desc := "(Ljava/lang/Object;Ljava/lang/Object;)V" } : Jvm.MethodName)) ∈ lw_all := lw_g (lw_at lw_m17 14 rfl) rfl
theorem q4247 : (Jvm.Cond.code ({ cls := "java/util/TreeMap", name := "addEntryToEmptyMap", desc := "(Ljava/lang/Object;Ljava/lang/Object;)V" } : Jvm.MethodName) prog_129_method_30_code (3 : Nat) (Option.none : Option Jvm.ClassFile.FieldType)) ∈ lw_all := lw_g (lw_at lw_m17 15 rfl) rfl
theorem q4248 : (Jvm.Cond.methodLink "java/util/TreeMap" (123 : Nat) ({ cls := "java/util/TreeMap", name := "compare", desc := "(Ljava/lang/Object;Ljava/lang/Object;)I" } : Jvm.MethodName)) ∈ lw_all := lw_g (lw_at lw_m17 16 rfl) rfl
theorem q4249 : (Jvm.Cond.instanceMethod ({ cls := "java/util/TreeMap", name := "compare", desc := "(Ljava/lang/Object;Ljava/lang/Object;)I" } : Jvm.MethodName)) ∈ lw_all := lw_g (lw_at lw_m17 17 rfl) rfl
theorem q4250 : (Jvm.Cond.selects "java/util/TreeMap" ({ cls := "java/util/TreeMap", name := "compare", desc := "(Ljava/lang/Object;Ljava/lang/Object;)I" } : Jvm.MethodName) ({ cls := "java/util/TreeMap", name := "compare", desc := "(Ljava/lang/Object;Ljava/lang/Object;)I" } : Jvm.MethodName)) ∈ lw_all := lw_g (lw_at lw_m17 18 rfl) rfl
theorem q4251 : (Jvm.Cond.code ({ cls := "java/util/TreeMap", name := "compare", desc := "(Ljava/lang/Object;Ljava/lang/Object;)I" } : Jvm.MethodName) prog_129_method_67_code (3 : Nat) (Option.some Jvm.ClassFile.FieldType.int)) ∈ lw_all := lw_g (lw_at lw_m17 19 rfl) rfl
theorem q4252 : (Jvm.Cond.classLink "java/util/TreeMap" (59 : Nat) "java/util/TreeMap$Entry") ∈ lw_all := lw_g (lw_at lw_m17 20 rfl) rfl
theorem q4254 : (Jvm.Cond.methodLink "java/util/TreeMap" (167 : Nat) ({ cls := "java/util/TreeMap$Entry", name := "<init>", desc := "(Ljava/lang/Object;Ljava/lang/Object;Ljava/util/TreeMap$Entry;)V" } : Jvm.MethodName)) ∈ lw_all := lw_g (lw_at lw_m17 22 rfl) rfl
theorem q4259 : (Jvm.Cond.fieldLink "java/util/TreeMap" (105 : Nat) "java/util/TreeMap$Entry" "key" "Ljava/lang/Object;") ∈ lw_all := lw_g (lw_at lw_m17 27 rfl) rfl
theorem q4261 : (Jvm.Cond.fieldLink "java/util/TreeMap" (58 : Nat) "java/util/TreeMap$Entry" "value" "Ljava/lang/Object;") ∈ lw_all := lw_g (lw_at lw_m17 29 rfl) rfl
theorem q4263 : (Jvm.Cond.fieldLink "java/util/TreeMap" (111 : Nat) "java/util/TreeMap$Entry" "left" "Ljava/util/TreeMap$Entry;") ∈ lw_all := lw_g (lw_at lw_m17 31 rfl) rfl
theorem q4265 : (Jvm.Cond.fieldLink "java/util/TreeMap" (114 : Nat) "java/util/TreeMap$Entry" "right" "Ljava/util/TreeMap$Entry;") ∈ lw_all := lw_g (lw_at lw_m17 33 rfl) rfl
theorem q4267 : (Jvm.Cond.fieldLink "java/util/TreeMap" (124 : Nat) "java/util/TreeMap$Entry" "parent" "Ljava/util/TreeMap$Entry;") ∈ lw_all := lw_g (lw_at lw_m17 35 rfl) rfl
theorem q4269 : (Jvm.Cond.fieldLink "java/util/TreeMap" (290 : Nat) "java/util/TreeMap$Entry" "color" "Z") ∈ lw_all := lw_g (lw_at lw_m17 37 rfl) rfl
theorem q4283 : (Jvm.Cond.methodLink "java/util/TreeMap" (139 : Nat) ({ cls := "java/util/TreeMap", name := "addEntry", desc := "(Ljava/lang/Object;Ljava/lang/Object;Ljava/util/TreeMap$Entry;Z)V" } : Jvm.MethodName)) ∈ lw_all := lw_g (lw_at lw_m17 51 rfl) rfl
theorem q4284 : (Jvm.Cond.privateMethod ({ cls := "java/util/TreeMap", name := "addEntry", desc := "(Ljava/lang/Object;Ljava/lang/Object;Ljava/util/TreeMap$Entry;Z)V" } : Jvm.MethodName)) ∈ lw_tbl := lw_at lw_m17 52 rfl
theorem q4285 : (Jvm.Cond.instanceMethod ({ cls := "java/util/TreeMap", name := "addEntry", desc := "(Ljava/lang/Object;Ljava/lang/Object;Ljava/util/TreeMap$Entry;Z)V" } : Jvm.MethodName)) ∈ lw_all := lw_g (lw_at lw_m17 53 rfl) rfl
theorem q4286 : (Jvm.Cond.code ({ cls := "java/util/TreeMap", name := "addEntry", desc := "(Ljava/lang/Object;Ljava/lang/Object;Ljava/util/TreeMap$Entry;Z)V" } : Jvm.MethodName) prog_129_method_29_code (6 : Nat) (Option.none : Option Jvm.ClassFile.FieldType)) ∈ lw_all := lw_g (lw_at lw_m17 54 rfl) rfl
theorem q4287 : (Jvm.Cond.methodLink "java/util/TreeMap" (170 : Nat) ({ cls := "java/util/TreeMap", name := "fixAfterInsertion", desc := "(Ljava/util/TreeMap$Entry;)V" } : Jvm.MethodName)) ∈ lw_all := lw_g (lw_at lw_m17 55 rfl) rfl
theorem q4288 : (Jvm.Cond.privateMethod ({ cls := "java/util/TreeMap", name := "fixAfterInsertion", desc := "(Ljava/util/TreeMap$Entry;)V" } : Jvm.MethodName)) ∈ lw_tbl := lw_at lw_m17 56 rfl
theorem q4289 : (Jvm.Cond.instanceMethod ({ cls := "java/util/TreeMap", name := "fixAfterInsertion", desc := "(Ljava/util/TreeMap$Entry;)V" } : Jvm.MethodName)) ∈ lw_all := lw_g (lw_at lw_m17 57 rfl) rfl
theorem q4290 : (Jvm.Cond.code ({ cls := "java/util/TreeMap", name := "fixAfterInsertion", desc := "(Ljava/util/TreeMap$Entry;)V" } : Jvm.MethodName) prog_129_method_83_code (3 : Nat) (Option.none : Option Jvm.ClassFile.FieldType)) ∈ lw_all := lw_g (lw_at lw_m17 58 rfl) rfl
theorem q4291 : (Jvm.Cond.methodLink "java/util/TreeMap" (294 : Nat) ({ cls := "java/util/TreeMap", name := "parentOf", desc := "(Ljava/util/TreeMap$Entry;)Ljava/util/TreeMap$Entry;" } : Jvm.MethodName)) ∈ lw_all := lw_g (lw_at lw_m17 59 rfl) rfl
theorem q4292 : (Jvm.Cond.static ({ cls := "java/util/TreeMap", name := "parentOf", desc := "(Ljava/util/TreeMap$Entry;)Ljava/util/TreeMap$Entry;" } : Jvm.MethodName)) ∈ lw_all := lw_g (lw_at lw_m17 60 rfl) rfl
theorem q4293 : (Jvm.Cond.code ({ cls := "java/util/TreeMap", name := "parentOf", desc := "(Ljava/util/TreeMap$Entry;)Ljava/util/TreeMap$Entry;" } : Jvm.MethodName) prog_129_method_77_code (1 : Nat) (Option.some (Jvm.ClassFile.FieldType.object "java/util/TreeMap$Entry"))) ∈ lw_all := lw_g (lw_at lw_m17 61 rfl) rfl
theorem q4294 : (Jvm.Cond.methodLink "java/util/TreeMap" (297 : Nat) ({ cls := "java/util/TreeMap", name := "leftOf", desc := "(Ljava/util/TreeMap$Entry;)Ljava/util/TreeMap$Entry;" } : Jvm.MethodName)) ∈ lw_all := lw_g (lw_at lw_m17 62 rfl) rfl
theorem q4295 : (Jvm.Cond.static ({ cls := "java/util/TreeMap", name := "leftOf", desc := "(Ljava/util/TreeMap$Entry;)Ljava/util/TreeMap$Entry;" } : Jvm.MethodName)) ∈ lw_all := lw_g (lw_at lw_m17 63 rfl) rfl
theorem q4296 : (Jvm.Cond.code ({ cls := "java/util/TreeMap", name := "leftOf", desc := "(Ljava/util/TreeMap$Entry;)Ljava/util/TreeMap$Entry;" } : Jvm.MethodName) prog_129_method_79_code (1 : Nat) (Option.some (Jvm.ClassFile.FieldType.object "java/util/TreeMap$Entry"))) ∈ lw_all := lw_g (lw_at lw_m17 64 rfl) rfl
theorem q4297 : (Jvm.Cond.methodLink "java/util/TreeMap" (300 : Nat) ({ cls := "java/util/TreeMap", name := "rightOf", desc := "(Ljava/util/TreeMap$Entry;)Ljava/util/TreeMap$Entry;" } : Jvm.MethodName)) ∈ lw_all := lw_g (lw_at lw_m17 65 rfl) rfl
theorem q4298 : (Jvm.Cond.static ({ cls := "java/util/TreeMap", name := "rightOf", desc := "(Ljava/util/TreeMap$Entry;)Ljava/util/TreeMap$Entry;" } : Jvm.MethodName)) ∈ lw_all := lw_g (lw_at lw_m17 66 rfl) rfl
theorem q4299 : (Jvm.Cond.code ({ cls := "java/util/TreeMap", name := "rightOf", desc := "(Ljava/util/TreeMap$Entry;)Ljava/util/TreeMap$Entry;" } : Jvm.MethodName) prog_129_method_80_code (1 : Nat) (Option.some (Jvm.ClassFile.FieldType.object "java/util/TreeMap$Entry"))) ∈ lw_all := lw_g (lw_at lw_m17 67 rfl) rfl
theorem q4300 : (Jvm.Cond.methodLink "java/util/TreeMap" (303 : Nat) ({ cls := "java/util/TreeMap", name := "colorOf", desc := "(Ljava/util/TreeMap$Entry;)Z" } : Jvm.MethodName)) ∈ lw_all := lw_g (lw_at lw_m17 68 rfl) rfl
theorem q4301 : (Jvm.Cond.static ({ cls := "java/util/TreeMap", name := "colorOf", desc := "(Ljava/util/TreeMap$Entry;)Z" } : Jvm.MethodName)) ∈ lw_all := lw_g (lw_at lw_m17 69 rfl) rfl
theorem q4302 : (Jvm.Cond.code ({ cls := "java/util/TreeMap", name := "colorOf", desc := "(Ljava/util/TreeMap$Entry;)Z" } : Jvm.MethodName) prog_129_method_76_code (1 : Nat) (Option.some Jvm.ClassFile.FieldType.boolean)) ∈ lw_all := lw_g (lw_at lw_m17 70 rfl) rfl
theorem q4303 : (Jvm.Cond.methodLink "java/util/TreeMap" (307 : Nat) ({ cls := "java/util/TreeMap", name := "setColor", desc := "(Ljava/util/TreeMap$Entry;Z)V" } : Jvm.MethodName)) ∈ lw_all := lw_g (lw_at lw_m17 71 rfl) rfl
theorem q4304 : (Jvm.Cond.static ({ cls := "java/util/TreeMap", name := "setColor", desc := "(Ljava/util/TreeMap$Entry;Z)V" } : Jvm.MethodName)) ∈ lw_all := lw_g (lw_at lw_m17 72 rfl) rfl
theorem q4305 : (Jvm.Cond.code ({ cls := "java/util/TreeMap", name := "setColor", desc := "(Ljava/util/TreeMap$Entry;Z)V" } : Jvm.MethodName) prog_129_method_78_code (2 : Nat) (Option.none : Option Jvm.ClassFile.FieldType)) ∈ lw_all := lw_g (lw_at lw_m17 73 rfl) rfl
theorem q4306 : (Jvm.Cond.methodLink "java/util/TreeMap" (311 : Nat) ({ cls := "java/util/TreeMap", name := "rotateLeft", desc := "(Ljava/util/TreeMap$Entry;)V" } : Jvm.MethodName)) ∈ lw_all := lw_g (lw_at lw_m17 74 rfl) rfl
theorem q4307 : (Jvm.Cond.privateMethod ({ cls := "java/util/TreeMap", name := "rotateLeft", desc := "(Ljava/util/TreeMap$Entry;)V" } : Jvm.MethodName)) ∈ lw_tbl := lw_at lw_m17 75 rfl
theorem q4308 : (Jvm.Cond.instanceMethod ({ cls := "java/util/TreeMap", name := "rotateLeft", desc := "(Ljava/util/TreeMap$Entry;)V" } : Jvm.MethodName)) ∈ lw_all := lw_g (lw_at lw_m17 76 rfl) rfl
theorem q4309 : (Jvm.Cond.code ({ cls := "java/util/TreeMap", name := "rotateLeft", desc := "(Ljava/util/TreeMap$Entry;)V" } : Jvm.MethodName) prog_129_method_81_code (3 : Nat) (Option.none : Option Jvm.ClassFile.FieldType)) ∈ lw_all := lw_g (lw_at lw_m17 77 rfl) rfl
theorem q4310 : (Jvm.Cond.methodLink "java/util/TreeMap" (314 : Nat) ({ cls := "java/util/TreeMap", name := "rotateRight", desc := "(Ljava/util/TreeMap$Entry;)V" } : Jvm.MethodName)) ∈ lw_all := lw_g (lw_at lw_m17 78 rfl) rfl
theorem q4311 : (Jvm.Cond.privateMethod ({ cls := "java/util/TreeMap", name := "rotateRight", desc := "(Ljava/util/TreeMap$Entry;)V" } : Jvm.MethodName)) ∈ lw_tbl := lw_at lw_m17 79 rfl
theorem q4312 : (Jvm.Cond.instanceMethod ({ cls := "java/util/TreeMap", name := "rotateRight", desc := "(Ljava/util/TreeMap$Entry;)V" } : Jvm.MethodName)) ∈ lw_all := lw_g (lw_at lw_m17 80 rfl) rfl
theorem q4313 : (Jvm.Cond.code ({ cls := "java/util/TreeMap", name := "rotateRight", desc := "(Ljava/util/TreeMap$Entry;)V" } : Jvm.MethodName) prog_129_method_82_code (3 : Nat) (Option.none : Option Jvm.ClassFile.FieldType)) ∈ lw_all := lw_g (lw_at lw_m17 81 rfl) rfl
theorem q4315 : (Jvm.Cond.instanceMethod ({ cls := "java/util/TreeMap", name := "get", desc := "(Ljava/lang/Object;)Ljava/lang/Object;" } : Jvm.MethodName)) ∈ lw_all := lw_g (lw_at lw_m17 83 rfl) rfl
theorem q4316 : (Jvm.Cond.selects "java/util/TreeMap" ({ cls := "java/util/TreeMap", name := "get", desc := "(Ljava/lang/Object;)Ljava/lang/Object;" } : Jvm.MethodName) ({ cls := "java/util/TreeMap", name := "get", desc := "(Ljava/lang/Object;)Ljava/lang/Object;" } : Jvm.MethodName)) ∈ lw_all := lw_g (lw_at lw_m17 84 rfl) rfl
theorem q4317 : (Jvm.Cond.code ({ cls := "java/util/TreeMap", name := "get", desc := "(Ljava/lang/Object;)Ljava/lang/Object;" } : Jvm.MethodName) prog_129_method_8_code (3 : Nat) (Option.some (Jvm.ClassFile.FieldType.object "java/lang/Object"))) ∈ lw_all := lw_g (lw_at lw_m17 85 rfl) rfl
theorem q4376 : (Jvm.Cond.instanceMethod ({ cls := "java/util/TreeMap", name := "entrySet", desc := "()Ljava/util/Set;" } : Jvm.MethodName)) ∈ lw_all := lw_g (lw_at lw_m17 144 rfl) rfl
theorem q4377 : (Jvm.Cond.selects "java/util/TreeMap" ({ cls := "java/util/TreeMap", name := "entrySet", desc := "()Ljava/util/Set;" } : Jvm.MethodName) ({ cls := "java/util/TreeMap", name := "entrySet", desc := "()Ljava/util/Set;" } : Jvm.MethodName)) ∈ lw_all := lw_g (lw_at lw_m17 145 rfl) rfl
theorem q4378 : (Jvm.Cond.code ({ cls := "java/util/TreeMap", name := "entrySet", desc := "()Ljava/util/Set;" } : Jvm.MethodName) prog_129_method_53_code (2 : Nat) (Option.some (Jvm.ClassFile.FieldType.object "java/util/Set"))) ∈ lw_all := lw_g (lw_at lw_m17 146 rfl) rfl
theorem q4379 : (Jvm.Cond.classLink "java/util/TreeMap" (242 : Nat) "java/util/TreeMap$EntrySet") ∈ lw_all := lw_g (lw_at lw_m17 147 rfl) rfl
theorem q4381 : (Jvm.Cond.methodLink "java/util/TreeMap" (244 : Nat) ({ cls := "java/util/TreeMap$EntrySet", name := "<init>", desc := "(Ljava/util/TreeMap;)V" } : Jvm.MethodName)) ∈ lw_all := lw_g (lw_at lw_m17 149 rfl) rfl
theorem q4455 : (Jvm.Cond.instanceMethod ({ cls := "java/util/TreeMap", name := "getFirstEntry", desc := "()Ljava/util/TreeMap$Entry;" } : Jvm.MethodName)) ∈ lw_all := lw_g (lw_at lw_m17 223 rfl) rfl
theorem q4456 : (Jvm.Cond.selects "java/util/TreeMap" ({ cls := "java/util/TreeMap", name := "getFirstEntry", desc := "()Ljava/util/TreeMap$Entry;" } : Jvm.MethodName) ({ cls := "java/util/TreeMap", name := "getFirstEntry", desc := "()Ljava/util/TreeMap$Entry;" } : Jvm.MethodName)) ∈ lw_all := lw_g (lw_at lw_m17 224 rfl) rfl
theorem q4457 : (Jvm.Cond.code ({ cls := "java/util/TreeMap", name := "getFirstEntry", desc := "()Ljava/util/TreeMap$Entry;" } : Jvm.MethodName) prog_129_method_72_code (2 : Nat) (Option.some (Jvm.ClassFile.FieldType.object "java/util/TreeMap$Entry"))) ∈ lw_all := lw_g (lw_at lw_m17 225 rfl) rfl
theorem q4645 : (Jvm.Cond.privateMethod ({ cls := "java/util/TreeMap", name := "deleteEntry", desc := "(Ljava/util/TreeMap$Entry;)V" } : Jvm.MethodName)) ∈ lw_tbl := lw_at lw_m18 173 rfl
theorem q4646 : (Jvm.Cond.instanceMethod ({ cls := "java/util/TreeMap", name := "deleteEntry", desc := "(Ljava/util/TreeMap$Entry;)V" } : Jvm.MethodName)) ∈ lw_all := lw_g (lw_at lw_m18 174 rfl) rfl
theorem q4647 : (Jvm.Cond.code ({ cls := "java/util/TreeMap", name := "deleteEntry", desc := "(Ljava/util/TreeMap$Entry;)V" } : Jvm.MethodName) prog_129_method_84_code (3 : Nat) (Option.none : Option Jvm.ClassFile.FieldType)) ∈ lw_all := lw_g (lw_at lw_m18 175 rfl) rfl
theorem q4648 : (Jvm.Cond.methodLink "java/util/TreeMap" (68 : Nat) ({ cls := "java/util/TreeMap", name := "successor", desc := "(Ljava/util/TreeMap$Entry;)Ljava/util/TreeMap$Entry;" } : Jvm.MethodName)) ∈ lw_all := lw_g (lw_at lw_m18 176 rfl) rfl
theorem q4649 : (Jvm.Cond.methodLink "java/util/TreeMap" (317 : Nat) ({ cls := "java/util/TreeMap", name := "fixAfterDeletion", desc := "(Ljava/util/TreeMap$Entry;)V" } : Jvm.MethodName)) ∈ lw_all := lw_g (lw_at lw_m18 177 rfl) rfl
theorem q4650 : (Jvm.Cond.privateMethod ({ cls := "java/util/TreeMap", name := "fixAfterDeletion", desc := "(Ljava/util/TreeMap$Entry;)V" } : Jvm.MethodName)) ∈ lw_tbl := lw_at lw_m18 178 rfl
theorem q4651 : (Jvm.Cond.instanceMethod ({ cls := "java/util/TreeMap", name := "fixAfterDeletion", desc := "(Ljava/util/TreeMap$Entry;)V" } : Jvm.MethodName)) ∈ lw_all := lw_g (lw_at lw_m18 179 rfl) rfl
theorem q4652 : (Jvm.Cond.code ({ cls := "java/util/TreeMap", name := "fixAfterDeletion", desc := "(Ljava/util/TreeMap$Entry;)V" } : Jvm.MethodName) prog_129_method_85_code (3 : Nat) (Option.none : Option Jvm.ClassFile.FieldType)) ∈ lw_all := lw_g (lw_at lw_m18 180 rfl) rfl
theorem q5069 : (Jvm.Cond.instanceMethod ({ cls := "java/util/TreeMap", name := "floorEntry", desc := "(Ljava/lang/Object;)Ljava/util/Map$Entry;" } : Jvm.MethodName)) ∈ lw_all := lw_g (lw_at lw_m20 117 rfl) rfl
theorem q5070 : (Jvm.Cond.selects "java/util/TreeMap" ({ cls := "java/util/TreeMap", name := "floorEntry", desc := "(Ljava/lang/Object;)Ljava/util/Map$Entry;" } : Jvm.MethodName) ({ cls := "java/util/TreeMap", name := "floorEntry", desc := "(Ljava/lang/Object;)Ljava/util/Map$Entry;" } : Jvm.MethodName)) ∈ lw_all := lw_g (lw_at lw_m20 118 rfl) rfl
theorem q5071 : (Jvm.Cond.code ({ cls := "java/util/TreeMap", name := "floorEntry", desc := "(Ljava/lang/Object;)Ljava/util/Map$Entry;" } : Jvm.MethodName) prog_129_method_43_code (2 : Nat) (Option.some (Jvm.ClassFile.FieldType.object "java/util/Map$Entry"))) ∈ lw_all := lw_g (lw_at lw_m20 119 rfl) rfl
theorem q5072 : (Jvm.Cond.methodLink "java/util/TreeMap" (210 : Nat) ({ cls := "java/util/TreeMap", name := "getFloorEntry", desc := "(Ljava/lang/Object;)Ljava/util/TreeMap$Entry;" } : Jvm.MethodName)) ∈ lw_all := lw_g (lw_at lw_m20 120 rfl) rfl
theorem q5073 : (Jvm.Cond.instanceMethod ({ cls := "java/util/TreeMap", name := "getFloorEntry", desc := "(Ljava/lang/Object;)Ljava/util/TreeMap$Entry;" } : Jvm.MethodName)) ∈ lw_all := lw_g (lw_at lw_m20 121 rfl) rfl
theorem q5074 : (Jvm.Cond.selects "java/util/TreeMap" ({ cls := "java/util/TreeMap", name := "getFloorEntry", desc := "(Ljava/lang/Object;)Ljava/util/TreeMap$Entry;" } : Jvm.MethodName) ({ cls := "java/util/TreeMap", name := "getFloorEntry", desc := "(Ljava/lang/Object;)Ljava/util/TreeMap$Entry;" } : Jvm.MethodName)) ∈ lw_all := lw_g (lw_at lw_m20 122 rfl) rfl
theorem q5075 : (Jvm.Cond.code ({ cls := "java/util/TreeMap", name := "getFloorEntry", desc := "(Ljava/lang/Object;)Ljava/util/TreeMap$Entry;" } : Jvm.MethodName) prog_129_method_18_code (6 : Nat) (Option.some (Jvm.ClassFile.FieldType.object "java/util/TreeMap$Entry"))) ∈ lw_all := lw_g (lw_at lw_m20 123 rfl) rfl
theorem q5076 : (Jvm.Cond.methodLink "java/util/TreeMap" (200 : Nat) ({ cls := "java/util/TreeMap", name := "exportEntry", desc := "(Ljava/util/TreeMap$Entry;)Ljava/util/Map$Entry;" } : Jvm.MethodName)) ∈ lw_all := lw_g (lw_at lw_m20 124 rfl) rfl
theorem q5077 : (Jvm.Cond.static ({ cls := "java/util/TreeMap", name := "exportEntry", desc := "(Ljava/util/TreeMap$Entry;)Ljava/util/Map$Entry;" } : Jvm.MethodName)) ∈ lw_all := lw_g (lw_at lw_m20 125 rfl) rfl
theorem q5078 : (Jvm.Cond.code ({ cls := "java/util/TreeMap", name := "exportEntry", desc := "(Ljava/util/TreeMap$Entry;)Ljava/util/Map$Entry;" } : Jvm.MethodName) prog_129_method_69_code (1 : Nat) (Option.some (Jvm.ClassFile.FieldType.object "java/util/Map$Entry"))) ∈ lw_all := lw_g (lw_at lw_m20 126 rfl) rfl
theorem q5079 : (Jvm.Cond.classLink "java/util/TreeMap" (282 : Nat) "java/util/AbstractMap$SimpleImmutableEntry") ∈ lw_all := lw_g (lw_at lw_m20 127 rfl) rfl
theorem q5081 : (Jvm.Cond.methodLink "java/util/TreeMap" (284 : Nat) ({ cls := "java/util/AbstractMap$SimpleImmutableEntry", name := "<init>", desc := "(Ljava/util/Map$Entry;)V" } : Jvm.MethodName)) ∈ lw_all := lw_g (lw_at lw_m20 129 rfl) rfl
theorem q9637 : (Jvm.Cond.castable "java/util/TreeMap" "java/lang/Object") ∈ lw_tbl := lw_at lw_m39 125 rfl
theorem in_J4 : ∀ w ∈ wsJ40, w ∈ lw_all := lw_in wsJ40 [652, 654, 638, 640, 642, 644, 646, 648, 650] (by decide +kernel) (by decide +kernel)
