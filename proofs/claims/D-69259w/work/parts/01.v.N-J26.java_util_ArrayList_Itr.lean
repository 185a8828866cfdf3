/-! java/util/ArrayList$Itr -/
set_option maxRecDepth 100000
def RJ26 : String := "java/util/ArrayList$Itr"
def TJ26 : u_T := fun k => match k with
  | 0 => ("java/util/ArrayList$Itr", "cursor", "I", false)
  | 1 => ("java/util/ArrayList$Itr", "lastRet", "I", false)
  | 2 => ("java/util/ArrayList$Itr", "expectedModCount", "I", false)
  | _ => ("java/util/ArrayList$Itr", "this$0", "Ljava/util/ArrayList;", true)
def tyJ26 : Nat → FieldType := fun k => match k with
  | 0 => .int
  | 1 => .int
  | 2 => .int
  | _ => .object "java/util/ArrayList"
abbrev wsJ260 : List Cond := u_ws RJ26 TJ26 4
theorem nmJ26 : ∀ a, a < 4 → ∀ b, b < 4 → a ≠ b → (TJ26 a).2.1 ≠ (TJ26 b).2.1 := by decide +kernel
theorem tyJ26_ok : ∀ k, k < 4 → parseFieldDescriptor (TJ26 k).2.2.1 = some (tyJ26 k) := by decide +kernel
abbrev cJ26_init : ByteArray := prog_103_method_1_code
def yJ26_init : MethodName := ⟨RJ26, "<init>", "(Ljava/util/ArrayList;)V"⟩
def dkwJ26_init_1 : List UInt8 := [181, 0, 22, 177]
abbrev dktJ26_init_1 : List UInt8 := dkwJ26_init_1 ++ []
def dkwJ26_init_0 : List UInt8 := [42, 43, 181, 0, 1, 42, 183, 0, 7, 42, 2, 181, 0, 13, 42, 42, 180, 0, 1, 180, 0, 17]
abbrev dktJ26_init_0 : List UInt8 := dkwJ26_init_0 ++ dktJ26_init_1
theorem dksJ26_init_0 : cJ26_init.data.toList.drop 0 = dktJ26_init_0 := by decide +kernel
theorem dksJ26_init_1 : cJ26_init.data.toList.drop 22 = dktJ26_init_1 := dk_seg dksJ26_init_0 22 rfl rfl
theorem dJ26_init_0 : decode cJ26_init 0 = .ok (.aload_n 0, 1) := dk_42 (dk_at dksJ26_init_0 0 rfl rfl)
theorem dJ26_init_1 : decode cJ26_init 1 = .ok (.aload_n 1, 1) := dk_43 (dk_at dksJ26_init_0 1 rfl rfl)
theorem dJ26_init_2 : decode cJ26_init 2 = .ok (.putfield 1, 3) := dk_181 0 1 (dk_at dksJ26_init_0 2 rfl rfl)
theorem dJ26_init_5 : decode cJ26_init 5 = .ok (.aload_n 0, 1) := dk_42 (dk_at dksJ26_init_0 5 rfl rfl)
theorem dJ26_init_6 : decode cJ26_init 6 = .ok (.invokespecial 7, 3) := dk_183 0 7 (dk_at dksJ26_init_0 6 rfl rfl)
theorem dJ26_init_9 : decode cJ26_init 9 = .ok (.aload_n 0, 1) := dk_42 (dk_at dksJ26_init_0 9 rfl rfl)
theorem dJ26_init_10 : decode cJ26_init 10 = .ok (.iconst (-1), 1) := dk_2 (dk_at dksJ26_init_0 10 rfl rfl)
theorem dJ26_init_11 : decode cJ26_init 11 = .ok (.putfield 13, 3) := dk_181 0 13 (dk_at dksJ26_init_0 11 rfl rfl)
theorem dJ26_init_14 : decode cJ26_init 14 = .ok (.aload_n 0, 1) := dk_42 (dk_at dksJ26_init_0 14 rfl rfl)
theorem dJ26_init_15 : decode cJ26_init 15 = .ok (.aload_n 0, 1) := dk_42 (dk_at dksJ26_init_0 15 rfl rfl)
theorem dJ26_init_16 : decode cJ26_init 16 = .ok (.getfield 1, 3) := dk_180 0 1 (dk_at dksJ26_init_0 16 rfl rfl)
theorem dJ26_init_19 : decode cJ26_init 19 = .ok (.getfield 17, 3) := dk_180 0 17 (dk_at dksJ26_init_0 19 rfl rfl)
theorem dJ26_init_22 : decode cJ26_init 22 = .ok (.putfield 22, 3) := dk_181 0 22 (dk_at dksJ26_init_1 0 rfl rfl)
theorem dJ26_init_25 : decode cJ26_init 25 = .ok (.return_, 1) := dk_177 (dk_at dksJ26_init_1 3 rfl rfl)
abbrev cJ26_hasNext : ByteArray := prog_103_method_2_code
def yJ26_hasNext : MethodName := ⟨RJ26, "hasNext", "()Z"⟩
def dkwJ26_hasNext_0 : List UInt8 := [42, 180, 0, 25, 42, 180, 0, 1, 180, 0, 28, 159, 0, 7, 4, 167, 0, 4, 3, 172]
abbrev dktJ26_hasNext_0 : List UInt8 := dkwJ26_hasNext_0 ++ []
theorem dksJ26_hasNext_0 : cJ26_hasNext.data.toList.drop 0 = dktJ26_hasNext_0 := by decide +kernel
theorem dJ26_hasNext_0 : decode cJ26_hasNext 0 = .ok (.aload_n 0, 1) := dk_42 (dk_at dksJ26_hasNext_0 0 rfl rfl)
theorem dJ26_hasNext_1 : decode cJ26_hasNext 1 = .ok (.getfield 25, 3) := dk_180 0 25 (dk_at dksJ26_hasNext_0 1 rfl rfl)
theorem dJ26_hasNext_4 : decode cJ26_hasNext 4 = .ok (.aload_n 0, 1) := dk_42 (dk_at dksJ26_hasNext_0 4 rfl rfl)
theorem dJ26_hasNext_5 : decode cJ26_hasNext 5 = .ok (.getfield 1, 3) := dk_180 0 1 (dk_at dksJ26_hasNext_0 5 rfl rfl)
theorem dJ26_hasNext_8 : decode cJ26_hasNext 8 = .ok (.getfield 28, 3) := dk_180 0 28 (dk_at dksJ26_hasNext_0 8 rfl rfl)
theorem dJ26_hasNext_11 : decode cJ26_hasNext 11 = .ok (.if_icmp .eq 7, 3) := dk_159 0 7 (dk_at dksJ26_hasNext_0 11 rfl rfl)
theorem dJ26_hasNext_14 : decode cJ26_hasNext 14 = .ok (.iconst 1, 1) := dk_4 (dk_at dksJ26_hasNext_0 14 rfl rfl)
theorem dJ26_hasNext_15 : decode cJ26_hasNext 15 = .ok (.goto 4, 3) := dk_167 0 4 (dk_at dksJ26_hasNext_0 15 rfl rfl)
theorem dJ26_hasNext_18 : decode cJ26_hasNext 18 = .ok (.iconst 0, 1) := dk_3 (dk_at dksJ26_hasNext_0 18 rfl rfl)
theorem dJ26_hasNext_19 : decode cJ26_hasNext 19 = .ok (.ireturn, 1) := dk_172 (dk_at dksJ26_hasNext_0 19 rfl rfl)
abbrev cJ26_next : ByteArray := prog_103_method_3_code
def yJ26_next : MethodName := ⟨RJ26, "next", "()Ljava/lang/Object;"⟩
def dkwJ26_next_2 : List UInt8 := [183, 0, 43, 191, 42, 27, 4, 96, 181, 0, 25, 44, 42, 27, 90, 181, 0, 13, 50, 176]
abbrev dktJ26_next_2 : List UInt8 := dkwJ26_next_2 ++ []
def dkwJ26_next_1 : List UInt8 := [183, 0, 36, 191, 42, 180, 0, 1, 180, 0, 37, 77, 27, 44, 190, 161, 0, 11, 187, 0, 41, 89]
abbrev dktJ26_next_1 : List UInt8 := dkwJ26_next_1 ++ dktJ26_next_2
def dkwJ26_next_0 : List UInt8 := [42, 182, 0, 31, 42, 180, 0, 25, 60, 27, 42, 180, 0, 1, 180, 0, 28, 161, 0, 11, 187, 0, 34, 89]
abbrev dktJ26_next_0 : List UInt8 := dkwJ26_next_0 ++ dktJ26_next_1
theorem dksJ26_next_0 : cJ26_next.data.toList.drop 0 = dktJ26_next_0 := by decide +kernel
theorem dksJ26_next_1 : cJ26_next.data.toList.drop 24 = dktJ26_next_1 := dk_seg dksJ26_next_0 24 rfl rfl
theorem dksJ26_next_2 : cJ26_next.data.toList.drop 46 = dktJ26_next_2 := dk_seg dksJ26_next_1 22 rfl rfl
theorem dJ26_next_0 : decode cJ26_next 0 = .ok (.aload_n 0, 1) := dk_42 (dk_at dksJ26_next_0 0 rfl rfl)
theorem dJ26_next_1 : decode cJ26_next 1 = .ok (.invokevirtual 31, 3) := dk_182 0 31 (dk_at dksJ26_next_0 1 rfl rfl)
theorem dJ26_next_4 : decode cJ26_next 4 = .ok (.aload_n 0, 1) := dk_42 (dk_at dksJ26_next_0 4 rfl rfl)
theorem dJ26_next_5 : decode cJ26_next 5 = .ok (.getfield 25, 3) := dk_180 0 25 (dk_at dksJ26_next_0 5 rfl rfl)
theorem dJ26_next_8 : decode cJ26_next 8 = .ok (.istore_n 1, 1) := dk_60 (dk_at dksJ26_next_0 8 rfl rfl)
theorem dJ26_next_9 : decode cJ26_next 9 = .ok (.iload_n 1, 1) := dk_27 (dk_at dksJ26_next_0 9 rfl rfl)
theorem dJ26_next_10 : decode cJ26_next 10 = .ok (.aload_n 0, 1) := dk_42 (dk_at dksJ26_next_0 10 rfl rfl)
theorem dJ26_next_11 : decode cJ26_next 11 = .ok (.getfield 1, 3) := dk_180 0 1 (dk_at dksJ26_next_0 11 rfl rfl)
theorem dJ26_next_14 : decode cJ26_next 14 = .ok (.getfield 28, 3) := dk_180 0 28 (dk_at dksJ26_next_0 14 rfl rfl)
theorem dJ26_next_17 : decode cJ26_next 17 = .ok (.if_icmp .lt 11, 3) := dk_161 0 11 (dk_at dksJ26_next_0 17 rfl rfl)
theorem dJ26_next_20 : decode cJ26_next 20 = .ok (.new 34, 3) := dk_187 0 34 (dk_at dksJ26_next_0 20 rfl rfl)
theorem dJ26_next_23 : decode cJ26_next 23 = .ok (.dup, 1) := dk_89 (dk_at dksJ26_next_0 23 rfl rfl)
theorem dJ26_next_24 : decode cJ26_next 24 = .ok (.invokespecial 36, 3) := dk_183 0 36 (dk_at dksJ26_next_1 0 rfl rfl)
theorem dJ26_next_27 : decode cJ26_next 27 = .ok (.athrow, 1) := dk_191 (dk_at dksJ26_next_1 3 rfl rfl)
theorem dJ26_next_28 : decode cJ26_next 28 = .ok (.aload_n 0, 1) := dk_42 (dk_at dksJ26_next_1 4 rfl rfl)
theorem dJ26_next_29 : decode cJ26_next 29 = .ok (.getfield 1, 3) := dk_180 0 1 (dk_at dksJ26_next_1 5 rfl rfl)
theorem dJ26_next_32 : decode cJ26_next 32 = .ok (.getfield 37, 3) := dk_180 0 37 (dk_at dksJ26_next_1 8 rfl rfl)
theorem dJ26_next_35 : decode cJ26_next 35 = .ok (.astore_n 2, 1) := dk_77 (dk_at dksJ26_next_1 11 rfl rfl)
theorem dJ26_next_36 : decode cJ26_next 36 = .ok (.iload_n 1, 1) := dk_27 (dk_at dksJ26_next_1 12 rfl rfl)
theorem dJ26_next_37 : decode cJ26_next 37 = .ok (.aload_n 2, 1) := dk_44 (dk_at dksJ26_next_1 13 rfl rfl)
theorem dJ26_next_38 : decode cJ26_next 38 = .ok (.arraylength, 1) := dk_190 (dk_at dksJ26_next_1 14 rfl rfl)
theorem dJ26_next_39 : decode cJ26_next 39 = .ok (.if_icmp .lt 11, 3) := dk_161 0 11 (dk_at dksJ26_next_1 15 rfl rfl)
theorem dJ26_next_42 : decode cJ26_next 42 = .ok (.new 41, 3) := dk_187 0 41 (dk_at dksJ26_next_1 18 rfl rfl)
theorem dJ26_next_45 : decode cJ26_next 45 = .ok (.dup, 1) := dk_89 (dk_at dksJ26_next_1 21 rfl rfl)
theorem dJ26_next_46 : decode cJ26_next 46 = .ok (.invokespecial 43, 3) := dk_183 0 43 (dk_at dksJ26_next_2 0 rfl rfl)
theorem dJ26_next_49 : decode cJ26_next 49 = .ok (.athrow, 1) := dk_191 (dk_at dksJ26_next_2 3 rfl rfl)
theorem dJ26_next_50 : decode cJ26_next 50 = .ok (.aload_n 0, 1) := dk_42 (dk_at dksJ26_next_2 4 rfl rfl)
theorem dJ26_next_51 : decode cJ26_next 51 = .ok (.iload_n 1, 1) := dk_27 (dk_at dksJ26_next_2 5 rfl rfl)
theorem dJ26_next_52 : decode cJ26_next 52 = .ok (.iconst 1, 1) := dk_4 (dk_at dksJ26_next_2 6 rfl rfl)
theorem dJ26_next_53 : decode cJ26_next 53 = .ok (.iadd, 1) := dk_96 (dk_at dksJ26_next_2 7 rfl rfl)
theorem dJ26_next_54 : decode cJ26_next 54 = .ok (.putfield 25, 3) := dk_181 0 25 (dk_at dksJ26_next_2 8 rfl rfl)
theorem dJ26_next_57 : decode cJ26_next 57 = .ok (.aload_n 2, 1) := dk_44 (dk_at dksJ26_next_2 11 rfl rfl)
theorem dJ26_next_58 : decode cJ26_next 58 = .ok (.aload_n 0, 1) := dk_42 (dk_at dksJ26_next_2 12 rfl rfl)
theorem dJ26_next_59 : decode cJ26_next 59 = .ok (.iload_n 1, 1) := dk_27 (dk_at dksJ26_next_2 13 rfl rfl)
theorem dJ26_next_60 : decode cJ26_next 60 = .ok (.dup_x1, 1) := dk_90 (dk_at dksJ26_next_2 14 rfl rfl)
theorem dJ26_next_61 : decode cJ26_next 61 = .ok (.putfield 13, 3) := dk_181 0 13 (dk_at dksJ26_next_2 15 rfl rfl)
theorem dJ26_next_64 : decode cJ26_next 64 = .ok (.aaload, 1) := dk_50 (dk_at dksJ26_next_2 18 rfl rfl)
theorem dJ26_next_65 : decode cJ26_next 65 = .ok (.areturn, 1) := dk_176 (dk_at dksJ26_next_2 19 rfl rfl)
abbrev cJ26_checkForComodification : ByteArray := prog_103_method_6_code
def yJ26_checkForComodification : MethodName := ⟨RJ26, "checkForComodification", "()V"⟩
def dkwJ26_checkForComodification_0 : List UInt8 := [42, 180, 0, 1, 180, 0, 17, 42, 180, 0, 22, 159, 0, 11, 187, 0, 41, 89, 183, 0, 43, 191, 177]
abbrev dktJ26_checkForComodification_0 : List UInt8 := dkwJ26_checkForComodification_0 ++ []
theorem dksJ26_checkForComodification_0 : cJ26_checkForComodification.data.toList.drop 0 = dktJ26_checkForComodification_0 := by decide +kernel
theorem dJ26_checkForComodification_0 : decode cJ26_checkForComodification 0 = .ok (.aload_n 0, 1) := dk_42 (dk_at dksJ26_checkForComodification_0 0 rfl rfl)
theorem dJ26_checkForComodification_1 : decode cJ26_checkForComodification 1 = .ok (.getfield 1, 3) := dk_180 0 1 (dk_at dksJ26_checkForComodification_0 1 rfl rfl)
theorem dJ26_checkForComodification_4 : decode cJ26_checkForComodification 4 = .ok (.getfield 17, 3) := dk_180 0 17 (dk_at dksJ26_checkForComodification_0 4 rfl rfl)
theorem dJ26_checkForComodification_7 : decode cJ26_checkForComodification 7 = .ok (.aload_n 0, 1) := dk_42 (dk_at dksJ26_checkForComodification_0 7 rfl rfl)
theorem dJ26_checkForComodification_8 : decode cJ26_checkForComodification 8 = .ok (.getfield 22, 3) := dk_180 0 22 (dk_at dksJ26_checkForComodification_0 8 rfl rfl)
theorem dJ26_checkForComodification_11 : decode cJ26_checkForComodification 11 = .ok (.if_icmp .eq 11, 3) := dk_159 0 11 (dk_at dksJ26_checkForComodification_0 11 rfl rfl)
theorem dJ26_checkForComodification_14 : decode cJ26_checkForComodification 14 = .ok (.new 41, 3) := dk_187 0 41 (dk_at dksJ26_checkForComodification_0 14 rfl rfl)
theorem dJ26_checkForComodification_17 : decode cJ26_checkForComodification 17 = .ok (.dup, 1) := dk_89 (dk_at dksJ26_checkForComodification_0 17 rfl rfl)
theorem dJ26_checkForComodification_18 : decode cJ26_checkForComodification 18 = .ok (.invokespecial 43, 3) := dk_183 0 43 (dk_at dksJ26_checkForComodification_0 18 rfl rfl)
theorem dJ26_checkForComodification_21 : decode cJ26_checkForComodification 21 = .ok (.athrow, 1) := dk_191 (dk_at dksJ26_checkForComodification_0 21 rfl rfl)
theorem dJ26_checkForComodification_22 : decode cJ26_checkForComodification 22 = .ok (.return_, 1) := dk_177 (dk_at dksJ26_checkForComodification_0 22 rfl rfl)
abbrev cJ26_remove : ByteArray := prog_103_method_4_code
def yJ26_remove : MethodName := ⟨RJ26, "remove", "()V"⟩
def dkwJ26_remove_2 : List UInt8 := [180, 0, 1, 180, 0, 17, 181, 0, 22, 167, 0, 12, 76, 187, 0, 41, 89, 183, 0, 43, 191, 177]
abbrev dktJ26_remove_2 : List UInt8 := dkwJ26_remove_2 ++ []
def dkwJ26_remove_1 : List UInt8 := [180, 0, 13, 182, 0, 47, 87, 42, 42, 180, 0, 13, 181, 0, 25, 42, 2, 181, 0, 13, 42, 42]
abbrev dktJ26_remove_1 : List UInt8 := dkwJ26_remove_1 ++ dktJ26_remove_2
def dkwJ26_remove_0 : List UInt8 := [42, 180, 0, 13, 156, 0, 11, 187, 0, 44, 89, 183, 0, 46, 191, 42, 182, 0, 31, 42, 180, 0, 1, 42]
abbrev dktJ26_remove_0 : List UInt8 := dkwJ26_remove_0 ++ dktJ26_remove_1
theorem dksJ26_remove_0 : cJ26_remove.data.toList.drop 0 = dktJ26_remove_0 := by decide +kernel
theorem dksJ26_remove_1 : cJ26_remove.data.toList.drop 24 = dktJ26_remove_1 := dk_seg dksJ26_remove_0 24 rfl rfl
theorem dksJ26_remove_2 : cJ26_remove.data.toList.drop 46 = dktJ26_remove_2 := dk_seg dksJ26_remove_1 22 rfl rfl
theorem dJ26_remove_0 : decode cJ26_remove 0 = .ok (.aload_n 0, 1) := dk_42 (dk_at dksJ26_remove_0 0 rfl rfl)
theorem dJ26_remove_1 : decode cJ26_remove 1 = .ok (.getfield 13, 3) := dk_180 0 13 (dk_at dksJ26_remove_0 1 rfl rfl)
theorem dJ26_remove_4 : decode cJ26_remove 4 = .ok (.ifCond .ge 11, 3) := dk_156 0 11 (dk_at dksJ26_remove_0 4 rfl rfl)
theorem dJ26_remove_7 : decode cJ26_remove 7 = .ok (.new 44, 3) := dk_187 0 44 (dk_at dksJ26_remove_0 7 rfl rfl)
theorem dJ26_remove_10 : decode cJ26_remove 10 = .ok (.dup, 1) := dk_89 (dk_at dksJ26_remove_0 10 rfl rfl)
theorem dJ26_remove_11 : decode cJ26_remove 11 = .ok (.invokespecial 46, 3) := dk_183 0 46 (dk_at dksJ26_remove_0 11 rfl rfl)
theorem dJ26_remove_14 : decode cJ26_remove 14 = .ok (.athrow, 1) := dk_191 (dk_at dksJ26_remove_0 14 rfl rfl)
theorem dJ26_remove_15 : decode cJ26_remove 15 = .ok (.aload_n 0, 1) := dk_42 (dk_at dksJ26_remove_0 15 rfl rfl)
theorem dJ26_remove_16 : decode cJ26_remove 16 = .ok (.invokevirtual 31, 3) := dk_182 0 31 (dk_at dksJ26_remove_0 16 rfl rfl)
theorem dJ26_remove_19 : decode cJ26_remove 19 = .ok (.aload_n 0, 1) := dk_42 (dk_at dksJ26_remove_0 19 rfl rfl)
theorem dJ26_remove_20 : decode cJ26_remove 20 = .ok (.getfield 1, 3) := dk_180 0 1 (dk_at dksJ26_remove_0 20 rfl rfl)
theorem dJ26_remove_23 : decode cJ26_remove 23 = .ok (.aload_n 0, 1) := dk_42 (dk_at dksJ26_remove_0 23 rfl rfl)
theorem dJ26_remove_24 : decode cJ26_remove 24 = .ok (.getfield 13, 3) := dk_180 0 13 (dk_at dksJ26_remove_1 0 rfl rfl)
theorem dJ26_remove_27 : decode cJ26_remove 27 = .ok (.invokevirtual 47, 3) := dk_182 0 47 (dk_at dksJ26_remove_1 3 rfl rfl)
theorem dJ26_remove_30 : decode cJ26_remove 30 = .ok (.pop, 1) := dk_87 (dk_at dksJ26_remove_1 6 rfl rfl)
theorem dJ26_remove_31 : decode cJ26_remove 31 = .ok (.aload_n 0, 1) := dk_42 (dk_at dksJ26_remove_1 7 rfl rfl)
theorem dJ26_remove_32 : decode cJ26_remove 32 = .ok (.aload_n 0, 1) := dk_42 (dk_at dksJ26_remove_1 8 rfl rfl)
theorem dJ26_remove_33 : decode cJ26_remove 33 = .ok (.getfield 13, 3) := dk_180 0 13 (dk_at dksJ26_remove_1 9 rfl rfl)
theorem dJ26_remove_36 : decode cJ26_remove 36 = .ok (.putfield 25, 3) := dk_181 0 25 (dk_at dksJ26_remove_1 12 rfl rfl)
theorem dJ26_remove_39 : decode cJ26_remove 39 = .ok (.aload_n 0, 1) := dk_42 (dk_at dksJ26_remove_1 15 rfl rfl)
theorem dJ26_remove_40 : decode cJ26_remove 40 = .ok (.iconst (-1), 1) := dk_2 (dk_at dksJ26_remove_1 16 rfl rfl)
theorem dJ26_remove_41 : decode cJ26_remove 41 = .ok (.putfield 13, 3) := dk_181 0 13 (dk_at dksJ26_remove_1 17 rfl rfl)
theorem dJ26_remove_44 : decode cJ26_remove 44 = .ok (.aload_n 0, 1) := dk_42 (dk_at dksJ26_remove_1 20 rfl rfl)
theorem dJ26_remove_45 : decode cJ26_remove 45 = .ok (.aload_n 0, 1) := dk_42 (dk_at dksJ26_remove_1 21 rfl rfl)
theorem dJ26_remove_46 : decode cJ26_remove 46 = .ok (.getfield 1, 3) := dk_180 0 1 (dk_at dksJ26_remove_2 0 rfl rfl)
theorem dJ26_remove_49 : decode cJ26_remove 49 = .ok (.getfield 17, 3) := dk_180 0 17 (dk_at dksJ26_remove_2 3 rfl rfl)
theorem dJ26_remove_52 : decode cJ26_remove 52 = .ok (.putfield 22, 3) := dk_181 0 22 (dk_at dksJ26_remove_2 6 rfl rfl)
theorem dJ26_remove_55 : decode cJ26_remove 55 = .ok (.goto 12, 3) := dk_167 0 12 (dk_at dksJ26_remove_2 9 rfl rfl)
theorem dJ26_remove_58 : decode cJ26_remove 58 = .ok (.astore_n 1, 1) := dk_76 (dk_at dksJ26_remove_2 12 rfl rfl)
theorem dJ26_remove_59 : decode cJ26_remove 59 = .ok (.new 41, 3) := dk_187 0 41 (dk_at dksJ26_remove_2 13 rfl rfl)
theorem dJ26_remove_62 : decode cJ26_remove 62 = .ok (.dup, 1) := dk_89 (dk_at dksJ26_remove_2 16 rfl rfl)
theorem dJ26_remove_63 : decode cJ26_remove 63 = .ok (.invokespecial 43, 3) := dk_183 0 43 (dk_at dksJ26_remove_2 17 rfl rfl)
theorem dJ26_remove_66 : decode cJ26_remove 66 = .ok (.athrow, 1) := dk_191 (dk_at dksJ26_remove_2 20 rfl rfl)
theorem dJ26_remove_67 : decode cJ26_remove 67 = .ok (.return_, 1) := dk_177 (dk_at dksJ26_remove_2 21 rfl rfl)
theorem q477 : (Jvm.Cond.initialized "java/util/ArrayList$Itr") ∈ lw_all := lw_g (lw_at lw_m1 85 rfl) rfl
theorem q607 : (Jvm.Cond.fieldLink "java/util/ArrayList$Itr" (37 : Nat) "java/util/ArrayList" "elementData" "[Ljava/lang/Object;") ∈ lw_all := lw_g (lw_at lw_m1 215 rfl) rfl
theorem q608 : (Jvm.Cond.fieldLinkNest "java/util/ArrayList$Itr" (28 : Nat) "java/util/ArrayList" "size" "I" "java/util/ArrayList") ∈ lw_tbl := lw_at lw_m1 216 rfl
theorem q611 : (Jvm.Cond.fieldLink "java/util/ArrayList$Itr" (17 : Nat) "java/util/ArrayList" "modCount" "I") ∈ lw_all := lw_g (lw_at lw_m1 219 rfl) rfl
theorem q2046 : (Jvm.Cond.selects "java/util/ArrayList$Itr" ({ cls := "java/lang/Object", name := "getClass", desc := "()Ljava/lang/Class;" } : Jvm.MethodName) ({ cls := "java/lang/Object", name := "getClass", desc := "()Ljava/lang/Class;" } : Jvm.MethodName)) ∈ lw_all := lw_g (lw_at lw_m7 214 rfl) rfl
theorem q2946 : (Jvm.Cond.instantiable "java/util/ArrayList$Itr" (4 : Nat)) ∈ lw_all := lw_g (lw_at lw_m11 154 rfl) rfl
theorem q2948 : (Jvm.Cond.instanceMethod ({ cls := "java/util/ArrayList$Itr", name := "<init>", desc := "(Ljava/util/ArrayList;)V" } : Jvm.MethodName)) ∈ lw_all := lw_g (lw_at lw_m11 156 rfl) rfl
theorem q2949 : (Jvm.Cond.code ({ cls := "java/util/ArrayList$Itr", name := "<init>", desc := "(Ljava/util/ArrayList;)V" } : Jvm.MethodName) prog_103_method_1_code (2 : Nat) (Option.none : Option Jvm.ClassFile.FieldType)) ∈ lw_all := lw_g (lw_at lw_m11 157 rfl) rfl
theorem q2950 : (Jvm.Cond.methodLink "java/util/ArrayList$Itr" (7 : Nat) ({ cls := "java/lang/Object", name := "<init>", desc := "()V" } : Jvm.MethodName)) ∈ lw_all := lw_g (lw_at lw_m11 158 rfl) rfl
theorem q2951 : (Jvm.Cond.fieldLink "java/util/ArrayList$Itr" (25 : Nat) "java/util/ArrayList$Itr" "cursor" "I") ∈ lw_all := lw_g (lw_at lw_m11 159 rfl) rfl
theorem q2952 : (Jvm.Cond.fieldLink "java/util/ArrayList$Itr" (13 : Nat) "java/util/ArrayList$Itr" "lastRet" "I") ∈ lw_all := lw_g (lw_at lw_m11 160 rfl) rfl
theorem q2953 : (Jvm.Cond.fieldLink "java/util/ArrayList$Itr" (22 : Nat) "java/util/ArrayList$Itr" "expectedModCount" "I") ∈ lw_all := lw_g (lw_at lw_m11 161 rfl) rfl
theorem q2954 : (Jvm.Cond.fieldLink "java/util/ArrayList$Itr" (1 : Nat) "java/util/ArrayList$Itr" "this$0" "Ljava/util/ArrayList;") ∈ lw_all := lw_g (lw_at lw_m11 162 rfl) rfl
theorem q2955 : (Jvm.Cond.lays "java/util/ArrayList$Itr" "java/util/ArrayList$Itr" "cursor" "I") ∈ lw_all := lw_g (lw_at lw_m11 163 rfl) rfl
theorem q2956 : (Jvm.Cond.soleField "java/util/ArrayList$Itr" "cursor") ∈ lw_all := lw_g (lw_at lw_m11 164 rfl) rfl
theorem q2957 : (Jvm.Cond.lays "java/util/ArrayList$Itr" "java/util/ArrayList$Itr" "lastRet" "I") ∈ lw_all := lw_g (lw_at lw_m11 165 rfl) rfl
theorem q2958 : (Jvm.Cond.soleField "java/util/ArrayList$Itr" "lastRet") ∈ lw_all := lw_g (lw_at lw_m11 166 rfl) rfl
theorem q2959 : (Jvm.Cond.lays "java/util/ArrayList$Itr" "java/util/ArrayList$Itr" "expectedModCount" "I") ∈ lw_all := lw_g (lw_at lw_m11 167 rfl) rfl
theorem q2960 : (Jvm.Cond.soleField "java/util/ArrayList$Itr" "expectedModCount") ∈ lw_all := lw_g (lw_at lw_m11 168 rfl) rfl
theorem q2961 : (Jvm.Cond.laysFinal "java/util/ArrayList$Itr" "java/util/ArrayList$Itr" "this$0" "Ljava/util/ArrayList;") ∈ lw_all := lw_g (lw_at lw_m11 169 rfl) rfl
theorem q2962 : (Jvm.Cond.soleField "java/util/ArrayList$Itr" "this$0") ∈ lw_all := lw_g (lw_at lw_m11 170 rfl) rfl
theorem q2963 : (Jvm.Cond.superclass "java/util/ArrayList$Itr" "java/lang/Object") ∈ lw_all := lw_g (lw_at lw_m11 171 rfl) rfl
theorem q2974 : (Jvm.Cond.castable "java/util/ArrayList$Itr" "java/util/Iterator") ∈ lw_tbl := lw_at lw_m11 182 rfl
theorem q2975 : (Jvm.Cond.selects "java/util/ArrayList$Itr" ({ cls := "java/util/Iterator", name := "hasNext", desc := "()Z" } : Jvm.MethodName) ({ cls := "java/util/ArrayList$Itr", name := "hasNext", desc := "()Z" } : Jvm.MethodName)) ∈ lw_all := lw_g (lw_at lw_m11 183 rfl) rfl
theorem q2976 : (Jvm.Cond.unhidden "java/util/ArrayList$Itr" "hasNext" "()Z") ∈ lw_tbl := lw_at lw_m11 184 rfl
theorem q2977 : (Jvm.Cond.instanceMethod ({ cls := "java/util/ArrayList$Itr", name := "hasNext", desc := "()Z" } : Jvm.MethodName)) ∈ lw_all := lw_g (lw_at lw_m11 185 rfl) rfl
theorem q2978 : (Jvm.Cond.publicMethod ({ cls := "java/util/ArrayList$Itr", name := "hasNext", desc := "()Z" } : Jvm.MethodName)) ∈ lw_tbl := lw_at lw_m11 186 rfl
theorem q2979 : (Jvm.Cond.code ({ cls := "java/util/ArrayList$Itr", name := "hasNext", desc := "()Z" } : Jvm.MethodName) prog_103_method_2_code (1 : Nat) (Option.some Jvm.ClassFile.FieldType.boolean)) ∈ lw_all := lw_g (lw_at lw_m11 187 rfl) rfl
theorem q3007 : (Jvm.Cond.selects "java/util/ArrayList$Itr" ({ cls := "java/util/Iterator", name := "next", desc := "()Ljava/lang/Object;" } : Jvm.MethodName) ({ cls := "java/util/ArrayList$Itr", name := "next", desc := "()Ljava/lang/Object;" } : Jvm.MethodName)) ∈ lw_all := lw_g (lw_at lw_m11 215 rfl) rfl
theorem q3008 : (Jvm.Cond.unhidden "java/util/ArrayList$Itr" "next" "()Ljava/lang/Object;") ∈ lw_tbl := lw_at lw_m11 216 rfl
theorem q3009 : (Jvm.Cond.instanceMethod ({ cls := "java/util/ArrayList$Itr", name := "next", desc := "()Ljava/lang/Object;" } : Jvm.MethodName)) ∈ lw_all := lw_g (lw_at lw_m11 217 rfl) rfl
theorem q3010 : (Jvm.Cond.publicMethod ({ cls := "java/util/ArrayList$Itr", name := "next", desc := "()Ljava/lang/Object;" } : Jvm.MethodName)) ∈ lw_tbl := lw_at lw_m11 218 rfl
theorem q3011 : (Jvm.Cond.code ({ cls := "java/util/ArrayList$Itr", name := "next", desc := "()Ljava/lang/Object;" } : Jvm.MethodName) prog_103_method_3_code (3 : Nat) (Option.some (Jvm.ClassFile.FieldType.object "java/lang/Object"))) ∈ lw_all := lw_g (lw_at lw_m11 219 rfl) rfl
theorem q3012 : (Jvm.Cond.methodLink "java/util/ArrayList$Itr" (31 : Nat) ({ cls := "java/util/ArrayList$Itr", name := "checkForComodification", desc := "()V" } : Jvm.MethodName)) ∈ lw_all := lw_g (lw_at lw_m11 220 rfl) rfl
theorem q3013 : (Jvm.Cond.instanceMethod ({ cls := "java/util/ArrayList$Itr", name := "checkForComodification", desc := "()V" } : Jvm.MethodName)) ∈ lw_all := lw_g (lw_at lw_m11 221 rfl) rfl
theorem q3014 : (Jvm.Cond.selects "java/util/ArrayList$Itr" ({ cls := "java/util/ArrayList$Itr", name := "checkForComodification", desc := "()V" } : Jvm.MethodName) ({ cls := "java/util/ArrayList$Itr", name := "checkForComodification", desc := "()V" } : Jvm.MethodName)) ∈ lw_all := lw_g (lw_at lw_m11 222 rfl) rfl
theorem q3015 : (Jvm.Cond.code ({ cls := "java/util/ArrayList$Itr", name := "checkForComodification", desc := "()V" } : Jvm.MethodName) prog_103_method_6_code (1 : Nat) (Option.none : Option Jvm.ClassFile.FieldType)) ∈ lw_all := lw_g (lw_at lw_m11 223 rfl) rfl
theorem q4582 : (Jvm.Cond.selects "java/util/ArrayList$Itr" ({ cls := "java/util/Iterator", name := "remove", desc := "()V" } : Jvm.MethodName) ({ cls := "java/util/ArrayList$Itr", name := "remove", desc := "()V" } : Jvm.MethodName)) ∈ lw_all := lw_g (lw_at lw_m18 110 rfl) rfl
theorem q4583 : (Jvm.Cond.unhidden "java/util/ArrayList$Itr" "remove" "()V") ∈ lw_tbl := lw_at lw_m18 111 rfl
theorem q4584 : (Jvm.Cond.instanceMethod ({ cls := "java/util/ArrayList$Itr", name := "remove", desc := "()V" } : Jvm.MethodName)) ∈ lw_all := lw_g (lw_at lw_m18 112 rfl) rfl
theorem q4585 : (Jvm.Cond.publicMethod ({ cls := "java/util/ArrayList$Itr", name := "remove", desc := "()V" } : Jvm.MethodName)) ∈ lw_tbl := lw_at lw_m18 113 rfl
theorem q4586 : (Jvm.Cond.codeWith ({ cls := "java/util/ArrayList$Itr", name := "remove", desc := "()V" } : Jvm.MethodName) prog_103_method_4_code (2 : Nat) (Option.none : Option Jvm.ClassFile.FieldType) [((19 : Nat), (55 : Nat), (58 : Nat), (51 : Nat))]) ∈ lw_all := lw_g (lw_at lw_m18 114 rfl) rfl
theorem q4587 : (Jvm.Cond.classLink "java/util/ArrayList$Itr" (44 : Nat) "java/lang/IllegalStateException") ∈ lw_all := lw_g (lw_at lw_m18 115 rfl) rfl
theorem q4588 : (Jvm.Cond.methodLink "java/util/ArrayList$Itr" (46 : Nat) ({ cls := "java/lang/IllegalStateException", name := "<init>", desc := "()V" } : Jvm.MethodName)) ∈ lw_all := lw_g (lw_at lw_m18 116 rfl) rfl
theorem q4589 : (Jvm.Cond.methodLink "java/util/ArrayList$Itr" (47 : Nat) ({ cls := "java/util/ArrayList", name := "remove", desc := "(I)Ljava/lang/Object;" } : Jvm.MethodName)) ∈ lw_all := lw_g (lw_at lw_m18 117 rfl) rfl
theorem q4598 : (Jvm.Cond.classLink "java/util/ArrayList$Itr" (41 : Nat) "java/util/ConcurrentModificationException") ∈ lw_all := lw_g (lw_at lw_m18 126 rfl) rfl
theorem q4600 : (Jvm.Cond.methodLink "java/util/ArrayList$Itr" (43 : Nat) ({ cls := "java/util/ConcurrentModificationException", name := "<init>", desc := "()V" } : Jvm.MethodName)) ∈ lw_all := lw_g (lw_at lw_m18 128 rfl) rfl
theorem q9685 : (Jvm.Cond.castable "java/util/ArrayList$Itr" "java/lang/Object") ∈ lw_tbl := lw_at lw_m39 173 rfl
theorem in_J26 : ∀ w ∈ wsJ260, w ∈ lw_all := lw_in wsJ260 [2955, 2957, 2959, 2961] (by decide +kernel) (by decide +kernel)
