/-! java/util/ArrayDeque$DeqIterator -/
set_option maxRecDepth 100000
def RJ43 : String := "java/util/ArrayDeque$DeqIterator"
def TJ43 : u_T := fun k => match k with
  | 0 => ("java/util/ArrayDeque$DeqIterator", "cursor", "I", false)
  | 1 => ("java/util/ArrayDeque$DeqIterator", "remaining", "I", false)
  | 2 => ("java/util/ArrayDeque$DeqIterator", "lastRet", "I", false)
  | _ => ("java/util/ArrayDeque$DeqIterator", "this$0", "Ljava/util/ArrayDeque;", true)
def tyJ43 : Nat → FieldType := fun k => match k with
  | 0 => .int
  | 1 => .int
  | 2 => .int
  | _ => .object "java/util/ArrayDeque"
abbrev wsJ430 : List Cond := u_ws RJ43 TJ43 4
theorem nmJ43 : ∀ a, a < 4 → ∀ b, b < 4 → a ≠ b → (TJ43 a).2.1 ≠ (TJ43 b).2.1 := by decide +kernel
theorem tyJ43_ok : ∀ k, k < 4 → parseFieldDescriptor (TJ43 k).2.2.1 = some (tyJ43 k) := by decide +kernel
abbrev cJ43_hasNext : ByteArray := prog_101_method_2_code
def yJ43_hasNext : MethodName := ⟨RJ43, "hasNext", "()Z"⟩
def dkwJ43_hasNext_0 : List UInt8 := [42, 180, 0, 19, 158, 0, 7, 4, 167, 0, 4, 3, 172]
abbrev dktJ43_hasNext_0 : List UInt8 := dkwJ43_hasNext_0 ++ []
theorem dksJ43_hasNext_0 : cJ43_hasNext.data.toList.drop 0 = dktJ43_hasNext_0 := by decide +kernel
theorem dJ43_hasNext_0 : decode cJ43_hasNext 0 = .ok (.aload_n 0, 1) := dk_42 (dk_at dksJ43_hasNext_0 0 rfl rfl)
theorem dJ43_hasNext_1 : decode cJ43_hasNext 1 = .ok (.getfield 19, 3) := dk_180 0 19 (dk_at dksJ43_hasNext_0 1 rfl rfl)
theorem dJ43_hasNext_4 : decode cJ43_hasNext 4 = .ok (.ifCond .le 7, 3) := dk_158 0 7 (dk_at dksJ43_hasNext_0 4 rfl rfl)
theorem dJ43_hasNext_7 : decode cJ43_hasNext 7 = .ok (.iconst 1, 1) := dk_4 (dk_at dksJ43_hasNext_0 7 rfl rfl)
theorem dJ43_hasNext_8 : decode cJ43_hasNext 8 = .ok (.goto 4, 3) := dk_167 0 4 (dk_at dksJ43_hasNext_0 8 rfl rfl)
theorem dJ43_hasNext_11 : decode cJ43_hasNext 11 = .ok (.iconst 0, 1) := dk_3 (dk_at dksJ43_hasNext_0 11 rfl rfl)
theorem dJ43_hasNext_12 : decode cJ43_hasNext 12 = .ok (.ireturn, 1) := dk_172 (dk_at dksJ43_hasNext_0 12 rfl rfl)
abbrev cJ43_next : ByteArray := prog_101_method_3_code
def yJ43_next : MethodName := ⟨RJ43, "next", "()Ljava/lang/Object;"⟩
def dkwJ43_next_2 : List UInt8 := [181, 0, 29, 42, 89, 180, 0, 19, 4, 100, 181, 0, 19, 44, 176]
abbrev dktJ43_next_2 : List UInt8 := dkwJ43_next_2 ++ []
def dkwJ43_next_1 : List UInt8 := [42, 180, 0, 29, 184, 0, 39, 77, 42, 42, 42, 180, 0, 29, 90, 181, 0, 23, 43, 190, 184, 0, 43]
abbrev dktJ43_next_1 : List UInt8 := dkwJ43_next_1 ++ dktJ43_next_2
def dkwJ43_next_0 : List UInt8 := [42, 180, 0, 19, 157, 0, 11, 187, 0, 32, 89, 183, 0, 34, 191, 42, 180, 0, 1, 180, 0, 35, 76, 43]
abbrev dktJ43_next_0 : List UInt8 := dkwJ43_next_0 ++ dktJ43_next_1
theorem dksJ43_next_0 : cJ43_next.data.toList.drop 0 = dktJ43_next_0 := by decide +kernel
theorem dksJ43_next_1 : cJ43_next.data.toList.drop 24 = dktJ43_next_1 := dk_seg dksJ43_next_0 24 rfl rfl
theorem dksJ43_next_2 : cJ43_next.data.toList.drop 47 = dktJ43_next_2 := dk_seg dksJ43_next_1 23 rfl rfl
theorem dJ43_next_0 : decode cJ43_next 0 = .ok (.aload_n 0, 1) := dk_42 (dk_at dksJ43_next_0 0 rfl rfl)
theorem dJ43_next_1 : decode cJ43_next 1 = .ok (.getfield 19, 3) := dk_180 0 19 (dk_at dksJ43_next_0 1 rfl rfl)
theorem dJ43_next_4 : decode cJ43_next 4 = .ok (.ifCond .gt 11, 3) := dk_157 0 11 (dk_at dksJ43_next_0 4 rfl rfl)
theorem dJ43_next_7 : decode cJ43_next 7 = .ok (.new 32, 3) := dk_187 0 32 (dk_at dksJ43_next_0 7 rfl rfl)
theorem dJ43_next_10 : decode cJ43_next 10 = .ok (.dup, 1) := dk_89 (dk_at dksJ43_next_0 10 rfl rfl)
theorem dJ43_next_11 : decode cJ43_next 11 = .ok (.invokespecial 34, 3) := dk_183 0 34 (dk_at dksJ43_next_0 11 rfl rfl)
theorem dJ43_next_14 : decode cJ43_next 14 = .ok (.athrow, 1) := dk_191 (dk_at dksJ43_next_0 14 rfl rfl)
theorem dJ43_next_15 : decode cJ43_next 15 = .ok (.aload_n 0, 1) := dk_42 (dk_at dksJ43_next_0 15 rfl rfl)
theorem dJ43_next_16 : decode cJ43_next 16 = .ok (.getfield 1, 3) := dk_180 0 1 (dk_at dksJ43_next_0 16 rfl rfl)
theorem dJ43_next_19 : decode cJ43_next 19 = .ok (.getfield 35, 3) := dk_180 0 35 (dk_at dksJ43_next_0 19 rfl rfl)
theorem dJ43_next_22 : decode cJ43_next 22 = .ok (.astore_n 1, 1) := dk_76 (dk_at dksJ43_next_0 22 rfl rfl)
theorem dJ43_next_23 : decode cJ43_next 23 = .ok (.aload_n 1, 1) := dk_43 (dk_at dksJ43_next_0 23 rfl rfl)
theorem dJ43_next_24 : decode cJ43_next 24 = .ok (.aload_n 0, 1) := dk_42 (dk_at dksJ43_next_1 0 rfl rfl)
theorem dJ43_next_25 : decode cJ43_next 25 = .ok (.getfield 29, 3) := dk_180 0 29 (dk_at dksJ43_next_1 1 rfl rfl)
theorem dJ43_next_28 : decode cJ43_next 28 = .ok (.invokestatic 39, 3) := dk_184 0 39 (dk_at dksJ43_next_1 4 rfl rfl)
theorem dJ43_next_31 : decode cJ43_next 31 = .ok (.astore_n 2, 1) := dk_77 (dk_at dksJ43_next_1 7 rfl rfl)
theorem dJ43_next_32 : decode cJ43_next 32 = .ok (.aload_n 0, 1) := dk_42 (dk_at dksJ43_next_1 8 rfl rfl)
theorem dJ43_next_33 : decode cJ43_next 33 = .ok (.aload_n 0, 1) := dk_42 (dk_at dksJ43_next_1 9 rfl rfl)
theorem dJ43_next_34 : decode cJ43_next 34 = .ok (.aload_n 0, 1) := dk_42 (dk_at dksJ43_next_1 10 rfl rfl)
theorem dJ43_next_35 : decode cJ43_next 35 = .ok (.getfield 29, 3) := dk_180 0 29 (dk_at dksJ43_next_1 11 rfl rfl)
theorem dJ43_next_38 : decode cJ43_next 38 = .ok (.dup_x1, 1) := dk_90 (dk_at dksJ43_next_1 14 rfl rfl)
theorem dJ43_next_39 : decode cJ43_next 39 = .ok (.putfield 23, 3) := dk_181 0 23 (dk_at dksJ43_next_1 15 rfl rfl)
theorem dJ43_next_42 : decode cJ43_next 42 = .ok (.aload_n 1, 1) := dk_43 (dk_at dksJ43_next_1 18 rfl rfl)
theorem dJ43_next_43 : decode cJ43_next 43 = .ok (.arraylength, 1) := dk_190 (dk_at dksJ43_next_1 19 rfl rfl)
theorem dJ43_next_44 : decode cJ43_next 44 = .ok (.invokestatic 43, 3) := dk_184 0 43 (dk_at dksJ43_next_1 20 rfl rfl)
theorem dJ43_next_47 : decode cJ43_next 47 = .ok (.putfield 29, 3) := dk_181 0 29 (dk_at dksJ43_next_2 0 rfl rfl)
theorem dJ43_next_50 : decode cJ43_next 50 = .ok (.aload_n 0, 1) := dk_42 (dk_at dksJ43_next_2 3 rfl rfl)
theorem dJ43_next_51 : decode cJ43_next 51 = .ok (.dup, 1) := dk_89 (dk_at dksJ43_next_2 4 rfl rfl)
theorem dJ43_next_52 : decode cJ43_next 52 = .ok (.getfield 19, 3) := dk_180 0 19 (dk_at dksJ43_next_2 5 rfl rfl)
theorem dJ43_next_55 : decode cJ43_next 55 = .ok (.iconst 1, 1) := dk_4 (dk_at dksJ43_next_2 8 rfl rfl)
theorem dJ43_next_56 : decode cJ43_next 56 = .ok (.isub, 1) := dk_100 (dk_at dksJ43_next_2 9 rfl rfl)
theorem dJ43_next_57 : decode cJ43_next 57 = .ok (.putfield 19, 3) := dk_181 0 19 (dk_at dksJ43_next_2 10 rfl rfl)
theorem dJ43_next_60 : decode cJ43_next 60 = .ok (.aload_n 2, 1) := dk_44 (dk_at dksJ43_next_2 13 rfl rfl)
theorem dJ43_next_61 : decode cJ43_next 61 = .ok (.areturn, 1) := dk_176 (dk_at dksJ43_next_2 14 rfl rfl)
abbrev cJ43_remove : ByteArray := prog_101_method_5_code
def yJ43_remove : MethodName := ⟨RJ43, "remove", "()V"⟩
def dkwJ43_remove_1 : List UInt8 := [182, 0, 53, 182, 0, 57, 42, 2, 181, 0, 23, 177]
abbrev dktJ43_remove_1 : List UInt8 := dkwJ43_remove_1 ++ []
def dkwJ43_remove_0 : List UInt8 := [42, 180, 0, 23, 156, 0, 11, 187, 0, 50, 89, 183, 0, 52, 191, 42, 42, 180, 0, 1, 42, 180, 0, 23]
abbrev dktJ43_remove_0 : List UInt8 := dkwJ43_remove_0 ++ dktJ43_remove_1
theorem dksJ43_remove_0 : cJ43_remove.data.toList.drop 0 = dktJ43_remove_0 := by decide +kernel
theorem dksJ43_remove_1 : cJ43_remove.data.toList.drop 24 = dktJ43_remove_1 := dk_seg dksJ43_remove_0 24 rfl rfl
theorem dJ43_remove_0 : decode cJ43_remove 0 = .ok (.aload_n 0, 1) := dk_42 (dk_at dksJ43_remove_0 0 rfl rfl)
theorem dJ43_remove_1 : decode cJ43_remove 1 = .ok (.getfield 23, 3) := dk_180 0 23 (dk_at dksJ43_remove_0 1 rfl rfl)
theorem dJ43_remove_4 : decode cJ43_remove 4 = .ok (.ifCond .ge 11, 3) := dk_156 0 11 (dk_at dksJ43_remove_0 4 rfl rfl)
theorem dJ43_remove_7 : decode cJ43_remove 7 = .ok (.new 50, 3) := dk_187 0 50 (dk_at dksJ43_remove_0 7 rfl rfl)
theorem dJ43_remove_10 : decode cJ43_remove 10 = .ok (.dup, 1) := dk_89 (dk_at dksJ43_remove_0 10 rfl rfl)
theorem dJ43_remove_11 : decode cJ43_remove 11 = .ok (.invokespecial 52, 3) := dk_183 0 52 (dk_at dksJ43_remove_0 11 rfl rfl)
theorem dJ43_remove_14 : decode cJ43_remove 14 = .ok (.athrow, 1) := dk_191 (dk_at dksJ43_remove_0 14 rfl rfl)
theorem dJ43_remove_15 : decode cJ43_remove 15 = .ok (.aload_n 0, 1) := dk_42 (dk_at dksJ43_remove_0 15 rfl rfl)
theorem dJ43_remove_16 : decode cJ43_remove 16 = .ok (.aload_n 0, 1) := dk_42 (dk_at dksJ43_remove_0 16 rfl rfl)
theorem dJ43_remove_17 : decode cJ43_remove 17 = .ok (.getfield 1, 3) := dk_180 0 1 (dk_at dksJ43_remove_0 17 rfl rfl)
theorem dJ43_remove_20 : decode cJ43_remove 20 = .ok (.aload_n 0, 1) := dk_42 (dk_at dksJ43_remove_0 20 rfl rfl)
theorem dJ43_remove_21 : decode cJ43_remove 21 = .ok (.getfield 23, 3) := dk_180 0 23 (dk_at dksJ43_remove_0 21 rfl rfl)
theorem dJ43_remove_24 : decode cJ43_remove 24 = .ok (.invokevirtual 53, 3) := dk_182 0 53 (dk_at dksJ43_remove_1 0 rfl rfl)
theorem dJ43_remove_27 : decode cJ43_remove 27 = .ok (.invokevirtual 57, 3) := dk_182 0 57 (dk_at dksJ43_remove_1 3 rfl rfl)
theorem dJ43_remove_30 : decode cJ43_remove 30 = .ok (.aload_n 0, 1) := dk_42 (dk_at dksJ43_remove_1 6 rfl rfl)
theorem dJ43_remove_31 : decode cJ43_remove 31 = .ok (.iconst (-1), 1) := dk_2 (dk_at dksJ43_remove_1 7 rfl rfl)
theorem dJ43_remove_32 : decode cJ43_remove 32 = .ok (.putfield 23, 3) := dk_181 0 23 (dk_at dksJ43_remove_1 8 rfl rfl)
theorem dJ43_remove_35 : decode cJ43_remove 35 = .ok (.return_, 1) := dk_177 (dk_at dksJ43_remove_1 11 rfl rfl)
abbrev cJ43_postDelete : ByteArray := prog_101_method_4_code
def yJ43_postDelete : MethodName := ⟨RJ43, "postDelete", "(Z)V"⟩
def dkwJ43_postDelete_0 : List UInt8 := [27, 153, 0, 22, 42, 42, 180, 0, 29, 42, 180, 0, 1, 180, 0, 35, 190, 184, 0, 47, 181, 0, 29, 177]
abbrev dktJ43_postDelete_0 : List UInt8 := dkwJ43_postDelete_0 ++ []
theorem dksJ43_postDelete_0 : cJ43_postDelete.data.toList.drop 0 = dktJ43_postDelete_0 := by decide +kernel
theorem dJ43_postDelete_0 : decode cJ43_postDelete 0 = .ok (.iload_n 1, 1) := dk_27 (dk_at dksJ43_postDelete_0 0 rfl rfl)
theorem dJ43_postDelete_1 : decode cJ43_postDelete 1 = .ok (.ifCond .eq 22, 3) := dk_153 0 22 (dk_at dksJ43_postDelete_0 1 rfl rfl)
theorem dJ43_postDelete_4 : decode cJ43_postDelete 4 = .ok (.aload_n 0, 1) := dk_42 (dk_at dksJ43_postDelete_0 4 rfl rfl)
theorem dJ43_postDelete_5 : decode cJ43_postDelete 5 = .ok (.aload_n 0, 1) := dk_42 (dk_at dksJ43_postDelete_0 5 rfl rfl)
theorem dJ43_postDelete_6 : decode cJ43_postDelete 6 = .ok (.getfield 29, 3) := dk_180 0 29 (dk_at dksJ43_postDelete_0 6 rfl rfl)
theorem dJ43_postDelete_9 : decode cJ43_postDelete 9 = .ok (.aload_n 0, 1) := dk_42 (dk_at dksJ43_postDelete_0 9 rfl rfl)
theorem dJ43_postDelete_10 : decode cJ43_postDelete 10 = .ok (.getfield 1, 3) := dk_180 0 1 (dk_at dksJ43_postDelete_0 10 rfl rfl)
theorem dJ43_postDelete_13 : decode cJ43_postDelete 13 = .ok (.getfield 35, 3) := dk_180 0 35 (dk_at dksJ43_postDelete_0 13 rfl rfl)
theorem dJ43_postDelete_16 : decode cJ43_postDelete 16 = .ok (.arraylength, 1) := dk_190 (dk_at dksJ43_postDelete_0 16 rfl rfl)
theorem dJ43_postDelete_17 : decode cJ43_postDelete 17 = .ok (.invokestatic 47, 3) := dk_184 0 47 (dk_at dksJ43_postDelete_0 17 rfl rfl)
theorem dJ43_postDelete_20 : decode cJ43_postDelete 20 = .ok (.putfield 29, 3) := dk_181 0 29 (dk_at dksJ43_postDelete_0 20 rfl rfl)
theorem dJ43_postDelete_23 : decode cJ43_postDelete 23 = .ok (.return_, 1) := dk_177 (dk_at dksJ43_postDelete_0 23 rfl rfl)
abbrev cJ43_init : ByteArray := prog_101_method_1_code
def yJ43_init : MethodName := ⟨RJ43, "<init>", "(Ljava/util/ArrayDeque;)V"⟩
def dkwJ43_init_1 : List UInt8 := [181, 0, 23, 42, 43, 180, 0, 26, 181, 0, 29, 177]
abbrev dktJ43_init_1 : List UInt8 := dkwJ43_init_1 ++ []
def dkwJ43_init_0 : List UInt8 := [42, 43, 181, 0, 1, 42, 183, 0, 7, 42, 42, 180, 0, 1, 182, 0, 13, 181, 0, 19, 42, 2]
abbrev dktJ43_init_0 : List UInt8 := dkwJ43_init_0 ++ dktJ43_init_1
theorem dksJ43_init_0 : cJ43_init.data.toList.drop 0 = dktJ43_init_0 := by decide +kernel
theorem dksJ43_init_1 : cJ43_init.data.toList.drop 22 = dktJ43_init_1 := dk_seg dksJ43_init_0 22 rfl rfl
theorem dJ43_init_0 : decode cJ43_init 0 = .ok (.aload_n 0, 1) := dk_42 (dk_at dksJ43_init_0 0 rfl rfl)
theorem dJ43_init_1 : decode cJ43_init 1 = .ok (.aload_n 1, 1) := dk_43 (dk_at dksJ43_init_0 1 rfl rfl)
theorem dJ43_init_2 : decode cJ43_init 2 = .ok (.putfield 1, 3) := dk_181 0 1 (dk_at dksJ43_init_0 2 rfl rfl)
theorem dJ43_init_5 : decode cJ43_init 5 = .ok (.aload_n 0, 1) := dk_42 (dk_at dksJ43_init_0 5 rfl rfl)
theorem dJ43_init_6 : decode cJ43_init 6 = .ok (.invokespecial 7, 3) := dk_183 0 7 (dk_at dksJ43_init_0 6 rfl rfl)
theorem dJ43_init_9 : decode cJ43_init 9 = .ok (.aload_n 0, 1) := dk_42 (dk_at dksJ43_init_0 9 rfl rfl)
theorem dJ43_init_10 : decode cJ43_init 10 = .ok (.aload_n 0, 1) := dk_42 (dk_at dksJ43_init_0 10 rfl rfl)
theorem dJ43_init_11 : decode cJ43_init 11 = .ok (.getfield 1, 3) := dk_180 0 1 (dk_at dksJ43_init_0 11 rfl rfl)
theorem dJ43_init_14 : decode cJ43_init 14 = .ok (.invokevirtual 13, 3) := dk_182 0 13 (dk_at dksJ43_init_0 14 rfl rfl)
theorem dJ43_init_17 : decode cJ43_init 17 = .ok (.putfield 19, 3) := dk_181 0 19 (dk_at dksJ43_init_0 17 rfl rfl)
theorem dJ43_init_20 : decode cJ43_init 20 = .ok (.aload_n 0, 1) := dk_42 (dk_at dksJ43_init_0 20 rfl rfl)
theorem dJ43_init_21 : decode cJ43_init 21 = .ok (.iconst (-1), 1) := dk_2 (dk_at dksJ43_init_0 21 rfl rfl)
theorem dJ43_init_22 : decode cJ43_init 22 = .ok (.putfield 23, 3) := dk_181 0 23 (dk_at dksJ43_init_1 0 rfl rfl)
theorem dJ43_init_25 : decode cJ43_init 25 = .ok (.aload_n 0, 1) := dk_42 (dk_at dksJ43_init_1 3 rfl rfl)
theorem dJ43_init_26 : decode cJ43_init 26 = .ok (.aload_n 1, 1) := dk_43 (dk_at dksJ43_init_1 4 rfl rfl)
theorem dJ43_init_27 : decode cJ43_init 27 = .ok (.getfield 26, 3) := dk_180 0 26 (dk_at dksJ43_init_1 5 rfl rfl)
theorem dJ43_init_30 : decode cJ43_init 30 = .ok (.putfield 29, 3) := dk_181 0 29 (dk_at dksJ43_init_1 8 rfl rfl)
theorem dJ43_init_33 : decode cJ43_init 33 = .ok (.return_, 1) := dk_177 (dk_at dksJ43_init_1 11 rfl rfl)
theorem q502 : (Jvm.Cond.initialized "java/util/ArrayDeque$DeqIterator") ∈ lw_all := lw_g (lw_at lw_m1 110 rfl) rfl
theorem q1804 : (Jvm.Cond.fieldLink "java/util/ArrayDeque$DeqIterator" (35 : Nat) "java/util/ArrayDeque" "elements" "[Ljava/lang/Object;") ∈ lw_all := lw_g (lw_at lw_m6 212 rfl) rfl
theorem q1805 : (Jvm.Cond.fieldLink "java/util/ArrayDeque$DeqIterator" (26 : Nat) "java/util/ArrayDeque" "head" "I") ∈ lw_all := lw_g (lw_at lw_m6 213 rfl) rfl
theorem q2044 : (Jvm.Cond.selects "java/util/ArrayDeque$DeqIterator" ({ cls := "java/lang/Object", name := "getClass", desc := "()Ljava/lang/Class;" } : Jvm.MethodName) ({ cls := "java/lang/Object", name := "getClass", desc := "()Ljava/lang/Class;" } : Jvm.MethodName)) ∈ lw_all := lw_g (lw_at lw_m7 212 rfl) rfl
theorem q2968 : (Jvm.Cond.castable "java/util/ArrayDeque$DeqIterator" "java/util/Iterator") ∈ lw_tbl := lw_at lw_m11 176 rfl
theorem q2969 : (Jvm.Cond.selects "java/util/ArrayDeque$DeqIterator" ({ cls := "java/util/Iterator", name := "hasNext", desc := "()Z" } : Jvm.MethodName) ({ cls := "java/util/ArrayDeque$DeqIterator", name := "hasNext", desc := "()Z" } : Jvm.MethodName)) ∈ lw_all := lw_g (lw_at lw_m11 177 rfl) rfl
theorem q2970 : (Jvm.Cond.unhidden "java/util/ArrayDeque$DeqIterator" "hasNext" "()Z") ∈ lw_tbl := lw_at lw_m11 178 rfl
theorem q2971 : (Jvm.Cond.instanceMethod ({ cls := "java/util/ArrayDeque$DeqIterator", name := "hasNext", desc := "()Z" } : Jvm.MethodName)) ∈ lw_all := lw_g (lw_at lw_m11 179 rfl) rfl
theorem q2972 : (Jvm.Cond.publicMethod ({ cls := "java/util/ArrayDeque$DeqIterator", name := "hasNext", desc := "()Z" } : Jvm.MethodName)) ∈ lw_tbl := lw_at lw_m11 180 rfl
theorem q2973 : (Jvm.Cond.code ({ cls := "java/util/ArrayDeque$DeqIterator", name := "hasNext", desc := "()Z" } : Jvm.MethodName) prog_101_method_2_code (1 : Nat) (Option.some Jvm.ClassFile.FieldType.boolean)) ∈ lw_all := lw_g (lw_at lw_m11 181 rfl) rfl
theorem q2996 : (Jvm.Cond.selects "java/util/ArrayDeque$DeqIterator" ({ cls := "java/util/Iterator", name := "next", desc := "()Ljava/lang/Object;" } : Jvm.MethodName) ({ cls := "java/util/ArrayDeque$DeqIterator", name := "next", desc := "()Ljava/lang/Object;" } : Jvm.MethodName)) ∈ lw_all := lw_g (lw_at lw_m11 204 rfl) rfl
theorem q2997 : (Jvm.Cond.unhidden "java/util/ArrayDeque$DeqIterator" "next" "()Ljava/lang/Object;") ∈ lw_tbl := lw_at lw_m11 205 rfl
theorem q2998 : (Jvm.Cond.instanceMethod ({ cls := "java/util/ArrayDeque$DeqIterator", name := "next", desc := "()Ljava/lang/Object;" } : Jvm.MethodName)) ∈ lw_all := lw_g (lw_at lw_m11 206 rfl) rfl
theorem q2999 : (Jvm.Cond.publicMethod ({ cls := "java/util/ArrayDeque$DeqIterator", name := "next", desc := "()Ljava/lang/Object;" } : Jvm.MethodName)) ∈ lw_tbl := lw_at lw_m11 207 rfl
theorem q3000 : (Jvm.Cond.code ({ cls := "java/util/ArrayDeque$DeqIterator", name := "next", desc := "()Ljava/lang/Object;" } : Jvm.MethodName) prog_101_method_3_code (3 : Nat) (Option.some (Jvm.ClassFile.FieldType.object "java/lang/Object"))) ∈ lw_all := lw_g (lw_at lw_m11 208 rfl) rfl
theorem q3001 : (Jvm.Cond.methodLink "java/util/ArrayDeque$DeqIterator" (39 : Nat) ({ cls := "java/util/ArrayDeque", name := "nonNullElementAt", desc := "([Ljava/lang/Object;I)Ljava/lang/Object;" } : Jvm.MethodName)) ∈ lw_all := lw_g (lw_at lw_m11 209 rfl) rfl
theorem q3004 : (Jvm.Cond.methodLink "java/util/ArrayDeque$DeqIterator" (43 : Nat) ({ cls := "java/util/ArrayDeque", name := "inc", desc := "(II)I" } : Jvm.MethodName)) ∈ lw_all := lw_g (lw_at lw_m11 212 rfl) rfl
theorem q4551 : (Jvm.Cond.selects "java/util/ArrayDeque$DeqIterator" ({ cls := "java/util/Iterator", name := "remove", desc := "()V" } : Jvm.MethodName) ({ cls := "java/util/ArrayDeque$DeqIterator", name := "remove", desc := "()V" } : Jvm.MethodName)) ∈ lw_all := lw_g (lw_at lw_m18 79 rfl) rfl
theorem q4552 : (Jvm.Cond.unhidden "java/util/ArrayDeque$DeqIterator" "remove" "()V") ∈ lw_tbl := lw_at lw_m18 80 rfl
theorem q4553 : (Jvm.Cond.instanceMethod ({ cls := "java/util/ArrayDeque$DeqIterator", name := "remove", desc := "()V" } : Jvm.MethodName)) ∈ lw_all := lw_g (lw_at lw_m18 81 rfl) rfl
theorem q4554 : (Jvm.Cond.publicMethod ({ cls := "java/util/ArrayDeque$DeqIterator", name := "remove", desc := "()V" } : Jvm.MethodName)) ∈ lw_tbl := lw_at lw_m18 82 rfl
theorem q4555 : (Jvm.Cond.code ({ cls := "java/util/ArrayDeque$DeqIterator", name := "remove", desc := "()V" } : Jvm.MethodName) prog_101_method_5_code (1 : Nat) (Option.none : Option Jvm.ClassFile.FieldType)) ∈ lw_all := lw_g (lw_at lw_m18 83 rfl) rfl
theorem q4556 : (Jvm.Cond.classLink "java/util/ArrayDeque$DeqIterator" (50 : Nat) "java/lang/IllegalStateException") ∈ lw_all := lw_g (lw_at lw_m18 84 rfl) rfl
theorem q4557 : (Jvm.Cond.methodLink "java/util/ArrayDeque$DeqIterator" (52 : Nat) ({ cls := "java/lang/IllegalStateException", name := "<init>", desc := "()V" } : Jvm.MethodName)) ∈ lw_all := lw_g (lw_at lw_m18 85 rfl) rfl
theorem q4567 : (Jvm.Cond.methodLink "java/util/ArrayDeque$DeqIterator" (53 : Nat) ({ cls := "java/util/ArrayDeque", name := "delete", desc := "(I)Z" } : Jvm.MethodName)) ∈ lw_all := lw_g (lw_at lw_m18 95 rfl) rfl
theorem q4577 : (Jvm.Cond.methodLink "java/util/ArrayDeque$DeqIterator" (57 : Nat) ({ cls := "java/util/ArrayDeque$DeqIterator", name := "postDelete", desc := "(Z)V" } : Jvm.MethodName)) ∈ lw_all := lw_g (lw_at lw_m18 105 rfl) rfl
theorem q4578 : (Jvm.Cond.instanceMethod ({ cls := "java/util/ArrayDeque$DeqIterator", name := "postDelete", desc := "(Z)V" } : Jvm.MethodName)) ∈ lw_all := lw_g (lw_at lw_m18 106 rfl) rfl
theorem q4579 : (Jvm.Cond.selects "java/util/ArrayDeque$DeqIterator" ({ cls := "java/util/ArrayDeque$DeqIterator", name := "postDelete", desc := "(Z)V" } : Jvm.MethodName) ({ cls := "java/util/ArrayDeque$DeqIterator", name := "postDelete", desc := "(Z)V" } : Jvm.MethodName)) ∈ lw_all := lw_g (lw_at lw_m18 107 rfl) rfl
theorem q4580 : (Jvm.Cond.code ({ cls := "java/util/ArrayDeque$DeqIterator", name := "postDelete", desc := "(Z)V" } : Jvm.MethodName) prog_101_method_4_code (2 : Nat) (Option.none : Option Jvm.ClassFile.FieldType)) ∈ lw_all := lw_g (lw_at lw_m18 108 rfl) rfl
theorem q4581 : (Jvm.Cond.methodLink "java/util/ArrayDeque$DeqIterator" (47 : Nat) ({ cls := "java/util/ArrayDeque", name := "dec", desc := "(II)I" } : Jvm.MethodName)) ∈ lw_all := lw_g (lw_at lw_m18 109 rfl) rfl
theorem q4670 : (Jvm.Cond.instantiable "java/util/ArrayDeque$DeqIterator" (4 : Nat)) ∈ lw_all := lw_g (lw_at lw_m18 198 rfl) rfl
theorem q4672 : (Jvm.Cond.instanceMethod ({ cls := "java/util/ArrayDeque$DeqIterator", name := "<init>", desc := "(Ljava/util/ArrayDeque;)V" } : Jvm.MethodName)) ∈ lw_all := lw_g (lw_at lw_m18 200 rfl) rfl
theorem q4673 : (Jvm.Cond.code ({ cls := "java/util/ArrayDeque$DeqIterator", name := "<init>", desc := "(Ljava/util/ArrayDeque;)V" } : Jvm.MethodName) prog_101_method_1_code (2 : Nat) (Option.none : Option Jvm.ClassFile.FieldType)) ∈ lw_all := lw_g (lw_at lw_m18 201 rfl) rfl
theorem q4674 : (Jvm.Cond.methodLink "java/util/ArrayDeque$DeqIterator" (7 : Nat) ({ cls := "java/lang/Object", name := "<init>", desc := "()V" } : Jvm.MethodName)) ∈ lw_all := lw_g (lw_at lw_m18 202 rfl) rfl
theorem q4675 : (Jvm.Cond.methodLink "java/util/ArrayDeque$DeqIterator" (13 : Nat) ({ cls := "java/util/ArrayDeque", name := "size", desc := "()I" } : Jvm.MethodName)) ∈ lw_all := lw_g (lw_at lw_m18 203 rfl) rfl
theorem q4679 : (Jvm.Cond.fieldLink "java/util/ArrayDeque$DeqIterator" (29 : Nat) "java/util/ArrayDeque$DeqIterator" "cursor" "I") ∈ lw_all := lw_g (lw_at lw_m18 207 rfl) rfl
theorem q4680 : (Jvm.Cond.fieldLink "java/util/ArrayDeque$DeqIterator" (19 : Nat) "java/util/ArrayDeque$DeqIterator" "remaining" "I") ∈ lw_all := lw_g (lw_at lw_m18 208 rfl) rfl
theorem q4681 : (Jvm.Cond.fieldLink "java/util/ArrayDeque$DeqIterator" (23 : Nat) "java/util/ArrayDeque$DeqIterator" "lastRet" "I") ∈ lw_all := lw_g (lw_at lw_m18 209 rfl) rfl
theorem q4682 : (Jvm.Cond.fieldLink "java/util/ArrayDeque$DeqIterator" (1 : Nat) "java/util/ArrayDeque$DeqIterator" "this$0" "Ljava/util/ArrayDeque;") ∈ lw_all := lw_g (lw_at lw_m18 210 rfl) rfl
theorem q4683 : (Jvm.Cond.lays "java/util/ArrayDeque$DeqIterator" "java/util/ArrayDeque$DeqIterator" "cursor" "I") ∈ lw_all := lw_g (lw_at lw_m18 211 rfl) rfl
theorem q4684 : (Jvm.Cond.soleField "java/util/ArrayDeque$DeqIterator" "cursor") ∈ lw_all := lw_g (lw_at lw_m18 212 rfl) rfl
theorem q4685 : (Jvm.Cond.lays "java/util/ArrayDeque$DeqIterator" "java/util/ArrayDeque$DeqIterator" "remaining" "I") ∈ lw_all := lw_g (lw_at lw_m18 213 rfl) rfl
theorem q4686 : (Jvm.Cond.soleField "java/util/ArrayDeque$DeqIterator" "remaining") ∈ lw_all := lw_g (lw_at lw_m18 214 rfl) rfl
theorem q4687 : (Jvm.Cond.lays "java/util/ArrayDeque$DeqIterator" "java/util/ArrayDeque$DeqIterator" "lastRet" "I") ∈ lw_all := lw_g (lw_at lw_m18 215 rfl) rfl
theorem q4688 : (Jvm.Cond.soleField "java/util/ArrayDeque$DeqIterator" "lastRet") ∈ lw_all := lw_g (lw_at lw_m18 216 rfl) rfl
theorem q4689 : (Jvm.Cond.laysFinal "java/util/ArrayDeque$DeqIterator" "java/util/ArrayDeque$DeqIterator" "this$0" "Ljava/util/ArrayDeque;") ∈ lw_all := lw_g (lw_at lw_m18 217 rfl) rfl
theorem q4690 : (Jvm.Cond.soleField "java/util/ArrayDeque$DeqIterator" "this$0") ∈ lw_all := lw_g (lw_at lw_m18 218 rfl) rfl
theorem q4691 : (Jvm.Cond.superclass "java/util/ArrayDeque$DeqIterator" "java/lang/Object") ∈ lw_all := lw_g (lw_at lw_m18 219 rfl) rfl
theorem q9701 : (Jvm.Cond.castable "java/util/ArrayDeque$DeqIterator" "java/lang/Object") ∈ lw_tbl := lw_at lw_m39 189 rfl
theorem in_J43 : ∀ w ∈ wsJ430, w ∈ lw_all := lw_in wsJ430 [4683, 4685, 4687, 4689] (by decide +kernel) (by decide +kernel)
