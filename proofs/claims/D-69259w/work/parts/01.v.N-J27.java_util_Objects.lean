/-! java/util/Objects -/
set_option maxRecDepth 100000
def RJ27 : String := "java/util/Objects"
abbrev cJ27_checkIndex : ByteArray := prog_122_method_17_code
def yJ27_checkIndex : MethodName := ⟨RJ27, "checkIndex", "(II)I"⟩
def dkwJ27_checkIndex_0 : List UInt8 := [26, 27, 1, 184, 0, 105, 172]
abbrev dktJ27_checkIndex_0 : List UInt8 := dkwJ27_checkIndex_0 ++ []
theorem dksJ27_checkIndex_0 : cJ27_checkIndex.data.toList.drop 0 = dktJ27_checkIndex_0 := by decide +kernel
theorem dJ27_checkIndex_0 : decode cJ27_checkIndex 0 = .ok (.iload_n 0, 1) := dk_26 (dk_at dksJ27_checkIndex_0 0 rfl rfl)
theorem dJ27_checkIndex_1 : decode cJ27_checkIndex 1 = .ok (.iload_n 1, 1) := dk_27 (dk_at dksJ27_checkIndex_0 1 rfl rfl)
theorem dJ27_checkIndex_2 : decode cJ27_checkIndex 2 = .ok (.aconst_null, 1) := dk_1 (dk_at dksJ27_checkIndex_0 2 rfl rfl)
theorem dJ27_checkIndex_3 : decode cJ27_checkIndex 3 = .ok (.invokestatic 105, 3) := dk_184 0 105 (dk_at dksJ27_checkIndex_0 3 rfl rfl)
theorem dJ27_checkIndex_6 : decode cJ27_checkIndex 6 = .ok (.ireturn, 1) := dk_172 (dk_at dksJ27_checkIndex_0 6 rfl rfl)
abbrev cJ27_requireNonNull : ByteArray := prog_122_method_10_code
def yJ27_requireNonNull : MethodName := ⟨RJ27, "requireNonNull", "(Ljava/lang/Object;)Ljava/lang/Object;"⟩
def dkwJ27_requireNonNull_0 : List UInt8 := [42, 199, 0, 11, 187, 0, 84, 89, 183, 0, 86, 191, 42, 176]
abbrev dktJ27_requireNonNull_0 : List UInt8 := dkwJ27_requireNonNull_0 ++ []
theorem dksJ27_requireNonNull_0 : cJ27_requireNonNull.data.toList.drop 0 = dktJ27_requireNonNull_0 := by decide +kernel
theorem dJ27_requireNonNull_0 : decode cJ27_requireNonNull 0 = .ok (.aload_n 0, 1) := dk_42 (dk_at dksJ27_requireNonNull_0 0 rfl rfl)
theorem dJ27_requireNonNull_1 : decode cJ27_requireNonNull 1 = .ok (.ifnonnull 11, 3) := dk_199 0 11 (dk_at dksJ27_requireNonNull_0 1 rfl rfl)
theorem dJ27_requireNonNull_4 : decode cJ27_requireNonNull 4 = .ok (.new 84, 3) := dk_187 0 84 (dk_at dksJ27_requireNonNull_0 4 rfl rfl)
theorem dJ27_requireNonNull_7 : decode cJ27_requireNonNull 7 = .ok (.dup, 1) := dk_89 (dk_at dksJ27_requireNonNull_0 7 rfl rfl)
theorem dJ27_requireNonNull_8 : decode cJ27_requireNonNull 8 = .ok (.invokespecial 86, 3) := dk_183 0 86 (dk_at dksJ27_requireNonNull_0 8 rfl rfl)
theorem dJ27_requireNonNull_11 : decode cJ27_requireNonNull 11 = .ok (.athrow, 1) := dk_191 (dk_at dksJ27_requireNonNull_0 11 rfl rfl)
theorem dJ27_requireNonNull_12 : decode cJ27_requireNonNull 12 = .ok (.aload_n 0, 1) := dk_42 (dk_at dksJ27_requireNonNull_0 12 rfl rfl)
theorem dJ27_requireNonNull_13 : decode cJ27_requireNonNull 13 = .ok (.areturn, 1) := dk_176 (dk_at dksJ27_requireNonNull_0 13 rfl rfl)
theorem q478 : (Jvm.Cond.initialized "java/util/Objects") ∈ lw_all := lw_g (lw_at lw_m1 86 rfl) rfl
theorem q3187 : (Jvm.Cond.static ({ cls := "java/util/Objects", name := "checkIndex", desc := "(II)I" } : Jvm.MethodName)) ∈ lw_all := lw_g (lw_at lw_m12 155 rfl) rfl
theorem q3188 : (Jvm.Cond.code ({ cls := "java/util/Objects", name := "checkIndex", desc := "(II)I" } : Jvm.MethodName) prog_122_method_17_code (2 : Nat) (Option.some Jvm.ClassFile.FieldType.int)) ∈ lw_all := lw_g (lw_at lw_m12 156 rfl) rfl
theorem q3189 : (Jvm.Cond.methodLink "java/util/Objects" (105 : Nat) ({ cls := "jdk/internal/util/Preconditions", name := "checkIndex", desc := "(IILjava/util/function/BiFunction;)I" } : Jvm.MethodName)) ∈ lw_all := lw_g (lw_at lw_m12 157 rfl) rfl
theorem q4225 : (Jvm.Cond.static ({ cls := "java/util/Objects", name := "requireNonNull", desc := "(Ljava/lang/Object;)Ljava/lang/Object;" } : Jvm.MethodName)) ∈ lw_all := lw_g (lw_at lw_m16 233 rfl) rfl
theorem q4226 : (Jvm.Cond.code ({ cls := "java/util/Objects", name := "requireNonNull", desc := "(Ljava/lang/Object;)Ljava/lang/Object;" } : Jvm.MethodName) prog_122_method_10_code (1 : Nat) (Option.some (Jvm.ClassFile.FieldType.object "java/lang/Object"))) ∈ lw_all := lw_g (lw_at lw_m16 234 rfl) rfl
