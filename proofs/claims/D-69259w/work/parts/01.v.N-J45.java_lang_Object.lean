/-! java/lang/Object -/
set_option maxRecDepth 100000
def RJ45 : String := "java/lang/Object"
abbrev cJ45_init : ByteArray := object_method_1_code
def yJ45_init : MethodName := ⟨RJ45, "<init>", "()V"⟩
theorem dJ45_init_0 : decode cJ45_init 0 = .ok (.return_, 1) := by decide +kernel
abbrev cJ45_equals : ByteArray := object_method_4_code
def yJ45_equals : MethodName := ⟨RJ45, "equals", "(Ljava/lang/Object;)Z"⟩
def dkwJ45_equals_0 : List UInt8 := [42, 43, 166, 0, 7, 4, 167, 0, 4, 3, 172]
abbrev dktJ45_equals_0 : List UInt8 := dkwJ45_equals_0 ++ []
theorem dksJ45_equals_0 : cJ45_equals.data.toList.drop 0 = dktJ45_equals_0 := by decide +kernel
theorem dJ45_equals_0 : decode cJ45_equals 0 = .ok (.aload_n 0, 1) := dk_42 (dk_at dksJ45_equals_0 0 rfl rfl)
theorem dJ45_equals_1 : decode cJ45_equals 1 = .ok (.aload_n 1, 1) := dk_43 (dk_at dksJ45_equals_0 1 rfl rfl)
theorem dJ45_equals_2 : decode cJ45_equals 2 = .ok (.if_acmp .ne 7, 3) := dk_166 0 7 (dk_at dksJ45_equals_0 2 rfl rfl)
theorem dJ45_equals_5 : decode cJ45_equals 5 = .ok (.iconst 1, 1) := dk_4 (dk_at dksJ45_equals_0 5 rfl rfl)
theorem dJ45_equals_6 : decode cJ45_equals 6 = .ok (.goto 4, 3) := dk_167 0 4 (dk_at dksJ45_equals_0 6 rfl rfl)
theorem dJ45_equals_9 : decode cJ45_equals 9 = .ok (.iconst 0, 1) := dk_3 (dk_at dksJ45_equals_0 9 rfl rfl)
theorem dJ45_equals_10 : decode cJ45_equals 10 = .ok (.ireturn, 1) := dk_172 (dk_at dksJ45_equals_0 10 rfl rfl)
theorem q512 : (Jvm.Cond.instanceMethod ({ cls := "java/lang/Object", name := "<init>", desc := "()V" } : Jvm.MethodName)) ∈ lw_all := lw_g (lw_at lw_m1 120 rfl) rfl
theorem q513 : (Jvm.Cond.code ({ cls := "java/lang/Object", name := "<init>", desc := "()V" } : Jvm.MethodName) object_method_1_code (1 : Nat) (Option.none : Option Jvm.ClassFile.FieldType)) ∈ lw_all := lw_g (lw_at lw_m1 121 rfl) rfl
theorem q936 : (Jvm.Cond.native ({ cls := "java/lang/Object", name := "clone", desc := "()Ljava/lang/Object;" } : Jvm.MethodName)) ∈ lw_all := lw_g (lw_at lw_m3 64 rfl) rfl
theorem q937 : (Jvm.Cond.instanceMethod ({ cls := "java/lang/Object", name := "clone", desc := "()Ljava/lang/Object;" } : Jvm.MethodName)) ∈ lw_all := lw_g (lw_at lw_m3 65 rfl) rfl
theorem q1970 : (Jvm.Cond.instanceMethod ({ cls := "java/lang/Object", name := "getClass", desc := "()Ljava/lang/Class;" } : Jvm.MethodName)) ∈ lw_all := lw_g (lw_at lw_m7 138 rfl) rfl
theorem q1971 : (Jvm.Cond.sameMethod "java/lang/Object" "java/lang/Object" "getClass" "()Ljava/lang/Class;") ∈ lw_all := lw_g (lw_at lw_m7 139 rfl) rfl
theorem q2059 : (Jvm.Cond.native ({ cls := "java/lang/Object", name := "getClass", desc := "()Ljava/lang/Class;" } : Jvm.MethodName)) ∈ lw_all := lw_g (lw_at lw_m7 227 rfl) rfl
theorem q3076 : (Jvm.Cond.declares ({ cls := "java/lang/Object", name := "equals", desc := "(Ljava/lang/Object;)Z" } : Jvm.MethodName)) ∈ lw_tbl := lw_at lw_m12 44 rfl
theorem q3078 : (Jvm.Cond.instanceMethod ({ cls := "java/lang/Object", name := "equals", desc := "(Ljava/lang/Object;)Z" } : Jvm.MethodName)) ∈ lw_all := lw_g (lw_at lw_m12 46 rfl) rfl
theorem q3079 : (Jvm.Cond.sameMethod "java/lang/Object" "java/lang/Object" "equals" "(Ljava/lang/Object;)Z") ∈ lw_all := lw_g (lw_at lw_m12 47 rfl) rfl
theorem q3167 : (Jvm.Cond.code ({ cls := "java/lang/Object", name := "equals", desc := "(Ljava/lang/Object;)Z" } : Jvm.MethodName) object_method_4_code (2 : Nat) (Option.some Jvm.ClassFile.FieldType.boolean)) ∈ lw_all := lw_g (lw_at lw_m12 135 rfl) rfl
theorem q3591 : (Jvm.Cond.declares ({ cls := "java/lang/Object", name := "hashCode", desc := "()I" } : Jvm.MethodName)) ∈ lw_tbl := lw_at lw_m14 79 rfl
theorem q3593 : (Jvm.Cond.instanceMethod ({ cls := "java/lang/Object", name := "hashCode", desc := "()I" } : Jvm.MethodName)) ∈ lw_all := lw_g (lw_at lw_m14 81 rfl) rfl
theorem q3594 : (Jvm.Cond.sameMethod "java/lang/Object" "java/lang/Object" "hashCode" "()I") ∈ lw_all := lw_g (lw_at lw_m14 82 rfl) rfl
theorem q3736 : (Jvm.Cond.native ({ cls := "java/lang/Object", name := "hashCode", desc := "()I" } : Jvm.MethodName)) ∈ lw_all := lw_g (lw_at lw_m14 224 rfl) rfl
theorem q9605 : (Jvm.Cond.initialized "java/lang/Object") ∈ lw_all := lw_g (lw_at lw_m39 93 rfl) rfl
theorem q9709 : (Jvm.Cond.declares ({ cls := "java/lang/Object", name := "getClass", desc := "()Ljava/lang/Class;" } : Jvm.MethodName)) ∈ lw_tbl := lw_at lw_m39 197 rfl
