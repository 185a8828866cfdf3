/-! java/lang/Throwable -/
set_option maxRecDepth 100000
def RJ13 : String := "java/lang/Throwable"
def TJ13 : u_T := fun k => match k with
  | 0 => ("java/lang/Throwable", "cause", "Ljava/lang/Throwable;", false)
  | 1 => ("java/lang/Throwable", "stackTrace", "[Ljava/lang/StackTraceElement;", false)
  | 2 => ("java/lang/Throwable", "suppressedExceptions", "Ljava/util/List;", false)
  | 3 => ("java/lang/Throwable", "detailMessage", "Ljava/lang/String;", false)
  | _ => ("java/lang/Throwable", "backtrace", "Ljava/lang/Object;", false)
def tyJ13 : Nat → FieldType := fun k => match k with
  | 0 => .object "java/lang/Throwable"
  | 1 => .array (.object "java/lang/StackTraceElement")
  | 2 => .object "java/util/List"
  | 3 => .object "java/lang/String"
  | _ => .object "java/lang/Object"
abbrev wsJ130 : List Cond := u_ws RJ13 TJ13 5
theorem nmJ13 : ∀ a, a < 5 → ∀ b, b < 5 → a ≠ b → (TJ13 a).2.1 ≠ (TJ13 b).2.1 := by decide +kernel
theorem tyJ13_ok : ∀ k, k < 5 → parseFieldDescriptor (TJ13 k).2.2.1 = some (tyJ13 k) := by decide +kernel
abbrev cJ13_init : ByteArray := prog_92_method_1_code
def yJ13_init : MethodName := ⟨RJ13, "<init>", "()V"⟩
def dkwJ13_init_1 : List UInt8 := [182, 0, 27, 87, 177]
abbrev dktJ13_init_1 : List UInt8 := dkwJ13_init_1 ++ []
def dkwJ13_init_0 : List UInt8 := [42, 183, 0, 1, 42, 42, 181, 0, 7, 42, 178, 0, 13, 181, 0, 17, 42, 178, 0, 20, 181, 0, 24, 42]
abbrev dktJ13_init_0 : List UInt8 := dkwJ13_init_0 ++ dktJ13_init_1
theorem dksJ13_init_0 : cJ13_init.data.toList.drop 0 = dktJ13_init_0 := by decide +kernel
theorem dksJ13_init_1 : cJ13_init.data.toList.drop 24 = dktJ13_init_1 := dk_seg dksJ13_init_0 24 rfl rfl
theorem dJ13_init_0 : decode cJ13_init 0 = .ok (.aload_n 0, 1) := dk_42 (dk_at dksJ13_init_0 0 rfl rfl)
theorem dJ13_init_1 : decode cJ13_init 1 = .ok (.invokespecial 1, 3) := dk_183 0 1 (dk_at dksJ13_init_0 1 rfl rfl)
theorem dJ13_init_4 : decode cJ13_init 4 = .ok (.aload_n 0, 1) := dk_42 (dk_at dksJ13_init_0 4 rfl rfl)
theorem dJ13_init_5 : decode cJ13_init 5 = .ok (.aload_n 0, 1) := dk_42 (dk_at dksJ13_init_0 5 rfl rfl)
theorem dJ13_init_6 : decode cJ13_init 6 = .ok (.putfield 7, 3) := dk_181 0 7 (dk_at dksJ13_init_0 6 rfl rfl)
theorem dJ13_init_9 : decode cJ13_init 9 = .ok (.aload_n 0, 1) := dk_42 (dk_at dksJ13_init_0 9 rfl rfl)
theorem dJ13_init_10 : decode cJ13_init 10 = .ok (.getstatic 13, 3) := dk_178 0 13 (dk_at dksJ13_init_0 10 rfl rfl)
theorem dJ13_init_13 : decode cJ13_init 13 = .ok (.putfield 17, 3) := dk_181 0 17 (dk_at dksJ13_init_0 13 rfl rfl)
theorem dJ13_init_16 : decode cJ13_init 16 = .ok (.aload_n 0, 1) := dk_42 (dk_at dksJ13_init_0 16 rfl rfl)
theorem dJ13_init_17 : decode cJ13_init 17 = .ok (.getstatic 20, 3) := dk_178 0 20 (dk_at dksJ13_init_0 17 rfl rfl)
theorem dJ13_init_20 : decode cJ13_init 20 = .ok (.putfield 24, 3) := dk_181 0 24 (dk_at dksJ13_init_0 20 rfl rfl)
theorem dJ13_init_23 : decode cJ13_init 23 = .ok (.aload_n 0, 1) := dk_42 (dk_at dksJ13_init_0 23 rfl rfl)
theorem dJ13_init_24 : decode cJ13_init 24 = .ok (.invokevirtual 27, 3) := dk_182 0 27 (dk_at dksJ13_init_1 0 rfl rfl)
theorem dJ13_init_27 : decode cJ13_init 27 = .ok (.pop, 1) := dk_87 (dk_at dksJ13_init_1 3 rfl rfl)
theorem dJ13_init_28 : decode cJ13_init 28 = .ok (.return_, 1) := dk_177 (dk_at dksJ13_init_1 4 rfl rfl)
abbrev cJ13_init_2 : ByteArray := prog_92_method_2_code
def yJ13_init_2 : MethodName := ⟨RJ13, "<init>", "(Ljava/lang/String;)V"⟩
def dkwJ13_init_2_1 : List UInt8 := [182, 0, 27, 87, 42, 43, 181, 0, 31, 177]
abbrev dktJ13_init_2_1 : List UInt8 := dkwJ13_init_2_1 ++ []
def dkwJ13_init_2_0 : List UInt8 := [42, 183, 0, 1, 42, 42, 181, 0, 7, 42, 178, 0, 13, 181, 0, 17, 42, 178, 0, 20, 181, 0, 24, 42]
abbrev dktJ13_init_2_0 : List UInt8 := dkwJ13_init_2_0 ++ dktJ13_init_2_1
theorem dksJ13_init_2_0 : cJ13_init_2.data.toList.drop 0 = dktJ13_init_2_0 := by decide +kernel
theorem dksJ13_init_2_1 : cJ13_init_2.data.toList.drop 24 = dktJ13_init_2_1 := dk_seg dksJ13_init_2_0 24 rfl rfl
theorem dJ13_init_2_0 : decode cJ13_init_2 0 = .ok (.aload_n 0, 1) := dk_42 (dk_at dksJ13_init_2_0 0 rfl rfl)
theorem dJ13_init_2_1 : decode cJ13_init_2 1 = .ok (.invokespecial 1, 3) := dk_183 0 1 (dk_at dksJ13_init_2_0 1 rfl rfl)
theorem dJ13_init_2_4 : decode cJ13_init_2 4 = .ok (.aload_n 0, 1) := dk_42 (dk_at dksJ13_init_2_0 4 rfl rfl)
theorem dJ13_init_2_5 : decode cJ13_init_2 5 = .ok (.aload_n 0, 1) := dk_42 (dk_at dksJ13_init_2_0 5 rfl rfl)
theorem dJ13_init_2_6 : decode cJ13_init_2 6 = .ok (.putfield 7, 3) := dk_181 0 7 (dk_at dksJ13_init_2_0 6 rfl rfl)
theorem dJ13_init_2_9 : decode cJ13_init_2 9 = .ok (.aload_n 0, 1) := dk_42 (dk_at dksJ13_init_2_0 9 rfl rfl)
theorem dJ13_init_2_10 : decode cJ13_init_2 10 = .ok (.getstatic 13, 3) := dk_178 0 13 (dk_at dksJ13_init_2_0 10 rfl rfl)
theorem dJ13_init_2_13 : decode cJ13_init_2 13 = .ok (.putfield 17, 3) := dk_181 0 17 (dk_at dksJ13_init_2_0 13 rfl rfl)
theorem dJ13_init_2_16 : decode cJ13_init_2 16 = .ok (.aload_n 0, 1) := dk_42 (dk_at dksJ13_init_2_0 16 rfl rfl)
theorem dJ13_init_2_17 : decode cJ13_init_2 17 = .ok (.getstatic 20, 3) := dk_178 0 20 (dk_at dksJ13_init_2_0 17 rfl rfl)
theorem dJ13_init_2_20 : decode cJ13_init_2 20 = .ok (.putfield 24, 3) := dk_181 0 24 (dk_at dksJ13_init_2_0 20 rfl rfl)
theorem dJ13_init_2_23 : decode cJ13_init_2 23 = .ok (.aload_n 0, 1) := dk_42 (dk_at dksJ13_init_2_0 23 rfl rfl)
theorem dJ13_init_2_24 : decode cJ13_init_2 24 = .ok (.invokevirtual 27, 3) := dk_182 0 27 (dk_at dksJ13_init_2_1 0 rfl rfl)
theorem dJ13_init_2_27 : decode cJ13_init_2 27 = .ok (.pop, 1) := dk_87 (dk_at dksJ13_init_2_1 3 rfl rfl)
theorem dJ13_init_2_28 : decode cJ13_init_2 28 = .ok (.aload_n 0, 1) := dk_42 (dk_at dksJ13_init_2_1 4 rfl rfl)
theorem dJ13_init_2_29 : decode cJ13_init_2 29 = .ok (.aload_n 1, 1) := dk_43 (dk_at dksJ13_init_2_1 5 rfl rfl)
theorem dJ13_init_2_30 : decode cJ13_init_2 30 = .ok (.putfield 31, 3) := dk_181 0 31 (dk_at dksJ13_init_2_1 6 rfl rfl)
theorem dJ13_init_2_33 : decode cJ13_init_2 33 = .ok (.return_, 1) := dk_177 (dk_at dksJ13_init_2_1 9 rfl rfl)
theorem q464 : (Jvm.Cond.initialized "java/lang/Throwable") ∈ lw_all := lw_g (lw_at lw_m1 72 rfl) rfl
theorem q2775 : (Jvm.Cond.declares ({ cls := "java/lang/Throwable", name := "<init>", desc := "()V" } : Jvm.MethodName)) ∈ lw_tbl := lw_at lw_m10 223 rfl
theorem q2776 : (Jvm.Cond.declares ({ cls := "java/lang/Throwable", name := "<init>", desc := "(Ljava/lang/String;)V" } : Jvm.MethodName)) ∈ lw_tbl := lw_at lw_m10 224 rfl
theorem q2780 : (Jvm.Cond.lays "java/lang/Throwable" "java/lang/Throwable" "cause" "Ljava/lang/Throwable;") ∈ lw_all := lw_g (lw_at lw_m10 228 rfl) rfl
theorem q2782 : (Jvm.Cond.lays "java/lang/Throwable" "java/lang/Throwable" "stackTrace" "[Ljava/lang/StackTraceElement;") ∈ lw_all := lw_g (lw_at lw_m10 230 rfl) rfl
theorem q2784 : (Jvm.Cond.lays "java/lang/Throwable" "java/lang/Throwable" "suppressedExceptions" "Ljava/util/List;") ∈ lw_all := lw_g (lw_at lw_m10 232 rfl) rfl
theorem q2786 : (Jvm.Cond.lays "java/lang/Throwable" "java/lang/Throwable" "detailMessage" "Ljava/lang/String;") ∈ lw_all := lw_g (lw_at lw_m10 234 rfl) rfl
theorem q2788 : (Jvm.Cond.lays "java/lang/Throwable" "java/lang/Throwable" "backtrace" "Ljava/lang/Object;") ∈ lw_all := lw_g (lw_at lw_m10 236 rfl) rfl
theorem q2789 : (Jvm.Cond.fieldLink "java/lang/Throwable" (198 : Nat) "java/lang/Throwable" "backtrace" "Ljava/lang/Object;") ∈ lw_all := lw_g (lw_at lw_m10 237 rfl) rfl
theorem q2790 : (Jvm.Cond.superclass "java/lang/Throwable" "java/lang/Object") ∈ lw_all := lw_g (lw_at lw_m10 238 rfl) rfl
theorem q2791 : (Jvm.Cond.instanceMethod ({ cls := "java/lang/Throwable", name := "<init>", desc := "()V" } : Jvm.MethodName)) ∈ lw_all := lw_g (lw_at lw_m10 239 rfl) rfl
theorem q2792 : (Jvm.Cond.code ({ cls := "java/lang/Throwable", name := "<init>", desc := "()V" } : Jvm.MethodName) prog_92_method_1_code (1 : Nat) (Option.none : Option Jvm.ClassFile.FieldType)) ∈ lw_all := lw_g (lw_at lw_m11 0 rfl) rfl
theorem q2793 : (Jvm.Cond.methodLink "java/lang/Throwable" (1 : Nat) ({ cls := "java/lang/Object", name := "<init>", desc := "()V" } : Jvm.MethodName)) ∈ lw_all := lw_g (lw_at lw_m11 1 rfl) rfl
theorem q2794 : (Jvm.Cond.fieldLink "java/lang/Throwable" (13 : Nat) "java/lang/Throwable" "UNASSIGNED_STACK" "[Ljava/lang/StackTraceElement;") ∈ lw_all := lw_g (lw_at lw_m11 2 rfl) rfl
theorem q2795 : (Jvm.Cond.laysStatic "java/lang/Throwable" "UNASSIGNED_STACK" "[Ljava/lang/StackTraceElement;") ∈ lw_tbl := lw_at lw_m11 3 rfl
theorem q2796 : (Jvm.Cond.fieldLink "java/lang/Throwable" (20 : Nat) "java/lang/Throwable" "SUPPRESSED_SENTINEL" "Ljava/util/List;") ∈ lw_all := lw_g (lw_at lw_m11 4 rfl) rfl
theorem q2797 : (Jvm.Cond.laysStatic "java/lang/Throwable" "SUPPRESSED_SENTINEL" "Ljava/util/List;") ∈ lw_tbl := lw_at lw_m11 5 rfl
theorem q2798 : (Jvm.Cond.methodLink "java/lang/Throwable" (27 : Nat) ({ cls := "java/lang/Throwable", name := "fillInStackTrace", desc := "()Ljava/lang/Throwable;" } : Jvm.MethodName)) ∈ lw_all := lw_g (lw_at lw_m11 6 rfl) rfl
theorem q2799 : (Jvm.Cond.instanceMethod ({ cls := "java/lang/Throwable", name := "fillInStackTrace", desc := "()Ljava/lang/Throwable;" } : Jvm.MethodName)) ∈ lw_all := lw_g (lw_at lw_m11 7 rfl) rfl
theorem q2800 : (Jvm.Cond.sameMethod "java/lang/Throwable" "java/lang/Throwable" "fillInStackTrace" "()Ljava/lang/Throwable;") ∈ lw_all := lw_g (lw_at lw_m11 8 rfl) rfl
theorem q2804 : (Jvm.Cond.codeSync ({ cls := "java/lang/Throwable", name := "fillInStackTrace", desc := "()Ljava/lang/Throwable;" } : Jvm.MethodName) prog_92_method_18_code (1 : Nat) (Option.some (Jvm.ClassFile.FieldType.object "java/lang/Throwable"))) ∈ lw_all := lw_g (lw_at lw_m11 12 rfl) rfl
theorem q2805 : (Jvm.Cond.methodLink "java/lang/Throwable" (202 : Nat) ({ cls := "java/lang/Throwable", name := "fillInStackTrace", desc := "(I)Ljava/lang/Throwable;" } : Jvm.MethodName)) ∈ lw_all := lw_g (lw_at lw_m11 13 rfl) rfl
theorem q2806 : (Jvm.Cond.privateMethod ({ cls := "java/lang/Throwable", name := "fillInStackTrace", desc := "(I)Ljava/lang/Throwable;" } : Jvm.MethodName)) ∈ lw_tbl := lw_at lw_m11 14 rfl
theorem q2807 : (Jvm.Cond.instanceMethod ({ cls := "java/lang/Throwable", name := "fillInStackTrace", desc := "(I)Ljava/lang/Throwable;" } : Jvm.MethodName)) ∈ lw_all := lw_g (lw_at lw_m11 15 rfl) rfl
theorem q2808 : (Jvm.Cond.instantiable "java/lang/Throwable" (6 : Nat)) ∈ lw_all := lw_g (lw_at lw_m11 16 rfl) rfl
theorem q2809 : (Jvm.Cond.native ({ cls := "java/lang/Throwable", name := "fillInStackTrace", desc := "(I)Ljava/lang/Throwable;" } : Jvm.MethodName)) ∈ lw_all := lw_g (lw_at lw_m11 17 rfl) rfl
theorem q2896 : (Jvm.Cond.instanceMethod ({ cls := "java/lang/Throwable", name := "<init>", desc := "(Ljava/lang/String;)V" } : Jvm.MethodName)) ∈ lw_all := lw_g (lw_at lw_m11 104 rfl) rfl
theorem q2897 : (Jvm.Cond.code ({ cls := "java/lang/Throwable", name := "<init>", desc := "(Ljava/lang/String;)V" } : Jvm.MethodName) prog_92_method_2_code (2 : Nat) (Option.none : Option Jvm.ClassFile.FieldType)) ∈ lw_all := lw_g (lw_at lw_m11 105 rfl) rfl
theorem q2898 : (Jvm.Cond.fieldLink "java/lang/Throwable" (198 : Nat) "java/lang/Throwable" "backtrace" "Ljava/lang/Object;") ∈ lw_all := lw_g (lw_at lw_m11 106 rfl) rfl
theorem q2899 : (Jvm.Cond.fieldLink "java/lang/Throwable" (31 : Nat) "java/lang/Throwable" "detailMessage" "Ljava/lang/String;") ∈ lw_all := lw_g (lw_at lw_m11 107 rfl) rfl
theorem q2900 : (Jvm.Cond.fieldLink "java/lang/Throwable" (7 : Nat) "java/lang/Throwable" "cause" "Ljava/lang/Throwable;") ∈ lw_all := lw_g (lw_at lw_m11 108 rfl) rfl
theorem q2901 : (Jvm.Cond.fieldLink "java/lang/Throwable" (17 : Nat) "java/lang/Throwable" "stackTrace" "[Ljava/lang/StackTraceElement;") ∈ lw_all := lw_g (lw_at lw_m11 109 rfl) rfl
theorem q2902 : (Jvm.Cond.fieldLink "java/lang/Throwable" (24 : Nat) "java/lang/Throwable" "suppressedExceptions" "Ljava/util/List;") ∈ lw_all := lw_g (lw_at lw_m11 110 rfl) rfl
theorem q2903 : (Jvm.Cond.soleField "java/lang/Throwable" "backtrace") ∈ lw_all := lw_g (lw_at lw_m11 111 rfl) rfl
theorem q2904 : (Jvm.Cond.soleField "java/lang/Throwable" "detailMessage") ∈ lw_all := lw_g (lw_at lw_m11 112 rfl) rfl
theorem q2905 : (Jvm.Cond.soleField "java/lang/Throwable" "cause") ∈ lw_all := lw_g (lw_at lw_m11 113 rfl) rfl
theorem q2906 : (Jvm.Cond.soleField "java/lang/Throwable" "stackTrace") ∈ lw_all := lw_g (lw_at lw_m11 114 rfl) rfl
theorem q2908 : (Jvm.Cond.soleField "java/lang/Throwable" "depth") ∈ lw_all := lw_g (lw_at lw_m11 116 rfl) rfl
theorem q2909 : (Jvm.Cond.soleField "java/lang/Throwable" "suppressedExceptions") ∈ lw_all := lw_g (lw_at lw_m11 117 rfl) rfl
theorem q9594 : (Jvm.Cond.sameMethod "java/lang/Throwable" "java/lang/Throwable" "fillInStackTrace" "(I)Ljava/lang/Throwable;") ∈ lw_all := lw_g (lw_at lw_m39 82 rfl) rfl
theorem q9705 : (Jvm.Cond.castable "java/lang/Throwable" "java/lang/Object") ∈ lw_tbl := lw_at lw_m39 193 rfl
theorem in_J13 : ∀ w ∈ wsJ130, w ∈ lw_all := lw_in wsJ130 [2780, 2782, 2784, 2786, 2788] (by decide +kernel) (by decide +kernel)
