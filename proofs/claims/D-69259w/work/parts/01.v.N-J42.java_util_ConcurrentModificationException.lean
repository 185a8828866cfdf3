/-! java/util/ConcurrentModificationException -/
set_option maxRecDepth 100000
def RJ42 : String := "java/util/ConcurrentModificationException"
def TJ42 : u_T := fun k => match k with
  | 0 => ("java/lang/Throwable", "backtrace", "Ljava/lang/Object;", false)
  | 1 => ("java/lang/Throwable", "detailMessage", "Ljava/lang/String;", false)
  | 2 => ("java/lang/Throwable", "cause", "Ljava/lang/Throwable;", false)
  | 3 => ("java/lang/Throwable", "stackTrace", "[Ljava/lang/StackTraceElement;", false)
  | 4 => ("java/lang/Throwable", "depth", "I", false)
  | _ => ("java/lang/Throwable", "suppressedExceptions", "Ljava/util/List;", false)
def tyJ42 : Nat → FieldType := fun k => match k with
  | 0 => .object "java/lang/Object"
  | 1 => .object "java/lang/String"
  | 2 => .object "java/lang/Throwable"
  | 3 => .array (.object "java/lang/StackTraceElement")
  | 4 => .int
  | _ => .object "java/util/List"
abbrev wsJ420 : List Cond := u_ws RJ42 TJ42 6
theorem nmJ42 : ∀ a, a < 6 → ∀ b, b < 6 → a ≠ b → (TJ42 a).2.1 ≠ (TJ42 b).2.1 := by decide +kernel
theorem tyJ42_ok : ∀ k, k < 6 → parseFieldDescriptor (TJ42 k).2.2.1 = some (tyJ42 k) := by decide +kernel
abbrev cJ42_init : ByteArray := prog_107_method_1_code
def yJ42_init : MethodName := ⟨RJ42, "<init>", "()V"⟩
theorem dJ42_init_0 : decode cJ42_init 0 = .ok (.aload_n 0, 1) := by decide +kernel
theorem dJ42_init_1 : decode cJ42_init 1 = .ok (.invokespecial 1, 3) := by decide +kernel
theorem dJ42_init_4 : decode cJ42_init 4 = .ok (.return_, 1) := by decide +kernel
theorem q501 : (Jvm.Cond.initialized "java/util/ConcurrentModificationException") ∈ lw_all := lw_g (lw_at lw_m1 109 rfl) rfl
theorem q2047 : (Jvm.Cond.selects "java/util/ConcurrentModificationException" ({ cls := "java/lang/Object", name := "getClass", desc := "()Ljava/lang/Class;" } : Jvm.MethodName) ({ cls := "java/lang/Object", name := "getClass", desc := "()Ljava/lang/Class;" } : Jvm.MethodName)) ∈ lw_all := lw_g (lw_at lw_m7 215 rfl) rfl
theorem q2803 : (Jvm.Cond.selects "java/util/ConcurrentModificationException" ({ cls := "java/lang/Throwable", name := "fillInStackTrace", desc := "()Ljava/lang/Throwable;" } : Jvm.MethodName) ({ cls := "java/lang/Throwable", name := "fillInStackTrace", desc := "()Ljava/lang/Throwable;" } : Jvm.MethodName)) ∈ lw_all := lw_g (lw_at lw_m11 11 rfl) rfl
theorem q4599 : (Jvm.Cond.instantiable "java/util/ConcurrentModificationException" (6 : Nat)) ∈ lw_all := lw_g (lw_at lw_m18 127 rfl) rfl
theorem q4601 : (Jvm.Cond.instanceMethod ({ cls := "java/util/ConcurrentModificationException", name := "<init>", desc := "()V" } : Jvm.MethodName)) ∈ lw_all := lw_g (lw_at lw_m18 129 rfl) rfl
theorem q4602 : (Jvm.Cond.code ({ cls := "java/util/ConcurrentModificationException", name := "<init>", desc := "()V" } : Jvm.MethodName) prog_107_method_1_code (1 : Nat) (Option.none : Option Jvm.ClassFile.FieldType)) ∈ lw_all := lw_g (lw_at lw_m18 130 rfl) rfl
theorem q4603 : (Jvm.Cond.methodLink "java/util/ConcurrentModificationException" (1 : Nat) ({ cls := "java/lang/RuntimeException", name := "<init>", desc := "()V" } : Jvm.MethodName)) ∈ lw_all := lw_g (lw_at lw_m18 131 rfl) rfl
theorem q4604 : (Jvm.Cond.lays "java/util/ConcurrentModificationException" "java/lang/Throwable" "backtrace" "Ljava/lang/Object;") ∈ lw_all := lw_g (lw_at lw_m18 132 rfl) rfl
theorem q4605 : (Jvm.Cond.lays "java/util/ConcurrentModificationException" "java/lang/Throwable" "detailMessage" "Ljava/lang/String;") ∈ lw_all := lw_g (lw_at lw_m18 133 rfl) rfl
theorem q4606 : (Jvm.Cond.lays "java/util/ConcurrentModificationException" "java/lang/Throwable" "cause" "Ljava/lang/Throwable;") ∈ lw_all := lw_g (lw_at lw_m18 134 rfl) rfl
theorem q4607 : (Jvm.Cond.lays "java/util/ConcurrentModificationException" "java/lang/Throwable" "stackTrace" "[Ljava/lang/StackTraceElement;") ∈ lw_all := lw_g (lw_at lw_m18 135 rfl) rfl
theorem q4608 : (Jvm.Cond.lays "java/util/ConcurrentModificationException" "java/lang/Throwable" "depth" "I") ∈ lw_all := lw_g (lw_at lw_m18 136 rfl) rfl
theorem q4609 : (Jvm.Cond.lays "java/util/ConcurrentModificationException" "java/lang/Throwable" "suppressedExceptions" "Ljava/util/List;") ∈ lw_all := lw_g (lw_at lw_m18 137 rfl) rfl
theorem q4610 : (Jvm.Cond.superclass "java/util/ConcurrentModificationException" "java/lang/RuntimeException") ∈ lw_all := lw_g (lw_at lw_m18 138 rfl) rfl
theorem q9700 : (Jvm.Cond.castable "java/util/ConcurrentModificationException" "java/lang/Object") ∈ lw_tbl := lw_at lw_m39 188 rfl
theorem in_J42 : ∀ w ∈ wsJ420, w ∈ lw_all := lw_in wsJ420 [4604, 4605, 4606, 4607, 4608, 4609] (by decide +kernel) (by decide +kernel)
