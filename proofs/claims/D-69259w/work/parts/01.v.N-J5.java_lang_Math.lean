/-! java/lang/Math -/
set_option maxRecDepth 100000
def RJ5 : String := "java/lang/Math"
abbrev cJ5_abs : ByteArray := prog_83_method_59_code
def yJ5_abs : MethodName := ⟨RJ5, "abs", "(I)I"⟩
def dkwJ5_abs_0 : List UInt8 := [26, 156, 0, 8, 26, 116, 167, 0, 4, 26, 172]
abbrev dktJ5_abs_0 : List UInt8 := dkwJ5_abs_0 ++ []
theorem dksJ5_abs_0 : cJ5_abs.data.toList.drop 0 = dktJ5_abs_0 := by decide +kernel
theorem dJ5_abs_0 : decode cJ5_abs 0 = .ok (.iload_n 0, 1) := dk_26 (dk_at dksJ5_abs_0 0 rfl rfl)
theorem dJ5_abs_1 : decode cJ5_abs 1 = .ok (.ifCond .ge 8, 3) := dk_156 0 8 (dk_at dksJ5_abs_0 1 rfl rfl)
theorem dJ5_abs_4 : decode cJ5_abs 4 = .ok (.iload_n 0, 1) := dk_26 (dk_at dksJ5_abs_0 4 rfl rfl)
theorem dJ5_abs_5 : decode cJ5_abs 5 = .ok (.ineg, 1) := dk_116 (dk_at dksJ5_abs_0 5 rfl rfl)
theorem dJ5_abs_6 : decode cJ5_abs 6 = .ok (.goto 4, 3) := dk_167 0 4 (dk_at dksJ5_abs_0 6 rfl rfl)
theorem dJ5_abs_9 : decode cJ5_abs 9 = .ok (.iload_n 0, 1) := dk_26 (dk_at dksJ5_abs_0 9 rfl rfl)
theorem dJ5_abs_10 : decode cJ5_abs 10 = .ok (.ireturn, 1) := dk_172 (dk_at dksJ5_abs_0 10 rfl rfl)
abbrev cJ5_max : ByteArray := prog_83_method_65_code
def yJ5_max : MethodName := ⟨RJ5, "max", "(II)I"⟩
def dkwJ5_max_0 : List UInt8 := [26, 27, 161, 0, 7, 26, 167, 0, 4, 27, 172]
abbrev dktJ5_max_0 : List UInt8 := dkwJ5_max_0 ++ []
theorem dksJ5_max_0 : cJ5_max.data.toList.drop 0 = dktJ5_max_0 := by decide +kernel
theorem dJ5_max_0 : decode cJ5_max 0 = .ok (.iload_n 0, 1) := dk_26 (dk_at dksJ5_max_0 0 rfl rfl)
theorem dJ5_max_1 : decode cJ5_max 1 = .ok (.iload_n 1, 1) := dk_27 (dk_at dksJ5_max_0 1 rfl rfl)
theorem dJ5_max_2 : decode cJ5_max 2 = .ok (.if_icmp .lt 7, 3) := dk_161 0 7 (dk_at dksJ5_max_0 2 rfl rfl)
theorem dJ5_max_5 : decode cJ5_max 5 = .ok (.iload_n 0, 1) := dk_26 (dk_at dksJ5_max_0 5 rfl rfl)
theorem dJ5_max_6 : decode cJ5_max 6 = .ok (.goto 4, 3) := dk_167 0 4 (dk_at dksJ5_max_0 6 rfl rfl)
theorem dJ5_max_9 : decode cJ5_max 9 = .ok (.iload_n 1, 1) := dk_27 (dk_at dksJ5_max_0 9 rfl rfl)
theorem dJ5_max_10 : decode cJ5_max 10 = .ok (.ireturn, 1) := dk_172 (dk_at dksJ5_max_0 10 rfl rfl)
abbrev cJ5_min : ByteArray := prog_83_method_69_code
def yJ5_min : MethodName := ⟨RJ5, "min", "(II)I"⟩
def dkwJ5_min_0 : List UInt8 := [26, 27, 163, 0, 7, 26, 167, 0, 4, 27, 172]
abbrev dktJ5_min_0 : List UInt8 := dkwJ5_min_0 ++ []
theorem dksJ5_min_0 : cJ5_min.data.toList.drop 0 = dktJ5_min_0 := by decide +kernel
theorem dJ5_min_0 : decode cJ5_min 0 = .ok (.iload_n 0, 1) := dk_26 (dk_at dksJ5_min_0 0 rfl rfl)
theorem dJ5_min_1 : decode cJ5_min 1 = .ok (.iload_n 1, 1) := dk_27 (dk_at dksJ5_min_0 1 rfl rfl)
theorem dJ5_min_2 : decode cJ5_min 2 = .ok (.if_icmp .gt 7, 3) := dk_163 0 7 (dk_at dksJ5_min_0 2 rfl rfl)
theorem dJ5_min_5 : decode cJ5_min 5 = .ok (.iload_n 0, 1) := dk_26 (dk_at dksJ5_min_0 5 rfl rfl)
theorem dJ5_min_6 : decode cJ5_min 6 = .ok (.goto 4, 3) := dk_167 0 4 (dk_at dksJ5_min_0 6 rfl rfl)
theorem dJ5_min_9 : decode cJ5_min 9 = .ok (.iload_n 1, 1) := dk_27 (dk_at dksJ5_min_0 9 rfl rfl)
theorem dJ5_min_10 : decode cJ5_min 10 = .ok (.ireturn, 1) := dk_172 (dk_at dksJ5_min_0 10 rfl rfl)
abbrev cJ5_max_2 : ByteArray := prog_83_method_66_code
def yJ5_max_2 : MethodName := ⟨RJ5, "max", "(JJ)J"⟩
def dkwJ5_max_2_0 : List UInt8 := [30, 32, 148, 155, 0, 7, 30, 167, 0, 4, 32, 173]
abbrev dktJ5_max_2_0 : List UInt8 := dkwJ5_max_2_0 ++ []
theorem dksJ5_max_2_0 : cJ5_max_2.data.toList.drop 0 = dktJ5_max_2_0 := by decide +kernel
theorem dJ5_max_2_0 : decode cJ5_max_2 0 = .ok (.lload_n 0, 1) := dk_30 (dk_at dksJ5_max_2_0 0 rfl rfl)
theorem dJ5_max_2_1 : decode cJ5_max_2 1 = .ok (.lload_n 2, 1) := dk_32 (dk_at dksJ5_max_2_0 1 rfl rfl)
theorem dJ5_max_2_2 : decode cJ5_max_2 2 = .ok (.lcmp, 1) := dk_148 (dk_at dksJ5_max_2_0 2 rfl rfl)
theorem dJ5_max_2_3 : decode cJ5_max_2 3 = .ok (.ifCond .lt 7, 3) := dk_155 0 7 (dk_at dksJ5_max_2_0 3 rfl rfl)
theorem dJ5_max_2_6 : decode cJ5_max_2 6 = .ok (.lload_n 0, 1) := dk_30 (dk_at dksJ5_max_2_0 6 rfl rfl)
theorem dJ5_max_2_7 : decode cJ5_max_2 7 = .ok (.goto 4, 3) := dk_167 0 4 (dk_at dksJ5_max_2_0 7 rfl rfl)
theorem dJ5_max_2_10 : decode cJ5_max_2 10 = .ok (.lload_n 2, 1) := dk_32 (dk_at dksJ5_max_2_0 10 rfl rfl)
theorem dJ5_max_2_11 : decode cJ5_max_2 11 = .ok (.lreturn, 1) := dk_173 (dk_at dksJ5_max_2_0 11 rfl rfl)
abbrev cJ5_min_2 : ByteArray := prog_83_method_70_code
def yJ5_min_2 : MethodName := ⟨RJ5, "min", "(JJ)J"⟩
def dkwJ5_min_2_0 : List UInt8 := [30, 32, 148, 157, 0, 7, 30, 167, 0, 4, 32, 173]
abbrev dktJ5_min_2_0 : List UInt8 := dkwJ5_min_2_0 ++ []
theorem dksJ5_min_2_0 : cJ5_min_2.data.toList.drop 0 = dktJ5_min_2_0 := by decide +kernel
theorem dJ5_min_2_0 : decode cJ5_min_2 0 = .ok (.lload_n 0, 1) := dk_30 (dk_at dksJ5_min_2_0 0 rfl rfl)
theorem dJ5_min_2_1 : decode cJ5_min_2 1 = .ok (.lload_n 2, 1) := dk_32 (dk_at dksJ5_min_2_0 1 rfl rfl)
theorem dJ5_min_2_2 : decode cJ5_min_2 2 = .ok (.lcmp, 1) := dk_148 (dk_at dksJ5_min_2_0 2 rfl rfl)
theorem dJ5_min_2_3 : decode cJ5_min_2 3 = .ok (.ifCond .gt 7, 3) := dk_157 0 7 (dk_at dksJ5_min_2_0 3 rfl rfl)
theorem dJ5_min_2_6 : decode cJ5_min_2 6 = .ok (.lload_n 0, 1) := dk_30 (dk_at dksJ5_min_2_0 6 rfl rfl)
theorem dJ5_min_2_7 : decode cJ5_min_2 7 = .ok (.goto 4, 3) := dk_167 0 4 (dk_at dksJ5_min_2_0 7 rfl rfl)
theorem dJ5_min_2_10 : decode cJ5_min_2 10 = .ok (.lload_n 2, 1) := dk_32 (dk_at dksJ5_min_2_0 10 rfl rfl)
theorem dJ5_min_2_11 : decode cJ5_min_2 11 = .ok (.lreturn, 1) := dk_173 (dk_at dksJ5_min_2_0 11 rfl rfl)
abbrev cJ5_abs_2 : ByteArray := prog_83_method_61_code
def yJ5_abs_2 : MethodName := ⟨RJ5, "abs", "(J)J"⟩
def dkwJ5_abs_2_0 : List UInt8 := [30, 9, 148, 156, 0, 8, 30, 117, 167, 0, 4, 30, 173]
abbrev dktJ5_abs_2_0 : List UInt8 := dkwJ5_abs_2_0 ++ []
theorem dksJ5_abs_2_0 : cJ5_abs_2.data.toList.drop 0 = dktJ5_abs_2_0 := by decide +kernel
theorem dJ5_abs_2_0 : decode cJ5_abs_2 0 = .ok (.lload_n 0, 1) := dk_30 (dk_at dksJ5_abs_2_0 0 rfl rfl)
theorem dJ5_abs_2_1 : decode cJ5_abs_2 1 = .ok (.lconst 0, 1) := dk_9 (dk_at dksJ5_abs_2_0 1 rfl rfl)
theorem dJ5_abs_2_2 : decode cJ5_abs_2 2 = .ok (.lcmp, 1) := dk_148 (dk_at dksJ5_abs_2_0 2 rfl rfl)
theorem dJ5_abs_2_3 : decode cJ5_abs_2 3 = .ok (.ifCond .ge 8, 3) := dk_156 0 8 (dk_at dksJ5_abs_2_0 3 rfl rfl)
theorem dJ5_abs_2_6 : decode cJ5_abs_2 6 = .ok (.lload_n 0, 1) := dk_30 (dk_at dksJ5_abs_2_0 6 rfl rfl)
theorem dJ5_abs_2_7 : decode cJ5_abs_2 7 = .ok (.lneg, 1) := dk_117 (dk_at dksJ5_abs_2_0 7 rfl rfl)
theorem dJ5_abs_2_8 : decode cJ5_abs_2 8 = .ok (.goto 4, 3) := dk_167 0 4 (dk_at dksJ5_abs_2_0 8 rfl rfl)
theorem dJ5_abs_2_11 : decode cJ5_abs_2 11 = .ok (.lload_n 0, 1) := dk_30 (dk_at dksJ5_abs_2_0 11 rfl rfl)
theorem dJ5_abs_2_12 : decode cJ5_abs_2 12 = .ok (.lreturn, 1) := dk_173 (dk_at dksJ5_abs_2_0 12 rfl rfl)
theorem q409 : (Jvm.Cond.initialized "java/lang/Math") ∈ lw_all := lw_g (lw_at lw_m1 17 rfl) rfl
theorem q800 : (Jvm.Cond.static ({ cls := "java/lang/Math", name := "abs", desc := "(I)I" } : Jvm.MethodName)) ∈ lw_all := lw_g (lw_at lw_m2 168 rfl) rfl
theorem q801 : (Jvm.Cond.code ({ cls := "java/lang/Math", name := "abs", desc := "(I)I" } : Jvm.MethodName) prog_83_method_59_code (1 : Nat) (Option.some Jvm.ClassFile.FieldType.int)) ∈ lw_all := lw_g (lw_at lw_m2 169 rfl) rfl
theorem q1960 : (Jvm.Cond.static ({ cls := "java/lang/Math", name := "max", desc := "(II)I" } : Jvm.MethodName)) ∈ lw_all := lw_g (lw_at lw_m7 128 rfl) rfl
theorem q1961 : (Jvm.Cond.code ({ cls := "java/lang/Math", name := "max", desc := "(II)I" } : Jvm.MethodName) prog_83_method_65_code (2 : Nat) (Option.some Jvm.ClassFile.FieldType.int)) ∈ lw_all := lw_g (lw_at lw_m7 129 rfl) rfl
theorem q2066 : (Jvm.Cond.static ({ cls := "java/lang/Math", name := "min", desc := "(II)I" } : Jvm.MethodName)) ∈ lw_all := lw_g (lw_at lw_m7 234 rfl) rfl
theorem q2067 : (Jvm.Cond.code ({ cls := "java/lang/Math", name := "min", desc := "(II)I" } : Jvm.MethodName) prog_83_method_69_code (2 : Nat) (Option.some Jvm.ClassFile.FieldType.int)) ∈ lw_all := lw_g (lw_at lw_m7 235 rfl) rfl
theorem q3387 : (Jvm.Cond.static ({ cls := "java/lang/Math", name := "max", desc := "(JJ)J" } : Jvm.MethodName)) ∈ lw_all := lw_g (lw_at lw_m13 115 rfl) rfl
theorem q3388 : (Jvm.Cond.code ({ cls := "java/lang/Math", name := "max", desc := "(JJ)J" } : Jvm.MethodName) prog_83_method_66_code (4 : Nat) (Option.some Jvm.ClassFile.FieldType.long)) ∈ lw_all := lw_g (lw_at lw_m13 116 rfl) rfl
theorem q5351 : (Jvm.Cond.static ({ cls := "java/lang/Math", name := "min", desc := "(JJ)J" } : Jvm.MethodName)) ∈ lw_all := lw_g (lw_at lw_m21 159 rfl) rfl
theorem q5352 : (Jvm.Cond.code ({ cls := "java/lang/Math", name := "min", desc := "(JJ)J" } : Jvm.MethodName) prog_83_method_70_code (4 : Nat) (Option.some Jvm.ClassFile.FieldType.long)) ∈ lw_all := lw_g (lw_at lw_m21 160 rfl) rfl
theorem q6192 : (Jvm.Cond.static ({ cls := "java/lang/Math", name := "abs", desc := "(J)J" } : Jvm.MethodName)) ∈ lw_all := lw_g (lw_at lw_m25 40 rfl) rfl
theorem q6193 : (Jvm.Cond.code ({ cls := "java/lang/Math", name := "abs", desc := "(J)J" } : Jvm.MethodName) prog_83_method_61_code (2 : Nat) (Option.some Jvm.ClassFile.FieldType.long)) ∈ lw_all := lw_g (lw_at lw_m25 41 rfl) rfl
