/-! WasteHouse$RoundColumns$Ratio -/
set_option maxRecDepth 100000
def RX20 : String := "WasteHouse$RoundColumns$Ratio"
def TX20 : u_T := fun k => match k with
  | 0 => ("WasteHouse$RoundColumns$Ratio", "above", "J", false)
  | _ => ("WasteHouse$RoundColumns$Ratio", "below", "J", false)
def tyX20 : Nat → FieldType := fun k => match k with
  | 0 => .long
  | _ => .long
abbrev wsX200 : List Cond := u_ws RX20 TX20 2
theorem nmX20 : ∀ a, a < 2 → ∀ b, b < 2 → a ≠ b → (TX20 a).2.1 ≠ (TX20 b).2.1 := by decide +kernel
theorem tyX20_ok : ∀ k, k < 2 → parseFieldDescriptor (TX20 k).2.2.1 = some (tyX20 k) := by decide +kernel
abbrev cX20_init : ByteArray := prog_38_method_1_code
def yX20_init : MethodName := ⟨RX20, "<init>", "()V"⟩
theorem dX20_init_0 : decode cX20_init 0 = .ok (.aload_n 0, 1) := by decide +kernel
theorem dX20_init_1 : decode cX20_init 1 = .ok (.invokespecial 1, 3) := by decide +kernel
theorem dX20_init_4 : decode cX20_init 4 = .ok (.return_, 1) := by decide +kernel
abbrev cX20_clear : ByteArray := prog_38_method_2_code
def yX20_clear : MethodName := ⟨RX20, "clear", "()V"⟩
def dkwX20_clear_0 : List UInt8 := [42, 9, 181, 0, 7, 42, 9, 181, 0, 13, 177]
abbrev dktX20_clear_0 : List UInt8 := dkwX20_clear_0 ++ []
theorem dksX20_clear_0 : cX20_clear.data.toList.drop 0 = dktX20_clear_0 := by decide +kernel
theorem dX20_clear_0 : decode cX20_clear 0 = .ok (.aload_n 0, 1) := dk_42 (dk_at dksX20_clear_0 0 rfl rfl)
theorem dX20_clear_1 : decode cX20_clear 1 = .ok (.lconst 0, 1) := dk_9 (dk_at dksX20_clear_0 1 rfl rfl)
theorem dX20_clear_2 : decode cX20_clear 2 = .ok (.putfield 7, 3) := dk_181 0 7 (dk_at dksX20_clear_0 2 rfl rfl)
theorem dX20_clear_5 : decode cX20_clear 5 = .ok (.aload_n 0, 1) := dk_42 (dk_at dksX20_clear_0 5 rfl rfl)
theorem dX20_clear_6 : decode cX20_clear 6 = .ok (.lconst 0, 1) := dk_9 (dk_at dksX20_clear_0 6 rfl rfl)
theorem dX20_clear_7 : decode cX20_clear 7 = .ok (.putfield 13, 3) := dk_181 0 13 (dk_at dksX20_clear_0 7 rfl rfl)
theorem dX20_clear_10 : decode cX20_clear 10 = .ok (.return_, 1) := dk_177 (dk_at dksX20_clear_0 10 rfl rfl)
abbrev cX20_set : ByteArray := prog_38_method_3_code
def yX20_set : MethodName := ⟨RX20, "set", "(JJ)V"⟩
def dkwX20_set_2 : List UInt8 := [181, 0, 13, 177]
abbrev dktX20_set_2 : List UInt8 := dkwX20_set_2 ++ []
def dkwX20_set_1 : List UInt8 := [22, 7, 55, 5, 22, 9, 55, 7, 167, 255, 234, 42, 31, 22, 5, 109, 181, 0, 7, 42, 33, 22, 5, 109]
abbrev dktX20_set_1 : List UInt8 := dkwX20_set_1 ++ dktX20_set_2
def dkwX20_set_0 : List UInt8 := [31, 184, 0, 16, 55, 5, 33, 55, 7, 22, 7, 9, 148, 153, 0, 21, 22, 5, 22, 7, 113, 55, 9]
abbrev dktX20_set_0 : List UInt8 := dkwX20_set_0 ++ dktX20_set_1
theorem dksX20_set_0 : cX20_set.data.toList.drop 0 = dktX20_set_0 := by decide +kernel
theorem dksX20_set_1 : cX20_set.data.toList.drop 23 = dktX20_set_1 := dk_seg dksX20_set_0 23 rfl rfl
theorem dksX20_set_2 : cX20_set.data.toList.drop 47 = dktX20_set_2 := dk_seg dksX20_set_1 24 rfl rfl
theorem dX20_set_0 : decode cX20_set 0 = .ok (.lload_n 1, 1) := dk_31 (dk_at dksX20_set_0 0 rfl rfl)
theorem dX20_set_1 : decode cX20_set 1 = .ok (.invokestatic 16, 3) := dk_184 0 16 (dk_at dksX20_set_0 1 rfl rfl)
theorem dX20_set_4 : decode cX20_set 4 = .ok (.lstore 5, 2) := dk_55 5 (dk_at dksX20_set_0 4 rfl rfl)
theorem dX20_set_6 : decode cX20_set 6 = .ok (.lload_n 3, 1) := dk_33 (dk_at dksX20_set_0 6 rfl rfl)
theorem dX20_set_7 : decode cX20_set 7 = .ok (.lstore 7, 2) := dk_55 7 (dk_at dksX20_set_0 7 rfl rfl)
theorem dX20_set_9 : decode cX20_set 9 = .ok (.lload 7, 2) := dk_22 7 (dk_at dksX20_set_0 9 rfl rfl)
theorem dX20_set_11 : decode cX20_set 11 = .ok (.lconst 0, 1) := dk_9 (dk_at dksX20_set_0 11 rfl rfl)
theorem dX20_set_12 : decode cX20_set 12 = .ok (.lcmp, 1) := dk_148 (dk_at dksX20_set_0 12 rfl rfl)
theorem dX20_set_13 : decode cX20_set 13 = .ok (.ifCond .eq 21, 3) := dk_153 0 21 (dk_at dksX20_set_0 13 rfl rfl)
theorem dX20_set_16 : decode cX20_set 16 = .ok (.lload 5, 2) := dk_22 5 (dk_at dksX20_set_0 16 rfl rfl)
theorem dX20_set_18 : decode cX20_set 18 = .ok (.lload 7, 2) := dk_22 7 (dk_at dksX20_set_0 18 rfl rfl)
theorem dX20_set_20 : decode cX20_set 20 = .ok (.lrem, 1) := dk_113 (dk_at dksX20_set_0 20 rfl rfl)
theorem dX20_set_21 : decode cX20_set 21 = .ok (.lstore 9, 2) := dk_55 9 (dk_at dksX20_set_0 21 rfl rfl)
theorem dX20_set_23 : decode cX20_set 23 = .ok (.lload 7, 2) := dk_22 7 (dk_at dksX20_set_1 0 rfl rfl)
theorem dX20_set_25 : decode cX20_set 25 = .ok (.lstore 5, 2) := dk_55 5 (dk_at dksX20_set_1 2 rfl rfl)
theorem dX20_set_27 : decode cX20_set 27 = .ok (.lload 9, 2) := dk_22 9 (dk_at dksX20_set_1 4 rfl rfl)
theorem dX20_set_29 : decode cX20_set 29 = .ok (.lstore 7, 2) := dk_55 7 (dk_at dksX20_set_1 6 rfl rfl)
theorem dX20_set_31 : decode cX20_set 31 = .ok (.goto (-22), 3) := dk_167 255 234 (dk_at dksX20_set_1 8 rfl rfl)
theorem dX20_set_34 : decode cX20_set 34 = .ok (.aload_n 0, 1) := dk_42 (dk_at dksX20_set_1 11 rfl rfl)
theorem dX20_set_35 : decode cX20_set 35 = .ok (.lload_n 1, 1) := dk_31 (dk_at dksX20_set_1 12 rfl rfl)
theorem dX20_set_36 : decode cX20_set 36 = .ok (.lload 5, 2) := dk_22 5 (dk_at dksX20_set_1 13 rfl rfl)
theorem dX20_set_38 : decode cX20_set 38 = .ok (.ldiv, 1) := dk_109 (dk_at dksX20_set_1 15 rfl rfl)
theorem dX20_set_39 : decode cX20_set 39 = .ok (.putfield 7, 3) := dk_181 0 7 (dk_at dksX20_set_1 16 rfl rfl)
theorem dX20_set_42 : decode cX20_set 42 = .ok (.aload_n 0, 1) := dk_42 (dk_at dksX20_set_1 19 rfl rfl)
theorem dX20_set_43 : decode cX20_set 43 = .ok (.lload_n 3, 1) := dk_33 (dk_at dksX20_set_1 20 rfl rfl)
theorem dX20_set_44 : decode cX20_set 44 = .ok (.lload 5, 2) := dk_22 5 (dk_at dksX20_set_1 21 rfl rfl)
theorem dX20_set_46 : decode cX20_set 46 = .ok (.ldiv, 1) := dk_109 (dk_at dksX20_set_1 23 rfl rfl)
theorem dX20_set_47 : decode cX20_set 47 = .ok (.putfield 13, 3) := dk_181 0 13 (dk_at dksX20_set_2 0 rfl rfl)
theorem dX20_set_50 : decode cX20_set 50 = .ok (.return_, 1) := dk_177 (dk_at dksX20_set_2 3 rfl rfl)
abbrev cX20_is : ByteArray := prog_38_method_4_code
def yX20_is : MethodName := ⟨RX20, "is", "()Z"⟩
def dkwX20_is_0 : List UInt8 := [42, 180, 0, 13, 9, 148, 158, 0, 7, 4, 167, 0, 4, 3, 172]
abbrev dktX20_is_0 : List UInt8 := dkwX20_is_0 ++ []
theorem dksX20_is_0 : cX20_is.data.toList.drop 0 = dktX20_is_0 := by decide +kernel
theorem dX20_is_0 : decode cX20_is 0 = .ok (.aload_n 0, 1) := dk_42 (dk_at dksX20_is_0 0 rfl rfl)
theorem dX20_is_1 : decode cX20_is 1 = .ok (.getfield 13, 3) := dk_180 0 13 (dk_at dksX20_is_0 1 rfl rfl)
theorem dX20_is_4 : decode cX20_is 4 = .ok (.lconst 0, 1) := dk_9 (dk_at dksX20_is_0 4 rfl rfl)
theorem dX20_is_5 : decode cX20_is 5 = .ok (.lcmp, 1) := dk_148 (dk_at dksX20_is_0 5 rfl rfl)
theorem dX20_is_6 : decode cX20_is 6 = .ok (.ifCond .le 7, 3) := dk_158 0 7 (dk_at dksX20_is_0 6 rfl rfl)
theorem dX20_is_9 : decode cX20_is 9 = .ok (.iconst 1, 1) := dk_4 (dk_at dksX20_is_0 9 rfl rfl)
theorem dX20_is_10 : decode cX20_is 10 = .ok (.goto 4, 3) := dk_167 0 4 (dk_at dksX20_is_0 10 rfl rfl)
theorem dX20_is_13 : decode cX20_is 13 = .ok (.iconst 0, 1) := dk_3 (dk_at dksX20_is_0 13 rfl rfl)
theorem dX20_is_14 : decode cX20_is 14 = .ok (.ireturn, 1) := dk_172 (dk_at dksX20_is_0 14 rfl rfl)
abbrev cX20_part : ByteArray := prog_38_method_5_code
def yX20_part : MethodName := ⟨RX20, "part", "(I)J"⟩
def dkwX20_part_1 : List UInt8 := [173]
abbrev dktX20_part_1 : List UInt8 := dkwX20_part_1 ++ []
def dkwX20_part_0 : List UInt8 := [27, 154, 0, 10, 42, 180, 0, 7, 167, 0, 16, 27, 4, 160, 0, 10, 42, 180, 0, 13, 167, 0, 4, 9]
abbrev dktX20_part_0 : List UInt8 := dkwX20_part_0 ++ dktX20_part_1
theorem dksX20_part_0 : cX20_part.data.toList.drop 0 = dktX20_part_0 := by decide +kernel
theorem dksX20_part_1 : cX20_part.data.toList.drop 24 = dktX20_part_1 := dk_seg dksX20_part_0 24 rfl rfl
theorem dX20_part_0 : decode cX20_part 0 = .ok (.iload_n 1, 1) := dk_27 (dk_at dksX20_part_0 0 rfl rfl)
theorem dX20_part_1 : decode cX20_part 1 = .ok (.ifCond .ne 10, 3) := dk_154 0 10 (dk_at dksX20_part_0 1 rfl rfl)
theorem dX20_part_4 : decode cX20_part 4 = .ok (.aload_n 0, 1) := dk_42 (dk_at dksX20_part_0 4 rfl rfl)
theorem dX20_part_5 : decode cX20_part 5 = .ok (.getfield 7, 3) := dk_180 0 7 (dk_at dksX20_part_0 5 rfl rfl)
theorem dX20_part_8 : decode cX20_part 8 = .ok (.goto 16, 3) := dk_167 0 16 (dk_at dksX20_part_0 8 rfl rfl)
theorem dX20_part_11 : decode cX20_part 11 = .ok (.iload_n 1, 1) := dk_27 (dk_at dksX20_part_0 11 rfl rfl)
theorem dX20_part_12 : decode cX20_part 12 = .ok (.iconst 1, 1) := dk_4 (dk_at dksX20_part_0 12 rfl rfl)
theorem dX20_part_13 : decode cX20_part 13 = .ok (.if_icmp .ne 10, 3) := dk_160 0 10 (dk_at dksX20_part_0 13 rfl rfl)
theorem dX20_part_16 : decode cX20_part 16 = .ok (.aload_n 0, 1) := dk_42 (dk_at dksX20_part_0 16 rfl rfl)
theorem dX20_part_17 : decode cX20_part 17 = .ok (.getfield 13, 3) := dk_180 0 13 (dk_at dksX20_part_0 17 rfl rfl)
theorem dX20_part_20 : decode cX20_part 20 = .ok (.goto 4, 3) := dk_167 0 4 (dk_at dksX20_part_0 20 rfl rfl)
theorem dX20_part_23 : decode cX20_part 23 = .ok (.lconst 0, 1) := dk_9 (dk_at dksX20_part_0 23 rfl rfl)
theorem dX20_part_24 : decode cX20_part 24 = .ok (.lreturn, 1) := dk_173 (dk_at dksX20_part_1 0 rfl rfl)
theorem q419 : (Jvm.Cond.initialized "WasteHouse$RoundColumns$Ratio") ∈ lw_all := lw_g (lw_at lw_m1 27 rfl) rfl
theorem q1199 : (Jvm.Cond.instantiable "WasteHouse$RoundColumns$Ratio" (2 : Nat)) ∈ lw_all := lw_g (lw_at lw_m4 87 rfl) rfl
theorem q1201 : (Jvm.Cond.instanceMethod ({ cls := "WasteHouse$RoundColumns$Ratio", name := "<init>", desc := "()V" } : Jvm.MethodName)) ∈ lw_all := lw_g (lw_at lw_m4 89 rfl) rfl
theorem q1202 : (Jvm.Cond.code ({ cls := "WasteHouse$RoundColumns$Ratio", name := "<init>", desc := "()V" } : Jvm.MethodName) prog_38_method_1_code (1 : Nat) (Option.none : Option Jvm.ClassFile.FieldType)) ∈ lw_all := lw_g (lw_at lw_m4 90 rfl) rfl
theorem q1203 : (Jvm.Cond.methodLink "WasteHouse$RoundColumns$Ratio" (1 : Nat) ({ cls := "java/lang/Object", name := "<init>", desc := "()V" } : Jvm.MethodName)) ∈ lw_all := lw_g (lw_at lw_m4 91 rfl) rfl
theorem q1204 : (Jvm.Cond.fieldLink "WasteHouse$RoundColumns$Ratio" (7 : Nat) "WasteHouse$RoundColumns$Ratio" "above" "J") ∈ lw_all := lw_g (lw_at lw_m4 92 rfl) rfl
theorem q1206 : (Jvm.Cond.fieldLink "WasteHouse$RoundColumns$Ratio" (13 : Nat) "WasteHouse$RoundColumns$Ratio" "below" "J") ∈ lw_all := lw_g (lw_at lw_m4 94 rfl) rfl
theorem q1208 : (Jvm.Cond.lays "WasteHouse$RoundColumns$Ratio" "WasteHouse$RoundColumns$Ratio" "above" "J") ∈ lw_all := lw_g (lw_at lw_m4 96 rfl) rfl
theorem q1209 : (Jvm.Cond.soleField "WasteHouse$RoundColumns$Ratio" "above") ∈ lw_all := lw_g (lw_at lw_m4 97 rfl) rfl
theorem q1210 : (Jvm.Cond.lays "WasteHouse$RoundColumns$Ratio" "WasteHouse$RoundColumns$Ratio" "below" "J") ∈ lw_all := lw_g (lw_at lw_m4 98 rfl) rfl
theorem q1211 : (Jvm.Cond.soleField "WasteHouse$RoundColumns$Ratio" "below") ∈ lw_all := lw_g (lw_at lw_m4 99 rfl) rfl
theorem q1212 : (Jvm.Cond.superclass "WasteHouse$RoundColumns$Ratio" "java/lang/Object") ∈ lw_all := lw_g (lw_at lw_m4 100 rfl) rfl
theorem q2007 : (Jvm.Cond.selects "WasteHouse$RoundColumns$Ratio" ({ cls := "java/lang/Object", name := "getClass", desc := "()Ljava/lang/Class;" } : Jvm.MethodName) ({ cls := "java/lang/Object", name := "getClass", desc := "()Ljava/lang/Class;" } : Jvm.MethodName)) ∈ lw_all := lw_g (lw_at lw_m7 175 rfl) rfl
theorem q3117 : (Jvm.Cond.selects "WasteHouse$RoundColumns$Ratio" ({ cls := "java/lang/Object", name := "equals", desc := "(Ljava/lang/Object;)Z" } : Jvm.MethodName) ({ cls := "java/lang/Object", name := "equals", desc := "(Ljava/lang/Object;)Z" } : Jvm.MethodName)) ∈ lw_all := lw_g (lw_at lw_m12 85 rfl) rfl
theorem q3635 : (Jvm.Cond.selects "WasteHouse$RoundColumns$Ratio" ({ cls := "java/lang/Object", name := "hashCode", desc := "()I" } : Jvm.MethodName) ({ cls := "java/lang/Object", name := "hashCode", desc := "()I" } : Jvm.MethodName)) ∈ lw_all := lw_g (lw_at lw_m14 123 rfl) rfl
theorem q6153 : (Jvm.Cond.instanceMethod ({ cls := "WasteHouse$RoundColumns$Ratio", name := "clear", desc := "()V" } : Jvm.MethodName)) ∈ lw_all := lw_g (lw_at lw_m25 1 rfl) rfl
theorem q6154 : (Jvm.Cond.selects "WasteHouse$RoundColumns$Ratio" ({ cls := "WasteHouse$RoundColumns$Ratio", name := "clear", desc := "()V" } : Jvm.MethodName) ({ cls := "WasteHouse$RoundColumns$Ratio", name := "clear", desc := "()V" } : Jvm.MethodName)) ∈ lw_all := lw_g (lw_at lw_m25 2 rfl) rfl
theorem q6155 : (Jvm.Cond.code ({ cls := "WasteHouse$RoundColumns$Ratio", name := "clear", desc := "()V" } : Jvm.MethodName) prog_38_method_2_code (1 : Nat) (Option.none : Option Jvm.ClassFile.FieldType)) ∈ lw_all := lw_g (lw_at lw_m25 3 rfl) rfl
theorem q6188 : (Jvm.Cond.instanceMethod ({ cls := "WasteHouse$RoundColumns$Ratio", name := "set", desc := "(JJ)V" } : Jvm.MethodName)) ∈ lw_all := lw_g (lw_at lw_m25 36 rfl) rfl
theorem q6189 : (Jvm.Cond.selects "WasteHouse$RoundColumns$Ratio" ({ cls := "WasteHouse$RoundColumns$Ratio", name := "set", desc := "(JJ)V" } : Jvm.MethodName) ({ cls := "WasteHouse$RoundColumns$Ratio", name := "set", desc := "(JJ)V" } : Jvm.MethodName)) ∈ lw_all := lw_g (lw_at lw_m25 37 rfl) rfl
theorem q6190 : (Jvm.Cond.code ({ cls := "WasteHouse$RoundColumns$Ratio", name := "set", desc := "(JJ)V" } : Jvm.MethodName) prog_38_method_3_code (11 : Nat) (Option.none : Option Jvm.ClassFile.FieldType)) ∈ lw_all := lw_g (lw_at lw_m25 38 rfl) rfl
theorem q6191 : (Jvm.Cond.methodLink "WasteHouse$RoundColumns$Ratio" (16 : Nat) ({ cls := "java/lang/Math", name := "abs", desc := "(J)J" } : Jvm.MethodName)) ∈ lw_all := lw_g (lw_at lw_m25 39 rfl) rfl
theorem q6195 : (Jvm.Cond.instanceMethod ({ cls := "WasteHouse$RoundColumns$Ratio", name := "is", desc := "()Z" } : Jvm.MethodName)) ∈ lw_all := lw_g (lw_at lw_m25 43 rfl) rfl
theorem q6196 : (Jvm.Cond.selects "WasteHouse$RoundColumns$Ratio" ({ cls := "WasteHouse$RoundColumns$Ratio", name := "is", desc := "()Z" } : Jvm.MethodName) ({ cls := "WasteHouse$RoundColumns$Ratio", name := "is", desc := "()Z" } : Jvm.MethodName)) ∈ lw_all := lw_g (lw_at lw_m25 44 rfl) rfl
theorem q6197 : (Jvm.Cond.code ({ cls := "WasteHouse$RoundColumns$Ratio", name := "is", desc := "()Z" } : Jvm.MethodName) prog_38_method_4_code (1 : Nat) (Option.some Jvm.ClassFile.FieldType.boolean)) ∈ lw_all := lw_g (lw_at lw_m25 45 rfl) rfl
theorem q6217 : (Jvm.Cond.instanceMethod ({ cls := "WasteHouse$RoundColumns$Ratio", name := "part", desc := "(I)J" } : Jvm.MethodName)) ∈ lw_all := lw_g (lw_at lw_m25 65 rfl) rfl
theorem q6218 : (Jvm.Cond.selects "WasteHouse$RoundColumns$Ratio" ({ cls := "WasteHouse$RoundColumns$Ratio", name := "part", desc := "(I)J" } : Jvm.MethodName) ({ cls := "WasteHouse$RoundColumns$Ratio", name := "part", desc := "(I)J" } : Jvm.MethodName)) ∈ lw_all := lw_g (lw_at lw_m25 66 rfl) rfl
theorem q6219 : (Jvm.Cond.code ({ cls := "WasteHouse$RoundColumns$Ratio", name := "part", desc := "(I)J" } : Jvm.MethodName) prog_38_method_5_code (2 : Nat) (Option.some Jvm.ClassFile.FieldType.long)) ∈ lw_all := lw_g (lw_at lw_m25 67 rfl) rfl
theorem q9648 : (Jvm.Cond.castable "WasteHouse$RoundColumns$Ratio" "java/lang/Object") ∈ lw_tbl := lw_at lw_m39 136 rfl
theorem in_X20 : ∀ w ∈ wsX200, w ∈ lw_all := lw_in wsX200 [1208, 1210] (by decide +kernel) (by decide +kernel)
