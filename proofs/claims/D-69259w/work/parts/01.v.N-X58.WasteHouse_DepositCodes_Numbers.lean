/-! WasteHouse$DepositCodes$Numbers -/
set_option maxRecDepth 100000
def RX58 : String := "WasteHouse$DepositCodes$Numbers"
abbrev cX58_is : ByteArray := prog_12_method_2_code
def yX58_is : MethodName := ⟨RX58, "is", "(J)Z"⟩
def dkwX58_is_0 : List UInt8 := [30, 9, 148, 155, 0, 15, 30, 20, 0, 9, 148, 157, 0, 7, 4, 167, 0, 4, 3, 172]
abbrev dktX58_is_0 : List UInt8 := dkwX58_is_0 ++ []
theorem dksX58_is_0 : cX58_is.data.toList.drop 0 = dktX58_is_0 := by decide +kernel
theorem dX58_is_0 : decode cX58_is 0 = .ok (.lload_n 0, 1) := dk_30 (dk_at dksX58_is_0 0 rfl rfl)
theorem dX58_is_1 : decode cX58_is 1 = .ok (.lconst 0, 1) := dk_9 (dk_at dksX58_is_0 1 rfl rfl)
theorem dX58_is_2 : decode cX58_is 2 = .ok (.lcmp, 1) := dk_148 (dk_at dksX58_is_0 2 rfl rfl)
theorem dX58_is_3 : decode cX58_is 3 = .ok (.ifCond .lt 15, 3) := dk_155 0 15 (dk_at dksX58_is_0 3 rfl rfl)
theorem dX58_is_6 : decode cX58_is 6 = .ok (.lload_n 0, 1) := dk_30 (dk_at dksX58_is_0 6 rfl rfl)
theorem dX58_is_7 : decode cX58_is 7 = .ok (.ldc2_w 9, 3) := dk_20 0 9 (dk_at dksX58_is_0 7 rfl rfl)
theorem dX58_is_10 : decode cX58_is 10 = .ok (.lcmp, 1) := dk_148 (dk_at dksX58_is_0 10 rfl rfl)
theorem dX58_is_11 : decode cX58_is 11 = .ok (.ifCond .gt 7, 3) := dk_157 0 7 (dk_at dksX58_is_0 11 rfl rfl)
theorem dX58_is_14 : decode cX58_is 14 = .ok (.iconst 1, 1) := dk_4 (dk_at dksX58_is_0 14 rfl rfl)
theorem dX58_is_15 : decode cX58_is 15 = .ok (.goto 4, 3) := dk_167 0 4 (dk_at dksX58_is_0 15 rfl rfl)
theorem dX58_is_18 : decode cX58_is 18 = .ok (.iconst 0, 1) := dk_3 (dk_at dksX58_is_0 18 rfl rfl)
theorem dX58_is_19 : decode cX58_is 19 = .ok (.ireturn, 1) := dk_172 (dk_at dksX58_is_0 19 rfl rfl)
abbrev cX58_check : ByteArray := prog_12_method_3_code
def yX58_check : MethodName := ⟨RX58, "check", "(IJ)I"⟩
def dkwX58_check_4 : List UInt8 := [16, 10, 29, 16, 10, 112, 100, 16, 10, 112, 172]
abbrev dktX58_check_4 : List UInt8 := dkwX58_check_4 ++ []
def dkwX58_check_3 : List UInt8 := [21, 4, 154, 0, 7, 4, 167, 0, 4, 3, 54, 4, 22, 5, 20, 0, 11, 109, 55, 5, 167, 255, 172]
abbrev dktX58_check_3 : List UInt8 := dkwX58_check_3 ++ dktX58_check_4
def dkwX58_check_2 : List UInt8 := [167, 0, 7, 5, 21, 7, 104, 54, 8, 29, 21, 4, 153, 0, 8, 21, 8, 167, 0, 5, 21, 7, 96, 62]
abbrev dktX58_check_2 : List UInt8 := dkwX58_check_2 ++ dktX58_check_3
def dkwX58_check_1 : List UInt8 := [26, 154, 0, 10, 6, 21, 7, 104, 167, 0, 23, 21, 7, 7, 164, 0, 13, 5, 21, 7, 104, 16, 9, 100]
abbrev dktX58_check_1 : List UInt8 := dkwX58_check_1 ++ dktX58_check_2
def dkwX58_check_0 : List UInt8 := [3, 62, 4, 54, 4, 31, 55, 5, 22, 5, 9, 148, 158, 0, 83, 22, 5, 20, 0, 11, 113, 136, 54, 7]
abbrev dktX58_check_0 : List UInt8 := dkwX58_check_0 ++ dktX58_check_1
theorem dksX58_check_0 : cX58_check.data.toList.drop 0 = dktX58_check_0 := by decide +kernel
theorem dksX58_check_1 : cX58_check.data.toList.drop 24 = dktX58_check_1 := dk_seg dksX58_check_0 24 rfl rfl
theorem dksX58_check_2 : cX58_check.data.toList.drop 48 = dktX58_check_2 := dk_seg dksX58_check_1 24 rfl rfl
theorem dksX58_check_3 : cX58_check.data.toList.drop 72 = dktX58_check_3 := dk_seg dksX58_check_2 24 rfl rfl
theorem dksX58_check_4 : cX58_check.data.toList.drop 95 = dktX58_check_4 := dk_seg dksX58_check_3 23 rfl rfl
theorem dX58_check_0 : decode cX58_check 0 = .ok (.iconst 0, 1) := dk_3 (dk_at dksX58_check_0 0 rfl rfl)
theorem dX58_check_1 : decode cX58_check 1 = .ok (.istore_n 3, 1) := dk_62 (dk_at dksX58_check_0 1 rfl rfl)
theorem dX58_check_2 : decode cX58_check 2 = .ok (.iconst 1, 1) := dk_4 (dk_at dksX58_check_0 2 rfl rfl)
theorem dX58_check_3 : decode cX58_check 3 = .ok (.istore 4, 2) := dk_54 4 (dk_at dksX58_check_0 3 rfl rfl)
theorem dX58_check_5 : decode cX58_check 5 = .ok (.lload_n 1, 1) := dk_31 (dk_at dksX58_check_0 5 rfl rfl)
theorem dX58_check_6 : decode cX58_check 6 = .ok (.lstore 5, 2) := dk_55 5 (dk_at dksX58_check_0 6 rfl rfl)
theorem dX58_check_8 : decode cX58_check 8 = .ok (.lload 5, 2) := dk_22 5 (dk_at dksX58_check_0 8 rfl rfl)
theorem dX58_check_10 : decode cX58_check 10 = .ok (.lconst 0, 1) := dk_9 (dk_at dksX58_check_0 10 rfl rfl)
theorem dX58_check_11 : decode cX58_check 11 = .ok (.lcmp, 1) := dk_148 (dk_at dksX58_check_0 11 rfl rfl)
theorem dX58_check_12 : decode cX58_check 12 = .ok (.ifCond .le 83, 3) := dk_158 0 83 (dk_at dksX58_check_0 12 rfl rfl)
theorem dX58_check_15 : decode cX58_check 15 = .ok (.lload 5, 2) := dk_22 5 (dk_at dksX58_check_0 15 rfl rfl)
theorem dX58_check_17 : decode cX58_check 17 = .ok (.ldc2_w 11, 3) := dk_20 0 11 (dk_at dksX58_check_0 17 rfl rfl)
theorem dX58_check_20 : decode cX58_check 20 = .ok (.lrem, 1) := dk_113 (dk_at dksX58_check_0 20 rfl rfl)
theorem dX58_check_21 : decode cX58_check 21 = .ok (.l2i, 1) := dk_136 (dk_at dksX58_check_0 21 rfl rfl)
theorem dX58_check_22 : decode cX58_check 22 = .ok (.istore 7, 2) := dk_54 7 (dk_at dksX58_check_0 22 rfl rfl)
theorem dX58_check_24 : decode cX58_check 24 = .ok (.iload_n 0, 1) := dk_26 (dk_at dksX58_check_1 0 rfl rfl)
theorem dX58_check_25 : decode cX58_check 25 = .ok (.ifCond .ne 10, 3) := dk_154 0 10 (dk_at dksX58_check_1 1 rfl rfl)
theorem dX58_check_28 : decode cX58_check 28 = .ok (.iconst 3, 1) := dk_6 (dk_at dksX58_check_1 4 rfl rfl)
theorem dX58_check_29 : decode cX58_check 29 = .ok (.iload 7, 2) := dk_21 7 (dk_at dksX58_check_1 5 rfl rfl)
theorem dX58_check_31 : decode cX58_check 31 = .ok (.imul, 1) := dk_104 (dk_at dksX58_check_1 7 rfl rfl)
theorem dX58_check_32 : decode cX58_check 32 = .ok (.goto 23, 3) := dk_167 0 23 (dk_at dksX58_check_1 8 rfl rfl)
theorem dX58_check_35 : decode cX58_check 35 = .ok (.iload 7, 2) := dk_21 7 (dk_at dksX58_check_1 11 rfl rfl)
theorem dX58_check_37 : decode cX58_check 37 = .ok (.iconst 4, 1) := dk_7 (dk_at dksX58_check_1 13 rfl rfl)
theorem dX58_check_38 : decode cX58_check 38 = .ok (.if_icmp .le 13, 3) := dk_164 0 13 (dk_at dksX58_check_1 14 rfl rfl)
theorem dX58_check_41 : decode cX58_check 41 = .ok (.iconst 2, 1) := dk_5 (dk_at dksX58_check_1 17 rfl rfl)
theorem dX58_check_42 : decode cX58_check 42 = .ok (.iload 7, 2) := dk_21 7 (dk_at dksX58_check_1 18 rfl rfl)
theorem dX58_check_44 : decode cX58_check 44 = .ok (.imul, 1) := dk_104 (dk_at dksX58_check_1 20 rfl rfl)
theorem dX58_check_45 : decode cX58_check 45 = .ok (.bipush 9, 2) := dk_16 9 (dk_at dksX58_check_1 21 rfl rfl)
theorem dX58_check_47 : decode cX58_check 47 = .ok (.isub, 1) := dk_100 (dk_at dksX58_check_1 23 rfl rfl)
theorem dX58_check_48 : decode cX58_check 48 = .ok (.goto 7, 3) := dk_167 0 7 (dk_at dksX58_check_2 0 rfl rfl)
theorem dX58_check_51 : decode cX58_check 51 = .ok (.iconst 2, 1) := dk_5 (dk_at dksX58_check_2 3 rfl rfl)
theorem dX58_check_52 : decode cX58_check 52 = .ok (.iload 7, 2) := dk_21 7 (dk_at dksX58_check_2 4 rfl rfl)
theorem dX58_check_54 : decode cX58_check 54 = .ok (.imul, 1) := dk_104 (dk_at dksX58_check_2 6 rfl rfl)
theorem dX58_check_55 : decode cX58_check 55 = .ok (.istore 8, 2) := dk_54 8 (dk_at dksX58_check_2 7 rfl rfl)
theorem dX58_check_57 : decode cX58_check 57 = .ok (.iload_n 3, 1) := dk_29 (dk_at dksX58_check_2 9 rfl rfl)
theorem dX58_check_58 : decode cX58_check 58 = .ok (.iload 4, 2) := dk_21 4 (dk_at dksX58_check_2 10 rfl rfl)
theorem dX58_check_60 : decode cX58_check 60 = .ok (.ifCond .eq 8, 3) := dk_153 0 8 (dk_at dksX58_check_2 12 rfl rfl)
theorem dX58_check_63 : decode cX58_check 63 = .ok (.iload 8, 2) := dk_21 8 (dk_at dksX58_check_2 15 rfl rfl)
theorem dX58_check_65 : decode cX58_check 65 = .ok (.goto 5, 3) := dk_167 0 5 (dk_at dksX58_check_2 17 rfl rfl)
theorem dX58_check_68 : decode cX58_check 68 = .ok (.iload 7, 2) := dk_21 7 (dk_at dksX58_check_2 20 rfl rfl)
theorem dX58_check_70 : decode cX58_check 70 = .ok (.iadd, 1) := dk_96 (dk_at dksX58_check_2 22 rfl rfl)
theorem dX58_check_71 : decode cX58_check 71 = .ok (.istore_n 3, 1) := dk_62 (dk_at dksX58_check_2 23 rfl rfl)
theorem dX58_check_72 : decode cX58_check 72 = .ok (.iload 4, 2) := dk_21 4 (dk_at dksX58_check_3 0 rfl rfl)
theorem dX58_check_74 : decode cX58_check 74 = .ok (.ifCond .ne 7, 3) := dk_154 0 7 (dk_at dksX58_check_3 2 rfl rfl)
theorem dX58_check_77 : decode cX58_check 77 = .ok (.iconst 1, 1) := dk_4 (dk_at dksX58_check_3 5 rfl rfl)
theorem dX58_check_78 : decode cX58_check 78 = .ok (.goto 4, 3) := dk_167 0 4 (dk_at dksX58_check_3 6 rfl rfl)
theorem dX58_check_81 : decode cX58_check 81 = .ok (.iconst 0, 1) := dk_3 (dk_at dksX58_check_3 9 rfl rfl)
theorem dX58_check_82 : decode cX58_check 82 = .ok (.istore 4, 2) := dk_54 4 (dk_at dksX58_check_3 10 rfl rfl)
theorem dX58_check_84 : decode cX58_check 84 = .ok (.lload 5, 2) := dk_22 5 (dk_at dksX58_check_3 12 rfl rfl)
theorem dX58_check_86 : decode cX58_check 86 = .ok (.ldc2_w 11, 3) := dk_20 0 11 (dk_at dksX58_check_3 14 rfl rfl)
theorem dX58_check_89 : decode cX58_check 89 = .ok (.ldiv, 1) := dk_109 (dk_at dksX58_check_3 17 rfl rfl)
theorem dX58_check_90 : decode cX58_check 90 = .ok (.lstore 5, 2) := dk_55 5 (dk_at dksX58_check_3 18 rfl rfl)
theorem dX58_check_92 : decode cX58_check 92 = .ok (.goto (-84), 3) := dk_167 255 172 (dk_at dksX58_check_3 20 rfl rfl)
theorem dX58_check_95 : decode cX58_check 95 = .ok (.bipush 10, 2) := dk_16 10 (dk_at dksX58_check_4 0 rfl rfl)
theorem dX58_check_97 : decode cX58_check 97 = .ok (.iload_n 3, 1) := dk_29 (dk_at dksX58_check_4 2 rfl rfl)
theorem dX58_check_98 : decode cX58_check 98 = .ok (.bipush 10, 2) := dk_16 10 (dk_at dksX58_check_4 3 rfl rfl)
theorem dX58_check_100 : decode cX58_check 100 = .ok (.irem, 1) := dk_112 (dk_at dksX58_check_4 5 rfl rfl)
theorem dX58_check_101 : decode cX58_check 101 = .ok (.isub, 1) := dk_100 (dk_at dksX58_check_4 6 rfl rfl)
theorem dX58_check_102 : decode cX58_check 102 = .ok (.bipush 10, 2) := dk_16 10 (dk_at dksX58_check_4 7 rfl rfl)
theorem dX58_check_104 : decode cX58_check 104 = .ok (.irem, 1) := dk_112 (dk_at dksX58_check_4 9 rfl rfl)
theorem dX58_check_105 : decode cX58_check 105 = .ok (.ireturn, 1) := dk_172 (dk_at dksX58_check_4 10 rfl rfl)
abbrev cX58_isGood : ByteArray := prog_12_method_4_code
def yX58_isGood : MethodName := ⟨RX58, "isGood", "(IJ)Z"⟩
def dkwX58_isGood_1 : List UInt8 := [172]
abbrev dktX58_isGood_1 : List UInt8 := dkwX58_isGood_1 ++ []
def dkwX58_isGood_0 : List UInt8 := [26, 31, 20, 0, 11, 109, 184, 0, 13, 133, 31, 20, 0, 11, 113, 148, 154, 0, 7, 4, 167, 0, 4, 3]
abbrev dktX58_isGood_0 : List UInt8 := dkwX58_isGood_0 ++ dktX58_isGood_1
theorem dksX58_isGood_0 : cX58_isGood.data.toList.drop 0 = dktX58_isGood_0 := by decide +kernel
theorem dksX58_isGood_1 : cX58_isGood.data.toList.drop 24 = dktX58_isGood_1 := dk_seg dksX58_isGood_0 24 rfl rfl
theorem dX58_isGood_0 : decode cX58_isGood 0 = .ok (.iload_n 0, 1) := dk_26 (dk_at dksX58_isGood_0 0 rfl rfl)
theorem dX58_isGood_1 : decode cX58_isGood 1 = .ok (.lload_n 1, 1) := dk_31 (dk_at dksX58_isGood_0 1 rfl rfl)
theorem dX58_isGood_2 : decode cX58_isGood 2 = .ok (.ldc2_w 11, 3) := dk_20 0 11 (dk_at dksX58_isGood_0 2 rfl rfl)
theorem dX58_isGood_5 : decode cX58_isGood 5 = .ok (.ldiv, 1) := dk_109 (dk_at dksX58_isGood_0 5 rfl rfl)
theorem dX58_isGood_6 : decode cX58_isGood 6 = .ok (.invokestatic 13, 3) := dk_184 0 13 (dk_at dksX58_isGood_0 6 rfl rfl)
theorem dX58_isGood_9 : decode cX58_isGood 9 = .ok (.i2l, 1) := dk_133 (dk_at dksX58_isGood_0 9 rfl rfl)
theorem dX58_isGood_10 : decode cX58_isGood 10 = .ok (.lload_n 1, 1) := dk_31 (dk_at dksX58_isGood_0 10 rfl rfl)
theorem dX58_isGood_11 : decode cX58_isGood 11 = .ok (.ldc2_w 11, 3) := dk_20 0 11 (dk_at dksX58_isGood_0 11 rfl rfl)
theorem dX58_isGood_14 : decode cX58_isGood 14 = .ok (.lrem, 1) := dk_113 (dk_at dksX58_isGood_0 14 rfl rfl)
theorem dX58_isGood_15 : decode cX58_isGood 15 = .ok (.lcmp, 1) := dk_148 (dk_at dksX58_isGood_0 15 rfl rfl)
theorem dX58_isGood_16 : decode cX58_isGood 16 = .ok (.ifCond .ne 7, 3) := dk_154 0 7 (dk_at dksX58_isGood_0 16 rfl rfl)
theorem dX58_isGood_19 : decode cX58_isGood 19 = .ok (.iconst 1, 1) := dk_4 (dk_at dksX58_isGood_0 19 rfl rfl)
theorem dX58_isGood_20 : decode cX58_isGood 20 = .ok (.goto 4, 3) := dk_167 0 4 (dk_at dksX58_isGood_0 20 rfl rfl)
theorem dX58_isGood_23 : decode cX58_isGood 23 = .ok (.iconst 0, 1) := dk_3 (dk_at dksX58_isGood_0 23 rfl rfl)
theorem dX58_isGood_24 : decode cX58_isGood 24 = .ok (.ireturn, 1) := dk_172 (dk_at dksX58_isGood_1 0 rfl rfl)
abbrev cX58_system : ByteArray := prog_12_method_5_code
def yX58_system : MethodName := ⟨RX58, "system", "(J)I"⟩
def dkwX58_system_0 : List UInt8 := [30, 20, 0, 11, 109, 20, 0, 11, 113, 136, 6, 112, 172]
abbrev dktX58_system_0 : List UInt8 := dkwX58_system_0 ++ []
theorem dksX58_system_0 : cX58_system.data.toList.drop 0 = dktX58_system_0 := by decide +kernel
theorem dX58_system_0 : decode cX58_system 0 = .ok (.lload_n 0, 1) := dk_30 (dk_at dksX58_system_0 0 rfl rfl)
theorem dX58_system_1 : decode cX58_system 1 = .ok (.ldc2_w 11, 3) := dk_20 0 11 (dk_at dksX58_system_0 1 rfl rfl)
theorem dX58_system_4 : decode cX58_system 4 = .ok (.ldiv, 1) := dk_109 (dk_at dksX58_system_0 4 rfl rfl)
theorem dX58_system_5 : decode cX58_system 5 = .ok (.ldc2_w 11, 3) := dk_20 0 11 (dk_at dksX58_system_0 5 rfl rfl)
theorem dX58_system_8 : decode cX58_system 8 = .ok (.lrem, 1) := dk_113 (dk_at dksX58_system_0 8 rfl rfl)
theorem dX58_system_9 : decode cX58_system 9 = .ok (.l2i, 1) := dk_136 (dk_at dksX58_system_0 9 rfl rfl)
theorem dX58_system_10 : decode cX58_system 10 = .ok (.iconst 3, 1) := dk_6 (dk_at dksX58_system_0 10 rfl rfl)
theorem dX58_system_11 : decode cX58_system 11 = .ok (.irem, 1) := dk_112 (dk_at dksX58_system_0 11 rfl rfl)
theorem dX58_system_12 : decode cX58_system 12 = .ok (.ireturn, 1) := dk_172 (dk_at dksX58_system_0 12 rfl rfl)
theorem q481 : (Jvm.Cond.initialized "WasteHouse$DepositCodes$Numbers") ∈ lw_all := lw_g (lw_at lw_m1 89 rfl) rfl
theorem q3510 : (Jvm.Cond.static ({ cls := "WasteHouse$DepositCodes$Numbers", name := "is", desc := "(J)Z" } : Jvm.MethodName)) ∈ lw_all := lw_g (lw_at lw_m13 238 rfl) rfl
theorem q3511 : (Jvm.Cond.code ({ cls := "WasteHouse$DepositCodes$Numbers", name := "is", desc := "(J)Z" } : Jvm.MethodName) prog_12_method_2_code (2 : Nat) (Option.some Jvm.ClassFile.FieldType.boolean)) ∈ lw_all := lw_g (lw_at lw_m13 239 rfl) rfl
theorem q3512 : (Jvm.Cond.constantLong "WasteHouse$DepositCodes$Numbers" (9 : Nat) (999999999999999999 : Int64)) ∈ lw_all := lw_g (lw_at lw_m14 0 rfl) rfl
theorem q3514 : (Jvm.Cond.static ({ cls := "WasteHouse$DepositCodes$Numbers", name := "check", desc := "(IJ)I" } : Jvm.MethodName)) ∈ lw_all := lw_g (lw_at lw_m14 2 rfl) rfl
theorem q3515 : (Jvm.Cond.code ({ cls := "WasteHouse$DepositCodes$Numbers", name := "check", desc := "(IJ)I" } : Jvm.MethodName) prog_12_method_3_code (9 : Nat) (Option.some Jvm.ClassFile.FieldType.int)) ∈ lw_all := lw_g (lw_at lw_m14 3 rfl) rfl
theorem q3516 : (Jvm.Cond.constantLong "WasteHouse$DepositCodes$Numbers" (11 : Nat) (10 : Int64)) ∈ lw_all := lw_g (lw_at lw_m14 4 rfl) rfl
theorem q3522 : (Jvm.Cond.static ({ cls := "WasteHouse$DepositCodes$Numbers", name := "isGood", desc := "(IJ)Z" } : Jvm.MethodName)) ∈ lw_all := lw_g (lw_at lw_m14 10 rfl) rfl
theorem q3523 : (Jvm.Cond.code ({ cls := "WasteHouse$DepositCodes$Numbers", name := "isGood", desc := "(IJ)Z" } : Jvm.MethodName) prog_12_method_4_code (3 : Nat) (Option.some Jvm.ClassFile.FieldType.boolean)) ∈ lw_all := lw_g (lw_at lw_m14 11 rfl) rfl
theorem q3524 : (Jvm.Cond.methodLink "WasteHouse$DepositCodes$Numbers" (13 : Nat) ({ cls := "WasteHouse$DepositCodes$Numbers", name := "check", desc := "(IJ)I" } : Jvm.MethodName)) ∈ lw_all := lw_g (lw_at lw_m14 12 rfl) rfl
theorem q4325 : (Jvm.Cond.static ({ cls := "WasteHouse$DepositCodes$Numbers", name := "system", desc := "(J)I" } : Jvm.MethodName)) ∈ lw_all := lw_g (lw_at lw_m17 93 rfl) rfl
theorem q4326 : (Jvm.Cond.code ({ cls := "WasteHouse$DepositCodes$Numbers", name := "system", desc := "(J)I" } : Jvm.MethodName) prog_12_method_5_code (2 : Nat) (Option.some Jvm.ClassFile.FieldType.int)) ∈ lw_all := lw_g (lw_at lw_m17 94 rfl) rfl
