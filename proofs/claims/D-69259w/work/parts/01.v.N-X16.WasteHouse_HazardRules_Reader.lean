/-! WasteHouse$HazardRules$Reader -/
set_option maxRecDepth 100000
def RX16 : String := "WasteHouse$HazardRules$Reader"
def TX16 : u_T := fun k => match k with
  | 0 => ("WasteHouse$HazardRules$Reader", "words", "LWasteHouse$HazardRules$Words;", true)
  | 1 => ("WasteHouse$HazardRules$Reader", "code", "LWasteHouse$HazardRules$Code;", true)
  | 2 => ("WasteHouse$HazardRules$Reader", "at", "I", false)
  | _ => ("WasteHouse$HazardRules$Reader", "good", "Z", false)
def tyX16 : Nat → FieldType := fun k => match k with
  | 0 => .object "WasteHouse$HazardRules$Words"
  | 1 => .object "WasteHouse$HazardRules$Code"
  | 2 => .int
  | _ => .boolean
abbrev wsX160 : List Cond := u_ws RX16 TX16 4
theorem nmX16 : ∀ a, a < 4 → ∀ b, b < 4 → a ≠ b → (TX16 a).2.1 ≠ (TX16 b).2.1 := by decide +kernel
theorem tyX16_ok : ∀ k, k < 4 → parseFieldDescriptor (TX16 k).2.2.1 = some (tyX16 k) := by decide +kernel
abbrev cX16_init : ByteArray := prog_21_method_1_code
def yX16_init : MethodName := ⟨RX16, "<init>", "(LWasteHouse$HazardRules$Words;LWasteHouse$HazardRules$Code;)V"⟩
def dkwX16_init_0 : List UInt8 := [42, 183, 0, 3, 42, 43, 181, 0, 9, 42, 44, 181, 0, 15, 177]
abbrev dktX16_init_0 : List UInt8 := dkwX16_init_0 ++ []
theorem dksX16_init_0 : cX16_init.data.toList.drop 0 = dktX16_init_0 := by decide +kernel
theorem dX16_init_0 : decode cX16_init 0 = .ok (.aload_n 0, 1) := dk_42 (dk_at dksX16_init_0 0 rfl rfl)
theorem dX16_init_1 : decode cX16_init 1 = .ok (.invokespecial 3, 3) := dk_183 0 3 (dk_at dksX16_init_0 1 rfl rfl)
theorem dX16_init_4 : decode cX16_init 4 = .ok (.aload_n 0, 1) := dk_42 (dk_at dksX16_init_0 4 rfl rfl)
theorem dX16_init_5 : decode cX16_init 5 = .ok (.aload_n 1, 1) := dk_43 (dk_at dksX16_init_0 5 rfl rfl)
theorem dX16_init_6 : decode cX16_init 6 = .ok (.putfield 9, 3) := dk_181 0 9 (dk_at dksX16_init_0 6 rfl rfl)
theorem dX16_init_9 : decode cX16_init 9 = .ok (.aload_n 0, 1) := dk_42 (dk_at dksX16_init_0 9 rfl rfl)
theorem dX16_init_10 : decode cX16_init 10 = .ok (.aload_n 2, 1) := dk_44 (dk_at dksX16_init_0 10 rfl rfl)
theorem dX16_init_11 : decode cX16_init 11 = .ok (.putfield 15, 3) := dk_181 0 15 (dk_at dksX16_init_0 11 rfl rfl)
theorem dX16_init_14 : decode cX16_init 14 = .ok (.return_, 1) := dk_177 (dk_at dksX16_init_0 14 rfl rfl)
abbrev cX16_read : ByteArray := prog_21_method_2_code
def yX16_read : MethodName := ⟨RX16, "read", "()Z"⟩
def dkwX16_read_2 : List UInt8 := [180, 0, 28, 172]
abbrev dktX16_read_2 : List UInt8 := dkwX16_read_2 ++ []
def dkwX16_read_1 : List UInt8 := [42, 180, 0, 24, 42, 180, 0, 9, 180, 0, 32, 162, 0, 10, 42, 182, 0, 37, 167, 255, 231, 42]
abbrev dktX16_read_1 : List UInt8 := dkwX16_read_1 ++ dktX16_read_2
def dkwX16_read_0 : List UInt8 := [42, 180, 0, 15, 182, 0, 19, 42, 3, 181, 0, 24, 42, 4, 181, 0, 28, 42, 180, 0, 28, 153, 0, 24]
abbrev dktX16_read_0 : List UInt8 := dkwX16_read_0 ++ dktX16_read_1
theorem dksX16_read_0 : cX16_read.data.toList.drop 0 = dktX16_read_0 := by decide +kernel
theorem dksX16_read_1 : cX16_read.data.toList.drop 24 = dktX16_read_1 := dk_seg dksX16_read_0 24 rfl rfl
theorem dksX16_read_2 : cX16_read.data.toList.drop 46 = dktX16_read_2 := dk_seg dksX16_read_1 22 rfl rfl
theorem dX16_read_0 : decode cX16_read 0 = .ok (.aload_n 0, 1) := dk_42 (dk_at dksX16_read_0 0 rfl rfl)
theorem dX16_read_1 : decode cX16_read 1 = .ok (.getfield 15, 3) := dk_180 0 15 (dk_at dksX16_read_0 1 rfl rfl)
theorem dX16_read_4 : decode cX16_read 4 = .ok (.invokevirtual 19, 3) := dk_182 0 19 (dk_at dksX16_read_0 4 rfl rfl)
theorem dX16_read_7 : decode cX16_read 7 = .ok (.aload_n 0, 1) := dk_42 (dk_at dksX16_read_0 7 rfl rfl)
theorem dX16_read_8 : decode cX16_read 8 = .ok (.iconst 0, 1) := dk_3 (dk_at dksX16_read_0 8 rfl rfl)
theorem dX16_read_9 : decode cX16_read 9 = .ok (.putfield 24, 3) := dk_181 0 24 (dk_at dksX16_read_0 9 rfl rfl)
theorem dX16_read_12 : decode cX16_read 12 = .ok (.aload_n 0, 1) := dk_42 (dk_at dksX16_read_0 12 rfl rfl)
theorem dX16_read_13 : decode cX16_read 13 = .ok (.iconst 1, 1) := dk_4 (dk_at dksX16_read_0 13 rfl rfl)
theorem dX16_read_14 : decode cX16_read 14 = .ok (.putfield 28, 3) := dk_181 0 28 (dk_at dksX16_read_0 14 rfl rfl)
theorem dX16_read_17 : decode cX16_read 17 = .ok (.aload_n 0, 1) := dk_42 (dk_at dksX16_read_0 17 rfl rfl)
theorem dX16_read_18 : decode cX16_read 18 = .ok (.getfield 28, 3) := dk_180 0 28 (dk_at dksX16_read_0 18 rfl rfl)
theorem dX16_read_21 : decode cX16_read 21 = .ok (.ifCond .eq 24, 3) := dk_153 0 24 (dk_at dksX16_read_0 21 rfl rfl)
theorem dX16_read_24 : decode cX16_read 24 = .ok (.aload_n 0, 1) := dk_42 (dk_at dksX16_read_1 0 rfl rfl)
theorem dX16_read_25 : decode cX16_read 25 = .ok (.getfield 24, 3) := dk_180 0 24 (dk_at dksX16_read_1 1 rfl rfl)
theorem dX16_read_28 : decode cX16_read 28 = .ok (.aload_n 0, 1) := dk_42 (dk_at dksX16_read_1 4 rfl rfl)
theorem dX16_read_29 : decode cX16_read 29 = .ok (.getfield 9, 3) := dk_180 0 9 (dk_at dksX16_read_1 5 rfl rfl)
theorem dX16_read_32 : decode cX16_read 32 = .ok (.getfield 32, 3) := dk_180 0 32 (dk_at dksX16_read_1 8 rfl rfl)
theorem dX16_read_35 : decode cX16_read 35 = .ok (.if_icmp .ge 10, 3) := dk_162 0 10 (dk_at dksX16_read_1 11 rfl rfl)
theorem dX16_read_38 : decode cX16_read 38 = .ok (.aload_n 0, 1) := dk_42 (dk_at dksX16_read_1 14 rfl rfl)
theorem dX16_read_39 : decode cX16_read 39 = .ok (.invokevirtual 37, 3) := dk_182 0 37 (dk_at dksX16_read_1 15 rfl rfl)
theorem dX16_read_42 : decode cX16_read 42 = .ok (.goto (-25), 3) := dk_167 255 231 (dk_at dksX16_read_1 18 rfl rfl)
theorem dX16_read_45 : decode cX16_read 45 = .ok (.aload_n 0, 1) := dk_42 (dk_at dksX16_read_1 21 rfl rfl)
theorem dX16_read_46 : decode cX16_read 46 = .ok (.getfield 28, 3) := dk_180 0 28 (dk_at dksX16_read_2 0 rfl rfl)
theorem dX16_read_49 : decode cX16_read 49 = .ok (.ireturn, 1) := dk_172 (dk_at dksX16_read_2 3 rfl rfl)
abbrev cX16_edition : ByteArray := prog_21_method_5_code
def yX16_edition : MethodName := ⟨RX16, "edition", "()V"⟩
def dkwX16_edition_7 : List UInt8 := [180, 0, 24, 178, 0, 82, 182, 0, 40, 153, 0, 10, 42, 182, 0, 85, 167, 255, 228, 177]
abbrev dktX16_edition_7 : List UInt8 := dkwX16_edition_7 ++ []
def dkwX16_edition_6 : List UInt8 := [180, 0, 62, 42, 180, 0, 15, 180, 0, 79, 79, 42, 180, 0, 28, 153, 0, 27, 42, 180, 0, 9, 42]
abbrev dktX16_edition_6 : List UInt8 := dkwX16_edition_6 ++ dktX16_edition_7
def dkwX16_edition_5 : List UInt8 := [180, 0, 62, 90, 4, 96, 181, 0, 62, 28, 79, 42, 180, 0, 15, 180, 0, 76, 42, 180, 0, 15]
abbrev dktX16_edition_5 : List UInt8 := dkwX16_edition_5 ++ dktX16_edition_6
def dkwX16_edition_4 : List UInt8 := [182, 0, 72, 61, 42, 180, 0, 28, 154, 0, 4, 177, 42, 180, 0, 15, 180, 0, 65, 42, 180, 0, 15, 89]
abbrev dktX16_edition_4 : List UInt8 := dkwX16_edition_4 ++ dktX16_edition_5
def dkwX16_edition_3 : List UInt8 := [180, 0, 48, 42, 180, 0, 24, 46, 27, 164, 0, 7, 4, 167, 0, 4, 3, 181, 0, 28, 42, 18, 71]
abbrev dktX16_edition_3 : List UInt8 := dkwX16_edition_3 ++ dktX16_edition_4
def dkwX16_edition_2 : List UInt8 := [153, 0, 40, 42, 180, 0, 9, 42, 180, 0, 24, 178, 0, 68, 182, 0, 40, 153, 0, 19, 42, 180, 0, 9]
abbrev dktX16_edition_2 : List UInt8 := dkwX16_edition_2 ++ dktX16_edition_3
def dkwX16_edition_1 : List UInt8 := [180, 0, 15, 180, 0, 65, 42, 180, 0, 15, 180, 0, 62, 4, 100, 46, 60, 42, 42, 180, 0, 28]
abbrev dktX16_edition_1 : List UInt8 := dkwX16_edition_1 ++ dktX16_edition_2
def dkwX16_edition_0 : List UInt8 := [42, 178, 0, 52, 182, 0, 58, 42, 180, 0, 15, 180, 0, 62, 154, 0, 7, 2, 167, 0, 20, 42]
abbrev dktX16_edition_0 : List UInt8 := dkwX16_edition_0 ++ dktX16_edition_1
theorem dksX16_edition_0 : cX16_edition.data.toList.drop 0 = dktX16_edition_0 := by decide +kernel
theorem dksX16_edition_1 : cX16_edition.data.toList.drop 22 = dktX16_edition_1 := dk_seg dksX16_edition_0 22 rfl rfl
theorem dksX16_edition_2 : cX16_edition.data.toList.drop 44 = dktX16_edition_2 := dk_seg dksX16_edition_1 22 rfl rfl
theorem dksX16_edition_3 : cX16_edition.data.toList.drop 68 = dktX16_edition_3 := dk_seg dksX16_edition_2 24 rfl rfl
theorem dksX16_edition_4 : cX16_edition.data.toList.drop 91 = dktX16_edition_4 := dk_seg dksX16_edition_3 23 rfl rfl
theorem dksX16_edition_5 : cX16_edition.data.toList.drop 115 = dktX16_edition_5 := dk_seg dksX16_edition_4 24 rfl rfl
theorem dksX16_edition_6 : cX16_edition.data.toList.drop 137 = dktX16_edition_6 := dk_seg dksX16_edition_5 22 rfl rfl
theorem dksX16_edition_7 : cX16_edition.data.toList.drop 160 = dktX16_edition_7 := dk_seg dksX16_edition_6 23 rfl rfl
theorem dX16_edition_0 : decode cX16_edition 0 = .ok (.aload_n 0, 1) := dk_42 (dk_at dksX16_edition_0 0 rfl rfl)
theorem dX16_edition_1 : decode cX16_edition 1 = .ok (.getstatic 52, 3) := dk_178 0 52 (dk_at dksX16_edition_0 1 rfl rfl)
theorem dX16_edition_4 : decode cX16_edition 4 = .ok (.invokevirtual 58, 3) := dk_182 0 58 (dk_at dksX16_edition_0 4 rfl rfl)
theorem dX16_edition_7 : decode cX16_edition 7 = .ok (.aload_n 0, 1) := dk_42 (dk_at dksX16_edition_0 7 rfl rfl)
theorem dX16_edition_8 : decode cX16_edition 8 = .ok (.getfield 15, 3) := dk_180 0 15 (dk_at dksX16_edition_0 8 rfl rfl)
theorem dX16_edition_11 : decode cX16_edition 11 = .ok (.getfield 62, 3) := dk_180 0 62 (dk_at dksX16_edition_0 11 rfl rfl)
theorem dX16_edition_14 : decode cX16_edition 14 = .ok (.ifCond .ne 7, 3) := dk_154 0 7 (dk_at dksX16_edition_0 14 rfl rfl)
theorem dX16_edition_17 : decode cX16_edition 17 = .ok (.iconst (-1), 1) := dk_2 (dk_at dksX16_edition_0 17 rfl rfl)
theorem dX16_edition_18 : decode cX16_edition 18 = .ok (.goto 20, 3) := dk_167 0 20 (dk_at dksX16_edition_0 18 rfl rfl)
theorem dX16_edition_21 : decode cX16_edition 21 = .ok (.aload_n 0, 1) := dk_42 (dk_at dksX16_edition_0 21 rfl rfl)
theorem dX16_edition_22 : decode cX16_edition 22 = .ok (.getfield 15, 3) := dk_180 0 15 (dk_at dksX16_edition_1 0 rfl rfl)
theorem dX16_edition_25 : decode cX16_edition 25 = .ok (.getfield 65, 3) := dk_180 0 65 (dk_at dksX16_edition_1 3 rfl rfl)
theorem dX16_edition_28 : decode cX16_edition 28 = .ok (.aload_n 0, 1) := dk_42 (dk_at dksX16_edition_1 6 rfl rfl)
theorem dX16_edition_29 : decode cX16_edition 29 = .ok (.getfield 15, 3) := dk_180 0 15 (dk_at dksX16_edition_1 7 rfl rfl)
theorem dX16_edition_32 : decode cX16_edition 32 = .ok (.getfield 62, 3) := dk_180 0 62 (dk_at dksX16_edition_1 10 rfl rfl)
theorem dX16_edition_35 : decode cX16_edition 35 = .ok (.iconst 1, 1) := dk_4 (dk_at dksX16_edition_1 13 rfl rfl)
theorem dX16_edition_36 : decode cX16_edition 36 = .ok (.isub, 1) := dk_100 (dk_at dksX16_edition_1 14 rfl rfl)
theorem dX16_edition_37 : decode cX16_edition 37 = .ok (.iaload, 1) := dk_46 (dk_at dksX16_edition_1 15 rfl rfl)
theorem dX16_edition_38 : decode cX16_edition 38 = .ok (.istore_n 1, 1) := dk_60 (dk_at dksX16_edition_1 16 rfl rfl)
theorem dX16_edition_39 : decode cX16_edition 39 = .ok (.aload_n 0, 1) := dk_42 (dk_at dksX16_edition_1 17 rfl rfl)
theorem dX16_edition_40 : decode cX16_edition 40 = .ok (.aload_n 0, 1) := dk_42 (dk_at dksX16_edition_1 18 rfl rfl)
theorem dX16_edition_41 : decode cX16_edition 41 = .ok (.getfield 28, 3) := dk_180 0 28 (dk_at dksX16_edition_1 19 rfl rfl)
theorem dX16_edition_44 : decode cX16_edition 44 = .ok (.ifCond .eq 40, 3) := dk_153 0 40 (dk_at dksX16_edition_2 0 rfl rfl)
theorem dX16_edition_47 : decode cX16_edition 47 = .ok (.aload_n 0, 1) := dk_42 (dk_at dksX16_edition_2 3 rfl rfl)
theorem dX16_edition_48 : decode cX16_edition 48 = .ok (.getfield 9, 3) := dk_180 0 9 (dk_at dksX16_edition_2 4 rfl rfl)
theorem dX16_edition_51 : decode cX16_edition 51 = .ok (.aload_n 0, 1) := dk_42 (dk_at dksX16_edition_2 7 rfl rfl)
theorem dX16_edition_52 : decode cX16_edition 52 = .ok (.getfield 24, 3) := dk_180 0 24 (dk_at dksX16_edition_2 8 rfl rfl)
theorem dX16_edition_55 : decode cX16_edition 55 = .ok (.getstatic 68, 3) := dk_178 0 68 (dk_at dksX16_edition_2 11 rfl rfl)
theorem dX16_edition_58 : decode cX16_edition 58 = .ok (.invokevirtual 40, 3) := dk_182 0 40 (dk_at dksX16_edition_2 14 rfl rfl)
theorem dX16_edition_61 : decode cX16_edition 61 = .ok (.ifCond .eq 19, 3) := dk_153 0 19 (dk_at dksX16_edition_2 17 rfl rfl)
theorem dX16_edition_64 : decode cX16_edition 64 = .ok (.aload_n 0, 1) := dk_42 (dk_at dksX16_edition_2 20 rfl rfl)
theorem dX16_edition_65 : decode cX16_edition 65 = .ok (.getfield 9, 3) := dk_180 0 9 (dk_at dksX16_edition_2 21 rfl rfl)
theorem dX16_edition_68 : decode cX16_edition 68 = .ok (.getfield 48, 3) := dk_180 0 48 (dk_at dksX16_edition_3 0 rfl rfl)
theorem dX16_edition_71 : decode cX16_edition 71 = .ok (.aload_n 0, 1) := dk_42 (dk_at dksX16_edition_3 3 rfl rfl)
theorem dX16_edition_72 : decode cX16_edition 72 = .ok (.getfield 24, 3) := dk_180 0 24 (dk_at dksX16_edition_3 4 rfl rfl)
theorem dX16_edition_75 : decode cX16_edition 75 = .ok (.iaload, 1) := dk_46 (dk_at dksX16_edition_3 7 rfl rfl)
theorem dX16_edition_76 : decode cX16_edition 76 = .ok (.iload_n 1, 1) := dk_27 (dk_at dksX16_edition_3 8 rfl rfl)
theorem dX16_edition_77 : decode cX16_edition 77 = .ok (.if_icmp .le 7, 3) := dk_164 0 7 (dk_at dksX16_edition_3 9 rfl rfl)
theorem dX16_edition_80 : decode cX16_edition 80 = .ok (.iconst 1, 1) := dk_4 (dk_at dksX16_edition_3 12 rfl rfl)
theorem dX16_edition_81 : decode cX16_edition 81 = .ok (.goto 4, 3) := dk_167 0 4 (dk_at dksX16_edition_3 13 rfl rfl)
theorem dX16_edition_84 : decode cX16_edition 84 = .ok (.iconst 0, 1) := dk_3 (dk_at dksX16_edition_3 16 rfl rfl)
theorem dX16_edition_85 : decode cX16_edition 85 = .ok (.putfield 28, 3) := dk_181 0 28 (dk_at dksX16_edition_3 17 rfl rfl)
theorem dX16_edition_88 : decode cX16_edition 88 = .ok (.aload_n 0, 1) := dk_42 (dk_at dksX16_edition_3 20 rfl rfl)
theorem dX16_edition_89 : decode cX16_edition 89 = .ok (.ldc 71, 2) := dk_18 71 (dk_at dksX16_edition_3 21 rfl rfl)
theorem dX16_edition_91 : decode cX16_edition 91 = .ok (.invokevirtual 72, 3) := dk_182 0 72 (dk_at dksX16_edition_4 0 rfl rfl)
theorem dX16_edition_94 : decode cX16_edition 94 = .ok (.istore_n 2, 1) := dk_61 (dk_at dksX16_edition_4 3 rfl rfl)
theorem dX16_edition_95 : decode cX16_edition 95 = .ok (.aload_n 0, 1) := dk_42 (dk_at dksX16_edition_4 4 rfl rfl)
theorem dX16_edition_96 : decode cX16_edition 96 = .ok (.getfield 28, 3) := dk_180 0 28 (dk_at dksX16_edition_4 5 rfl rfl)
theorem dX16_edition_99 : decode cX16_edition 99 = .ok (.ifCond .ne 4, 3) := dk_154 0 4 (dk_at dksX16_edition_4 8 rfl rfl)
theorem dX16_edition_102 : decode cX16_edition 102 = .ok (.return_, 1) := dk_177 (dk_at dksX16_edition_4 11 rfl rfl)
theorem dX16_edition_103 : decode cX16_edition 103 = .ok (.aload_n 0, 1) := dk_42 (dk_at dksX16_edition_4 12 rfl rfl)
theorem dX16_edition_104 : decode cX16_edition 104 = .ok (.getfield 15, 3) := dk_180 0 15 (dk_at dksX16_edition_4 13 rfl rfl)
theorem dX16_edition_107 : decode cX16_edition 107 = .ok (.getfield 65, 3) := dk_180 0 65 (dk_at dksX16_edition_4 16 rfl rfl)
theorem dX16_edition_110 : decode cX16_edition 110 = .ok (.aload_n 0, 1) := dk_42 (dk_at dksX16_edition_4 19 rfl rfl)
theorem dX16_edition_111 : decode cX16_edition 111 = .ok (.getfield 15, 3) := dk_180 0 15 (dk_at dksX16_edition_4 20 rfl rfl)
theorem dX16_edition_114 : decode cX16_edition 114 = .ok (.dup, 1) := dk_89 (dk_at dksX16_edition_4 23 rfl rfl)
theorem dX16_edition_115 : decode cX16_edition 115 = .ok (.getfield 62, 3) := dk_180 0 62 (dk_at dksX16_edition_5 0 rfl rfl)
theorem dX16_edition_118 : decode cX16_edition 118 = .ok (.dup_x1, 1) := dk_90 (dk_at dksX16_edition_5 3 rfl rfl)
theorem dX16_edition_119 : decode cX16_edition 119 = .ok (.iconst 1, 1) := dk_4 (dk_at dksX16_edition_5 4 rfl rfl)
theorem dX16_edition_120 : decode cX16_edition 120 = .ok (.iadd, 1) := dk_96 (dk_at dksX16_edition_5 5 rfl rfl)
theorem dX16_edition_121 : decode cX16_edition 121 = .ok (.putfield 62, 3) := dk_181 0 62 (dk_at dksX16_edition_5 6 rfl rfl)
theorem dX16_edition_124 : decode cX16_edition 124 = .ok (.iload_n 2, 1) := dk_28 (dk_at dksX16_edition_5 9 rfl rfl)
theorem dX16_edition_125 : decode cX16_edition 125 = .ok (.iastore, 1) := dk_79 (dk_at dksX16_edition_5 10 rfl rfl)
theorem dX16_edition_126 : decode cX16_edition 126 = .ok (.aload_n 0, 1) := dk_42 (dk_at dksX16_edition_5 11 rfl rfl)
theorem dX16_edition_127 : decode cX16_edition 127 = .ok (.getfield 15, 3) := dk_180 0 15 (dk_at dksX16_edition_5 12 rfl rfl)
theorem dX16_edition_130 : decode cX16_edition 130 = .ok (.getfield 76, 3) := dk_180 0 76 (dk_at dksX16_edition_5 15 rfl rfl)
theorem dX16_edition_133 : decode cX16_edition 133 = .ok (.aload_n 0, 1) := dk_42 (dk_at dksX16_edition_5 18 rfl rfl)
theorem dX16_edition_134 : decode cX16_edition 134 = .ok (.getfield 15, 3) := dk_180 0 15 (dk_at dksX16_edition_5 19 rfl rfl)
theorem dX16_edition_137 : decode cX16_edition 137 = .ok (.getfield 62, 3) := dk_180 0 62 (dk_at dksX16_edition_6 0 rfl rfl)
theorem dX16_edition_140 : decode cX16_edition 140 = .ok (.aload_n 0, 1) := dk_42 (dk_at dksX16_edition_6 3 rfl rfl)
theorem dX16_edition_141 : decode cX16_edition 141 = .ok (.getfield 15, 3) := dk_180 0 15 (dk_at dksX16_edition_6 4 rfl rfl)
theorem dX16_edition_144 : decode cX16_edition 144 = .ok (.getfield 79, 3) := dk_180 0 79 (dk_at dksX16_edition_6 7 rfl rfl)
theorem dX16_edition_147 : decode cX16_edition 147 = .ok (.iastore, 1) := dk_79 (dk_at dksX16_edition_6 10 rfl rfl)
theorem dX16_edition_148 : decode cX16_edition 148 = .ok (.aload_n 0, 1) := dk_42 (dk_at dksX16_edition_6 11 rfl rfl)
theorem dX16_edition_149 : decode cX16_edition 149 = .ok (.getfield 28, 3) := dk_180 0 28 (dk_at dksX16_edition_6 12 rfl rfl)
theorem dX16_edition_152 : decode cX16_edition 152 = .ok (.ifCond .eq 27, 3) := dk_153 0 27 (dk_at dksX16_edition_6 15 rfl rfl)
theorem dX16_edition_155 : decode cX16_edition 155 = .ok (.aload_n 0, 1) := dk_42 (dk_at dksX16_edition_6 18 rfl rfl)
theorem dX16_edition_156 : decode cX16_edition 156 = .ok (.getfield 9, 3) := dk_180 0 9 (dk_at dksX16_edition_6 19 rfl rfl)
theorem dX16_edition_159 : decode cX16_edition 159 = .ok (.aload_n 0, 1) := dk_42 (dk_at dksX16_edition_6 22 rfl rfl)
theorem dX16_edition_160 : decode cX16_edition 160 = .ok (.getfield 24, 3) := dk_180 0 24 (dk_at dksX16_edition_7 0 rfl rfl)
theorem dX16_edition_163 : decode cX16_edition 163 = .ok (.getstatic 82, 3) := dk_178 0 82 (dk_at dksX16_edition_7 3 rfl rfl)
theorem dX16_edition_166 : decode cX16_edition 166 = .ok (.invokevirtual 40, 3) := dk_182 0 40 (dk_at dksX16_edition_7 6 rfl rfl)
theorem dX16_edition_169 : decode cX16_edition 169 = .ok (.ifCond .eq 10, 3) := dk_153 0 10 (dk_at dksX16_edition_7 9 rfl rfl)
theorem dX16_edition_172 : decode cX16_edition 172 = .ok (.aload_n 0, 1) := dk_42 (dk_at dksX16_edition_7 12 rfl rfl)
theorem dX16_edition_173 : decode cX16_edition 173 = .ok (.invokevirtual 85, 3) := dk_182 0 85 (dk_at dksX16_edition_7 13 rfl rfl)
theorem dX16_edition_176 : decode cX16_edition 176 = .ok (.goto (-28), 3) := dk_167 255 228 (dk_at dksX16_edition_7 16 rfl rfl)
theorem dX16_edition_179 : decode cX16_edition 179 = .ok (.return_, 1) := dk_177 (dk_at dksX16_edition_7 19 rfl rfl)
abbrev cX16_take : ByteArray := prog_21_method_3_code
def yX16_take : MethodName := ⟨RX16, "take", "(LWasteHouse$HazardRules$Word;)V"⟩
def dkwX16_take_2 : List UInt8 := [96, 181, 0, 24, 177]
abbrev dktX16_take_2 : List UInt8 := dkwX16_take_2 ++ []
def dkwX16_take_1 : List UInt8 := [167, 0, 4, 3, 181, 0, 28, 42, 89, 180, 0, 24, 42, 180, 0, 28, 153, 0, 7, 4, 167, 0, 4, 3]
abbrev dktX16_take_1 : List UInt8 := dkwX16_take_1 ++ dktX16_take_2
def dkwX16_take_0 : List UInt8 := [42, 42, 180, 0, 28, 153, 0, 22, 42, 180, 0, 9, 42, 180, 0, 24, 43, 182, 0, 40, 153, 0, 7, 4]
abbrev dktX16_take_0 : List UInt8 := dkwX16_take_0 ++ dktX16_take_1
theorem dksX16_take_0 : cX16_take.data.toList.drop 0 = dktX16_take_0 := by decide +kernel
theorem dksX16_take_1 : cX16_take.data.toList.drop 24 = dktX16_take_1 := dk_seg dksX16_take_0 24 rfl rfl
theorem dksX16_take_2 : cX16_take.data.toList.drop 48 = dktX16_take_2 := dk_seg dksX16_take_1 24 rfl rfl
theorem dX16_take_0 : decode cX16_take 0 = .ok (.aload_n 0, 1) := dk_42 (dk_at dksX16_take_0 0 rfl rfl)
theorem dX16_take_1 : decode cX16_take 1 = .ok (.aload_n 0, 1) := dk_42 (dk_at dksX16_take_0 1 rfl rfl)
theorem dX16_take_2 : decode cX16_take 2 = .ok (.getfield 28, 3) := dk_180 0 28 (dk_at dksX16_take_0 2 rfl rfl)
theorem dX16_take_5 : decode cX16_take 5 = .ok (.ifCond .eq 22, 3) := dk_153 0 22 (dk_at dksX16_take_0 5 rfl rfl)
theorem dX16_take_8 : decode cX16_take 8 = .ok (.aload_n 0, 1) := dk_42 (dk_at dksX16_take_0 8 rfl rfl)
theorem dX16_take_9 : decode cX16_take 9 = .ok (.getfield 9, 3) := dk_180 0 9 (dk_at dksX16_take_0 9 rfl rfl)
theorem dX16_take_12 : decode cX16_take 12 = .ok (.aload_n 0, 1) := dk_42 (dk_at dksX16_take_0 12 rfl rfl)
theorem dX16_take_13 : decode cX16_take 13 = .ok (.getfield 24, 3) := dk_180 0 24 (dk_at dksX16_take_0 13 rfl rfl)
theorem dX16_take_16 : decode cX16_take 16 = .ok (.aload_n 1, 1) := dk_43 (dk_at dksX16_take_0 16 rfl rfl)
theorem dX16_take_17 : decode cX16_take 17 = .ok (.invokevirtual 40, 3) := dk_182 0 40 (dk_at dksX16_take_0 17 rfl rfl)
theorem dX16_take_20 : decode cX16_take 20 = .ok (.ifCond .eq 7, 3) := dk_153 0 7 (dk_at dksX16_take_0 20 rfl rfl)
theorem dX16_take_23 : decode cX16_take 23 = .ok (.iconst 1, 1) := dk_4 (dk_at dksX16_take_0 23 rfl rfl)
theorem dX16_take_24 : decode cX16_take 24 = .ok (.goto 4, 3) := dk_167 0 4 (dk_at dksX16_take_1 0 rfl rfl)
theorem dX16_take_27 : decode cX16_take 27 = .ok (.iconst 0, 1) := dk_3 (dk_at dksX16_take_1 3 rfl rfl)
theorem dX16_take_28 : decode cX16_take 28 = .ok (.putfield 28, 3) := dk_181 0 28 (dk_at dksX16_take_1 4 rfl rfl)
theorem dX16_take_31 : decode cX16_take 31 = .ok (.aload_n 0, 1) := dk_42 (dk_at dksX16_take_1 7 rfl rfl)
theorem dX16_take_32 : decode cX16_take 32 = .ok (.dup, 1) := dk_89 (dk_at dksX16_take_1 8 rfl rfl)
theorem dX16_take_33 : decode cX16_take 33 = .ok (.getfield 24, 3) := dk_180 0 24 (dk_at dksX16_take_1 9 rfl rfl)
theorem dX16_take_36 : decode cX16_take 36 = .ok (.aload_n 0, 1) := dk_42 (dk_at dksX16_take_1 12 rfl rfl)
theorem dX16_take_37 : decode cX16_take 37 = .ok (.getfield 28, 3) := dk_180 0 28 (dk_at dksX16_take_1 13 rfl rfl)
theorem dX16_take_40 : decode cX16_take 40 = .ok (.ifCond .eq 7, 3) := dk_153 0 7 (dk_at dksX16_take_1 16 rfl rfl)
theorem dX16_take_43 : decode cX16_take 43 = .ok (.iconst 1, 1) := dk_4 (dk_at dksX16_take_1 19 rfl rfl)
theorem dX16_take_44 : decode cX16_take 44 = .ok (.goto 4, 3) := dk_167 0 4 (dk_at dksX16_take_1 20 rfl rfl)
theorem dX16_take_47 : decode cX16_take 47 = .ok (.iconst 0, 1) := dk_3 (dk_at dksX16_take_1 23 rfl rfl)
theorem dX16_take_48 : decode cX16_take 48 = .ok (.iadd, 1) := dk_96 (dk_at dksX16_take_2 0 rfl rfl)
theorem dX16_take_49 : decode cX16_take 49 = .ok (.putfield 24, 3) := dk_181 0 24 (dk_at dksX16_take_2 1 rfl rfl)
theorem dX16_take_52 : decode cX16_take 52 = .ok (.return_, 1) := dk_177 (dk_at dksX16_take_2 4 rfl rfl)
abbrev cX16_number : ByteArray := prog_21_method_4_code
def yX16_number : MethodName := ⟨RX16, "number", "(I)I"⟩
def dkwX16_number_2 : List UInt8 := [180, 0, 24, 90, 4, 96, 181, 0, 24, 46, 167, 0, 4, 3, 172]
abbrev dktX16_number_2 : List UInt8 := dkwX16_number_2 ++ []
def dkwX16_number_1 : List UInt8 := [167, 0, 4, 3, 181, 0, 28, 42, 180, 0, 28, 153, 0, 25, 42, 180, 0, 9, 180, 0, 48, 42, 89]
abbrev dktX16_number_1 : List UInt8 := dkwX16_number_1 ++ dktX16_number_2
def dkwX16_number_0 : List UInt8 := [42, 42, 180, 0, 28, 153, 0, 22, 42, 180, 0, 9, 42, 180, 0, 24, 27, 182, 0, 44, 153, 0, 7, 4]
abbrev dktX16_number_0 : List UInt8 := dkwX16_number_0 ++ dktX16_number_1
theorem dksX16_number_0 : cX16_number.data.toList.drop 0 = dktX16_number_0 := by decide +kernel
theorem dksX16_number_1 : cX16_number.data.toList.drop 24 = dktX16_number_1 := dk_seg dksX16_number_0 24 rfl rfl
theorem dksX16_number_2 : cX16_number.data.toList.drop 47 = dktX16_number_2 := dk_seg dksX16_number_1 23 rfl rfl
theorem dX16_number_0 : decode cX16_number 0 = .ok (.aload_n 0, 1) := dk_42 (dk_at dksX16_number_0 0 rfl rfl)
theorem dX16_number_1 : decode cX16_number 1 = .ok (.aload_n 0, 1) := dk_42 (dk_at dksX16_number_0 1 rfl rfl)
theorem dX16_number_2 : decode cX16_number 2 = .ok (.getfield 28, 3) := dk_180 0 28 (dk_at dksX16_number_0 2 rfl rfl)
theorem dX16_number_5 : decode cX16_number 5 = .ok (.ifCond .eq 22, 3) := dk_153 0 22 (dk_at dksX16_number_0 5 rfl rfl)
theorem dX16_number_8 : decode cX16_number 8 = .ok (.aload_n 0, 1) := dk_42 (dk_at dksX16_number_0 8 rfl rfl)
theorem dX16_number_9 : decode cX16_number 9 = .ok (.getfield 9, 3) := dk_180 0 9 (dk_at dksX16_number_0 9 rfl rfl)
theorem dX16_number_12 : decode cX16_number 12 = .ok (.aload_n 0, 1) := dk_42 (dk_at dksX16_number_0 12 rfl rfl)
theorem dX16_number_13 : decode cX16_number 13 = .ok (.getfield 24, 3) := dk_180 0 24 (dk_at dksX16_number_0 13 rfl rfl)
theorem dX16_number_16 : decode cX16_number 16 = .ok (.iload_n 1, 1) := dk_27 (dk_at dksX16_number_0 16 rfl rfl)
theorem dX16_number_17 : decode cX16_number 17 = .ok (.invokevirtual 44, 3) := dk_182 0 44 (dk_at dksX16_number_0 17 rfl rfl)
theorem dX16_number_20 : decode cX16_number 20 = .ok (.ifCond .eq 7, 3) := dk_153 0 7 (dk_at dksX16_number_0 20 rfl rfl)
theorem dX16_number_23 : decode cX16_number 23 = .ok (.iconst 1, 1) := dk_4 (dk_at dksX16_number_0 23 rfl rfl)
theorem dX16_number_24 : decode cX16_number 24 = .ok (.goto 4, 3) := dk_167 0 4 (dk_at dksX16_number_1 0 rfl rfl)
theorem dX16_number_27 : decode cX16_number 27 = .ok (.iconst 0, 1) := dk_3 (dk_at dksX16_number_1 3 rfl rfl)
theorem dX16_number_28 : decode cX16_number 28 = .ok (.putfield 28, 3) := dk_181 0 28 (dk_at dksX16_number_1 4 rfl rfl)
theorem dX16_number_31 : decode cX16_number 31 = .ok (.aload_n 0, 1) := dk_42 (dk_at dksX16_number_1 7 rfl rfl)
theorem dX16_number_32 : decode cX16_number 32 = .ok (.getfield 28, 3) := dk_180 0 28 (dk_at dksX16_number_1 8 rfl rfl)
theorem dX16_number_35 : decode cX16_number 35 = .ok (.ifCond .eq 25, 3) := dk_153 0 25 (dk_at dksX16_number_1 11 rfl rfl)
theorem dX16_number_38 : decode cX16_number 38 = .ok (.aload_n 0, 1) := dk_42 (dk_at dksX16_number_1 14 rfl rfl)
theorem dX16_number_39 : decode cX16_number 39 = .ok (.getfield 9, 3) := dk_180 0 9 (dk_at dksX16_number_1 15 rfl rfl)
theorem dX16_number_42 : decode cX16_number 42 = .ok (.getfield 48, 3) := dk_180 0 48 (dk_at dksX16_number_1 18 rfl rfl)
theorem dX16_number_45 : decode cX16_number 45 = .ok (.aload_n 0, 1) := dk_42 (dk_at dksX16_number_1 21 rfl rfl)
theorem dX16_number_46 : decode cX16_number 46 = .ok (.dup, 1) := dk_89 (dk_at dksX16_number_1 22 rfl rfl)
theorem dX16_number_47 : decode cX16_number 47 = .ok (.getfield 24, 3) := dk_180 0 24 (dk_at dksX16_number_2 0 rfl rfl)
theorem dX16_number_50 : decode cX16_number 50 = .ok (.dup_x1, 1) := dk_90 (dk_at dksX16_number_2 3 rfl rfl)
theorem dX16_number_51 : decode cX16_number 51 = .ok (.iconst 1, 1) := dk_4 (dk_at dksX16_number_2 4 rfl rfl)
theorem dX16_number_52 : decode cX16_number 52 = .ok (.iadd, 1) := dk_96 (dk_at dksX16_number_2 5 rfl rfl)
theorem dX16_number_53 : decode cX16_number 53 = .ok (.putfield 24, 3) := dk_181 0 24 (dk_at dksX16_number_2 6 rfl rfl)
theorem dX16_number_56 : decode cX16_number 56 = .ok (.iaload, 1) := dk_46 (dk_at dksX16_number_2 9 rfl rfl)
theorem dX16_number_57 : decode cX16_number 57 = .ok (.goto 4, 3) := dk_167 0 4 (dk_at dksX16_number_2 10 rfl rfl)
theorem dX16_number_60 : decode cX16_number 60 = .ok (.iconst 0, 1) := dk_3 (dk_at dksX16_number_2 13 rfl rfl)
theorem dX16_number_61 : decode cX16_number 61 = .ok (.ireturn, 1) := dk_172 (dk_at dksX16_number_2 14 rfl rfl)
abbrev cX16_rule : ByteArray := prog_21_method_6_code
def yX16_rule : MethodName := ⟨RX16, "rule", "()V"⟩
def dkwX16_rule_8 : List UInt8 := [180, 0, 62, 42, 180, 0, 15, 180, 0, 79, 79, 177]
abbrev dktX16_rule_8 : List UInt8 := dkwX16_rule_8 ++ []
def dkwX16_rule_7 : List UInt8 := [180, 0, 79, 42, 180, 0, 15, 180, 0, 109, 79, 42, 180, 0, 15, 180, 0, 76, 42, 180, 0, 15]
abbrev dktX16_rule_7 : List UInt8 := dkwX16_rule_7 ++ dktX16_rule_8
def dkwX16_rule_6 : List UInt8 := [180, 0, 15, 89, 180, 0, 79, 4, 96, 181, 0, 79, 42, 180, 0, 15, 180, 0, 106, 42, 180, 0, 15]
abbrev dktX16_rule_6 : List UInt8 := dkwX16_rule_6 ++ dktX16_rule_7
def dkwX16_rule_5 : List UInt8 := [180, 0, 79, 28, 79, 42, 180, 0, 15, 180, 0, 103, 42, 180, 0, 15, 180, 0, 79, 27, 79, 42]
abbrev dktX16_rule_5 : List UInt8 := dkwX16_rule_5 ++ dktX16_rule_6
def dkwX16_rule_4 : List UInt8 := [178, 0, 97, 182, 0, 58, 42, 180, 0, 28, 153, 0, 92, 42, 180, 0, 15, 180, 0, 100, 42, 180, 0, 15]
abbrev dktX16_rule_4 : List UInt8 := dkwX16_rule_4 ++ dktX16_rule_5
def dkwX16_rule_3 : List UInt8 := [178, 0, 94, 182, 0, 40, 153, 0, 17, 42, 178, 0, 94, 182, 0, 58, 42, 182, 0, 91, 167, 255, 221, 42]
abbrev dktX16_rule_3 : List UInt8 := dkwX16_rule_3 ++ dktX16_rule_4
def dkwX16_rule_2 : List UInt8 := [182, 0, 58, 42, 182, 0, 91, 42, 180, 0, 28, 153, 0, 34, 42, 180, 0, 9, 42, 180, 0, 24]
abbrev dktX16_rule_2 : List UInt8 := dkwX16_rule_2 ++ dktX16_rule_3
def dkwX16_rule_1 : List UInt8 := [180, 0, 24, 60, 42, 178, 0, 82, 182, 0, 58, 42, 16, 19, 182, 0, 72, 61, 42, 178, 0, 88]
abbrev dktX16_rule_1 : List UInt8 := dkwX16_rule_1 ++ dktX16_rule_2
def dkwX16_rule_0 : List UInt8 := [42, 42, 180, 0, 15, 180, 0, 79, 16, 60, 162, 0, 7, 4, 167, 0, 4, 3, 181, 0, 28, 42]
abbrev dktX16_rule_0 : List UInt8 := dkwX16_rule_0 ++ dktX16_rule_1
theorem dksX16_rule_0 : cX16_rule.data.toList.drop 0 = dktX16_rule_0 := by decide +kernel
theorem dksX16_rule_1 : cX16_rule.data.toList.drop 22 = dktX16_rule_1 := dk_seg dksX16_rule_0 22 rfl rfl
theorem dksX16_rule_2 : cX16_rule.data.toList.drop 44 = dktX16_rule_2 := dk_seg dksX16_rule_1 22 rfl rfl
theorem dksX16_rule_3 : cX16_rule.data.toList.drop 66 = dktX16_rule_3 := dk_seg dksX16_rule_2 22 rfl rfl
theorem dksX16_rule_4 : cX16_rule.data.toList.drop 90 = dktX16_rule_4 := dk_seg dksX16_rule_3 24 rfl rfl
theorem dksX16_rule_5 : cX16_rule.data.toList.drop 114 = dktX16_rule_5 := dk_seg dksX16_rule_4 24 rfl rfl
theorem dksX16_rule_6 : cX16_rule.data.toList.drop 136 = dktX16_rule_6 := dk_seg dksX16_rule_5 22 rfl rfl
theorem dksX16_rule_7 : cX16_rule.data.toList.drop 159 = dktX16_rule_7 := dk_seg dksX16_rule_6 23 rfl rfl
theorem dksX16_rule_8 : cX16_rule.data.toList.drop 181 = dktX16_rule_8 := dk_seg dksX16_rule_7 22 rfl rfl
theorem dX16_rule_0 : decode cX16_rule 0 = .ok (.aload_n 0, 1) := dk_42 (dk_at dksX16_rule_0 0 rfl rfl)
theorem dX16_rule_1 : decode cX16_rule 1 = .ok (.aload_n 0, 1) := dk_42 (dk_at dksX16_rule_0 1 rfl rfl)
theorem dX16_rule_2 : decode cX16_rule 2 = .ok (.getfield 15, 3) := dk_180 0 15 (dk_at dksX16_rule_0 2 rfl rfl)
theorem dX16_rule_5 : decode cX16_rule 5 = .ok (.getfield 79, 3) := dk_180 0 79 (dk_at dksX16_rule_0 5 rfl rfl)
theorem dX16_rule_8 : decode cX16_rule 8 = .ok (.bipush 60, 2) := dk_16 60 (dk_at dksX16_rule_0 8 rfl rfl)
theorem dX16_rule_10 : decode cX16_rule 10 = .ok (.if_icmp .ge 7, 3) := dk_162 0 7 (dk_at dksX16_rule_0 10 rfl rfl)
theorem dX16_rule_13 : decode cX16_rule 13 = .ok (.iconst 1, 1) := dk_4 (dk_at dksX16_rule_0 13 rfl rfl)
theorem dX16_rule_14 : decode cX16_rule 14 = .ok (.goto 4, 3) := dk_167 0 4 (dk_at dksX16_rule_0 14 rfl rfl)
theorem dX16_rule_17 : decode cX16_rule 17 = .ok (.iconst 0, 1) := dk_3 (dk_at dksX16_rule_0 17 rfl rfl)
theorem dX16_rule_18 : decode cX16_rule 18 = .ok (.putfield 28, 3) := dk_181 0 28 (dk_at dksX16_rule_0 18 rfl rfl)
theorem dX16_rule_21 : decode cX16_rule 21 = .ok (.aload_n 0, 1) := dk_42 (dk_at dksX16_rule_0 21 rfl rfl)
theorem dX16_rule_22 : decode cX16_rule 22 = .ok (.getfield 24, 3) := dk_180 0 24 (dk_at dksX16_rule_1 0 rfl rfl)
theorem dX16_rule_25 : decode cX16_rule 25 = .ok (.istore_n 1, 1) := dk_60 (dk_at dksX16_rule_1 3 rfl rfl)
theorem dX16_rule_26 : decode cX16_rule 26 = .ok (.aload_n 0, 1) := dk_42 (dk_at dksX16_rule_1 4 rfl rfl)
theorem dX16_rule_27 : decode cX16_rule 27 = .ok (.getstatic 82, 3) := dk_178 0 82 (dk_at dksX16_rule_1 5 rfl rfl)
theorem dX16_rule_30 : decode cX16_rule 30 = .ok (.invokevirtual 58, 3) := dk_182 0 58 (dk_at dksX16_rule_1 8 rfl rfl)
theorem dX16_rule_33 : decode cX16_rule 33 = .ok (.aload_n 0, 1) := dk_42 (dk_at dksX16_rule_1 11 rfl rfl)
theorem dX16_rule_34 : decode cX16_rule 34 = .ok (.bipush 19, 2) := dk_16 19 (dk_at dksX16_rule_1 12 rfl rfl)
theorem dX16_rule_36 : decode cX16_rule 36 = .ok (.invokevirtual 72, 3) := dk_182 0 72 (dk_at dksX16_rule_1 14 rfl rfl)
theorem dX16_rule_39 : decode cX16_rule 39 = .ok (.istore_n 2, 1) := dk_61 (dk_at dksX16_rule_1 17 rfl rfl)
theorem dX16_rule_40 : decode cX16_rule 40 = .ok (.aload_n 0, 1) := dk_42 (dk_at dksX16_rule_1 18 rfl rfl)
theorem dX16_rule_41 : decode cX16_rule 41 = .ok (.getstatic 88, 3) := dk_178 0 88 (dk_at dksX16_rule_1 19 rfl rfl)
theorem dX16_rule_44 : decode cX16_rule 44 = .ok (.invokevirtual 58, 3) := dk_182 0 58 (dk_at dksX16_rule_2 0 rfl rfl)
theorem dX16_rule_47 : decode cX16_rule 47 = .ok (.aload_n 0, 1) := dk_42 (dk_at dksX16_rule_2 3 rfl rfl)
theorem dX16_rule_48 : decode cX16_rule 48 = .ok (.invokevirtual 91, 3) := dk_182 0 91 (dk_at dksX16_rule_2 4 rfl rfl)
theorem dX16_rule_51 : decode cX16_rule 51 = .ok (.aload_n 0, 1) := dk_42 (dk_at dksX16_rule_2 7 rfl rfl)
theorem dX16_rule_52 : decode cX16_rule 52 = .ok (.getfield 28, 3) := dk_180 0 28 (dk_at dksX16_rule_2 8 rfl rfl)
theorem dX16_rule_55 : decode cX16_rule 55 = .ok (.ifCond .eq 34, 3) := dk_153 0 34 (dk_at dksX16_rule_2 11 rfl rfl)
theorem dX16_rule_58 : decode cX16_rule 58 = .ok (.aload_n 0, 1) := dk_42 (dk_at dksX16_rule_2 14 rfl rfl)
theorem dX16_rule_59 : decode cX16_rule 59 = .ok (.getfield 9, 3) := dk_180 0 9 (dk_at dksX16_rule_2 15 rfl rfl)
theorem dX16_rule_62 : decode cX16_rule 62 = .ok (.aload_n 0, 1) := dk_42 (dk_at dksX16_rule_2 18 rfl rfl)
theorem dX16_rule_63 : decode cX16_rule 63 = .ok (.getfield 24, 3) := dk_180 0 24 (dk_at dksX16_rule_2 19 rfl rfl)
theorem dX16_rule_66 : decode cX16_rule 66 = .ok (.getstatic 94, 3) := dk_178 0 94 (dk_at dksX16_rule_3 0 rfl rfl)
theorem dX16_rule_69 : decode cX16_rule 69 = .ok (.invokevirtual 40, 3) := dk_182 0 40 (dk_at dksX16_rule_3 3 rfl rfl)
theorem dX16_rule_72 : decode cX16_rule 72 = .ok (.ifCond .eq 17, 3) := dk_153 0 17 (dk_at dksX16_rule_3 6 rfl rfl)
theorem dX16_rule_75 : decode cX16_rule 75 = .ok (.aload_n 0, 1) := dk_42 (dk_at dksX16_rule_3 9 rfl rfl)
theorem dX16_rule_76 : decode cX16_rule 76 = .ok (.getstatic 94, 3) := dk_178 0 94 (dk_at dksX16_rule_3 10 rfl rfl)
theorem dX16_rule_79 : decode cX16_rule 79 = .ok (.invokevirtual 58, 3) := dk_182 0 58 (dk_at dksX16_rule_3 13 rfl rfl)
theorem dX16_rule_82 : decode cX16_rule 82 = .ok (.aload_n 0, 1) := dk_42 (dk_at dksX16_rule_3 16 rfl rfl)
theorem dX16_rule_83 : decode cX16_rule 83 = .ok (.invokevirtual 91, 3) := dk_182 0 91 (dk_at dksX16_rule_3 17 rfl rfl)
theorem dX16_rule_86 : decode cX16_rule 86 = .ok (.goto (-35), 3) := dk_167 255 221 (dk_at dksX16_rule_3 20 rfl rfl)
theorem dX16_rule_89 : decode cX16_rule 89 = .ok (.aload_n 0, 1) := dk_42 (dk_at dksX16_rule_3 23 rfl rfl)
theorem dX16_rule_90 : decode cX16_rule 90 = .ok (.getstatic 97, 3) := dk_178 0 97 (dk_at dksX16_rule_4 0 rfl rfl)
theorem dX16_rule_93 : decode cX16_rule 93 = .ok (.invokevirtual 58, 3) := dk_182 0 58 (dk_at dksX16_rule_4 3 rfl rfl)
theorem dX16_rule_96 : decode cX16_rule 96 = .ok (.aload_n 0, 1) := dk_42 (dk_at dksX16_rule_4 6 rfl rfl)
theorem dX16_rule_97 : decode cX16_rule 97 = .ok (.getfield 28, 3) := dk_180 0 28 (dk_at dksX16_rule_4 7 rfl rfl)
theorem dX16_rule_100 : decode cX16_rule 100 = .ok (.ifCond .eq 92, 3) := dk_153 0 92 (dk_at dksX16_rule_4 10 rfl rfl)
theorem dX16_rule_103 : decode cX16_rule 103 = .ok (.aload_n 0, 1) := dk_42 (dk_at dksX16_rule_4 13 rfl rfl)
theorem dX16_rule_104 : decode cX16_rule 104 = .ok (.getfield 15, 3) := dk_180 0 15 (dk_at dksX16_rule_4 14 rfl rfl)
theorem dX16_rule_107 : decode cX16_rule 107 = .ok (.getfield 100, 3) := dk_180 0 100 (dk_at dksX16_rule_4 17 rfl rfl)
theorem dX16_rule_110 : decode cX16_rule 110 = .ok (.aload_n 0, 1) := dk_42 (dk_at dksX16_rule_4 20 rfl rfl)
theorem dX16_rule_111 : decode cX16_rule 111 = .ok (.getfield 15, 3) := dk_180 0 15 (dk_at dksX16_rule_4 21 rfl rfl)
theorem dX16_rule_114 : decode cX16_rule 114 = .ok (.getfield 79, 3) := dk_180 0 79 (dk_at dksX16_rule_5 0 rfl rfl)
theorem dX16_rule_117 : decode cX16_rule 117 = .ok (.iload_n 2, 1) := dk_28 (dk_at dksX16_rule_5 3 rfl rfl)
theorem dX16_rule_118 : decode cX16_rule 118 = .ok (.iastore, 1) := dk_79 (dk_at dksX16_rule_5 4 rfl rfl)
theorem dX16_rule_119 : decode cX16_rule 119 = .ok (.aload_n 0, 1) := dk_42 (dk_at dksX16_rule_5 5 rfl rfl)
theorem dX16_rule_120 : decode cX16_rule 120 = .ok (.getfield 15, 3) := dk_180 0 15 (dk_at dksX16_rule_5 6 rfl rfl)
theorem dX16_rule_123 : decode cX16_rule 123 = .ok (.getfield 103, 3) := dk_180 0 103 (dk_at dksX16_rule_5 9 rfl rfl)
theorem dX16_rule_126 : decode cX16_rule 126 = .ok (.aload_n 0, 1) := dk_42 (dk_at dksX16_rule_5 12 rfl rfl)
theorem dX16_rule_127 : decode cX16_rule 127 = .ok (.getfield 15, 3) := dk_180 0 15 (dk_at dksX16_rule_5 13 rfl rfl)
theorem dX16_rule_130 : decode cX16_rule 130 = .ok (.getfield 79, 3) := dk_180 0 79 (dk_at dksX16_rule_5 16 rfl rfl)
theorem dX16_rule_133 : decode cX16_rule 133 = .ok (.iload_n 1, 1) := dk_27 (dk_at dksX16_rule_5 19 rfl rfl)
theorem dX16_rule_134 : decode cX16_rule 134 = .ok (.iastore, 1) := dk_79 (dk_at dksX16_rule_5 20 rfl rfl)
theorem dX16_rule_135 : decode cX16_rule 135 = .ok (.aload_n 0, 1) := dk_42 (dk_at dksX16_rule_5 21 rfl rfl)
theorem dX16_rule_136 : decode cX16_rule 136 = .ok (.getfield 15, 3) := dk_180 0 15 (dk_at dksX16_rule_6 0 rfl rfl)
theorem dX16_rule_139 : decode cX16_rule 139 = .ok (.dup, 1) := dk_89 (dk_at dksX16_rule_6 3 rfl rfl)
theorem dX16_rule_140 : decode cX16_rule 140 = .ok (.getfield 79, 3) := dk_180 0 79 (dk_at dksX16_rule_6 4 rfl rfl)
theorem dX16_rule_143 : decode cX16_rule 143 = .ok (.iconst 1, 1) := dk_4 (dk_at dksX16_rule_6 7 rfl rfl)
theorem dX16_rule_144 : decode cX16_rule 144 = .ok (.iadd, 1) := dk_96 (dk_at dksX16_rule_6 8 rfl rfl)
theorem dX16_rule_145 : decode cX16_rule 145 = .ok (.putfield 79, 3) := dk_181 0 79 (dk_at dksX16_rule_6 9 rfl rfl)
theorem dX16_rule_148 : decode cX16_rule 148 = .ok (.aload_n 0, 1) := dk_42 (dk_at dksX16_rule_6 12 rfl rfl)
theorem dX16_rule_149 : decode cX16_rule 149 = .ok (.getfield 15, 3) := dk_180 0 15 (dk_at dksX16_rule_6 13 rfl rfl)
theorem dX16_rule_152 : decode cX16_rule 152 = .ok (.getfield 106, 3) := dk_180 0 106 (dk_at dksX16_rule_6 16 rfl rfl)
theorem dX16_rule_155 : decode cX16_rule 155 = .ok (.aload_n 0, 1) := dk_42 (dk_at dksX16_rule_6 19 rfl rfl)
theorem dX16_rule_156 : decode cX16_rule 156 = .ok (.getfield 15, 3) := dk_180 0 15 (dk_at dksX16_rule_6 20 rfl rfl)
theorem dX16_rule_159 : decode cX16_rule 159 = .ok (.getfield 79, 3) := dk_180 0 79 (dk_at dksX16_rule_7 0 rfl rfl)
theorem dX16_rule_162 : decode cX16_rule 162 = .ok (.aload_n 0, 1) := dk_42 (dk_at dksX16_rule_7 3 rfl rfl)
theorem dX16_rule_163 : decode cX16_rule 163 = .ok (.getfield 15, 3) := dk_180 0 15 (dk_at dksX16_rule_7 4 rfl rfl)
theorem dX16_rule_166 : decode cX16_rule 166 = .ok (.getfield 109, 3) := dk_180 0 109 (dk_at dksX16_rule_7 7 rfl rfl)
theorem dX16_rule_169 : decode cX16_rule 169 = .ok (.iastore, 1) := dk_79 (dk_at dksX16_rule_7 10 rfl rfl)
theorem dX16_rule_170 : decode cX16_rule 170 = .ok (.aload_n 0, 1) := dk_42 (dk_at dksX16_rule_7 11 rfl rfl)
theorem dX16_rule_171 : decode cX16_rule 171 = .ok (.getfield 15, 3) := dk_180 0 15 (dk_at dksX16_rule_7 12 rfl rfl)
theorem dX16_rule_174 : decode cX16_rule 174 = .ok (.getfield 76, 3) := dk_180 0 76 (dk_at dksX16_rule_7 15 rfl rfl)
theorem dX16_rule_177 : decode cX16_rule 177 = .ok (.aload_n 0, 1) := dk_42 (dk_at dksX16_rule_7 18 rfl rfl)
theorem dX16_rule_178 : decode cX16_rule 178 = .ok (.getfield 15, 3) := dk_180 0 15 (dk_at dksX16_rule_7 19 rfl rfl)
theorem dX16_rule_181 : decode cX16_rule 181 = .ok (.getfield 62, 3) := dk_180 0 62 (dk_at dksX16_rule_8 0 rfl rfl)
theorem dX16_rule_184 : decode cX16_rule 184 = .ok (.aload_n 0, 1) := dk_42 (dk_at dksX16_rule_8 3 rfl rfl)
theorem dX16_rule_185 : decode cX16_rule 185 = .ok (.getfield 15, 3) := dk_180 0 15 (dk_at dksX16_rule_8 4 rfl rfl)
theorem dX16_rule_188 : decode cX16_rule 188 = .ok (.getfield 79, 3) := dk_180 0 79 (dk_at dksX16_rule_8 7 rfl rfl)
theorem dX16_rule_191 : decode cX16_rule 191 = .ok (.iastore, 1) := dk_79 (dk_at dksX16_rule_8 10 rfl rfl)
theorem dX16_rule_192 : decode cX16_rule 192 = .ok (.return_, 1) := dk_177 (dk_at dksX16_rule_8 11 rfl rfl)
abbrev cX16_item : ByteArray := prog_21_method_7_code
def yX16_item : MethodName := ⟨RX16, "item", "()V"⟩
def dkwX16_item_15 : List UInt8 := [18, 71, 182, 0, 72, 79, 42, 180, 0, 15, 180, 0, 157, 27, 42, 180, 0, 15, 180, 0, 139, 79, 177]
abbrev dktX16_item_15 : List UInt8 := dkwX16_item_15 ++ []
def dkwX16_item_14 : List UInt8 := [160, 0, 9, 178, 0, 151, 167, 0, 6, 178, 0, 154, 182, 0, 58, 42, 180, 0, 15, 180, 0, 130, 27, 42]
abbrev dktX16_item_14 : List UInt8 := dkwX16_item_14 ++ dktX16_item_15
def dkwX16_item_13 : List UInt8 := [182, 0, 40, 153, 0, 7, 4, 167, 0, 4, 3, 79, 42, 42, 180, 0, 15, 180, 0, 121, 27, 46, 4]
abbrev dktX16_item_13 : List UInt8 := dkwX16_item_13 ++ dktX16_item_14
def dkwX16_item_12 : List UInt8 := [167, 255, 211, 42, 180, 0, 15, 180, 0, 121, 27, 42, 180, 0, 9, 42, 180, 0, 24, 178, 0, 151]
abbrev dktX16_item_12 : List UInt8 := dkwX16_item_12 ++ dktX16_item_13
def dkwX16_item_11 : List UInt8 := [154, 0, 20, 42, 180, 0, 9, 42, 180, 0, 24, 178, 0, 148, 182, 0, 40, 153, 0, 10, 42, 182, 0, 142]
abbrev dktX16_item_11 : List UInt8 := dkwX16_item_11 ++ dktX16_item_12
def dkwX16_item_10 : List UInt8 := [182, 0, 142, 42, 180, 0, 28, 153, 0, 44, 42, 180, 0, 9, 42, 180, 0, 24, 178, 0, 145, 182, 0, 40]
abbrev dktX16_item_10 : List UInt8 := dkwX16_item_10 ++ dktX16_item_11
def dkwX16_item_9 : List UInt8 := [178, 0, 136, 182, 0, 58, 42, 180, 0, 15, 180, 0, 118, 27, 42, 180, 0, 15, 180, 0, 139, 79, 42]
abbrev dktX16_item_9 : List UInt8 := dkwX16_item_9 ++ dktX16_item_10
def dkwX16_item_8 : List UInt8 := [27, 42, 16, 19, 182, 0, 72, 79, 167, 0, 160, 42, 180, 0, 15, 180, 0, 115, 27, 5, 79, 42]
abbrev dktX16_item_8 : List UInt8 := dkwX16_item_8 ++ dktX16_item_9
def dkwX16_item_7 : List UInt8 := [42, 180, 0, 15, 180, 0, 115, 27, 4, 79, 42, 178, 0, 133, 182, 0, 58, 42, 180, 0, 15, 180, 0, 118]
abbrev dktX16_item_7 : List UInt8 := dkwX16_item_7 ++ dktX16_item_8
def dkwX16_item_6 : List UInt8 := [182, 0, 72, 79, 167, 0, 212, 42, 180, 0, 9, 42, 180, 0, 24, 178, 0, 133, 182, 0, 40, 153, 0, 38]
abbrev dktX16_item_6 : List UInt8 := dkwX16_item_6 ++ dktX16_item_7
def dkwX16_item_5 : List UInt8 := [178, 0, 124, 167, 0, 6, 178, 0, 127, 182, 0, 58, 42, 180, 0, 15, 180, 0, 130, 27, 42, 16, 9]
abbrev dktX16_item_5 : List UInt8 := dkwX16_item_5 ++ dktX16_item_6
def dkwX16_item_4 : List UInt8 := [153, 0, 7, 4, 167, 0, 4, 3, 79, 42, 42, 180, 0, 15, 180, 0, 121, 27, 46, 4, 160, 0, 9]
abbrev dktX16_item_4 : List UInt8 := dkwX16_item_4 ++ dktX16_item_5
def dkwX16_item_3 : List UInt8 := [42, 180, 0, 15, 180, 0, 121, 27, 42, 180, 0, 9, 42, 180, 0, 24, 178, 0, 124, 182, 0, 40]
abbrev dktX16_item_3 : List UInt8 := dkwX16_item_3 ++ dktX16_item_4
def dkwX16_item_2 : List UInt8 := [3, 79, 42, 178, 0, 112, 182, 0, 58, 42, 180, 0, 15, 180, 0, 118, 27, 42, 16, 7, 182, 0, 72, 79]
abbrev dktX16_item_2 : List UInt8 := dkwX16_item_2 ++ dktX16_item_3
def dkwX16_item_1 : List UInt8 := [180, 0, 9, 42, 180, 0, 24, 178, 0, 112, 182, 0, 40, 153, 0, 110, 42, 180, 0, 15, 180, 0, 115, 27]
abbrev dktX16_item_1 : List UInt8 := dkwX16_item_1 ++ dktX16_item_2
def dkwX16_item_0 : List UInt8 := [42, 180, 0, 28, 154, 0, 4, 177, 42, 180, 0, 15, 89, 180, 0, 109, 90, 4, 96, 181, 0, 109, 60, 42]
abbrev dktX16_item_0 : List UInt8 := dkwX16_item_0 ++ dktX16_item_1
theorem dksX16_item_0 : cX16_item.data.toList.drop 0 = dktX16_item_0 := by decide +kernel
theorem dksX16_item_1 : cX16_item.data.toList.drop 24 = dktX16_item_1 := dk_seg dksX16_item_0 24 rfl rfl
theorem dksX16_item_2 : cX16_item.data.toList.drop 48 = dktX16_item_2 := dk_seg dksX16_item_1 24 rfl rfl
theorem dksX16_item_3 : cX16_item.data.toList.drop 72 = dktX16_item_3 := dk_seg dksX16_item_2 24 rfl rfl
theorem dksX16_item_4 : cX16_item.data.toList.drop 94 = dktX16_item_4 := dk_seg dksX16_item_3 22 rfl rfl
theorem dksX16_item_5 : cX16_item.data.toList.drop 117 = dktX16_item_5 := dk_seg dksX16_item_4 23 rfl rfl
theorem dksX16_item_6 : cX16_item.data.toList.drop 140 = dktX16_item_6 := dk_seg dksX16_item_5 23 rfl rfl
theorem dksX16_item_7 : cX16_item.data.toList.drop 164 = dktX16_item_7 := dk_seg dksX16_item_6 24 rfl rfl
theorem dksX16_item_8 : cX16_item.data.toList.drop 188 = dktX16_item_8 := dk_seg dksX16_item_7 24 rfl rfl
theorem dksX16_item_9 : cX16_item.data.toList.drop 210 = dktX16_item_9 := dk_seg dksX16_item_8 22 rfl rfl
theorem dksX16_item_10 : cX16_item.data.toList.drop 233 = dktX16_item_10 := dk_seg dksX16_item_9 23 rfl rfl
theorem dksX16_item_11 : cX16_item.data.toList.drop 257 = dktX16_item_11 := dk_seg dksX16_item_10 24 rfl rfl
theorem dksX16_item_12 : cX16_item.data.toList.drop 281 = dktX16_item_12 := dk_seg dksX16_item_11 24 rfl rfl
theorem dksX16_item_13 : cX16_item.data.toList.drop 303 = dktX16_item_13 := dk_seg dksX16_item_12 22 rfl rfl
theorem dksX16_item_14 : cX16_item.data.toList.drop 326 = dktX16_item_14 := dk_seg dksX16_item_13 23 rfl rfl
theorem dksX16_item_15 : cX16_item.data.toList.drop 350 = dktX16_item_15 := dk_seg dksX16_item_14 24 rfl rfl
theorem dX16_item_0 : decode cX16_item 0 = .ok (.aload_n 0, 1) := dk_42 (dk_at dksX16_item_0 0 rfl rfl)
theorem dX16_item_1 : decode cX16_item 1 = .ok (.getfield 28, 3) := dk_180 0 28 (dk_at dksX16_item_0 1 rfl rfl)
theorem dX16_item_4 : decode cX16_item 4 = .ok (.ifCond .ne 4, 3) := dk_154 0 4 (dk_at dksX16_item_0 4 rfl rfl)
theorem dX16_item_7 : decode cX16_item 7 = .ok (.return_, 1) := dk_177 (dk_at dksX16_item_0 7 rfl rfl)
theorem dX16_item_8 : decode cX16_item 8 = .ok (.aload_n 0, 1) := dk_42 (dk_at dksX16_item_0 8 rfl rfl)
theorem dX16_item_9 : decode cX16_item 9 = .ok (.getfield 15, 3) := dk_180 0 15 (dk_at dksX16_item_0 9 rfl rfl)
theorem dX16_item_12 : decode cX16_item 12 = .ok (.dup, 1) := dk_89 (dk_at dksX16_item_0 12 rfl rfl)
theorem dX16_item_13 : decode cX16_item 13 = .ok (.getfield 109, 3) := dk_180 0 109 (dk_at dksX16_item_0 13 rfl rfl)
theorem dX16_item_16 : decode cX16_item 16 = .ok (.dup_x1, 1) := dk_90 (dk_at dksX16_item_0 16 rfl rfl)
theorem dX16_item_17 : decode cX16_item 17 = .ok (.iconst 1, 1) := dk_4 (dk_at dksX16_item_0 17 rfl rfl)
theorem dX16_item_18 : decode cX16_item 18 = .ok (.iadd, 1) := dk_96 (dk_at dksX16_item_0 18 rfl rfl)
theorem dX16_item_19 : decode cX16_item 19 = .ok (.putfield 109, 3) := dk_181 0 109 (dk_at dksX16_item_0 19 rfl rfl)
theorem dX16_item_22 : decode cX16_item 22 = .ok (.istore_n 1, 1) := dk_60 (dk_at dksX16_item_0 22 rfl rfl)
theorem dX16_item_23 : decode cX16_item 23 = .ok (.aload_n 0, 1) := dk_42 (dk_at dksX16_item_0 23 rfl rfl)
theorem dX16_item_24 : decode cX16_item 24 = .ok (.getfield 9, 3) := dk_180 0 9 (dk_at dksX16_item_1 0 rfl rfl)
theorem dX16_item_27 : decode cX16_item 27 = .ok (.aload_n 0, 1) := dk_42 (dk_at dksX16_item_1 3 rfl rfl)
theorem dX16_item_28 : decode cX16_item 28 = .ok (.getfield 24, 3) := dk_180 0 24 (dk_at dksX16_item_1 4 rfl rfl)
theorem dX16_item_31 : decode cX16_item 31 = .ok (.getstatic 112, 3) := dk_178 0 112 (dk_at dksX16_item_1 7 rfl rfl)
theorem dX16_item_34 : decode cX16_item 34 = .ok (.invokevirtual 40, 3) := dk_182 0 40 (dk_at dksX16_item_1 10 rfl rfl)
theorem dX16_item_37 : decode cX16_item 37 = .ok (.ifCond .eq 110, 3) := dk_153 0 110 (dk_at dksX16_item_1 13 rfl rfl)
theorem dX16_item_40 : decode cX16_item 40 = .ok (.aload_n 0, 1) := dk_42 (dk_at dksX16_item_1 16 rfl rfl)
theorem dX16_item_41 : decode cX16_item 41 = .ok (.getfield 15, 3) := dk_180 0 15 (dk_at dksX16_item_1 17 rfl rfl)
theorem dX16_item_44 : decode cX16_item 44 = .ok (.getfield 115, 3) := dk_180 0 115 (dk_at dksX16_item_1 20 rfl rfl)
theorem dX16_item_47 : decode cX16_item 47 = .ok (.iload_n 1, 1) := dk_27 (dk_at dksX16_item_1 23 rfl rfl)
theorem dX16_item_48 : decode cX16_item 48 = .ok (.iconst 0, 1) := dk_3 (dk_at dksX16_item_2 0 rfl rfl)
theorem dX16_item_49 : decode cX16_item 49 = .ok (.iastore, 1) := dk_79 (dk_at dksX16_item_2 1 rfl rfl)
theorem dX16_item_50 : decode cX16_item 50 = .ok (.aload_n 0, 1) := dk_42 (dk_at dksX16_item_2 2 rfl rfl)
theorem dX16_item_51 : decode cX16_item 51 = .ok (.getstatic 112, 3) := dk_178 0 112 (dk_at dksX16_item_2 3 rfl rfl)
theorem dX16_item_54 : decode cX16_item 54 = .ok (.invokevirtual 58, 3) := dk_182 0 58 (dk_at dksX16_item_2 6 rfl rfl)
theorem dX16_item_57 : decode cX16_item 57 = .ok (.aload_n 0, 1) := dk_42 (dk_at dksX16_item_2 9 rfl rfl)
theorem dX16_item_58 : decode cX16_item 58 = .ok (.getfield 15, 3) := dk_180 0 15 (dk_at dksX16_item_2 10 rfl rfl)
theorem dX16_item_61 : decode cX16_item 61 = .ok (.getfield 118, 3) := dk_180 0 118 (dk_at dksX16_item_2 13 rfl rfl)
theorem dX16_item_64 : decode cX16_item 64 = .ok (.iload_n 1, 1) := dk_27 (dk_at dksX16_item_2 16 rfl rfl)
theorem dX16_item_65 : decode cX16_item 65 = .ok (.aload_n 0, 1) := dk_42 (dk_at dksX16_item_2 17 rfl rfl)
theorem dX16_item_66 : decode cX16_item 66 = .ok (.bipush 7, 2) := dk_16 7 (dk_at dksX16_item_2 18 rfl rfl)
theorem dX16_item_68 : decode cX16_item 68 = .ok (.invokevirtual 72, 3) := dk_182 0 72 (dk_at dksX16_item_2 20 rfl rfl)
theorem dX16_item_71 : decode cX16_item 71 = .ok (.iastore, 1) := dk_79 (dk_at dksX16_item_2 23 rfl rfl)
theorem dX16_item_72 : decode cX16_item 72 = .ok (.aload_n 0, 1) := dk_42 (dk_at dksX16_item_3 0 rfl rfl)
theorem dX16_item_73 : decode cX16_item 73 = .ok (.getfield 15, 3) := dk_180 0 15 (dk_at dksX16_item_3 1 rfl rfl)
theorem dX16_item_76 : decode cX16_item 76 = .ok (.getfield 121, 3) := dk_180 0 121 (dk_at dksX16_item_3 4 rfl rfl)
theorem dX16_item_79 : decode cX16_item 79 = .ok (.iload_n 1, 1) := dk_27 (dk_at dksX16_item_3 7 rfl rfl)
theorem dX16_item_80 : decode cX16_item 80 = .ok (.aload_n 0, 1) := dk_42 (dk_at dksX16_item_3 8 rfl rfl)
theorem dX16_item_81 : decode cX16_item 81 = .ok (.getfield 9, 3) := dk_180 0 9 (dk_at dksX16_item_3 9 rfl rfl)
theorem dX16_item_84 : decode cX16_item 84 = .ok (.aload_n 0, 1) := dk_42 (dk_at dksX16_item_3 12 rfl rfl)
theorem dX16_item_85 : decode cX16_item 85 = .ok (.getfield 24, 3) := dk_180 0 24 (dk_at dksX16_item_3 13 rfl rfl)
theorem dX16_item_88 : decode cX16_item 88 = .ok (.getstatic 124, 3) := dk_178 0 124 (dk_at dksX16_item_3 16 rfl rfl)
theorem dX16_item_91 : decode cX16_item 91 = .ok (.invokevirtual 40, 3) := dk_182 0 40 (dk_at dksX16_item_3 19 rfl rfl)
theorem dX16_item_94 : decode cX16_item 94 = .ok (.ifCond .eq 7, 3) := dk_153 0 7 (dk_at dksX16_item_4 0 rfl rfl)
theorem dX16_item_97 : decode cX16_item 97 = .ok (.iconst 1, 1) := dk_4 (dk_at dksX16_item_4 3 rfl rfl)
theorem dX16_item_98 : decode cX16_item 98 = .ok (.goto 4, 3) := dk_167 0 4 (dk_at dksX16_item_4 4 rfl rfl)
theorem dX16_item_101 : decode cX16_item 101 = .ok (.iconst 0, 1) := dk_3 (dk_at dksX16_item_4 7 rfl rfl)
theorem dX16_item_102 : decode cX16_item 102 = .ok (.iastore, 1) := dk_79 (dk_at dksX16_item_4 8 rfl rfl)
theorem dX16_item_103 : decode cX16_item 103 = .ok (.aload_n 0, 1) := dk_42 (dk_at dksX16_item_4 9 rfl rfl)
theorem dX16_item_104 : decode cX16_item 104 = .ok (.aload_n 0, 1) := dk_42 (dk_at dksX16_item_4 10 rfl rfl)
theorem dX16_item_105 : decode cX16_item 105 = .ok (.getfield 15, 3) := dk_180 0 15 (dk_at dksX16_item_4 11 rfl rfl)
theorem dX16_item_108 : decode cX16_item 108 = .ok (.getfield 121, 3) := dk_180 0 121 (dk_at dksX16_item_4 14 rfl rfl)
theorem dX16_item_111 : decode cX16_item 111 = .ok (.iload_n 1, 1) := dk_27 (dk_at dksX16_item_4 17 rfl rfl)
theorem dX16_item_112 : decode cX16_item 112 = .ok (.iaload, 1) := dk_46 (dk_at dksX16_item_4 18 rfl rfl)
theorem dX16_item_113 : decode cX16_item 113 = .ok (.iconst 1, 1) := dk_4 (dk_at dksX16_item_4 19 rfl rfl)
theorem dX16_item_114 : decode cX16_item 114 = .ok (.if_icmp .ne 9, 3) := dk_160 0 9 (dk_at dksX16_item_4 20 rfl rfl)
theorem dX16_item_117 : decode cX16_item 117 = .ok (.getstatic 124, 3) := dk_178 0 124 (dk_at dksX16_item_5 0 rfl rfl)
theorem dX16_item_120 : decode cX16_item 120 = .ok (.goto 6, 3) := dk_167 0 6 (dk_at dksX16_item_5 3 rfl rfl)
theorem dX16_item_123 : decode cX16_item 123 = .ok (.getstatic 127, 3) := dk_178 0 127 (dk_at dksX16_item_5 6 rfl rfl)
theorem dX16_item_126 : decode cX16_item 126 = .ok (.invokevirtual 58, 3) := dk_182 0 58 (dk_at dksX16_item_5 9 rfl rfl)
theorem dX16_item_129 : decode cX16_item 129 = .ok (.aload_n 0, 1) := dk_42 (dk_at dksX16_item_5 12 rfl rfl)
theorem dX16_item_130 : decode cX16_item 130 = .ok (.getfield 15, 3) := dk_180 0 15 (dk_at dksX16_item_5 13 rfl rfl)
theorem dX16_item_133 : decode cX16_item 133 = .ok (.getfield 130, 3) := dk_180 0 130 (dk_at dksX16_item_5 16 rfl rfl)
theorem dX16_item_136 : decode cX16_item 136 = .ok (.iload_n 1, 1) := dk_27 (dk_at dksX16_item_5 19 rfl rfl)
theorem dX16_item_137 : decode cX16_item 137 = .ok (.aload_n 0, 1) := dk_42 (dk_at dksX16_item_5 20 rfl rfl)
theorem dX16_item_138 : decode cX16_item 138 = .ok (.bipush 9, 2) := dk_16 9 (dk_at dksX16_item_5 21 rfl rfl)
theorem dX16_item_140 : decode cX16_item 140 = .ok (.invokevirtual 72, 3) := dk_182 0 72 (dk_at dksX16_item_6 0 rfl rfl)
theorem dX16_item_143 : decode cX16_item 143 = .ok (.iastore, 1) := dk_79 (dk_at dksX16_item_6 3 rfl rfl)
theorem dX16_item_144 : decode cX16_item 144 = .ok (.goto 212, 3) := dk_167 0 212 (dk_at dksX16_item_6 4 rfl rfl)
theorem dX16_item_147 : decode cX16_item 147 = .ok (.aload_n 0, 1) := dk_42 (dk_at dksX16_item_6 7 rfl rfl)
theorem dX16_item_148 : decode cX16_item 148 = .ok (.getfield 9, 3) := dk_180 0 9 (dk_at dksX16_item_6 8 rfl rfl)
theorem dX16_item_151 : decode cX16_item 151 = .ok (.aload_n 0, 1) := dk_42 (dk_at dksX16_item_6 11 rfl rfl)
theorem dX16_item_152 : decode cX16_item 152 = .ok (.getfield 24, 3) := dk_180 0 24 (dk_at dksX16_item_6 12 rfl rfl)
theorem dX16_item_155 : decode cX16_item 155 = .ok (.getstatic 133, 3) := dk_178 0 133 (dk_at dksX16_item_6 15 rfl rfl)
theorem dX16_item_158 : decode cX16_item 158 = .ok (.invokevirtual 40, 3) := dk_182 0 40 (dk_at dksX16_item_6 18 rfl rfl)
theorem dX16_item_161 : decode cX16_item 161 = .ok (.ifCond .eq 38, 3) := dk_153 0 38 (dk_at dksX16_item_6 21 rfl rfl)
theorem dX16_item_164 : decode cX16_item 164 = .ok (.aload_n 0, 1) := dk_42 (dk_at dksX16_item_7 0 rfl rfl)
theorem dX16_item_165 : decode cX16_item 165 = .ok (.getfield 15, 3) := dk_180 0 15 (dk_at dksX16_item_7 1 rfl rfl)
theorem dX16_item_168 : decode cX16_item 168 = .ok (.getfield 115, 3) := dk_180 0 115 (dk_at dksX16_item_7 4 rfl rfl)
theorem dX16_item_171 : decode cX16_item 171 = .ok (.iload_n 1, 1) := dk_27 (dk_at dksX16_item_7 7 rfl rfl)
theorem dX16_item_172 : decode cX16_item 172 = .ok (.iconst 1, 1) := dk_4 (dk_at dksX16_item_7 8 rfl rfl)
theorem dX16_item_173 : decode cX16_item 173 = .ok (.iastore, 1) := dk_79 (dk_at dksX16_item_7 9 rfl rfl)
theorem dX16_item_174 : decode cX16_item 174 = .ok (.aload_n 0, 1) := dk_42 (dk_at dksX16_item_7 10 rfl rfl)
theorem dX16_item_175 : decode cX16_item 175 = .ok (.getstatic 133, 3) := dk_178 0 133 (dk_at dksX16_item_7 11 rfl rfl)
theorem dX16_item_178 : decode cX16_item 178 = .ok (.invokevirtual 58, 3) := dk_182 0 58 (dk_at dksX16_item_7 14 rfl rfl)
theorem dX16_item_181 : decode cX16_item 181 = .ok (.aload_n 0, 1) := dk_42 (dk_at dksX16_item_7 17 rfl rfl)
theorem dX16_item_182 : decode cX16_item 182 = .ok (.getfield 15, 3) := dk_180 0 15 (dk_at dksX16_item_7 18 rfl rfl)
theorem dX16_item_185 : decode cX16_item 185 = .ok (.getfield 118, 3) := dk_180 0 118 (dk_at dksX16_item_7 21 rfl rfl)
theorem dX16_item_188 : decode cX16_item 188 = .ok (.iload_n 1, 1) := dk_27 (dk_at dksX16_item_8 0 rfl rfl)
theorem dX16_item_189 : decode cX16_item 189 = .ok (.aload_n 0, 1) := dk_42 (dk_at dksX16_item_8 1 rfl rfl)
theorem dX16_item_190 : decode cX16_item 190 = .ok (.bipush 19, 2) := dk_16 19 (dk_at dksX16_item_8 2 rfl rfl)
theorem dX16_item_192 : decode cX16_item 192 = .ok (.invokevirtual 72, 3) := dk_182 0 72 (dk_at dksX16_item_8 4 rfl rfl)
theorem dX16_item_195 : decode cX16_item 195 = .ok (.iastore, 1) := dk_79 (dk_at dksX16_item_8 7 rfl rfl)
theorem dX16_item_196 : decode cX16_item 196 = .ok (.goto 160, 3) := dk_167 0 160 (dk_at dksX16_item_8 8 rfl rfl)
theorem dX16_item_199 : decode cX16_item 199 = .ok (.aload_n 0, 1) := dk_42 (dk_at dksX16_item_8 11 rfl rfl)
theorem dX16_item_200 : decode cX16_item 200 = .ok (.getfield 15, 3) := dk_180 0 15 (dk_at dksX16_item_8 12 rfl rfl)
theorem dX16_item_203 : decode cX16_item 203 = .ok (.getfield 115, 3) := dk_180 0 115 (dk_at dksX16_item_8 15 rfl rfl)
theorem dX16_item_206 : decode cX16_item 206 = .ok (.iload_n 1, 1) := dk_27 (dk_at dksX16_item_8 18 rfl rfl)
theorem dX16_item_207 : decode cX16_item 207 = .ok (.iconst 2, 1) := dk_5 (dk_at dksX16_item_8 19 rfl rfl)
theorem dX16_item_208 : decode cX16_item 208 = .ok (.iastore, 1) := dk_79 (dk_at dksX16_item_8 20 rfl rfl)
theorem dX16_item_209 : decode cX16_item 209 = .ok (.aload_n 0, 1) := dk_42 (dk_at dksX16_item_8 21 rfl rfl)
theorem dX16_item_210 : decode cX16_item 210 = .ok (.getstatic 136, 3) := dk_178 0 136 (dk_at dksX16_item_9 0 rfl rfl)
theorem dX16_item_213 : decode cX16_item 213 = .ok (.invokevirtual 58, 3) := dk_182 0 58 (dk_at dksX16_item_9 3 rfl rfl)
theorem dX16_item_216 : decode cX16_item 216 = .ok (.aload_n 0, 1) := dk_42 (dk_at dksX16_item_9 6 rfl rfl)
theorem dX16_item_217 : decode cX16_item 217 = .ok (.getfield 15, 3) := dk_180 0 15 (dk_at dksX16_item_9 7 rfl rfl)
theorem dX16_item_220 : decode cX16_item 220 = .ok (.getfield 118, 3) := dk_180 0 118 (dk_at dksX16_item_9 10 rfl rfl)
theorem dX16_item_223 : decode cX16_item 223 = .ok (.iload_n 1, 1) := dk_27 (dk_at dksX16_item_9 13 rfl rfl)
theorem dX16_item_224 : decode cX16_item 224 = .ok (.aload_n 0, 1) := dk_42 (dk_at dksX16_item_9 14 rfl rfl)
theorem dX16_item_225 : decode cX16_item 225 = .ok (.getfield 15, 3) := dk_180 0 15 (dk_at dksX16_item_9 15 rfl rfl)
theorem dX16_item_228 : decode cX16_item 228 = .ok (.getfield 139, 3) := dk_180 0 139 (dk_at dksX16_item_9 18 rfl rfl)
theorem dX16_item_231 : decode cX16_item 231 = .ok (.iastore, 1) := dk_79 (dk_at dksX16_item_9 21 rfl rfl)
theorem dX16_item_232 : decode cX16_item 232 = .ok (.aload_n 0, 1) := dk_42 (dk_at dksX16_item_9 22 rfl rfl)
theorem dX16_item_233 : decode cX16_item 233 = .ok (.invokevirtual 142, 3) := dk_182 0 142 (dk_at dksX16_item_10 0 rfl rfl)
theorem dX16_item_236 : decode cX16_item 236 = .ok (.aload_n 0, 1) := dk_42 (dk_at dksX16_item_10 3 rfl rfl)
theorem dX16_item_237 : decode cX16_item 237 = .ok (.getfield 28, 3) := dk_180 0 28 (dk_at dksX16_item_10 4 rfl rfl)
theorem dX16_item_240 : decode cX16_item 240 = .ok (.ifCond .eq 44, 3) := dk_153 0 44 (dk_at dksX16_item_10 7 rfl rfl)
theorem dX16_item_243 : decode cX16_item 243 = .ok (.aload_n 0, 1) := dk_42 (dk_at dksX16_item_10 10 rfl rfl)
theorem dX16_item_244 : decode cX16_item 244 = .ok (.getfield 9, 3) := dk_180 0 9 (dk_at dksX16_item_10 11 rfl rfl)
theorem dX16_item_247 : decode cX16_item 247 = .ok (.aload_n 0, 1) := dk_42 (dk_at dksX16_item_10 14 rfl rfl)
theorem dX16_item_248 : decode cX16_item 248 = .ok (.getfield 24, 3) := dk_180 0 24 (dk_at dksX16_item_10 15 rfl rfl)
theorem dX16_item_251 : decode cX16_item 251 = .ok (.getstatic 145, 3) := dk_178 0 145 (dk_at dksX16_item_10 18 rfl rfl)
theorem dX16_item_254 : decode cX16_item 254 = .ok (.invokevirtual 40, 3) := dk_182 0 40 (dk_at dksX16_item_10 21 rfl rfl)
theorem dX16_item_257 : decode cX16_item 257 = .ok (.ifCond .ne 20, 3) := dk_154 0 20 (dk_at dksX16_item_11 0 rfl rfl)
theorem dX16_item_260 : decode cX16_item 260 = .ok (.aload_n 0, 1) := dk_42 (dk_at dksX16_item_11 3 rfl rfl)
theorem dX16_item_261 : decode cX16_item 261 = .ok (.getfield 9, 3) := dk_180 0 9 (dk_at dksX16_item_11 4 rfl rfl)
theorem dX16_item_264 : decode cX16_item 264 = .ok (.aload_n 0, 1) := dk_42 (dk_at dksX16_item_11 7 rfl rfl)
theorem dX16_item_265 : decode cX16_item 265 = .ok (.getfield 24, 3) := dk_180 0 24 (dk_at dksX16_item_11 8 rfl rfl)
theorem dX16_item_268 : decode cX16_item 268 = .ok (.getstatic 148, 3) := dk_178 0 148 (dk_at dksX16_item_11 11 rfl rfl)
theorem dX16_item_271 : decode cX16_item 271 = .ok (.invokevirtual 40, 3) := dk_182 0 40 (dk_at dksX16_item_11 14 rfl rfl)
theorem dX16_item_274 : decode cX16_item 274 = .ok (.ifCond .eq 10, 3) := dk_153 0 10 (dk_at dksX16_item_11 17 rfl rfl)
theorem dX16_item_277 : decode cX16_item 277 = .ok (.aload_n 0, 1) := dk_42 (dk_at dksX16_item_11 20 rfl rfl)
theorem dX16_item_278 : decode cX16_item 278 = .ok (.invokevirtual 142, 3) := dk_182 0 142 (dk_at dksX16_item_11 21 rfl rfl)
theorem dX16_item_281 : decode cX16_item 281 = .ok (.goto (-45), 3) := dk_167 255 211 (dk_at dksX16_item_12 0 rfl rfl)
theorem dX16_item_284 : decode cX16_item 284 = .ok (.aload_n 0, 1) := dk_42 (dk_at dksX16_item_12 3 rfl rfl)
theorem dX16_item_285 : decode cX16_item 285 = .ok (.getfield 15, 3) := dk_180 0 15 (dk_at dksX16_item_12 4 rfl rfl)
theorem dX16_item_288 : decode cX16_item 288 = .ok (.getfield 121, 3) := dk_180 0 121 (dk_at dksX16_item_12 7 rfl rfl)
theorem dX16_item_291 : decode cX16_item 291 = .ok (.iload_n 1, 1) := dk_27 (dk_at dksX16_item_12 10 rfl rfl)
theorem dX16_item_292 : decode cX16_item 292 = .ok (.aload_n 0, 1) := dk_42 (dk_at dksX16_item_12 11 rfl rfl)
theorem dX16_item_293 : decode cX16_item 293 = .ok (.getfield 9, 3) := dk_180 0 9 (dk_at dksX16_item_12 12 rfl rfl)
theorem dX16_item_296 : decode cX16_item 296 = .ok (.aload_n 0, 1) := dk_42 (dk_at dksX16_item_12 15 rfl rfl)
theorem dX16_item_297 : decode cX16_item 297 = .ok (.getfield 24, 3) := dk_180 0 24 (dk_at dksX16_item_12 16 rfl rfl)
theorem dX16_item_300 : decode cX16_item 300 = .ok (.getstatic 151, 3) := dk_178 0 151 (dk_at dksX16_item_12 19 rfl rfl)
theorem dX16_item_303 : decode cX16_item 303 = .ok (.invokevirtual 40, 3) := dk_182 0 40 (dk_at dksX16_item_13 0 rfl rfl)
theorem dX16_item_306 : decode cX16_item 306 = .ok (.ifCond .eq 7, 3) := dk_153 0 7 (dk_at dksX16_item_13 3 rfl rfl)
theorem dX16_item_309 : decode cX16_item 309 = .ok (.iconst 1, 1) := dk_4 (dk_at dksX16_item_13 6 rfl rfl)
theorem dX16_item_310 : decode cX16_item 310 = .ok (.goto 4, 3) := dk_167 0 4 (dk_at dksX16_item_13 7 rfl rfl)
theorem dX16_item_313 : decode cX16_item 313 = .ok (.iconst 0, 1) := dk_3 (dk_at dksX16_item_13 10 rfl rfl)
theorem dX16_item_314 : decode cX16_item 314 = .ok (.iastore, 1) := dk_79 (dk_at dksX16_item_13 11 rfl rfl)
theorem dX16_item_315 : decode cX16_item 315 = .ok (.aload_n 0, 1) := dk_42 (dk_at dksX16_item_13 12 rfl rfl)
theorem dX16_item_316 : decode cX16_item 316 = .ok (.aload_n 0, 1) := dk_42 (dk_at dksX16_item_13 13 rfl rfl)
theorem dX16_item_317 : decode cX16_item 317 = .ok (.getfield 15, 3) := dk_180 0 15 (dk_at dksX16_item_13 14 rfl rfl)
theorem dX16_item_320 : decode cX16_item 320 = .ok (.getfield 121, 3) := dk_180 0 121 (dk_at dksX16_item_13 17 rfl rfl)
theorem dX16_item_323 : decode cX16_item 323 = .ok (.iload_n 1, 1) := dk_27 (dk_at dksX16_item_13 20 rfl rfl)
theorem dX16_item_324 : decode cX16_item 324 = .ok (.iaload, 1) := dk_46 (dk_at dksX16_item_13 21 rfl rfl)
theorem dX16_item_325 : decode cX16_item 325 = .ok (.iconst 1, 1) := dk_4 (dk_at dksX16_item_13 22 rfl rfl)
theorem dX16_item_326 : decode cX16_item 326 = .ok (.if_icmp .ne 9, 3) := dk_160 0 9 (dk_at dksX16_item_14 0 rfl rfl)
theorem dX16_item_329 : decode cX16_item 329 = .ok (.getstatic 151, 3) := dk_178 0 151 (dk_at dksX16_item_14 3 rfl rfl)
theorem dX16_item_332 : decode cX16_item 332 = .ok (.goto 6, 3) := dk_167 0 6 (dk_at dksX16_item_14 6 rfl rfl)
theorem dX16_item_335 : decode cX16_item 335 = .ok (.getstatic 154, 3) := dk_178 0 154 (dk_at dksX16_item_14 9 rfl rfl)
theorem dX16_item_338 : decode cX16_item 338 = .ok (.invokevirtual 58, 3) := dk_182 0 58 (dk_at dksX16_item_14 12 rfl rfl)
theorem dX16_item_341 : decode cX16_item 341 = .ok (.aload_n 0, 1) := dk_42 (dk_at dksX16_item_14 15 rfl rfl)
theorem dX16_item_342 : decode cX16_item 342 = .ok (.getfield 15, 3) := dk_180 0 15 (dk_at dksX16_item_14 16 rfl rfl)
theorem dX16_item_345 : decode cX16_item 345 = .ok (.getfield 130, 3) := dk_180 0 130 (dk_at dksX16_item_14 19 rfl rfl)
theorem dX16_item_348 : decode cX16_item 348 = .ok (.iload_n 1, 1) := dk_27 (dk_at dksX16_item_14 22 rfl rfl)
theorem dX16_item_349 : decode cX16_item 349 = .ok (.aload_n 0, 1) := dk_42 (dk_at dksX16_item_14 23 rfl rfl)
theorem dX16_item_350 : decode cX16_item 350 = .ok (.ldc 71, 2) := dk_18 71 (dk_at dksX16_item_15 0 rfl rfl)
theorem dX16_item_352 : decode cX16_item 352 = .ok (.invokevirtual 72, 3) := dk_182 0 72 (dk_at dksX16_item_15 2 rfl rfl)
theorem dX16_item_355 : decode cX16_item 355 = .ok (.iastore, 1) := dk_79 (dk_at dksX16_item_15 5 rfl rfl)
theorem dX16_item_356 : decode cX16_item 356 = .ok (.aload_n 0, 1) := dk_42 (dk_at dksX16_item_15 6 rfl rfl)
theorem dX16_item_357 : decode cX16_item 357 = .ok (.getfield 15, 3) := dk_180 0 15 (dk_at dksX16_item_15 7 rfl rfl)
theorem dX16_item_360 : decode cX16_item 360 = .ok (.getfield 157, 3) := dk_180 0 157 (dk_at dksX16_item_15 10 rfl rfl)
theorem dX16_item_363 : decode cX16_item 363 = .ok (.iload_n 1, 1) := dk_27 (dk_at dksX16_item_15 13 rfl rfl)
theorem dX16_item_364 : decode cX16_item 364 = .ok (.aload_n 0, 1) := dk_42 (dk_at dksX16_item_15 14 rfl rfl)
theorem dX16_item_365 : decode cX16_item 365 = .ok (.getfield 15, 3) := dk_180 0 15 (dk_at dksX16_item_15 15 rfl rfl)
theorem dX16_item_368 : decode cX16_item 368 = .ok (.getfield 139, 3) := dk_180 0 139 (dk_at dksX16_item_15 18 rfl rfl)
theorem dX16_item_371 : decode cX16_item 371 = .ok (.iastore, 1) := dk_79 (dk_at dksX16_item_15 21 rfl rfl)
theorem dX16_item_372 : decode cX16_item 372 = .ok (.return_, 1) := dk_177 (dk_at dksX16_item_15 22 rfl rfl)
abbrev cX16_term : ByteArray := prog_21_method_8_code
def yX16_term : MethodName := ⟨RX16, "term", "()V"⟩
def dkwX16_term_10 : List UInt8 := [7, 96, 42, 17, 3, 231, 182, 0, 72, 79, 177]
abbrev dktX16_term_10 : List UInt8 := dkwX16_term_10 ++ []
def dkwX16_term_9 : List UInt8 := [178, 0, 169, 182, 0, 40, 153, 0, 28, 42, 178, 0, 169, 182, 0, 58, 42, 180, 0, 15, 180, 0, 160, 27]
abbrev dktX16_term_9 : List UInt8 := dkwX16_term_9 ++ dktX16_term_10
def dkwX16_term_8 : List UInt8 := [6, 96, 42, 18, 71, 182, 0, 72, 79, 42, 180, 0, 28, 153, 0, 45, 42, 180, 0, 9, 42, 180, 0, 24]
abbrev dktX16_term_8 : List UInt8 := dkwX16_term_8 ++ dktX16_term_9
def dkwX16_term_7 : List UInt8 := [178, 0, 166, 182, 0, 40, 153, 0, 27, 42, 178, 0, 166, 182, 0, 58, 42, 180, 0, 15, 180, 0, 160, 27]
abbrev dktX16_term_7 : List UInt8 := dkwX16_term_7 ++ dktX16_term_8
def dkwX16_term_6 : List UInt8 := [180, 0, 160, 27, 7, 96, 2, 79, 42, 180, 0, 28, 153, 0, 44, 42, 180, 0, 9, 42, 180, 0, 24]
abbrev dktX16_term_6 : List UInt8 := dkwX16_term_6 ++ dktX16_term_7
def dkwX16_term_5 : List UInt8 := [42, 16, 15, 182, 0, 72, 79, 42, 180, 0, 15, 180, 0, 160, 27, 6, 96, 3, 79, 42, 180, 0, 15]
abbrev dktX16_term_5 : List UInt8 := dkwX16_term_5 ++ dktX16_term_6
def dkwX16_term_4 : List UInt8 := [17, 3, 232, 182, 0, 72, 79, 42, 178, 0, 163, 182, 0, 58, 42, 180, 0, 15, 180, 0, 160, 27, 5, 96]
abbrev dktX16_term_4 : List UInt8 := dkwX16_term_4 ++ dktX16_term_5
def dkwX16_term_3 : List UInt8 := [178, 0, 148, 167, 0, 6, 178, 0, 145, 182, 0, 58, 42, 180, 0, 15, 180, 0, 160, 27, 4, 96, 42]
abbrev dktX16_term_3 : List UInt8 := dkwX16_term_3 ++ dktX16_term_4
def dkwX16_term_2 : List UInt8 := [153, 0, 7, 2, 167, 0, 4, 4, 79, 42, 42, 180, 0, 15, 180, 0, 160, 27, 46, 156, 0, 9]
abbrev dktX16_term_2 : List UInt8 := dkwX16_term_2 ++ dktX16_term_3
def dkwX16_term_1 : List UInt8 := [60, 42, 180, 0, 15, 180, 0, 160, 27, 42, 180, 0, 9, 42, 180, 0, 24, 178, 0, 148, 182, 0, 40]
abbrev dktX16_term_1 : List UInt8 := dkwX16_term_1 ++ dktX16_term_2
def dkwX16_term_0 : List UInt8 := [42, 180, 0, 28, 154, 0, 4, 177, 8, 42, 180, 0, 15, 89, 180, 0, 139, 90, 4, 96, 181, 0, 139, 104]
abbrev dktX16_term_0 : List UInt8 := dkwX16_term_0 ++ dktX16_term_1
theorem dksX16_term_0 : cX16_term.data.toList.drop 0 = dktX16_term_0 := by decide +kernel
theorem dksX16_term_1 : cX16_term.data.toList.drop 24 = dktX16_term_1 := dk_seg dksX16_term_0 24 rfl rfl
theorem dksX16_term_2 : cX16_term.data.toList.drop 47 = dktX16_term_2 := dk_seg dksX16_term_1 23 rfl rfl
theorem dksX16_term_3 : cX16_term.data.toList.drop 69 = dktX16_term_3 := dk_seg dksX16_term_2 22 rfl rfl
theorem dksX16_term_4 : cX16_term.data.toList.drop 92 = dktX16_term_4 := dk_seg dksX16_term_3 23 rfl rfl
theorem dksX16_term_5 : cX16_term.data.toList.drop 116 = dktX16_term_5 := dk_seg dksX16_term_4 24 rfl rfl
theorem dksX16_term_6 : cX16_term.data.toList.drop 139 = dktX16_term_6 := dk_seg dksX16_term_5 23 rfl rfl
theorem dksX16_term_7 : cX16_term.data.toList.drop 162 = dktX16_term_7 := dk_seg dksX16_term_6 23 rfl rfl
theorem dksX16_term_8 : cX16_term.data.toList.drop 186 = dktX16_term_8 := dk_seg dksX16_term_7 24 rfl rfl
theorem dksX16_term_9 : cX16_term.data.toList.drop 210 = dktX16_term_9 := dk_seg dksX16_term_8 24 rfl rfl
theorem dksX16_term_10 : cX16_term.data.toList.drop 234 = dktX16_term_10 := dk_seg dksX16_term_9 24 rfl rfl
theorem dX16_term_0 : decode cX16_term 0 = .ok (.aload_n 0, 1) := dk_42 (dk_at dksX16_term_0 0 rfl rfl)
theorem dX16_term_1 : decode cX16_term 1 = .ok (.getfield 28, 3) := dk_180 0 28 (dk_at dksX16_term_0 1 rfl rfl)
theorem dX16_term_4 : decode cX16_term 4 = .ok (.ifCond .ne 4, 3) := dk_154 0 4 (dk_at dksX16_term_0 4 rfl rfl)
theorem dX16_term_7 : decode cX16_term 7 = .ok (.return_, 1) := dk_177 (dk_at dksX16_term_0 7 rfl rfl)
theorem dX16_term_8 : decode cX16_term 8 = .ok (.iconst 5, 1) := dk_8 (dk_at dksX16_term_0 8 rfl rfl)
theorem dX16_term_9 : decode cX16_term 9 = .ok (.aload_n 0, 1) := dk_42 (dk_at dksX16_term_0 9 rfl rfl)
theorem dX16_term_10 : decode cX16_term 10 = .ok (.getfield 15, 3) := dk_180 0 15 (dk_at dksX16_term_0 10 rfl rfl)
theorem dX16_term_13 : decode cX16_term 13 = .ok (.dup, 1) := dk_89 (dk_at dksX16_term_0 13 rfl rfl)
theorem dX16_term_14 : decode cX16_term 14 = .ok (.getfield 139, 3) := dk_180 0 139 (dk_at dksX16_term_0 14 rfl rfl)
theorem dX16_term_17 : decode cX16_term 17 = .ok (.dup_x1, 1) := dk_90 (dk_at dksX16_term_0 17 rfl rfl)
theorem dX16_term_18 : decode cX16_term 18 = .ok (.iconst 1, 1) := dk_4 (dk_at dksX16_term_0 18 rfl rfl)
theorem dX16_term_19 : decode cX16_term 19 = .ok (.iadd, 1) := dk_96 (dk_at dksX16_term_0 19 rfl rfl)
theorem dX16_term_20 : decode cX16_term 20 = .ok (.putfield 139, 3) := dk_181 0 139 (dk_at dksX16_term_0 20 rfl rfl)
theorem dX16_term_23 : decode cX16_term 23 = .ok (.imul, 1) := dk_104 (dk_at dksX16_term_0 23 rfl rfl)
theorem dX16_term_24 : decode cX16_term 24 = .ok (.istore_n 1, 1) := dk_60 (dk_at dksX16_term_1 0 rfl rfl)
theorem dX16_term_25 : decode cX16_term 25 = .ok (.aload_n 0, 1) := dk_42 (dk_at dksX16_term_1 1 rfl rfl)
theorem dX16_term_26 : decode cX16_term 26 = .ok (.getfield 15, 3) := dk_180 0 15 (dk_at dksX16_term_1 2 rfl rfl)
theorem dX16_term_29 : decode cX16_term 29 = .ok (.getfield 160, 3) := dk_180 0 160 (dk_at dksX16_term_1 5 rfl rfl)
theorem dX16_term_32 : decode cX16_term 32 = .ok (.iload_n 1, 1) := dk_27 (dk_at dksX16_term_1 8 rfl rfl)
theorem dX16_term_33 : decode cX16_term 33 = .ok (.aload_n 0, 1) := dk_42 (dk_at dksX16_term_1 9 rfl rfl)
theorem dX16_term_34 : decode cX16_term 34 = .ok (.getfield 9, 3) := dk_180 0 9 (dk_at dksX16_term_1 10 rfl rfl)
theorem dX16_term_37 : decode cX16_term 37 = .ok (.aload_n 0, 1) := dk_42 (dk_at dksX16_term_1 13 rfl rfl)
theorem dX16_term_38 : decode cX16_term 38 = .ok (.getfield 24, 3) := dk_180 0 24 (dk_at dksX16_term_1 14 rfl rfl)
theorem dX16_term_41 : decode cX16_term 41 = .ok (.getstatic 148, 3) := dk_178 0 148 (dk_at dksX16_term_1 17 rfl rfl)
theorem dX16_term_44 : decode cX16_term 44 = .ok (.invokevirtual 40, 3) := dk_182 0 40 (dk_at dksX16_term_1 20 rfl rfl)
theorem dX16_term_47 : decode cX16_term 47 = .ok (.ifCond .eq 7, 3) := dk_153 0 7 (dk_at dksX16_term_2 0 rfl rfl)
theorem dX16_term_50 : decode cX16_term 50 = .ok (.iconst (-1), 1) := dk_2 (dk_at dksX16_term_2 3 rfl rfl)
theorem dX16_term_51 : decode cX16_term 51 = .ok (.goto 4, 3) := dk_167 0 4 (dk_at dksX16_term_2 4 rfl rfl)
theorem dX16_term_54 : decode cX16_term 54 = .ok (.iconst 1, 1) := dk_4 (dk_at dksX16_term_2 7 rfl rfl)
theorem dX16_term_55 : decode cX16_term 55 = .ok (.iastore, 1) := dk_79 (dk_at dksX16_term_2 8 rfl rfl)
theorem dX16_term_56 : decode cX16_term 56 = .ok (.aload_n 0, 1) := dk_42 (dk_at dksX16_term_2 9 rfl rfl)
theorem dX16_term_57 : decode cX16_term 57 = .ok (.aload_n 0, 1) := dk_42 (dk_at dksX16_term_2 10 rfl rfl)
theorem dX16_term_58 : decode cX16_term 58 = .ok (.getfield 15, 3) := dk_180 0 15 (dk_at dksX16_term_2 11 rfl rfl)
theorem dX16_term_61 : decode cX16_term 61 = .ok (.getfield 160, 3) := dk_180 0 160 (dk_at dksX16_term_2 14 rfl rfl)
theorem dX16_term_64 : decode cX16_term 64 = .ok (.iload_n 1, 1) := dk_27 (dk_at dksX16_term_2 17 rfl rfl)
theorem dX16_term_65 : decode cX16_term 65 = .ok (.iaload, 1) := dk_46 (dk_at dksX16_term_2 18 rfl rfl)
theorem dX16_term_66 : decode cX16_term 66 = .ok (.ifCond .ge 9, 3) := dk_156 0 9 (dk_at dksX16_term_2 19 rfl rfl)
theorem dX16_term_69 : decode cX16_term 69 = .ok (.getstatic 148, 3) := dk_178 0 148 (dk_at dksX16_term_3 0 rfl rfl)
theorem dX16_term_72 : decode cX16_term 72 = .ok (.goto 6, 3) := dk_167 0 6 (dk_at dksX16_term_3 3 rfl rfl)
theorem dX16_term_75 : decode cX16_term 75 = .ok (.getstatic 145, 3) := dk_178 0 145 (dk_at dksX16_term_3 6 rfl rfl)
theorem dX16_term_78 : decode cX16_term 78 = .ok (.invokevirtual 58, 3) := dk_182 0 58 (dk_at dksX16_term_3 9 rfl rfl)
theorem dX16_term_81 : decode cX16_term 81 = .ok (.aload_n 0, 1) := dk_42 (dk_at dksX16_term_3 12 rfl rfl)
theorem dX16_term_82 : decode cX16_term 82 = .ok (.getfield 15, 3) := dk_180 0 15 (dk_at dksX16_term_3 13 rfl rfl)
theorem dX16_term_85 : decode cX16_term 85 = .ok (.getfield 160, 3) := dk_180 0 160 (dk_at dksX16_term_3 16 rfl rfl)
theorem dX16_term_88 : decode cX16_term 88 = .ok (.iload_n 1, 1) := dk_27 (dk_at dksX16_term_3 19 rfl rfl)
theorem dX16_term_89 : decode cX16_term 89 = .ok (.iconst 1, 1) := dk_4 (dk_at dksX16_term_3 20 rfl rfl)
theorem dX16_term_90 : decode cX16_term 90 = .ok (.iadd, 1) := dk_96 (dk_at dksX16_term_3 21 rfl rfl)
theorem dX16_term_91 : decode cX16_term 91 = .ok (.aload_n 0, 1) := dk_42 (dk_at dksX16_term_3 22 rfl rfl)
theorem dX16_term_92 : decode cX16_term 92 = .ok (.sipush 1000, 3) := dk_17 3 232 (dk_at dksX16_term_4 0 rfl rfl)
theorem dX16_term_95 : decode cX16_term 95 = .ok (.invokevirtual 72, 3) := dk_182 0 72 (dk_at dksX16_term_4 3 rfl rfl)
theorem dX16_term_98 : decode cX16_term 98 = .ok (.iastore, 1) := dk_79 (dk_at dksX16_term_4 6 rfl rfl)
theorem dX16_term_99 : decode cX16_term 99 = .ok (.aload_n 0, 1) := dk_42 (dk_at dksX16_term_4 7 rfl rfl)
theorem dX16_term_100 : decode cX16_term 100 = .ok (.getstatic 163, 3) := dk_178 0 163 (dk_at dksX16_term_4 8 rfl rfl)
theorem dX16_term_103 : decode cX16_term 103 = .ok (.invokevirtual 58, 3) := dk_182 0 58 (dk_at dksX16_term_4 11 rfl rfl)
theorem dX16_term_106 : decode cX16_term 106 = .ok (.aload_n 0, 1) := dk_42 (dk_at dksX16_term_4 14 rfl rfl)
theorem dX16_term_107 : decode cX16_term 107 = .ok (.getfield 15, 3) := dk_180 0 15 (dk_at dksX16_term_4 15 rfl rfl)
theorem dX16_term_110 : decode cX16_term 110 = .ok (.getfield 160, 3) := dk_180 0 160 (dk_at dksX16_term_4 18 rfl rfl)
theorem dX16_term_113 : decode cX16_term 113 = .ok (.iload_n 1, 1) := dk_27 (dk_at dksX16_term_4 21 rfl rfl)
theorem dX16_term_114 : decode cX16_term 114 = .ok (.iconst 2, 1) := dk_5 (dk_at dksX16_term_4 22 rfl rfl)
theorem dX16_term_115 : decode cX16_term 115 = .ok (.iadd, 1) := dk_96 (dk_at dksX16_term_4 23 rfl rfl)
theorem dX16_term_116 : decode cX16_term 116 = .ok (.aload_n 0, 1) := dk_42 (dk_at dksX16_term_5 0 rfl rfl)
theorem dX16_term_117 : decode cX16_term 117 = .ok (.bipush 15, 2) := dk_16 15 (dk_at dksX16_term_5 1 rfl rfl)
theorem dX16_term_119 : decode cX16_term 119 = .ok (.invokevirtual 72, 3) := dk_182 0 72 (dk_at dksX16_term_5 3 rfl rfl)
theorem dX16_term_122 : decode cX16_term 122 = .ok (.iastore, 1) := dk_79 (dk_at dksX16_term_5 6 rfl rfl)
theorem dX16_term_123 : decode cX16_term 123 = .ok (.aload_n 0, 1) := dk_42 (dk_at dksX16_term_5 7 rfl rfl)
theorem dX16_term_124 : decode cX16_term 124 = .ok (.getfield 15, 3) := dk_180 0 15 (dk_at dksX16_term_5 8 rfl rfl)
theorem dX16_term_127 : decode cX16_term 127 = .ok (.getfield 160, 3) := dk_180 0 160 (dk_at dksX16_term_5 11 rfl rfl)
theorem dX16_term_130 : decode cX16_term 130 = .ok (.iload_n 1, 1) := dk_27 (dk_at dksX16_term_5 14 rfl rfl)
theorem dX16_term_131 : decode cX16_term 131 = .ok (.iconst 3, 1) := dk_6 (dk_at dksX16_term_5 15 rfl rfl)
theorem dX16_term_132 : decode cX16_term 132 = .ok (.iadd, 1) := dk_96 (dk_at dksX16_term_5 16 rfl rfl)
theorem dX16_term_133 : decode cX16_term 133 = .ok (.iconst 0, 1) := dk_3 (dk_at dksX16_term_5 17 rfl rfl)
theorem dX16_term_134 : decode cX16_term 134 = .ok (.iastore, 1) := dk_79 (dk_at dksX16_term_5 18 rfl rfl)
theorem dX16_term_135 : decode cX16_term 135 = .ok (.aload_n 0, 1) := dk_42 (dk_at dksX16_term_5 19 rfl rfl)
theorem dX16_term_136 : decode cX16_term 136 = .ok (.getfield 15, 3) := dk_180 0 15 (dk_at dksX16_term_5 20 rfl rfl)
theorem dX16_term_139 : decode cX16_term 139 = .ok (.getfield 160, 3) := dk_180 0 160 (dk_at dksX16_term_6 0 rfl rfl)
theorem dX16_term_142 : decode cX16_term 142 = .ok (.iload_n 1, 1) := dk_27 (dk_at dksX16_term_6 3 rfl rfl)
theorem dX16_term_143 : decode cX16_term 143 = .ok (.iconst 4, 1) := dk_7 (dk_at dksX16_term_6 4 rfl rfl)
theorem dX16_term_144 : decode cX16_term 144 = .ok (.iadd, 1) := dk_96 (dk_at dksX16_term_6 5 rfl rfl)
theorem dX16_term_145 : decode cX16_term 145 = .ok (.iconst (-1), 1) := dk_2 (dk_at dksX16_term_6 6 rfl rfl)
theorem dX16_term_146 : decode cX16_term 146 = .ok (.iastore, 1) := dk_79 (dk_at dksX16_term_6 7 rfl rfl)
theorem dX16_term_147 : decode cX16_term 147 = .ok (.aload_n 0, 1) := dk_42 (dk_at dksX16_term_6 8 rfl rfl)
theorem dX16_term_148 : decode cX16_term 148 = .ok (.getfield 28, 3) := dk_180 0 28 (dk_at dksX16_term_6 9 rfl rfl)
theorem dX16_term_151 : decode cX16_term 151 = .ok (.ifCond .eq 44, 3) := dk_153 0 44 (dk_at dksX16_term_6 12 rfl rfl)
theorem dX16_term_154 : decode cX16_term 154 = .ok (.aload_n 0, 1) := dk_42 (dk_at dksX16_term_6 15 rfl rfl)
theorem dX16_term_155 : decode cX16_term 155 = .ok (.getfield 9, 3) := dk_180 0 9 (dk_at dksX16_term_6 16 rfl rfl)
theorem dX16_term_158 : decode cX16_term 158 = .ok (.aload_n 0, 1) := dk_42 (dk_at dksX16_term_6 19 rfl rfl)
theorem dX16_term_159 : decode cX16_term 159 = .ok (.getfield 24, 3) := dk_180 0 24 (dk_at dksX16_term_6 20 rfl rfl)
theorem dX16_term_162 : decode cX16_term 162 = .ok (.getstatic 166, 3) := dk_178 0 166 (dk_at dksX16_term_7 0 rfl rfl)
theorem dX16_term_165 : decode cX16_term 165 = .ok (.invokevirtual 40, 3) := dk_182 0 40 (dk_at dksX16_term_7 3 rfl rfl)
theorem dX16_term_168 : decode cX16_term 168 = .ok (.ifCond .eq 27, 3) := dk_153 0 27 (dk_at dksX16_term_7 6 rfl rfl)
theorem dX16_term_171 : decode cX16_term 171 = .ok (.aload_n 0, 1) := dk_42 (dk_at dksX16_term_7 9 rfl rfl)
theorem dX16_term_172 : decode cX16_term 172 = .ok (.getstatic 166, 3) := dk_178 0 166 (dk_at dksX16_term_7 10 rfl rfl)
theorem dX16_term_175 : decode cX16_term 175 = .ok (.invokevirtual 58, 3) := dk_182 0 58 (dk_at dksX16_term_7 13 rfl rfl)
theorem dX16_term_178 : decode cX16_term 178 = .ok (.aload_n 0, 1) := dk_42 (dk_at dksX16_term_7 16 rfl rfl)
theorem dX16_term_179 : decode cX16_term 179 = .ok (.getfield 15, 3) := dk_180 0 15 (dk_at dksX16_term_7 17 rfl rfl)
theorem dX16_term_182 : decode cX16_term 182 = .ok (.getfield 160, 3) := dk_180 0 160 (dk_at dksX16_term_7 20 rfl rfl)
theorem dX16_term_185 : decode cX16_term 185 = .ok (.iload_n 1, 1) := dk_27 (dk_at dksX16_term_7 23 rfl rfl)
theorem dX16_term_186 : decode cX16_term 186 = .ok (.iconst 3, 1) := dk_6 (dk_at dksX16_term_8 0 rfl rfl)
theorem dX16_term_187 : decode cX16_term 187 = .ok (.iadd, 1) := dk_96 (dk_at dksX16_term_8 1 rfl rfl)
theorem dX16_term_188 : decode cX16_term 188 = .ok (.aload_n 0, 1) := dk_42 (dk_at dksX16_term_8 2 rfl rfl)
theorem dX16_term_189 : decode cX16_term 189 = .ok (.ldc 71, 2) := dk_18 71 (dk_at dksX16_term_8 3 rfl rfl)
theorem dX16_term_191 : decode cX16_term 191 = .ok (.invokevirtual 72, 3) := dk_182 0 72 (dk_at dksX16_term_8 5 rfl rfl)
theorem dX16_term_194 : decode cX16_term 194 = .ok (.iastore, 1) := dk_79 (dk_at dksX16_term_8 8 rfl rfl)
theorem dX16_term_195 : decode cX16_term 195 = .ok (.aload_n 0, 1) := dk_42 (dk_at dksX16_term_8 9 rfl rfl)
theorem dX16_term_196 : decode cX16_term 196 = .ok (.getfield 28, 3) := dk_180 0 28 (dk_at dksX16_term_8 10 rfl rfl)
theorem dX16_term_199 : decode cX16_term 199 = .ok (.ifCond .eq 45, 3) := dk_153 0 45 (dk_at dksX16_term_8 13 rfl rfl)
theorem dX16_term_202 : decode cX16_term 202 = .ok (.aload_n 0, 1) := dk_42 (dk_at dksX16_term_8 16 rfl rfl)
theorem dX16_term_203 : decode cX16_term 203 = .ok (.getfield 9, 3) := dk_180 0 9 (dk_at dksX16_term_8 17 rfl rfl)
theorem dX16_term_206 : decode cX16_term 206 = .ok (.aload_n 0, 1) := dk_42 (dk_at dksX16_term_8 20 rfl rfl)
theorem dX16_term_207 : decode cX16_term 207 = .ok (.getfield 24, 3) := dk_180 0 24 (dk_at dksX16_term_8 21 rfl rfl)
theorem dX16_term_210 : decode cX16_term 210 = .ok (.getstatic 169, 3) := dk_178 0 169 (dk_at dksX16_term_9 0 rfl rfl)
theorem dX16_term_213 : decode cX16_term 213 = .ok (.invokevirtual 40, 3) := dk_182 0 40 (dk_at dksX16_term_9 3 rfl rfl)
theorem dX16_term_216 : decode cX16_term 216 = .ok (.ifCond .eq 28, 3) := dk_153 0 28 (dk_at dksX16_term_9 6 rfl rfl)
theorem dX16_term_219 : decode cX16_term 219 = .ok (.aload_n 0, 1) := dk_42 (dk_at dksX16_term_9 9 rfl rfl)
theorem dX16_term_220 : decode cX16_term 220 = .ok (.getstatic 169, 3) := dk_178 0 169 (dk_at dksX16_term_9 10 rfl rfl)
theorem dX16_term_223 : decode cX16_term 223 = .ok (.invokevirtual 58, 3) := dk_182 0 58 (dk_at dksX16_term_9 13 rfl rfl)
theorem dX16_term_226 : decode cX16_term 226 = .ok (.aload_n 0, 1) := dk_42 (dk_at dksX16_term_9 16 rfl rfl)
theorem dX16_term_227 : decode cX16_term 227 = .ok (.getfield 15, 3) := dk_180 0 15 (dk_at dksX16_term_9 17 rfl rfl)
theorem dX16_term_230 : decode cX16_term 230 = .ok (.getfield 160, 3) := dk_180 0 160 (dk_at dksX16_term_9 20 rfl rfl)
theorem dX16_term_233 : decode cX16_term 233 = .ok (.iload_n 1, 1) := dk_27 (dk_at dksX16_term_9 23 rfl rfl)
theorem dX16_term_234 : decode cX16_term 234 = .ok (.iconst 4, 1) := dk_7 (dk_at dksX16_term_10 0 rfl rfl)
theorem dX16_term_235 : decode cX16_term 235 = .ok (.iadd, 1) := dk_96 (dk_at dksX16_term_10 1 rfl rfl)
theorem dX16_term_236 : decode cX16_term 236 = .ok (.aload_n 0, 1) := dk_42 (dk_at dksX16_term_10 2 rfl rfl)
theorem dX16_term_237 : decode cX16_term 237 = .ok (.sipush 999, 3) := dk_17 3 231 (dk_at dksX16_term_10 3 rfl rfl)
theorem dX16_term_240 : decode cX16_term 240 = .ok (.invokevirtual 72, 3) := dk_182 0 72 (dk_at dksX16_term_10 6 rfl rfl)
theorem dX16_term_243 : decode cX16_term 243 = .ok (.iastore, 1) := dk_79 (dk_at dksX16_term_10 9 rfl rfl)
theorem dX16_term_244 : decode cX16_term 244 = .ok (.return_, 1) := dk_177 (dk_at dksX16_term_10 10 rfl rfl)
theorem q415 : (Jvm.Cond.initialized "WasteHouse$HazardRules$Reader") ∈ lw_all := lw_g (lw_at lw_m1 23 rfl) rfl
theorem q952 : (Jvm.Cond.fieldLink "WasteHouse$HazardRules$Reader" (48 : Nat) "WasteHouse$HazardRules$Words" "numbers" "[I") ∈ lw_all := lw_g (lw_at lw_m3 80 rfl) rfl
theorem q954 : (Jvm.Cond.fieldLink "WasteHouse$HazardRules$Reader" (32 : Nat) "WasteHouse$HazardRules$Words" "count" "I") ∈ lw_all := lw_g (lw_at lw_m3 82 rfl) rfl
theorem q983 : (Jvm.Cond.fieldLink "WasteHouse$HazardRules$Reader" (62 : Nat) "WasteHouse$HazardRules$Code" "editions" "I") ∈ lw_all := lw_g (lw_at lw_m3 111 rfl) rfl
theorem q986 : (Jvm.Cond.fieldLink "WasteHouse$HazardRules$Reader" (65 : Nat) "WasteHouse$HazardRules$Code" "days" "[I") ∈ lw_all := lw_g (lw_at lw_m3 114 rfl) rfl
theorem q988 : (Jvm.Cond.fieldLink "WasteHouse$HazardRules$Reader" (76 : Nat) "WasteHouse$HazardRules$Code" "firsts" "[I") ∈ lw_all := lw_g (lw_at lw_m3 116 rfl) rfl
theorem q992 : (Jvm.Cond.fieldLink "WasteHouse$HazardRules$Reader" (79 : Nat) "WasteHouse$HazardRules$Code" "rules" "I") ∈ lw_all := lw_g (lw_at lw_m3 120 rfl) rfl
theorem q994 : (Jvm.Cond.fieldLink "WasteHouse$HazardRules$Reader" (100 : Nat) "WasteHouse$HazardRules$Code" "classes" "[I") ∈ lw_all := lw_g (lw_at lw_m3 122 rfl) rfl
theorem q997 : (Jvm.Cond.fieldLink "WasteHouse$HazardRules$Reader" (106 : Nat) "WasteHouse$HazardRules$Code" "itemFroms" "[I") ∈ lw_all := lw_g (lw_at lw_m3 125 rfl) rfl
theorem q1000 : (Jvm.Cond.fieldLink "WasteHouse$HazardRules$Reader" (103 : Nat) "WasteHouse$HazardRules$Code" "wordFroms" "[I") ∈ lw_all := lw_g (lw_at lw_m3 128 rfl) rfl
theorem q1003 : (Jvm.Cond.fieldLink "WasteHouse$HazardRules$Reader" (109 : Nat) "WasteHouse$HazardRules$Code" "items" "I") ∈ lw_all := lw_g (lw_at lw_m3 131 rfl) rfl
theorem q1005 : (Jvm.Cond.fieldLink "WasteHouse$HazardRules$Reader" (115 : Nat) "WasteHouse$HazardRules$Code" "kinds" "[I") ∈ lw_all := lw_g (lw_at lw_m3 133 rfl) rfl
theorem q1008 : (Jvm.Cond.fieldLink "WasteHouse$HazardRules$Reader" (118 : Nat) "WasteHouse$HazardRules$Code" "ones" "[I") ∈ lw_all := lw_g (lw_at lw_m3 136 rfl) rfl
theorem q1011 : (Jvm.Cond.fieldLink "WasteHouse$HazardRules$Reader" (121 : Nat) "WasteHouse$HazardRules$Code" "twos" "[I") ∈ lw_all := lw_g (lw_at lw_m3 139 rfl) rfl
theorem q1014 : (Jvm.Cond.fieldLink "WasteHouse$HazardRules$Reader" (130 : Nat) "WasteHouse$HazardRules$Code" "threes" "[I") ∈ lw_all := lw_g (lw_at lw_m3 142 rfl) rfl
theorem q1017 : (Jvm.Cond.fieldLink "WasteHouse$HazardRules$Reader" (139 : Nat) "WasteHouse$HazardRules$Code" "terms" "I") ∈ lw_all := lw_g (lw_at lw_m3 145 rfl) rfl
theorem q1019 : (Jvm.Cond.fieldLink "WasteHouse$HazardRules$Reader" (160 : Nat) "WasteHouse$HazardRules$Code" "parts" "[I") ∈ lw_all := lw_g (lw_at lw_m3 147 rfl) rfl
theorem q1022 : (Jvm.Cond.fieldLink "WasteHouse$HazardRules$Reader" (157 : Nat) "WasteHouse$HazardRules$Code" "termEnds" "[I") ∈ lw_all := lw_g (lw_at lw_m3 150 rfl) rfl
theorem q1056 : (Jvm.Cond.instantiable "WasteHouse$HazardRules$Reader" (4 : Nat)) ∈ lw_all := lw_g (lw_at lw_m3 184 rfl) rfl
theorem q1058 : (Jvm.Cond.instanceMethod ({ cls := "WasteHouse$HazardRules$Reader", name := "<init>", desc := "(LWasteHouse$HazardRules$Words;LWasteHouse$HazardRules$Code;)V" } : Jvm.MethodName)) ∈ lw_all := lw_g (lw_at lw_m3 186 rfl) rfl
theorem q1059 : (Jvm.Cond.code ({ cls := "WasteHouse$HazardRules$Reader", name := "<init>", desc := "(LWasteHouse$HazardRules$Words;LWasteHouse$HazardRules$Code;)V" } : Jvm.MethodName) prog_21_method_1_code (3 : Nat) (Option.none : Option Jvm.ClassFile.FieldType)) ∈ lw_all := lw_g (lw_at lw_m3 187 rfl) rfl
theorem q1060 : (Jvm.Cond.methodLink "WasteHouse$HazardRules$Reader" (3 : Nat) ({ cls := "java/lang/Object", name := "<init>", desc := "()V" } : Jvm.MethodName)) ∈ lw_all := lw_g (lw_at lw_m3 188 rfl) rfl
theorem q1061 : (Jvm.Cond.fieldLink "WasteHouse$HazardRules$Reader" (9 : Nat) "WasteHouse$HazardRules$Reader" "words" "LWasteHouse$HazardRules$Words;") ∈ lw_all := lw_g (lw_at lw_m3 189 rfl) rfl
theorem q1062 : (Jvm.Cond.fieldLink "WasteHouse$HazardRules$Reader" (15 : Nat) "WasteHouse$HazardRules$Reader" "code" "LWasteHouse$HazardRules$Code;") ∈ lw_all := lw_g (lw_at lw_m3 190 rfl) rfl
theorem q1063 : (Jvm.Cond.fieldLink "WasteHouse$HazardRules$Reader" (24 : Nat) "WasteHouse$HazardRules$Reader" "at" "I") ∈ lw_all := lw_g (lw_at lw_m3 191 rfl) rfl
theorem q1065 : (Jvm.Cond.fieldLink "WasteHouse$HazardRules$Reader" (28 : Nat) "WasteHouse$HazardRules$Reader" "good" "Z") ∈ lw_all := lw_g (lw_at lw_m3 193 rfl) rfl
theorem q1066 : (Jvm.Cond.laysFinal "WasteHouse$HazardRules$Reader" "WasteHouse$HazardRules$Reader" "words" "LWasteHouse$HazardRules$Words;") ∈ lw_all := lw_g (lw_at lw_m3 194 rfl) rfl
theorem q1067 : (Jvm.Cond.soleField "WasteHouse$HazardRules$Reader" "words") ∈ lw_all := lw_g (lw_at lw_m3 195 rfl) rfl
theorem q1068 : (Jvm.Cond.laysFinal "WasteHouse$HazardRules$Reader" "WasteHouse$HazardRules$Reader" "code" "LWasteHouse$HazardRules$Code;") ∈ lw_all := lw_g (lw_at lw_m3 196 rfl) rfl
theorem q1069 : (Jvm.Cond.soleField "WasteHouse$HazardRules$Reader" "code") ∈ lw_all := lw_g (lw_at lw_m3 197 rfl) rfl
theorem q1070 : (Jvm.Cond.lays "WasteHouse$HazardRules$Reader" "WasteHouse$HazardRules$Reader" "at" "I") ∈ lw_all := lw_g (lw_at lw_m3 198 rfl) rfl
theorem q1071 : (Jvm.Cond.soleField "WasteHouse$HazardRules$Reader" "at") ∈ lw_all := lw_g (lw_at lw_m3 199 rfl) rfl
theorem q1072 : (Jvm.Cond.lays "WasteHouse$HazardRules$Reader" "WasteHouse$HazardRules$Reader" "good" "Z") ∈ lw_all := lw_g (lw_at lw_m3 200 rfl) rfl
theorem q1073 : (Jvm.Cond.soleField "WasteHouse$HazardRules$Reader" "good") ∈ lw_all := lw_g (lw_at lw_m3 201 rfl) rfl
theorem q1074 : (Jvm.Cond.superclass "WasteHouse$HazardRules$Reader" "java/lang/Object") ∈ lw_all := lw_g (lw_at lw_m3 202 rfl) rfl
theorem q1991 : (Jvm.Cond.selects "WasteHouse$HazardRules$Reader" ({ cls := "java/lang/Object", name := "getClass", desc := "()Ljava/lang/Class;" } : Jvm.MethodName) ({ cls := "java/lang/Object", name := "getClass", desc := "()Ljava/lang/Class;" } : Jvm.MethodName)) ∈ lw_all := lw_g (lw_at lw_m7 159 rfl) rfl
theorem q3099 : (Jvm.Cond.selects "WasteHouse$HazardRules$Reader" ({ cls := "java/lang/Object", name := "equals", desc := "(Ljava/lang/Object;)Z" } : Jvm.MethodName) ({ cls := "java/lang/Object", name := "equals", desc := "(Ljava/lang/Object;)Z" } : Jvm.MethodName)) ∈ lw_all := lw_g (lw_at lw_m12 67 rfl) rfl
theorem q3614 : (Jvm.Cond.selects "WasteHouse$HazardRules$Reader" ({ cls := "java/lang/Object", name := "hashCode", desc := "()I" } : Jvm.MethodName) ({ cls := "java/lang/Object", name := "hashCode", desc := "()I" } : Jvm.MethodName)) ∈ lw_all := lw_g (lw_at lw_m14 102 rfl) rfl
theorem q4800 : (Jvm.Cond.instanceMethod ({ cls := "WasteHouse$HazardRules$Reader", name := "read", desc := "()Z" } : Jvm.MethodName)) ∈ lw_all := lw_g (lw_at lw_m19 88 rfl) rfl
theorem q4801 : (Jvm.Cond.selects "WasteHouse$HazardRules$Reader" ({ cls := "WasteHouse$HazardRules$Reader", name := "read", desc := "()Z" } : Jvm.MethodName) ({ cls := "WasteHouse$HazardRules$Reader", name := "read", desc := "()Z" } : Jvm.MethodName)) ∈ lw_all := lw_g (lw_at lw_m19 89 rfl) rfl
theorem q4802 : (Jvm.Cond.code ({ cls := "WasteHouse$HazardRules$Reader", name := "read", desc := "()Z" } : Jvm.MethodName) prog_21_method_2_code (1 : Nat) (Option.some Jvm.ClassFile.FieldType.boolean)) ∈ lw_all := lw_g (lw_at lw_m19 90 rfl) rfl
theorem q4803 : (Jvm.Cond.methodLink "WasteHouse$HazardRules$Reader" (19 : Nat) ({ cls := "WasteHouse$HazardRules$Code", name := "clear", desc := "()V" } : Jvm.MethodName)) ∈ lw_all := lw_g (lw_at lw_m19 91 rfl) rfl
theorem q4807 : (Jvm.Cond.methodLink "WasteHouse$HazardRules$Reader" (37 : Nat) ({ cls := "WasteHouse$HazardRules$Reader", name := "edition", desc := "()V" } : Jvm.MethodName)) ∈ lw_all := lw_g (lw_at lw_m19 95 rfl) rfl
theorem q4808 : (Jvm.Cond.privateMethod ({ cls := "WasteHouse$HazardRules$Reader", name := "edition", desc := "()V" } : Jvm.MethodName)) ∈ lw_tbl := lw_at lw_m19 96 rfl
theorem q4809 : (Jvm.Cond.instanceMethod ({ cls := "WasteHouse$HazardRules$Reader", name := "edition", desc := "()V" } : Jvm.MethodName)) ∈ lw_all := lw_g (lw_at lw_m19 97 rfl) rfl
theorem q4810 : (Jvm.Cond.code ({ cls := "WasteHouse$HazardRules$Reader", name := "edition", desc := "()V" } : Jvm.MethodName) prog_21_method_5_code (3 : Nat) (Option.none : Option Jvm.ClassFile.FieldType)) ∈ lw_all := lw_g (lw_at lw_m19 98 rfl) rfl
theorem q4811 : (Jvm.Cond.fieldLink "WasteHouse$HazardRules$Reader" (52 : Nat) "WasteHouse$HazardRules$Word" "FROM" "LWasteHouse$HazardRules$Word;") ∈ lw_all := lw_g (lw_at lw_m19 99 rfl) rfl
theorem q4813 : (Jvm.Cond.methodLink "WasteHouse$HazardRules$Reader" (58 : Nat) ({ cls := "WasteHouse$HazardRules$Reader", name := "take", desc := "(LWasteHouse$HazardRules$Word;)V" } : Jvm.MethodName)) ∈ lw_all := lw_g (lw_at lw_m19 101 rfl) rfl
theorem q4814 : (Jvm.Cond.privateMethod ({ cls := "WasteHouse$HazardRules$Reader", name := "take", desc := "(LWasteHouse$HazardRules$Word;)V" } : Jvm.MethodName)) ∈ lw_tbl := lw_at lw_m19 102 rfl
theorem q4815 : (Jvm.Cond.instanceMethod ({ cls := "WasteHouse$HazardRules$Reader", name := "take", desc := "(LWasteHouse$HazardRules$Word;)V" } : Jvm.MethodName)) ∈ lw_all := lw_g (lw_at lw_m19 103 rfl) rfl
theorem q4816 : (Jvm.Cond.code ({ cls := "WasteHouse$HazardRules$Reader", name := "take", desc := "(LWasteHouse$HazardRules$Word;)V" } : Jvm.MethodName) prog_21_method_3_code (2 : Nat) (Option.none : Option Jvm.ClassFile.FieldType)) ∈ lw_all := lw_g (lw_at lw_m19 104 rfl) rfl
theorem q4817 : (Jvm.Cond.methodLink "WasteHouse$HazardRules$Reader" (40 : Nat) ({ cls := "WasteHouse$HazardRules$Words", name := "is", desc := "(ILWasteHouse$HazardRules$Word;)Z" } : Jvm.MethodName)) ∈ lw_all := lw_g (lw_at lw_m19 105 rfl) rfl
theorem q4821 : (Jvm.Cond.fieldLink "WasteHouse$HazardRules$Reader" (68 : Nat) "WasteHouse$HazardRules$Word" "NUMBER" "LWasteHouse$HazardRules$Word;") ∈ lw_all := lw_g (lw_at lw_m19 109 rfl) rfl
theorem q4822 : (Jvm.Cond.constant "WasteHouse$HazardRules$Reader" (71 : Nat) (999999999 : Int32)) ∈ lw_all := lw_g (lw_at lw_m19 110 rfl) rfl
theorem q4823 : (Jvm.Cond.methodLink "WasteHouse$HazardRules$Reader" (72 : Nat) ({ cls := "WasteHouse$HazardRules$Reader", name := "number", desc := "(I)I" } : Jvm.MethodName)) ∈ lw_all := lw_g (lw_at lw_m19 111 rfl) rfl
theorem q4824 : (Jvm.Cond.privateMethod ({ cls := "WasteHouse$HazardRules$Reader", name := "number", desc := "(I)I" } : Jvm.MethodName)) ∈ lw_tbl := lw_at lw_m19 112 rfl
theorem q4825 : (Jvm.Cond.instanceMethod ({ cls := "WasteHouse$HazardRules$Reader", name := "number", desc := "(I)I" } : Jvm.MethodName)) ∈ lw_all := lw_g (lw_at lw_m19 113 rfl) rfl
theorem q4826 : (Jvm.Cond.code ({ cls := "WasteHouse$HazardRules$Reader", name := "number", desc := "(I)I" } : Jvm.MethodName) prog_21_method_4_code (2 : Nat) (Option.some Jvm.ClassFile.FieldType.int)) ∈ lw_all := lw_g (lw_at lw_m19 114 rfl) rfl
theorem q4827 : (Jvm.Cond.methodLink "WasteHouse$HazardRules$Reader" (44 : Nat) ({ cls := "WasteHouse$HazardRules$Words", name := "isNumber", desc := "(II)Z" } : Jvm.MethodName)) ∈ lw_all := lw_g (lw_at lw_m19 115 rfl) rfl
theorem q4832 : (Jvm.Cond.fieldLink "WasteHouse$HazardRules$Reader" (82 : Nat) "WasteHouse$HazardRules$Word" "CLASS" "LWasteHouse$HazardRules$Word;") ∈ lw_all := lw_g (lw_at lw_m19 120 rfl) rfl
theorem q4834 : (Jvm.Cond.methodLink "WasteHouse$HazardRules$Reader" (85 : Nat) ({ cls := "WasteHouse$HazardRules$Reader", name := "rule", desc := "()V" } : Jvm.MethodName)) ∈ lw_all := lw_g (lw_at lw_m19 122 rfl) rfl
theorem q4835 : (Jvm.Cond.privateMethod ({ cls := "WasteHouse$HazardRules$Reader", name := "rule", desc := "()V" } : Jvm.MethodName)) ∈ lw_tbl := lw_at lw_m19 123 rfl
theorem q4836 : (Jvm.Cond.instanceMethod ({ cls := "WasteHouse$HazardRules$Reader", name := "rule", desc := "()V" } : Jvm.MethodName)) ∈ lw_all := lw_g (lw_at lw_m19 124 rfl) rfl
theorem q4837 : (Jvm.Cond.code ({ cls := "WasteHouse$HazardRules$Reader", name := "rule", desc := "()V" } : Jvm.MethodName) prog_21_method_6_code (3 : Nat) (Option.none : Option Jvm.ClassFile.FieldType)) ∈ lw_all := lw_g (lw_at lw_m19 125 rfl) rfl
theorem q4838 : (Jvm.Cond.fieldLink "WasteHouse$HazardRules$Reader" (88 : Nat) "WasteHouse$HazardRules$Word" "WHEN" "LWasteHouse$HazardRules$Word;") ∈ lw_all := lw_g (lw_at lw_m19 126 rfl) rfl
theorem q4840 : (Jvm.Cond.methodLink "WasteHouse$HazardRules$Reader" (91 : Nat) ({ cls := "WasteHouse$HazardRules$Reader", name := "item", desc := "()V" } : Jvm.MethodName)) ∈ lw_all := lw_g (lw_at lw_m19 128 rfl) rfl
theorem q4841 : (Jvm.Cond.privateMethod ({ cls := "WasteHouse$HazardRules$Reader", name := "item", desc := "()V" } : Jvm.MethodName)) ∈ lw_tbl := lw_at lw_m19 129 rfl
theorem q4842 : (Jvm.Cond.instanceMethod ({ cls := "WasteHouse$HazardRules$Reader", name := "item", desc := "()V" } : Jvm.MethodName)) ∈ lw_all := lw_g (lw_at lw_m19 130 rfl) rfl
theorem q4843 : (Jvm.Cond.code ({ cls := "WasteHouse$HazardRules$Reader", name := "item", desc := "()V" } : Jvm.MethodName) prog_21_method_7_code (2 : Nat) (Option.none : Option Jvm.ClassFile.FieldType)) ∈ lw_all := lw_g (lw_at lw_m19 131 rfl) rfl
theorem q4844 : (Jvm.Cond.fieldLink "WasteHouse$HazardRules$Reader" (112 : Nat) "WasteHouse$HazardRules$Word" "TEST" "LWasteHouse$HazardRules$Word;") ∈ lw_all := lw_g (lw_at lw_m19 132 rfl) rfl
theorem q4846 : (Jvm.Cond.fieldLink "WasteHouse$HazardRules$Reader" (124 : Nat) "WasteHouse$HazardRules$Word" "IS" "LWasteHouse$HazardRules$Word;") ∈ lw_all := lw_g (lw_at lw_m19 134 rfl) rfl
theorem q4848 : (Jvm.Cond.fieldLink "WasteHouse$HazardRules$Reader" (127 : Nat) "WasteHouse$HazardRules$Word" "NOT" "LWasteHouse$HazardRules$Word;") ∈ lw_all := lw_g (lw_at lw_m19 136 rfl) rfl
theorem q4850 : (Jvm.Cond.fieldLink "WasteHouse$HazardRules$Reader" (133 : Nat) "WasteHouse$HazardRules$Word" "HOLDS" "LWasteHouse$HazardRules$Word;") ∈ lw_all := lw_g (lw_at lw_m19 138 rfl) rfl
theorem q4852 : (Jvm.Cond.fieldLink "WasteHouse$HazardRules$Reader" (136 : Nat) "WasteHouse$HazardRules$Word" "SUM" "LWasteHouse$HazardRules$Word;") ∈ lw_all := lw_g (lw_at lw_m19 140 rfl) rfl
theorem q4854 : (Jvm.Cond.methodLink "WasteHouse$HazardRules$Reader" (142 : Nat) ({ cls := "WasteHouse$HazardRules$Reader", name := "term", desc := "()V" } : Jvm.MethodName)) ∈ lw_all := lw_g (lw_at lw_m19 142 rfl) rfl
theorem q4855 : (Jvm.Cond.privateMethod ({ cls := "WasteHouse$HazardRules$Reader", name := "term", desc := "()V" } : Jvm.MethodName)) ∈ lw_tbl := lw_at lw_m19 143 rfl
theorem q4856 : (Jvm.Cond.instanceMethod ({ cls := "WasteHouse$HazardRules$Reader", name := "term", desc := "()V" } : Jvm.MethodName)) ∈ lw_all := lw_g (lw_at lw_m19 144 rfl) rfl
theorem q4857 : (Jvm.Cond.code ({ cls := "WasteHouse$HazardRules$Reader", name := "term", desc := "()V" } : Jvm.MethodName) prog_21_method_8_code (2 : Nat) (Option.none : Option Jvm.ClassFile.FieldType)) ∈ lw_all := lw_g (lw_at lw_m19 145 rfl) rfl
theorem q4858 : (Jvm.Cond.fieldLink "WasteHouse$HazardRules$Reader" (148 : Nat) "WasteHouse$HazardRules$Word" "MINUS" "LWasteHouse$HazardRules$Word;") ∈ lw_all := lw_g (lw_at lw_m19 146 rfl) rfl
theorem q4860 : (Jvm.Cond.fieldLink "WasteHouse$HazardRules$Reader" (145 : Nat) "WasteHouse$HazardRules$Word" "PLUS" "LWasteHouse$HazardRules$Word;") ∈ lw_all := lw_g (lw_at lw_m19 148 rfl) rfl
theorem q4862 : (Jvm.Cond.fieldLink "WasteHouse$HazardRules$Reader" (163 : Nat) "WasteHouse$HazardRules$Word" "OF" "LWasteHouse$HazardRules$Word;") ∈ lw_all := lw_g (lw_at lw_m19 150 rfl) rfl
theorem q4864 : (Jvm.Cond.fieldLink "WasteHouse$HazardRules$Reader" (166 : Nat) "WasteHouse$HazardRules$Word" "CUT" "LWasteHouse$HazardRules$Word;") ∈ lw_all := lw_g (lw_at lw_m19 152 rfl) rfl
theorem q4866 : (Jvm.Cond.fieldLink "WasteHouse$HazardRules$Reader" (169 : Nat) "WasteHouse$HazardRules$Word" "BY" "LWasteHouse$HazardRules$Word;") ∈ lw_all := lw_g (lw_at lw_m19 154 rfl) rfl
theorem q4868 : (Jvm.Cond.fieldLink "WasteHouse$HazardRules$Reader" (151 : Nat) "WasteHouse$HazardRules$Word" "OVER" "LWasteHouse$HazardRules$Word;") ∈ lw_all := lw_g (lw_at lw_m19 156 rfl) rfl
theorem q4870 : (Jvm.Cond.fieldLink "WasteHouse$HazardRules$Reader" (154 : Nat) "WasteHouse$HazardRules$Word" "UNDER" "LWasteHouse$HazardRules$Word;") ∈ lw_all := lw_g (lw_at lw_m19 158 rfl) rfl
theorem q4872 : (Jvm.Cond.fieldLink "WasteHouse$HazardRules$Reader" (94 : Nat) "WasteHouse$HazardRules$Word" "AND" "LWasteHouse$HazardRules$Word;") ∈ lw_all := lw_g (lw_at lw_m19 160 rfl) rfl
theorem q4874 : (Jvm.Cond.fieldLink "WasteHouse$HazardRules$Reader" (97 : Nat) "WasteHouse$HazardRules$Word" "END" "LWasteHouse$HazardRules$Word;") ∈ lw_all := lw_g (lw_at lw_m19 162 rfl) rfl
theorem q9644 : (Jvm.Cond.castable "WasteHouse$HazardRules$Reader" "java/lang/Object") ∈ lw_tbl := lw_at lw_m39 132 rfl
theorem in_X16 : ∀ w ∈ wsX160, w ∈ lw_all := lw_in wsX160 [1066, 1068, 1070, 1072] (by decide +kernel) (by decide +kernel)
