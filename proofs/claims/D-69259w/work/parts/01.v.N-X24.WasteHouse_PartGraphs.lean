/-! WasteHouse$PartGraphs -/
set_option maxRecDepth 100000
def RX24 : String := "WasteHouse$PartGraphs"
def TX24 : u_T := fun k => match k with
  | 0 => ("WasteHouse$PartGraphs", "product", "LWasteHouse$PartGraphs$Product;", true)
  | 1 => ("WasteHouse$PartGraphs", "fresh", "LWasteHouse$PartGraphs$Product;", true)
  | 2 => ("WasteHouse$PartGraphs", "text", "[B", true)
  | 3 => ("WasteHouse$PartGraphs", "size", "I", false)
  | 4 => ("WasteHouse$PartGraphs", "sentences", "[LWasteHouse$PartGraphs$Sentence;", true)
  | 5 => ("WasteHouse$PartGraphs", "numbers", "[J", true)
  | 6 => ("WasteHouse$PartGraphs", "written", "[B", true)
  | _ => ("WasteHouse$PartGraphs", "writtenSize", "I", false)
def tyX24 : Nat → FieldType := fun k => match k with
  | 0 => .object "WasteHouse$PartGraphs$Product"
  | 1 => .object "WasteHouse$PartGraphs$Product"
  | 2 => .array .byte
  | 3 => .int
  | 4 => .array (.object "WasteHouse$PartGraphs$Sentence")
  | 5 => .array .long
  | 6 => .array .byte
  | _ => .int
abbrev wsX240 : List Cond := u_ws RX24 TX24 8
theorem nmX24 : ∀ a, a < 8 → ∀ b, b < 8 → a ≠ b → (TX24 a).2.1 ≠ (TX24 b).2.1 := by decide +kernel
theorem tyX24_ok : ∀ k, k < 8 → parseFieldDescriptor (TX24 k).2.2.1 = some (tyX24 k) := by decide +kernel
abbrev cX24_init : ByteArray := prog_27_method_1_code
def yX24_init : MethodName := ⟨RX24, "<init>", "()V"⟩
def dkwX24_init_2 : List UInt8 := [181, 0, 33, 42, 17, 31, 64, 188, 8, 181, 0, 37, 177]
abbrev dktX24_init_2 : List UInt8 := dkwX24_init_2 ++ []
def dkwX24_init_1 : List UInt8 := [181, 0, 16, 42, 17, 7, 208, 188, 8, 181, 0, 19, 42, 184, 0, 23, 181, 0, 29, 42, 6, 188, 11]
abbrev dktX24_init_1 : List UInt8 := dkwX24_init_1 ++ dktX24_init_2
def dkwX24_init_0 : List UInt8 := [42, 183, 0, 1, 42, 187, 0, 7, 89, 183, 0, 9, 181, 0, 10, 42, 187, 0, 7, 89, 183, 0, 9]
abbrev dktX24_init_0 : List UInt8 := dkwX24_init_0 ++ dktX24_init_1
theorem dksX24_init_0 : cX24_init.data.toList.drop 0 = dktX24_init_0 := by decide +kernel
theorem dksX24_init_1 : cX24_init.data.toList.drop 23 = dktX24_init_1 := dk_seg dksX24_init_0 23 rfl rfl
theorem dksX24_init_2 : cX24_init.data.toList.drop 46 = dktX24_init_2 := dk_seg dksX24_init_1 23 rfl rfl
theorem dX24_init_0 : decode cX24_init 0 = .ok (.aload_n 0, 1) := dk_42 (dk_at dksX24_init_0 0 rfl rfl)
theorem dX24_init_1 : decode cX24_init 1 = .ok (.invokespecial 1, 3) := dk_183 0 1 (dk_at dksX24_init_0 1 rfl rfl)
theorem dX24_init_4 : decode cX24_init 4 = .ok (.aload_n 0, 1) := dk_42 (dk_at dksX24_init_0 4 rfl rfl)
theorem dX24_init_5 : decode cX24_init 5 = .ok (.new 7, 3) := dk_187 0 7 (dk_at dksX24_init_0 5 rfl rfl)
theorem dX24_init_8 : decode cX24_init 8 = .ok (.dup, 1) := dk_89 (dk_at dksX24_init_0 8 rfl rfl)
theorem dX24_init_9 : decode cX24_init 9 = .ok (.invokespecial 9, 3) := dk_183 0 9 (dk_at dksX24_init_0 9 rfl rfl)
theorem dX24_init_12 : decode cX24_init 12 = .ok (.putfield 10, 3) := dk_181 0 10 (dk_at dksX24_init_0 12 rfl rfl)
theorem dX24_init_15 : decode cX24_init 15 = .ok (.aload_n 0, 1) := dk_42 (dk_at dksX24_init_0 15 rfl rfl)
theorem dX24_init_16 : decode cX24_init 16 = .ok (.new 7, 3) := dk_187 0 7 (dk_at dksX24_init_0 16 rfl rfl)
theorem dX24_init_19 : decode cX24_init 19 = .ok (.dup, 1) := dk_89 (dk_at dksX24_init_0 19 rfl rfl)
theorem dX24_init_20 : decode cX24_init 20 = .ok (.invokespecial 9, 3) := dk_183 0 9 (dk_at dksX24_init_0 20 rfl rfl)
theorem dX24_init_23 : decode cX24_init 23 = .ok (.putfield 16, 3) := dk_181 0 16 (dk_at dksX24_init_1 0 rfl rfl)
theorem dX24_init_26 : decode cX24_init 26 = .ok (.aload_n 0, 1) := dk_42 (dk_at dksX24_init_1 3 rfl rfl)
theorem dX24_init_27 : decode cX24_init 27 = .ok (.sipush 2000, 3) := dk_17 7 208 (dk_at dksX24_init_1 4 rfl rfl)
theorem dX24_init_30 : decode cX24_init 30 = .ok (.newarray .byte, 2) := dk_188_8 (dk_at dksX24_init_1 7 rfl rfl)
theorem dX24_init_32 : decode cX24_init 32 = .ok (.putfield 19, 3) := dk_181 0 19 (dk_at dksX24_init_1 9 rfl rfl)
theorem dX24_init_35 : decode cX24_init 35 = .ok (.aload_n 0, 1) := dk_42 (dk_at dksX24_init_1 12 rfl rfl)
theorem dX24_init_36 : decode cX24_init 36 = .ok (.invokestatic 23, 3) := dk_184 0 23 (dk_at dksX24_init_1 13 rfl rfl)
theorem dX24_init_39 : decode cX24_init 39 = .ok (.putfield 29, 3) := dk_181 0 29 (dk_at dksX24_init_1 16 rfl rfl)
theorem dX24_init_42 : decode cX24_init 42 = .ok (.aload_n 0, 1) := dk_42 (dk_at dksX24_init_1 19 rfl rfl)
theorem dX24_init_43 : decode cX24_init 43 = .ok (.iconst 3, 1) := dk_6 (dk_at dksX24_init_1 20 rfl rfl)
theorem dX24_init_44 : decode cX24_init 44 = .ok (.newarray .long, 2) := dk_188_11 (dk_at dksX24_init_1 21 rfl rfl)
theorem dX24_init_46 : decode cX24_init 46 = .ok (.putfield 33, 3) := dk_181 0 33 (dk_at dksX24_init_2 0 rfl rfl)
theorem dX24_init_49 : decode cX24_init 49 = .ok (.aload_n 0, 1) := dk_42 (dk_at dksX24_init_2 3 rfl rfl)
theorem dX24_init_50 : decode cX24_init 50 = .ok (.sipush 8000, 3) := dk_17 31 64 (dk_at dksX24_init_2 4 rfl rfl)
theorem dX24_init_53 : decode cX24_init 53 = .ok (.newarray .byte, 2) := dk_188_8 (dk_at dksX24_init_2 7 rfl rfl)
theorem dX24_init_55 : decode cX24_init 55 = .ok (.putfield 37, 3) := dk_181 0 37 (dk_at dksX24_init_2 9 rfl rfl)
theorem dX24_init_58 : decode cX24_init 58 = .ok (.return_, 1) := dk_177 (dk_at dksX24_init_2 12 rfl rfl)
abbrev cX24_unit : ByteArray := prog_27_method_2_code
def yX24_unit : MethodName := ⟨RX24, "unit", "(I)Z"⟩
def dkwX24_unit_1 : List UInt8 := [180, 0, 19, 42, 89, 180, 0, 40, 90, 4, 96, 181, 0, 40, 27, 145, 84, 4, 172]
abbrev dktX24_unit_1 : List UInt8 := dkwX24_unit_1 ++ []
def dkwX24_unit_0 : List UInt8 := [27, 155, 0, 20, 27, 17, 0, 255, 163, 0, 13, 42, 180, 0, 40, 17, 7, 208, 160, 0, 5, 3, 172, 42]
abbrev dktX24_unit_0 : List UInt8 := dkwX24_unit_0 ++ dktX24_unit_1
theorem dksX24_unit_0 : cX24_unit.data.toList.drop 0 = dktX24_unit_0 := by decide +kernel
theorem dksX24_unit_1 : cX24_unit.data.toList.drop 24 = dktX24_unit_1 := dk_seg dksX24_unit_0 24 rfl rfl
theorem dX24_unit_0 : decode cX24_unit 0 = .ok (.iload_n 1, 1) := dk_27 (dk_at dksX24_unit_0 0 rfl rfl)
theorem dX24_unit_1 : decode cX24_unit 1 = .ok (.ifCond .lt 20, 3) := dk_155 0 20 (dk_at dksX24_unit_0 1 rfl rfl)
theorem dX24_unit_4 : decode cX24_unit 4 = .ok (.iload_n 1, 1) := dk_27 (dk_at dksX24_unit_0 4 rfl rfl)
theorem dX24_unit_5 : decode cX24_unit 5 = .ok (.sipush 255, 3) := dk_17 0 255 (dk_at dksX24_unit_0 5 rfl rfl)
theorem dX24_unit_8 : decode cX24_unit 8 = .ok (.if_icmp .gt 13, 3) := dk_163 0 13 (dk_at dksX24_unit_0 8 rfl rfl)
theorem dX24_unit_11 : decode cX24_unit 11 = .ok (.aload_n 0, 1) := dk_42 (dk_at dksX24_unit_0 11 rfl rfl)
theorem dX24_unit_12 : decode cX24_unit 12 = .ok (.getfield 40, 3) := dk_180 0 40 (dk_at dksX24_unit_0 12 rfl rfl)
theorem dX24_unit_15 : decode cX24_unit 15 = .ok (.sipush 2000, 3) := dk_17 7 208 (dk_at dksX24_unit_0 15 rfl rfl)
theorem dX24_unit_18 : decode cX24_unit 18 = .ok (.if_icmp .ne 5, 3) := dk_160 0 5 (dk_at dksX24_unit_0 18 rfl rfl)
theorem dX24_unit_21 : decode cX24_unit 21 = .ok (.iconst 0, 1) := dk_3 (dk_at dksX24_unit_0 21 rfl rfl)
theorem dX24_unit_22 : decode cX24_unit 22 = .ok (.ireturn, 1) := dk_172 (dk_at dksX24_unit_0 22 rfl rfl)
theorem dX24_unit_23 : decode cX24_unit 23 = .ok (.aload_n 0, 1) := dk_42 (dk_at dksX24_unit_0 23 rfl rfl)
theorem dX24_unit_24 : decode cX24_unit 24 = .ok (.getfield 19, 3) := dk_180 0 19 (dk_at dksX24_unit_1 0 rfl rfl)
theorem dX24_unit_27 : decode cX24_unit 27 = .ok (.aload_n 0, 1) := dk_42 (dk_at dksX24_unit_1 3 rfl rfl)
theorem dX24_unit_28 : decode cX24_unit 28 = .ok (.dup, 1) := dk_89 (dk_at dksX24_unit_1 4 rfl rfl)
theorem dX24_unit_29 : decode cX24_unit 29 = .ok (.getfield 40, 3) := dk_180 0 40 (dk_at dksX24_unit_1 5 rfl rfl)
theorem dX24_unit_32 : decode cX24_unit 32 = .ok (.dup_x1, 1) := dk_90 (dk_at dksX24_unit_1 8 rfl rfl)
theorem dX24_unit_33 : decode cX24_unit 33 = .ok (.iconst 1, 1) := dk_4 (dk_at dksX24_unit_1 9 rfl rfl)
theorem dX24_unit_34 : decode cX24_unit 34 = .ok (.iadd, 1) := dk_96 (dk_at dksX24_unit_1 10 rfl rfl)
theorem dX24_unit_35 : decode cX24_unit 35 = .ok (.putfield 40, 3) := dk_181 0 40 (dk_at dksX24_unit_1 11 rfl rfl)
theorem dX24_unit_38 : decode cX24_unit 38 = .ok (.iload_n 1, 1) := dk_27 (dk_at dksX24_unit_1 14 rfl rfl)
theorem dX24_unit_39 : decode cX24_unit 39 = .ok (.i2b, 1) := dk_145 (dk_at dksX24_unit_1 15 rfl rfl)
theorem dX24_unit_40 : decode cX24_unit 40 = .ok (.bastore, 1) := dk_84 (dk_at dksX24_unit_1 16 rfl rfl)
theorem dX24_unit_41 : decode cX24_unit 41 = .ok (.iconst 1, 1) := dk_4 (dk_at dksX24_unit_1 17 rfl rfl)
theorem dX24_unit_42 : decode cX24_unit 42 = .ok (.ireturn, 1) := dk_172 (dk_at dksX24_unit_1 18 rfl rfl)
abbrev cX24_before : ByteArray := prog_27_method_33_code
def yX24_before : MethodName := ⟨RX24, "before", "(II)I"⟩
def dkwX24_before_3 : List UInt8 := [21, 4, 120, 167, 0, 4, 3, 128, 62, 132, 4, 1, 167, 255, 208, 29, 28, 184, 1, 2, 172]
abbrev dktX24_before_3 : List UInt8 := dkwX24_before_3 ++ []
def dkwX24_before_2 : List UInt8 := [21, 4, 27, 159, 0, 26, 42, 180, 0, 10, 21, 4, 182, 0, 255, 27, 122, 4, 126, 154, 0, 10, 4]
abbrev dktX24_before_2 : List UInt8 := dkwX24_before_2 ++ dktX24_before_3
def dkwX24_before_1 : List UInt8 := [154, 0, 5, 2, 172, 3, 62, 3, 54, 4, 21, 4, 42, 180, 0, 10, 180, 0, 69, 162, 0, 42, 29]
abbrev dktX24_before_1 : List UInt8 := dkwX24_before_1 ++ dktX24_before_2
def dkwX24_before_0 : List UInt8 := [42, 180, 0, 10, 27, 133, 182, 0, 76, 153, 0, 18, 42, 180, 0, 10, 2, 182, 0, 255, 27, 122, 4, 126]
abbrev dktX24_before_0 : List UInt8 := dkwX24_before_0 ++ dktX24_before_1
theorem dksX24_before_0 : cX24_before.data.toList.drop 0 = dktX24_before_0 := by decide +kernel
theorem dksX24_before_1 : cX24_before.data.toList.drop 24 = dktX24_before_1 := dk_seg dksX24_before_0 24 rfl rfl
theorem dksX24_before_2 : cX24_before.data.toList.drop 47 = dktX24_before_2 := dk_seg dksX24_before_1 23 rfl rfl
theorem dksX24_before_3 : cX24_before.data.toList.drop 70 = dktX24_before_3 := dk_seg dksX24_before_2 23 rfl rfl
theorem dX24_before_0 : decode cX24_before 0 = .ok (.aload_n 0, 1) := dk_42 (dk_at dksX24_before_0 0 rfl rfl)
theorem dX24_before_1 : decode cX24_before 1 = .ok (.getfield 10, 3) := dk_180 0 10 (dk_at dksX24_before_0 1 rfl rfl)
theorem dX24_before_4 : decode cX24_before 4 = .ok (.iload_n 1, 1) := dk_27 (dk_at dksX24_before_0 4 rfl rfl)
theorem dX24_before_5 : decode cX24_before 5 = .ok (.i2l, 1) := dk_133 (dk_at dksX24_before_0 5 rfl rfl)
theorem dX24_before_6 : decode cX24_before 6 = .ok (.invokevirtual 76, 3) := dk_182 0 76 (dk_at dksX24_before_0 6 rfl rfl)
theorem dX24_before_9 : decode cX24_before 9 = .ok (.ifCond .eq 18, 3) := dk_153 0 18 (dk_at dksX24_before_0 9 rfl rfl)
theorem dX24_before_12 : decode cX24_before 12 = .ok (.aload_n 0, 1) := dk_42 (dk_at dksX24_before_0 12 rfl rfl)
theorem dX24_before_13 : decode cX24_before 13 = .ok (.getfield 10, 3) := dk_180 0 10 (dk_at dksX24_before_0 13 rfl rfl)
theorem dX24_before_16 : decode cX24_before 16 = .ok (.iconst (-1), 1) := dk_2 (dk_at dksX24_before_0 16 rfl rfl)
theorem dX24_before_17 : decode cX24_before 17 = .ok (.invokevirtual 255, 3) := dk_182 0 255 (dk_at dksX24_before_0 17 rfl rfl)
theorem dX24_before_20 : decode cX24_before 20 = .ok (.iload_n 1, 1) := dk_27 (dk_at dksX24_before_0 20 rfl rfl)
theorem dX24_before_21 : decode cX24_before 21 = .ok (.ishr, 1) := dk_122 (dk_at dksX24_before_0 21 rfl rfl)
theorem dX24_before_22 : decode cX24_before 22 = .ok (.iconst 1, 1) := dk_4 (dk_at dksX24_before_0 22 rfl rfl)
theorem dX24_before_23 : decode cX24_before 23 = .ok (.iand, 1) := dk_126 (dk_at dksX24_before_0 23 rfl rfl)
theorem dX24_before_24 : decode cX24_before 24 = .ok (.ifCond .ne 5, 3) := dk_154 0 5 (dk_at dksX24_before_1 0 rfl rfl)
theorem dX24_before_27 : decode cX24_before 27 = .ok (.iconst (-1), 1) := dk_2 (dk_at dksX24_before_1 3 rfl rfl)
theorem dX24_before_28 : decode cX24_before 28 = .ok (.ireturn, 1) := dk_172 (dk_at dksX24_before_1 4 rfl rfl)
theorem dX24_before_29 : decode cX24_before 29 = .ok (.iconst 0, 1) := dk_3 (dk_at dksX24_before_1 5 rfl rfl)
theorem dX24_before_30 : decode cX24_before 30 = .ok (.istore_n 3, 1) := dk_62 (dk_at dksX24_before_1 6 rfl rfl)
theorem dX24_before_31 : decode cX24_before 31 = .ok (.iconst 0, 1) := dk_3 (dk_at dksX24_before_1 7 rfl rfl)
theorem dX24_before_32 : decode cX24_before 32 = .ok (.istore 4, 2) := dk_54 4 (dk_at dksX24_before_1 8 rfl rfl)
theorem dX24_before_34 : decode cX24_before 34 = .ok (.iload 4, 2) := dk_21 4 (dk_at dksX24_before_1 10 rfl rfl)
theorem dX24_before_36 : decode cX24_before 36 = .ok (.aload_n 0, 1) := dk_42 (dk_at dksX24_before_1 12 rfl rfl)
theorem dX24_before_37 : decode cX24_before 37 = .ok (.getfield 10, 3) := dk_180 0 10 (dk_at dksX24_before_1 13 rfl rfl)
theorem dX24_before_40 : decode cX24_before 40 = .ok (.getfield 69, 3) := dk_180 0 69 (dk_at dksX24_before_1 16 rfl rfl)
theorem dX24_before_43 : decode cX24_before 43 = .ok (.if_icmp .ge 42, 3) := dk_162 0 42 (dk_at dksX24_before_1 19 rfl rfl)
theorem dX24_before_46 : decode cX24_before 46 = .ok (.iload_n 3, 1) := dk_29 (dk_at dksX24_before_1 22 rfl rfl)
theorem dX24_before_47 : decode cX24_before 47 = .ok (.iload 4, 2) := dk_21 4 (dk_at dksX24_before_2 0 rfl rfl)
theorem dX24_before_49 : decode cX24_before 49 = .ok (.iload_n 1, 1) := dk_27 (dk_at dksX24_before_2 2 rfl rfl)
theorem dX24_before_50 : decode cX24_before 50 = .ok (.if_icmp .eq 26, 3) := dk_159 0 26 (dk_at dksX24_before_2 3 rfl rfl)
theorem dX24_before_53 : decode cX24_before 53 = .ok (.aload_n 0, 1) := dk_42 (dk_at dksX24_before_2 6 rfl rfl)
theorem dX24_before_54 : decode cX24_before 54 = .ok (.getfield 10, 3) := dk_180 0 10 (dk_at dksX24_before_2 7 rfl rfl)
theorem dX24_before_57 : decode cX24_before 57 = .ok (.iload 4, 2) := dk_21 4 (dk_at dksX24_before_2 10 rfl rfl)
theorem dX24_before_59 : decode cX24_before 59 = .ok (.invokevirtual 255, 3) := dk_182 0 255 (dk_at dksX24_before_2 12 rfl rfl)
theorem dX24_before_62 : decode cX24_before 62 = .ok (.iload_n 1, 1) := dk_27 (dk_at dksX24_before_2 15 rfl rfl)
theorem dX24_before_63 : decode cX24_before 63 = .ok (.ishr, 1) := dk_122 (dk_at dksX24_before_2 16 rfl rfl)
theorem dX24_before_64 : decode cX24_before 64 = .ok (.iconst 1, 1) := dk_4 (dk_at dksX24_before_2 17 rfl rfl)
theorem dX24_before_65 : decode cX24_before 65 = .ok (.iand, 1) := dk_126 (dk_at dksX24_before_2 18 rfl rfl)
theorem dX24_before_66 : decode cX24_before 66 = .ok (.ifCond .ne 10, 3) := dk_154 0 10 (dk_at dksX24_before_2 19 rfl rfl)
theorem dX24_before_69 : decode cX24_before 69 = .ok (.iconst 1, 1) := dk_4 (dk_at dksX24_before_2 22 rfl rfl)
theorem dX24_before_70 : decode cX24_before 70 = .ok (.iload 4, 2) := dk_21 4 (dk_at dksX24_before_3 0 rfl rfl)
theorem dX24_before_72 : decode cX24_before 72 = .ok (.ishl, 1) := dk_120 (dk_at dksX24_before_3 2 rfl rfl)
theorem dX24_before_73 : decode cX24_before 73 = .ok (.goto 4, 3) := dk_167 0 4 (dk_at dksX24_before_3 3 rfl rfl)
theorem dX24_before_76 : decode cX24_before 76 = .ok (.iconst 0, 1) := dk_3 (dk_at dksX24_before_3 6 rfl rfl)
theorem dX24_before_77 : decode cX24_before 77 = .ok (.ior, 1) := dk_128 (dk_at dksX24_before_3 7 rfl rfl)
theorem dX24_before_78 : decode cX24_before 78 = .ok (.istore_n 3, 1) := dk_62 (dk_at dksX24_before_3 8 rfl rfl)
theorem dX24_before_79 : decode cX24_before 79 = .ok (.iinc 4 1, 3) := dk_132 4 1 (dk_at dksX24_before_3 9 rfl rfl)
theorem dX24_before_82 : decode cX24_before 82 = .ok (.goto (-48), 3) := dk_167 255 208 (dk_at dksX24_before_3 12 rfl rfl)
theorem dX24_before_85 : decode cX24_before 85 = .ok (.iload_n 3, 1) := dk_29 (dk_at dksX24_before_3 15 rfl rfl)
theorem dX24_before_86 : decode cX24_before 86 = .ok (.iload_n 2, 1) := dk_28 (dk_at dksX24_before_3 16 rfl rfl)
theorem dX24_before_87 : decode cX24_before 87 = .ok (.invokestatic 258, 3) := dk_184 1 2 (dk_at dksX24_before_3 17 rfl rfl)
theorem dX24_before_90 : decode cX24_before 90 = .ok (.ireturn, 1) := dk_172 (dk_at dksX24_before_3 20 rfl rfl)
abbrev cX24_bit : ByteArray := prog_27_method_29_code
def yX24_bit : MethodName := ⟨RX24, "bit", "(II)I"⟩
def dkwX24_bit_1 : List UInt8 := [167, 255, 238, 27, 155, 0, 7, 28, 154, 0, 7, 2, 167, 0, 7, 28, 184, 0, 244, 172]
abbrev dktX24_bit_1 : List UInt8 := dkwX24_bit_1 ++ []
def dkwX24_bit_0 : List UInt8 := [26, 61, 3, 62, 29, 27, 162, 0, 19, 28, 153, 0, 15, 28, 28, 4, 100, 126, 61, 132, 3, 1]
abbrev dktX24_bit_0 : List UInt8 := dkwX24_bit_0 ++ dktX24_bit_1
theorem dksX24_bit_0 : cX24_bit.data.toList.drop 0 = dktX24_bit_0 := by decide +kernel
theorem dksX24_bit_1 : cX24_bit.data.toList.drop 22 = dktX24_bit_1 := dk_seg dksX24_bit_0 22 rfl rfl
theorem dX24_bit_0 : decode cX24_bit 0 = .ok (.iload_n 0, 1) := dk_26 (dk_at dksX24_bit_0 0 rfl rfl)
theorem dX24_bit_1 : decode cX24_bit 1 = .ok (.istore_n 2, 1) := dk_61 (dk_at dksX24_bit_0 1 rfl rfl)
theorem dX24_bit_2 : decode cX24_bit 2 = .ok (.iconst 0, 1) := dk_3 (dk_at dksX24_bit_0 2 rfl rfl)
theorem dX24_bit_3 : decode cX24_bit 3 = .ok (.istore_n 3, 1) := dk_62 (dk_at dksX24_bit_0 3 rfl rfl)
theorem dX24_bit_4 : decode cX24_bit 4 = .ok (.iload_n 3, 1) := dk_29 (dk_at dksX24_bit_0 4 rfl rfl)
theorem dX24_bit_5 : decode cX24_bit 5 = .ok (.iload_n 1, 1) := dk_27 (dk_at dksX24_bit_0 5 rfl rfl)
theorem dX24_bit_6 : decode cX24_bit 6 = .ok (.if_icmp .ge 19, 3) := dk_162 0 19 (dk_at dksX24_bit_0 6 rfl rfl)
theorem dX24_bit_9 : decode cX24_bit 9 = .ok (.iload_n 2, 1) := dk_28 (dk_at dksX24_bit_0 9 rfl rfl)
theorem dX24_bit_10 : decode cX24_bit 10 = .ok (.ifCond .eq 15, 3) := dk_153 0 15 (dk_at dksX24_bit_0 10 rfl rfl)
theorem dX24_bit_13 : decode cX24_bit 13 = .ok (.iload_n 2, 1) := dk_28 (dk_at dksX24_bit_0 13 rfl rfl)
theorem dX24_bit_14 : decode cX24_bit 14 = .ok (.iload_n 2, 1) := dk_28 (dk_at dksX24_bit_0 14 rfl rfl)
theorem dX24_bit_15 : decode cX24_bit 15 = .ok (.iconst 1, 1) := dk_4 (dk_at dksX24_bit_0 15 rfl rfl)
theorem dX24_bit_16 : decode cX24_bit 16 = .ok (.isub, 1) := dk_100 (dk_at dksX24_bit_0 16 rfl rfl)
theorem dX24_bit_17 : decode cX24_bit 17 = .ok (.iand, 1) := dk_126 (dk_at dksX24_bit_0 17 rfl rfl)
theorem dX24_bit_18 : decode cX24_bit 18 = .ok (.istore_n 2, 1) := dk_61 (dk_at dksX24_bit_0 18 rfl rfl)
theorem dX24_bit_19 : decode cX24_bit 19 = .ok (.iinc 3 1, 3) := dk_132 3 1 (dk_at dksX24_bit_0 19 rfl rfl)
theorem dX24_bit_22 : decode cX24_bit 22 = .ok (.goto (-18), 3) := dk_167 255 238 (dk_at dksX24_bit_1 0 rfl rfl)
theorem dX24_bit_25 : decode cX24_bit 25 = .ok (.iload_n 1, 1) := dk_27 (dk_at dksX24_bit_1 3 rfl rfl)
theorem dX24_bit_26 : decode cX24_bit 26 = .ok (.ifCond .lt 7, 3) := dk_155 0 7 (dk_at dksX24_bit_1 4 rfl rfl)
theorem dX24_bit_29 : decode cX24_bit 29 = .ok (.iload_n 2, 1) := dk_28 (dk_at dksX24_bit_1 7 rfl rfl)
theorem dX24_bit_30 : decode cX24_bit 30 = .ok (.ifCond .ne 7, 3) := dk_154 0 7 (dk_at dksX24_bit_1 8 rfl rfl)
theorem dX24_bit_33 : decode cX24_bit 33 = .ok (.iconst (-1), 1) := dk_2 (dk_at dksX24_bit_1 11 rfl rfl)
theorem dX24_bit_34 : decode cX24_bit 34 = .ok (.goto 7, 3) := dk_167 0 7 (dk_at dksX24_bit_1 12 rfl rfl)
theorem dX24_bit_37 : decode cX24_bit 37 = .ok (.iload_n 2, 1) := dk_28 (dk_at dksX24_bit_1 15 rfl rfl)
theorem dX24_bit_38 : decode cX24_bit 38 = .ok (.invokestatic 244, 3) := dk_184 0 244 (dk_at dksX24_bit_1 16 rfl rfl)
theorem dX24_bit_41 : decode cX24_bit 41 = .ok (.ireturn, 1) := dk_172 (dk_at dksX24_bit_1 19 rfl rfl)
abbrev cX24_read : ByteArray := prog_27_method_15_code
def yX24_read : MethodName := ⟨RX24, "read", "()I"⟩
def dkwX24_read_1 : List UInt8 := [180, 0, 16, 182, 0, 195, 42, 180, 0, 10, 180, 0, 69, 172]
abbrev dktX24_read_1 : List UInt8 := dkwX24_read_1 ++ []
def dkwX24_read_0 : List UInt8 := [42, 182, 0, 192, 60, 42, 3, 181, 0, 40, 27, 2, 159, 0, 7, 2, 27, 100, 172, 42, 180, 0, 10, 42]
abbrev dktX24_read_0 : List UInt8 := dkwX24_read_0 ++ dktX24_read_1
theorem dksX24_read_0 : cX24_read.data.toList.drop 0 = dktX24_read_0 := by decide +kernel
theorem dksX24_read_1 : cX24_read.data.toList.drop 24 = dktX24_read_1 := dk_seg dksX24_read_0 24 rfl rfl
theorem dX24_read_0 : decode cX24_read 0 = .ok (.aload_n 0, 1) := dk_42 (dk_at dksX24_read_0 0 rfl rfl)
theorem dX24_read_1 : decode cX24_read 1 = .ok (.invokevirtual 192, 3) := dk_182 0 192 (dk_at dksX24_read_0 1 rfl rfl)
theorem dX24_read_4 : decode cX24_read 4 = .ok (.istore_n 1, 1) := dk_60 (dk_at dksX24_read_0 4 rfl rfl)
theorem dX24_read_5 : decode cX24_read 5 = .ok (.aload_n 0, 1) := dk_42 (dk_at dksX24_read_0 5 rfl rfl)
theorem dX24_read_6 : decode cX24_read 6 = .ok (.iconst 0, 1) := dk_3 (dk_at dksX24_read_0 6 rfl rfl)
theorem dX24_read_7 : decode cX24_read 7 = .ok (.putfield 40, 3) := dk_181 0 40 (dk_at dksX24_read_0 7 rfl rfl)
theorem dX24_read_10 : decode cX24_read 10 = .ok (.iload_n 1, 1) := dk_27 (dk_at dksX24_read_0 10 rfl rfl)
theorem dX24_read_11 : decode cX24_read 11 = .ok (.iconst (-1), 1) := dk_2 (dk_at dksX24_read_0 11 rfl rfl)
theorem dX24_read_12 : decode cX24_read 12 = .ok (.if_icmp .eq 7, 3) := dk_159 0 7 (dk_at dksX24_read_0 12 rfl rfl)
theorem dX24_read_15 : decode cX24_read 15 = .ok (.iconst (-1), 1) := dk_2 (dk_at dksX24_read_0 15 rfl rfl)
theorem dX24_read_16 : decode cX24_read 16 = .ok (.iload_n 1, 1) := dk_27 (dk_at dksX24_read_0 16 rfl rfl)
theorem dX24_read_17 : decode cX24_read 17 = .ok (.isub, 1) := dk_100 (dk_at dksX24_read_0 17 rfl rfl)
theorem dX24_read_18 : decode cX24_read 18 = .ok (.ireturn, 1) := dk_172 (dk_at dksX24_read_0 18 rfl rfl)
theorem dX24_read_19 : decode cX24_read 19 = .ok (.aload_n 0, 1) := dk_42 (dk_at dksX24_read_0 19 rfl rfl)
theorem dX24_read_20 : decode cX24_read 20 = .ok (.getfield 10, 3) := dk_180 0 10 (dk_at dksX24_read_0 20 rfl rfl)
theorem dX24_read_23 : decode cX24_read 23 = .ok (.aload_n 0, 1) := dk_42 (dk_at dksX24_read_0 23 rfl rfl)
theorem dX24_read_24 : decode cX24_read 24 = .ok (.getfield 16, 3) := dk_180 0 16 (dk_at dksX24_read_1 0 rfl rfl)
theorem dX24_read_27 : decode cX24_read 27 = .ok (.invokevirtual 195, 3) := dk_182 0 195 (dk_at dksX24_read_1 3 rfl rfl)
theorem dX24_read_30 : decode cX24_read 30 = .ok (.aload_n 0, 1) := dk_42 (dk_at dksX24_read_1 6 rfl rfl)
theorem dX24_read_31 : decode cX24_read 31 = .ok (.getfield 10, 3) := dk_180 0 10 (dk_at dksX24_read_1 7 rfl rfl)
theorem dX24_read_34 : decode cX24_read 34 = .ok (.getfield 69, 3) := dk_180 0 69 (dk_at dksX24_read_1 10 rfl rfl)
theorem dX24_read_37 : decode cX24_read 37 = .ok (.ireturn, 1) := dk_172 (dk_at dksX24_read_1 13 rfl rfl)
abbrev cX24_wrong : ByteArray := prog_27_method_14_code
def yX24_wrong : MethodName := ⟨RX24, "wrong", "()I"⟩
def dkwX24_wrong_5 : List UInt8 := [182, 0, 171, 60, 132, 3, 1, 167, 255, 184, 167, 255, 141, 2, 172]
abbrev dktX24_wrong_5 : List UInt8 := dkwX24_wrong_5 ++ []
def dkwX24_wrong_4 : List UInt8 := [100, 47, 9, 148, 155, 0, 12, 42, 44, 29, 182, 0, 188, 154, 0, 5, 27, 172, 42, 42, 27, 182, 0, 54]
abbrev dktX24_wrong_4 : List UInt8 := dkwX24_wrong_4 ++ dktX24_wrong_5
def dkwX24_wrong_3 : List UInt8 := [180, 0, 40, 162, 0, 11, 42, 27, 182, 0, 184, 167, 0, 6, 20, 0, 62, 80, 42, 180, 0, 33, 29, 4]
abbrev dktX24_wrong_3 : List UInt8 := dkwX24_wrong_3 ++ dktX24_wrong_4
def dkwX24_wrong_2 : List UInt8 := [182, 0, 171, 60, 4, 62, 29, 44, 180, 0, 182, 163, 0, 70, 42, 180, 0, 33, 29, 4, 100, 27, 42]
abbrev dktX24_wrong_2 : List UInt8 := dkwX24_wrong_2 ++ dktX24_wrong_3
def dkwX24_wrong_1 : List UInt8 := [182, 0, 174, 77, 44, 198, 0, 11, 42, 44, 182, 0, 178, 154, 0, 5, 27, 172, 42, 42, 27, 182, 0, 54]
abbrev dktX24_wrong_1 : List UInt8 := dkwX24_wrong_1 ++ dktX24_wrong_2
def dkwX24_wrong_0 : List UInt8 := [42, 180, 0, 16, 182, 0, 168, 42, 3, 182, 0, 171, 60, 27, 42, 180, 0, 40, 162, 0, 113, 42, 27]
abbrev dktX24_wrong_0 : List UInt8 := dkwX24_wrong_0 ++ dktX24_wrong_1
theorem dksX24_wrong_0 : cX24_wrong.data.toList.drop 0 = dktX24_wrong_0 := by decide +kernel
theorem dksX24_wrong_1 : cX24_wrong.data.toList.drop 23 = dktX24_wrong_1 := dk_seg dksX24_wrong_0 23 rfl rfl
theorem dksX24_wrong_2 : cX24_wrong.data.toList.drop 47 = dktX24_wrong_2 := dk_seg dksX24_wrong_1 24 rfl rfl
theorem dksX24_wrong_3 : cX24_wrong.data.toList.drop 70 = dktX24_wrong_3 := dk_seg dksX24_wrong_2 23 rfl rfl
theorem dksX24_wrong_4 : cX24_wrong.data.toList.drop 94 = dktX24_wrong_4 := dk_seg dksX24_wrong_3 24 rfl rfl
theorem dksX24_wrong_5 : cX24_wrong.data.toList.drop 118 = dktX24_wrong_5 := dk_seg dksX24_wrong_4 24 rfl rfl
theorem dX24_wrong_0 : decode cX24_wrong 0 = .ok (.aload_n 0, 1) := dk_42 (dk_at dksX24_wrong_0 0 rfl rfl)
theorem dX24_wrong_1 : decode cX24_wrong 1 = .ok (.getfield 16, 3) := dk_180 0 16 (dk_at dksX24_wrong_0 1 rfl rfl)
theorem dX24_wrong_4 : decode cX24_wrong 4 = .ok (.invokevirtual 168, 3) := dk_182 0 168 (dk_at dksX24_wrong_0 4 rfl rfl)
theorem dX24_wrong_7 : decode cX24_wrong 7 = .ok (.aload_n 0, 1) := dk_42 (dk_at dksX24_wrong_0 7 rfl rfl)
theorem dX24_wrong_8 : decode cX24_wrong 8 = .ok (.iconst 0, 1) := dk_3 (dk_at dksX24_wrong_0 8 rfl rfl)
theorem dX24_wrong_9 : decode cX24_wrong 9 = .ok (.invokevirtual 171, 3) := dk_182 0 171 (dk_at dksX24_wrong_0 9 rfl rfl)
theorem dX24_wrong_12 : decode cX24_wrong 12 = .ok (.istore_n 1, 1) := dk_60 (dk_at dksX24_wrong_0 12 rfl rfl)
theorem dX24_wrong_13 : decode cX24_wrong 13 = .ok (.iload_n 1, 1) := dk_27 (dk_at dksX24_wrong_0 13 rfl rfl)
theorem dX24_wrong_14 : decode cX24_wrong 14 = .ok (.aload_n 0, 1) := dk_42 (dk_at dksX24_wrong_0 14 rfl rfl)
theorem dX24_wrong_15 : decode cX24_wrong 15 = .ok (.getfield 40, 3) := dk_180 0 40 (dk_at dksX24_wrong_0 15 rfl rfl)
theorem dX24_wrong_18 : decode cX24_wrong 18 = .ok (.if_icmp .ge 113, 3) := dk_162 0 113 (dk_at dksX24_wrong_0 18 rfl rfl)
theorem dX24_wrong_21 : decode cX24_wrong 21 = .ok (.aload_n 0, 1) := dk_42 (dk_at dksX24_wrong_0 21 rfl rfl)
theorem dX24_wrong_22 : decode cX24_wrong 22 = .ok (.iload_n 1, 1) := dk_27 (dk_at dksX24_wrong_0 22 rfl rfl)
theorem dX24_wrong_23 : decode cX24_wrong 23 = .ok (.invokevirtual 174, 3) := dk_182 0 174 (dk_at dksX24_wrong_1 0 rfl rfl)
theorem dX24_wrong_26 : decode cX24_wrong 26 = .ok (.astore_n 2, 1) := dk_77 (dk_at dksX24_wrong_1 3 rfl rfl)
theorem dX24_wrong_27 : decode cX24_wrong 27 = .ok (.aload_n 2, 1) := dk_44 (dk_at dksX24_wrong_1 4 rfl rfl)
theorem dX24_wrong_28 : decode cX24_wrong 28 = .ok (.ifnull 11, 3) := dk_198 0 11 (dk_at dksX24_wrong_1 5 rfl rfl)
theorem dX24_wrong_31 : decode cX24_wrong 31 = .ok (.aload_n 0, 1) := dk_42 (dk_at dksX24_wrong_1 8 rfl rfl)
theorem dX24_wrong_32 : decode cX24_wrong 32 = .ok (.aload_n 2, 1) := dk_44 (dk_at dksX24_wrong_1 9 rfl rfl)
theorem dX24_wrong_33 : decode cX24_wrong 33 = .ok (.invokevirtual 178, 3) := dk_182 0 178 (dk_at dksX24_wrong_1 10 rfl rfl)
theorem dX24_wrong_36 : decode cX24_wrong 36 = .ok (.ifCond .ne 5, 3) := dk_154 0 5 (dk_at dksX24_wrong_1 13 rfl rfl)
theorem dX24_wrong_39 : decode cX24_wrong 39 = .ok (.iload_n 1, 1) := dk_27 (dk_at dksX24_wrong_1 16 rfl rfl)
theorem dX24_wrong_40 : decode cX24_wrong 40 = .ok (.ireturn, 1) := dk_172 (dk_at dksX24_wrong_1 17 rfl rfl)
theorem dX24_wrong_41 : decode cX24_wrong 41 = .ok (.aload_n 0, 1) := dk_42 (dk_at dksX24_wrong_1 18 rfl rfl)
theorem dX24_wrong_42 : decode cX24_wrong 42 = .ok (.aload_n 0, 1) := dk_42 (dk_at dksX24_wrong_1 19 rfl rfl)
theorem dX24_wrong_43 : decode cX24_wrong 43 = .ok (.iload_n 1, 1) := dk_27 (dk_at dksX24_wrong_1 20 rfl rfl)
theorem dX24_wrong_44 : decode cX24_wrong 44 = .ok (.invokevirtual 54, 3) := dk_182 0 54 (dk_at dksX24_wrong_1 21 rfl rfl)
theorem dX24_wrong_47 : decode cX24_wrong 47 = .ok (.invokevirtual 171, 3) := dk_182 0 171 (dk_at dksX24_wrong_2 0 rfl rfl)
theorem dX24_wrong_50 : decode cX24_wrong 50 = .ok (.istore_n 1, 1) := dk_60 (dk_at dksX24_wrong_2 3 rfl rfl)
theorem dX24_wrong_51 : decode cX24_wrong 51 = .ok (.iconst 1, 1) := dk_4 (dk_at dksX24_wrong_2 4 rfl rfl)
theorem dX24_wrong_52 : decode cX24_wrong 52 = .ok (.istore_n 3, 1) := dk_62 (dk_at dksX24_wrong_2 5 rfl rfl)
theorem dX24_wrong_53 : decode cX24_wrong 53 = .ok (.iload_n 3, 1) := dk_29 (dk_at dksX24_wrong_2 6 rfl rfl)
theorem dX24_wrong_54 : decode cX24_wrong 54 = .ok (.aload_n 2, 1) := dk_44 (dk_at dksX24_wrong_2 7 rfl rfl)
theorem dX24_wrong_55 : decode cX24_wrong 55 = .ok (.getfield 182, 3) := dk_180 0 182 (dk_at dksX24_wrong_2 8 rfl rfl)
theorem dX24_wrong_58 : decode cX24_wrong 58 = .ok (.if_icmp .gt 70, 3) := dk_163 0 70 (dk_at dksX24_wrong_2 11 rfl rfl)
theorem dX24_wrong_61 : decode cX24_wrong 61 = .ok (.aload_n 0, 1) := dk_42 (dk_at dksX24_wrong_2 14 rfl rfl)
theorem dX24_wrong_62 : decode cX24_wrong 62 = .ok (.getfield 33, 3) := dk_180 0 33 (dk_at dksX24_wrong_2 15 rfl rfl)
theorem dX24_wrong_65 : decode cX24_wrong 65 = .ok (.iload_n 3, 1) := dk_29 (dk_at dksX24_wrong_2 18 rfl rfl)
theorem dX24_wrong_66 : decode cX24_wrong 66 = .ok (.iconst 1, 1) := dk_4 (dk_at dksX24_wrong_2 19 rfl rfl)
theorem dX24_wrong_67 : decode cX24_wrong 67 = .ok (.isub, 1) := dk_100 (dk_at dksX24_wrong_2 20 rfl rfl)
theorem dX24_wrong_68 : decode cX24_wrong 68 = .ok (.iload_n 1, 1) := dk_27 (dk_at dksX24_wrong_2 21 rfl rfl)
theorem dX24_wrong_69 : decode cX24_wrong 69 = .ok (.aload_n 0, 1) := dk_42 (dk_at dksX24_wrong_2 22 rfl rfl)
theorem dX24_wrong_70 : decode cX24_wrong 70 = .ok (.getfield 40, 3) := dk_180 0 40 (dk_at dksX24_wrong_3 0 rfl rfl)
theorem dX24_wrong_73 : decode cX24_wrong 73 = .ok (.if_icmp .ge 11, 3) := dk_162 0 11 (dk_at dksX24_wrong_3 3 rfl rfl)
theorem dX24_wrong_76 : decode cX24_wrong 76 = .ok (.aload_n 0, 1) := dk_42 (dk_at dksX24_wrong_3 6 rfl rfl)
theorem dX24_wrong_77 : decode cX24_wrong 77 = .ok (.iload_n 1, 1) := dk_27 (dk_at dksX24_wrong_3 7 rfl rfl)
theorem dX24_wrong_78 : decode cX24_wrong 78 = .ok (.invokevirtual 184, 3) := dk_182 0 184 (dk_at dksX24_wrong_3 8 rfl rfl)
theorem dX24_wrong_81 : decode cX24_wrong 81 = .ok (.goto 6, 3) := dk_167 0 6 (dk_at dksX24_wrong_3 11 rfl rfl)
theorem dX24_wrong_84 : decode cX24_wrong 84 = .ok (.ldc2_w 62, 3) := dk_20 0 62 (dk_at dksX24_wrong_3 14 rfl rfl)
theorem dX24_wrong_87 : decode cX24_wrong 87 = .ok (.lastore, 1) := dk_80 (dk_at dksX24_wrong_3 17 rfl rfl)
theorem dX24_wrong_88 : decode cX24_wrong 88 = .ok (.aload_n 0, 1) := dk_42 (dk_at dksX24_wrong_3 18 rfl rfl)
theorem dX24_wrong_89 : decode cX24_wrong 89 = .ok (.getfield 33, 3) := dk_180 0 33 (dk_at dksX24_wrong_3 19 rfl rfl)
theorem dX24_wrong_92 : decode cX24_wrong 92 = .ok (.iload_n 3, 1) := dk_29 (dk_at dksX24_wrong_3 22 rfl rfl)
theorem dX24_wrong_93 : decode cX24_wrong 93 = .ok (.iconst 1, 1) := dk_4 (dk_at dksX24_wrong_3 23 rfl rfl)
theorem dX24_wrong_94 : decode cX24_wrong 94 = .ok (.isub, 1) := dk_100 (dk_at dksX24_wrong_4 0 rfl rfl)
theorem dX24_wrong_95 : decode cX24_wrong 95 = .ok (.laload, 1) := dk_47 (dk_at dksX24_wrong_4 1 rfl rfl)
theorem dX24_wrong_96 : decode cX24_wrong 96 = .ok (.lconst 0, 1) := dk_9 (dk_at dksX24_wrong_4 2 rfl rfl)
theorem dX24_wrong_97 : decode cX24_wrong 97 = .ok (.lcmp, 1) := dk_148 (dk_at dksX24_wrong_4 3 rfl rfl)
theorem dX24_wrong_98 : decode cX24_wrong 98 = .ok (.ifCond .lt 12, 3) := dk_155 0 12 (dk_at dksX24_wrong_4 4 rfl rfl)
theorem dX24_wrong_101 : decode cX24_wrong 101 = .ok (.aload_n 0, 1) := dk_42 (dk_at dksX24_wrong_4 7 rfl rfl)
theorem dX24_wrong_102 : decode cX24_wrong 102 = .ok (.aload_n 2, 1) := dk_44 (dk_at dksX24_wrong_4 8 rfl rfl)
theorem dX24_wrong_103 : decode cX24_wrong 103 = .ok (.iload_n 3, 1) := dk_29 (dk_at dksX24_wrong_4 9 rfl rfl)
theorem dX24_wrong_104 : decode cX24_wrong 104 = .ok (.invokevirtual 188, 3) := dk_182 0 188 (dk_at dksX24_wrong_4 10 rfl rfl)
theorem dX24_wrong_107 : decode cX24_wrong 107 = .ok (.ifCond .ne 5, 3) := dk_154 0 5 (dk_at dksX24_wrong_4 13 rfl rfl)
theorem dX24_wrong_110 : decode cX24_wrong 110 = .ok (.iload_n 1, 1) := dk_27 (dk_at dksX24_wrong_4 16 rfl rfl)
theorem dX24_wrong_111 : decode cX24_wrong 111 = .ok (.ireturn, 1) := dk_172 (dk_at dksX24_wrong_4 17 rfl rfl)
theorem dX24_wrong_112 : decode cX24_wrong 112 = .ok (.aload_n 0, 1) := dk_42 (dk_at dksX24_wrong_4 18 rfl rfl)
theorem dX24_wrong_113 : decode cX24_wrong 113 = .ok (.aload_n 0, 1) := dk_42 (dk_at dksX24_wrong_4 19 rfl rfl)
theorem dX24_wrong_114 : decode cX24_wrong 114 = .ok (.iload_n 1, 1) := dk_27 (dk_at dksX24_wrong_4 20 rfl rfl)
theorem dX24_wrong_115 : decode cX24_wrong 115 = .ok (.invokevirtual 54, 3) := dk_182 0 54 (dk_at dksX24_wrong_4 21 rfl rfl)
theorem dX24_wrong_118 : decode cX24_wrong 118 = .ok (.invokevirtual 171, 3) := dk_182 0 171 (dk_at dksX24_wrong_5 0 rfl rfl)
theorem dX24_wrong_121 : decode cX24_wrong 121 = .ok (.istore_n 1, 1) := dk_60 (dk_at dksX24_wrong_5 3 rfl rfl)
theorem dX24_wrong_122 : decode cX24_wrong 122 = .ok (.iinc 3 1, 3) := dk_132 3 1 (dk_at dksX24_wrong_5 4 rfl rfl)
theorem dX24_wrong_125 : decode cX24_wrong 125 = .ok (.goto (-72), 3) := dk_167 255 184 (dk_at dksX24_wrong_5 7 rfl rfl)
theorem dX24_wrong_128 : decode cX24_wrong 128 = .ok (.goto (-115), 3) := dk_167 255 141 (dk_at dksX24_wrong_5 10 rfl rfl)
theorem dX24_wrong_131 : decode cX24_wrong 131 = .ok (.iconst (-1), 1) := dk_2 (dk_at dksX24_wrong_5 13 rfl rfl)
theorem dX24_wrong_132 : decode cX24_wrong 132 = .ok (.ireturn, 1) := dk_172 (dk_at dksX24_wrong_5 14 rfl rfl)
abbrev cX24_skip : ByteArray := prog_27_method_4_code
def yX24_skip : MethodName := ⟨RX24, "skip", "(I)I"⟩
def dkwX24_skip_1 : List UInt8 := [132, 2, 1, 167, 255, 233, 28, 172]
abbrev dktX24_skip_1 : List UInt8 := dkwX24_skip_1 ++ []
def dkwX24_skip_0 : List UInt8 := [27, 61, 28, 42, 180, 0, 40, 162, 0, 21, 42, 180, 0, 19, 28, 51, 184, 0, 44, 153, 0, 9]
abbrev dktX24_skip_0 : List UInt8 := dkwX24_skip_0 ++ dktX24_skip_1
theorem dksX24_skip_0 : cX24_skip.data.toList.drop 0 = dktX24_skip_0 := by decide +kernel
theorem dksX24_skip_1 : cX24_skip.data.toList.drop 22 = dktX24_skip_1 := dk_seg dksX24_skip_0 22 rfl rfl
theorem dX24_skip_0 : decode cX24_skip 0 = .ok (.iload_n 1, 1) := dk_27 (dk_at dksX24_skip_0 0 rfl rfl)
theorem dX24_skip_1 : decode cX24_skip 1 = .ok (.istore_n 2, 1) := dk_61 (dk_at dksX24_skip_0 1 rfl rfl)
theorem dX24_skip_2 : decode cX24_skip 2 = .ok (.iload_n 2, 1) := dk_28 (dk_at dksX24_skip_0 2 rfl rfl)
theorem dX24_skip_3 : decode cX24_skip 3 = .ok (.aload_n 0, 1) := dk_42 (dk_at dksX24_skip_0 3 rfl rfl)
theorem dX24_skip_4 : decode cX24_skip 4 = .ok (.getfield 40, 3) := dk_180 0 40 (dk_at dksX24_skip_0 4 rfl rfl)
theorem dX24_skip_7 : decode cX24_skip 7 = .ok (.if_icmp .ge 21, 3) := dk_162 0 21 (dk_at dksX24_skip_0 7 rfl rfl)
theorem dX24_skip_10 : decode cX24_skip 10 = .ok (.aload_n 0, 1) := dk_42 (dk_at dksX24_skip_0 10 rfl rfl)
theorem dX24_skip_11 : decode cX24_skip 11 = .ok (.getfield 19, 3) := dk_180 0 19 (dk_at dksX24_skip_0 11 rfl rfl)
theorem dX24_skip_14 : decode cX24_skip 14 = .ok (.iload_n 2, 1) := dk_28 (dk_at dksX24_skip_0 14 rfl rfl)
theorem dX24_skip_15 : decode cX24_skip 15 = .ok (.baload, 1) := dk_51 (dk_at dksX24_skip_0 15 rfl rfl)
theorem dX24_skip_16 : decode cX24_skip 16 = .ok (.invokestatic 44, 3) := dk_184 0 44 (dk_at dksX24_skip_0 16 rfl rfl)
theorem dX24_skip_19 : decode cX24_skip 19 = .ok (.ifCond .eq 9, 3) := dk_153 0 9 (dk_at dksX24_skip_0 19 rfl rfl)
theorem dX24_skip_22 : decode cX24_skip 22 = .ok (.iinc 2 1, 3) := dk_132 2 1 (dk_at dksX24_skip_1 0 rfl rfl)
theorem dX24_skip_25 : decode cX24_skip 25 = .ok (.goto (-23), 3) := dk_167 255 233 (dk_at dksX24_skip_1 3 rfl rfl)
theorem dX24_skip_28 : decode cX24_skip 28 = .ok (.iload_n 2, 1) := dk_28 (dk_at dksX24_skip_1 6 rfl rfl)
theorem dX24_skip_29 : decode cX24_skip 29 = .ok (.ireturn, 1) := dk_172 (dk_at dksX24_skip_1 7 rfl rfl)
abbrev cX24_isBlank : ByteArray := prog_27_method_3_code
def yX24_isBlank : MethodName := ⟨RX24, "isBlank", "(I)Z"⟩
def dkwX24_isBlank_0 : List UInt8 := [26, 16, 32, 159, 0, 9, 26, 16, 10, 160, 0, 7, 4, 167, 0, 4, 3, 172]
abbrev dktX24_isBlank_0 : List UInt8 := dkwX24_isBlank_0 ++ []
theorem dksX24_isBlank_0 : cX24_isBlank.data.toList.drop 0 = dktX24_isBlank_0 := by decide +kernel
theorem dX24_isBlank_0 : decode cX24_isBlank 0 = .ok (.iload_n 0, 1) := dk_26 (dk_at dksX24_isBlank_0 0 rfl rfl)
theorem dX24_isBlank_1 : decode cX24_isBlank 1 = .ok (.bipush 32, 2) := dk_16 32 (dk_at dksX24_isBlank_0 1 rfl rfl)
theorem dX24_isBlank_3 : decode cX24_isBlank 3 = .ok (.if_icmp .eq 9, 3) := dk_159 0 9 (dk_at dksX24_isBlank_0 3 rfl rfl)
theorem dX24_isBlank_6 : decode cX24_isBlank 6 = .ok (.iload_n 0, 1) := dk_26 (dk_at dksX24_isBlank_0 6 rfl rfl)
theorem dX24_isBlank_7 : decode cX24_isBlank 7 = .ok (.bipush 10, 2) := dk_16 10 (dk_at dksX24_isBlank_0 7 rfl rfl)
theorem dX24_isBlank_9 : decode cX24_isBlank 9 = .ok (.if_icmp .ne 7, 3) := dk_160 0 7 (dk_at dksX24_isBlank_0 9 rfl rfl)
theorem dX24_isBlank_12 : decode cX24_isBlank 12 = .ok (.iconst 1, 1) := dk_4 (dk_at dksX24_isBlank_0 12 rfl rfl)
theorem dX24_isBlank_13 : decode cX24_isBlank 13 = .ok (.goto 4, 3) := dk_167 0 4 (dk_at dksX24_isBlank_0 13 rfl rfl)
theorem dX24_isBlank_16 : decode cX24_isBlank 16 = .ok (.iconst 0, 1) := dk_3 (dk_at dksX24_isBlank_0 16 rfl rfl)
theorem dX24_isBlank_17 : decode cX24_isBlank 17 = .ok (.ireturn, 1) := dk_172 (dk_at dksX24_isBlank_0 17 rfl rfl)
abbrev cX24_sentenceAt : ByteArray := prog_27_method_12_code
def yX24_sentenceAt : MethodName := ⟨RX24, "sentenceAt", "(I)LWasteHouse$PartGraphs$Sentence;"⟩
def dkwX24_sentenceAt_2 : List UInt8 := [176]
abbrev dktX24_sentenceAt_2 : List UInt8 := dkwX24_sentenceAt_2 ++ []
def dkwX24_sentenceAt_1 : List UInt8 := [182, 0, 142, 153, 0, 12, 42, 180, 0, 29, 29, 50, 167, 0, 4, 44, 77, 132, 3, 1, 167, 255, 216, 44]
abbrev dktX24_sentenceAt_1 : List UInt8 := dkwX24_sentenceAt_1 ++ dktX24_sentenceAt_2
def dkwX24_sentenceAt_0 : List UInt8 := [1, 77, 3, 62, 29, 42, 180, 0, 29, 190, 162, 0, 37, 42, 27, 42, 180, 0, 29, 29, 50, 180, 0, 138]
abbrev dktX24_sentenceAt_0 : List UInt8 := dkwX24_sentenceAt_0 ++ dktX24_sentenceAt_1
theorem dksX24_sentenceAt_0 : cX24_sentenceAt.data.toList.drop 0 = dktX24_sentenceAt_0 := by decide +kernel
theorem dksX24_sentenceAt_1 : cX24_sentenceAt.data.toList.drop 24 = dktX24_sentenceAt_1 := dk_seg dksX24_sentenceAt_0 24 rfl rfl
theorem dksX24_sentenceAt_2 : cX24_sentenceAt.data.toList.drop 48 = dktX24_sentenceAt_2 := dk_seg dksX24_sentenceAt_1 24 rfl rfl
theorem dX24_sentenceAt_0 : decode cX24_sentenceAt 0 = .ok (.aconst_null, 1) := dk_1 (dk_at dksX24_sentenceAt_0 0 rfl rfl)
theorem dX24_sentenceAt_1 : decode cX24_sentenceAt 1 = .ok (.astore_n 2, 1) := dk_77 (dk_at dksX24_sentenceAt_0 1 rfl rfl)
theorem dX24_sentenceAt_2 : decode cX24_sentenceAt 2 = .ok (.iconst 0, 1) := dk_3 (dk_at dksX24_sentenceAt_0 2 rfl rfl)
theorem dX24_sentenceAt_3 : decode cX24_sentenceAt 3 = .ok (.istore_n 3, 1) := dk_62 (dk_at dksX24_sentenceAt_0 3 rfl rfl)
theorem dX24_sentenceAt_4 : decode cX24_sentenceAt 4 = .ok (.iload_n 3, 1) := dk_29 (dk_at dksX24_sentenceAt_0 4 rfl rfl)
theorem dX24_sentenceAt_5 : decode cX24_sentenceAt 5 = .ok (.aload_n 0, 1) := dk_42 (dk_at dksX24_sentenceAt_0 5 rfl rfl)
theorem dX24_sentenceAt_6 : decode cX24_sentenceAt 6 = .ok (.getfield 29, 3) := dk_180 0 29 (dk_at dksX24_sentenceAt_0 6 rfl rfl)
theorem dX24_sentenceAt_9 : decode cX24_sentenceAt 9 = .ok (.arraylength, 1) := dk_190 (dk_at dksX24_sentenceAt_0 9 rfl rfl)
theorem dX24_sentenceAt_10 : decode cX24_sentenceAt 10 = .ok (.if_icmp .ge 37, 3) := dk_162 0 37 (dk_at dksX24_sentenceAt_0 10 rfl rfl)
theorem dX24_sentenceAt_13 : decode cX24_sentenceAt 13 = .ok (.aload_n 0, 1) := dk_42 (dk_at dksX24_sentenceAt_0 13 rfl rfl)
theorem dX24_sentenceAt_14 : decode cX24_sentenceAt 14 = .ok (.iload_n 1, 1) := dk_27 (dk_at dksX24_sentenceAt_0 14 rfl rfl)
theorem dX24_sentenceAt_15 : decode cX24_sentenceAt 15 = .ok (.aload_n 0, 1) := dk_42 (dk_at dksX24_sentenceAt_0 15 rfl rfl)
theorem dX24_sentenceAt_16 : decode cX24_sentenceAt 16 = .ok (.getfield 29, 3) := dk_180 0 29 (dk_at dksX24_sentenceAt_0 16 rfl rfl)
theorem dX24_sentenceAt_19 : decode cX24_sentenceAt 19 = .ok (.iload_n 3, 1) := dk_29 (dk_at dksX24_sentenceAt_0 19 rfl rfl)
theorem dX24_sentenceAt_20 : decode cX24_sentenceAt 20 = .ok (.aaload, 1) := dk_50 (dk_at dksX24_sentenceAt_0 20 rfl rfl)
theorem dX24_sentenceAt_21 : decode cX24_sentenceAt 21 = .ok (.getfield 138, 3) := dk_180 0 138 (dk_at dksX24_sentenceAt_0 21 rfl rfl)
theorem dX24_sentenceAt_24 : decode cX24_sentenceAt 24 = .ok (.invokevirtual 142, 3) := dk_182 0 142 (dk_at dksX24_sentenceAt_1 0 rfl rfl)
theorem dX24_sentenceAt_27 : decode cX24_sentenceAt 27 = .ok (.ifCond .eq 12, 3) := dk_153 0 12 (dk_at dksX24_sentenceAt_1 3 rfl rfl)
theorem dX24_sentenceAt_30 : decode cX24_sentenceAt 30 = .ok (.aload_n 0, 1) := dk_42 (dk_at dksX24_sentenceAt_1 6 rfl rfl)
theorem dX24_sentenceAt_31 : decode cX24_sentenceAt 31 = .ok (.getfield 29, 3) := dk_180 0 29 (dk_at dksX24_sentenceAt_1 7 rfl rfl)
theorem dX24_sentenceAt_34 : decode cX24_sentenceAt 34 = .ok (.iload_n 3, 1) := dk_29 (dk_at dksX24_sentenceAt_1 10 rfl rfl)
theorem dX24_sentenceAt_35 : decode cX24_sentenceAt 35 = .ok (.aaload, 1) := dk_50 (dk_at dksX24_sentenceAt_1 11 rfl rfl)
theorem dX24_sentenceAt_36 : decode cX24_sentenceAt 36 = .ok (.goto 4, 3) := dk_167 0 4 (dk_at dksX24_sentenceAt_1 12 rfl rfl)
theorem dX24_sentenceAt_39 : decode cX24_sentenceAt 39 = .ok (.aload_n 2, 1) := dk_44 (dk_at dksX24_sentenceAt_1 15 rfl rfl)
theorem dX24_sentenceAt_40 : decode cX24_sentenceAt 40 = .ok (.astore_n 2, 1) := dk_77 (dk_at dksX24_sentenceAt_1 16 rfl rfl)
theorem dX24_sentenceAt_41 : decode cX24_sentenceAt 41 = .ok (.iinc 3 1, 3) := dk_132 3 1 (dk_at dksX24_sentenceAt_1 17 rfl rfl)
theorem dX24_sentenceAt_44 : decode cX24_sentenceAt 44 = .ok (.goto (-40), 3) := dk_167 255 216 (dk_at dksX24_sentenceAt_1 20 rfl rfl)
theorem dX24_sentenceAt_47 : decode cX24_sentenceAt 47 = .ok (.aload_n 2, 1) := dk_44 (dk_at dksX24_sentenceAt_1 23 rfl rfl)
theorem dX24_sentenceAt_48 : decode cX24_sentenceAt 48 = .ok (.areturn, 1) := dk_176 (dk_at dksX24_sentenceAt_2 0 rfl rfl)
abbrev cX24_isWord : ByteArray := prog_27_method_6_code
def yX24_isWord : MethodName := ⟨RX24, "isWord", "(ILjava/lang/String;)Z"⟩
def dkwX24_isWord_2 : List UInt8 := [160, 0, 9, 132, 4, 1, 167, 255, 229, 21, 4, 29, 160, 0, 7, 4, 167, 0, 4, 3, 172]
abbrev dktX24_isWord_2 : List UInt8 := dkwX24_isWord_2 ++ []
def dkwX24_isWord_1 : List UInt8 := [54, 4, 21, 4, 29, 162, 0, 27, 42, 180, 0, 19, 27, 21, 4, 96, 51, 44, 21, 4, 182, 0, 58]
abbrev dktX24_isWord_1 : List UInt8 := dkwX24_isWord_1 ++ dktX24_isWord_2
def dkwX24_isWord_0 : List UInt8 := [44, 182, 0, 48, 62, 42, 27, 182, 0, 54, 27, 100, 29, 160, 0, 7, 3, 167, 0, 6, 29, 4, 96]
abbrev dktX24_isWord_0 : List UInt8 := dkwX24_isWord_0 ++ dktX24_isWord_1
theorem dksX24_isWord_0 : cX24_isWord.data.toList.drop 0 = dktX24_isWord_0 := by decide +kernel
theorem dksX24_isWord_1 : cX24_isWord.data.toList.drop 23 = dktX24_isWord_1 := dk_seg dksX24_isWord_0 23 rfl rfl
theorem dksX24_isWord_2 : cX24_isWord.data.toList.drop 46 = dktX24_isWord_2 := dk_seg dksX24_isWord_1 23 rfl rfl
theorem dX24_isWord_0 : decode cX24_isWord 0 = .ok (.aload_n 2, 1) := dk_44 (dk_at dksX24_isWord_0 0 rfl rfl)
theorem dX24_isWord_1 : decode cX24_isWord 1 = .ok (.invokevirtual 48, 3) := dk_182 0 48 (dk_at dksX24_isWord_0 1 rfl rfl)
theorem dX24_isWord_4 : decode cX24_isWord 4 = .ok (.istore_n 3, 1) := dk_62 (dk_at dksX24_isWord_0 4 rfl rfl)
theorem dX24_isWord_5 : decode cX24_isWord 5 = .ok (.aload_n 0, 1) := dk_42 (dk_at dksX24_isWord_0 5 rfl rfl)
theorem dX24_isWord_6 : decode cX24_isWord 6 = .ok (.iload_n 1, 1) := dk_27 (dk_at dksX24_isWord_0 6 rfl rfl)
theorem dX24_isWord_7 : decode cX24_isWord 7 = .ok (.invokevirtual 54, 3) := dk_182 0 54 (dk_at dksX24_isWord_0 7 rfl rfl)
theorem dX24_isWord_10 : decode cX24_isWord 10 = .ok (.iload_n 1, 1) := dk_27 (dk_at dksX24_isWord_0 10 rfl rfl)
theorem dX24_isWord_11 : decode cX24_isWord 11 = .ok (.isub, 1) := dk_100 (dk_at dksX24_isWord_0 11 rfl rfl)
theorem dX24_isWord_12 : decode cX24_isWord 12 = .ok (.iload_n 3, 1) := dk_29 (dk_at dksX24_isWord_0 12 rfl rfl)
theorem dX24_isWord_13 : decode cX24_isWord 13 = .ok (.if_icmp .ne 7, 3) := dk_160 0 7 (dk_at dksX24_isWord_0 13 rfl rfl)
theorem dX24_isWord_16 : decode cX24_isWord 16 = .ok (.iconst 0, 1) := dk_3 (dk_at dksX24_isWord_0 16 rfl rfl)
theorem dX24_isWord_17 : decode cX24_isWord 17 = .ok (.goto 6, 3) := dk_167 0 6 (dk_at dksX24_isWord_0 17 rfl rfl)
theorem dX24_isWord_20 : decode cX24_isWord 20 = .ok (.iload_n 3, 1) := dk_29 (dk_at dksX24_isWord_0 20 rfl rfl)
theorem dX24_isWord_21 : decode cX24_isWord 21 = .ok (.iconst 1, 1) := dk_4 (dk_at dksX24_isWord_0 21 rfl rfl)
theorem dX24_isWord_22 : decode cX24_isWord 22 = .ok (.iadd, 1) := dk_96 (dk_at dksX24_isWord_0 22 rfl rfl)
theorem dX24_isWord_23 : decode cX24_isWord 23 = .ok (.istore 4, 2) := dk_54 4 (dk_at dksX24_isWord_1 0 rfl rfl)
theorem dX24_isWord_25 : decode cX24_isWord 25 = .ok (.iload 4, 2) := dk_21 4 (dk_at dksX24_isWord_1 2 rfl rfl)
theorem dX24_isWord_27 : decode cX24_isWord 27 = .ok (.iload_n 3, 1) := dk_29 (dk_at dksX24_isWord_1 4 rfl rfl)
theorem dX24_isWord_28 : decode cX24_isWord 28 = .ok (.if_icmp .ge 27, 3) := dk_162 0 27 (dk_at dksX24_isWord_1 5 rfl rfl)
theorem dX24_isWord_31 : decode cX24_isWord 31 = .ok (.aload_n 0, 1) := dk_42 (dk_at dksX24_isWord_1 8 rfl rfl)
theorem dX24_isWord_32 : decode cX24_isWord 32 = .ok (.getfield 19, 3) := dk_180 0 19 (dk_at dksX24_isWord_1 9 rfl rfl)
theorem dX24_isWord_35 : decode cX24_isWord 35 = .ok (.iload_n 1, 1) := dk_27 (dk_at dksX24_isWord_1 12 rfl rfl)
theorem dX24_isWord_36 : decode cX24_isWord 36 = .ok (.iload 4, 2) := dk_21 4 (dk_at dksX24_isWord_1 13 rfl rfl)
theorem dX24_isWord_38 : decode cX24_isWord 38 = .ok (.iadd, 1) := dk_96 (dk_at dksX24_isWord_1 15 rfl rfl)
theorem dX24_isWord_39 : decode cX24_isWord 39 = .ok (.baload, 1) := dk_51 (dk_at dksX24_isWord_1 16 rfl rfl)
theorem dX24_isWord_40 : decode cX24_isWord 40 = .ok (.aload_n 2, 1) := dk_44 (dk_at dksX24_isWord_1 17 rfl rfl)
theorem dX24_isWord_41 : decode cX24_isWord 41 = .ok (.iload 4, 2) := dk_21 4 (dk_at dksX24_isWord_1 18 rfl rfl)
theorem dX24_isWord_43 : decode cX24_isWord 43 = .ok (.invokevirtual 58, 3) := dk_182 0 58 (dk_at dksX24_isWord_1 20 rfl rfl)
theorem dX24_isWord_46 : decode cX24_isWord 46 = .ok (.if_icmp .ne 9, 3) := dk_160 0 9 (dk_at dksX24_isWord_2 0 rfl rfl)
theorem dX24_isWord_49 : decode cX24_isWord 49 = .ok (.iinc 4 1, 3) := dk_132 4 1 (dk_at dksX24_isWord_2 3 rfl rfl)
theorem dX24_isWord_52 : decode cX24_isWord 52 = .ok (.goto (-27), 3) := dk_167 255 229 (dk_at dksX24_isWord_2 6 rfl rfl)
theorem dX24_isWord_55 : decode cX24_isWord 55 = .ok (.iload 4, 2) := dk_21 4 (dk_at dksX24_isWord_2 9 rfl rfl)
theorem dX24_isWord_57 : decode cX24_isWord 57 = .ok (.iload_n 3, 1) := dk_29 (dk_at dksX24_isWord_2 11 rfl rfl)
theorem dX24_isWord_58 : decode cX24_isWord 58 = .ok (.if_icmp .ne 7, 3) := dk_160 0 7 (dk_at dksX24_isWord_2 12 rfl rfl)
theorem dX24_isWord_61 : decode cX24_isWord 61 = .ok (.iconst 1, 1) := dk_4 (dk_at dksX24_isWord_2 15 rfl rfl)
theorem dX24_isWord_62 : decode cX24_isWord 62 = .ok (.goto 4, 3) := dk_167 0 4 (dk_at dksX24_isWord_2 16 rfl rfl)
theorem dX24_isWord_65 : decode cX24_isWord 65 = .ok (.iconst 0, 1) := dk_3 (dk_at dksX24_isWord_2 19 rfl rfl)
theorem dX24_isWord_66 : decode cX24_isWord 66 = .ok (.ireturn, 1) := dk_172 (dk_at dksX24_isWord_2 20 rfl rfl)
abbrev cX24_wordEnd : ByteArray := prog_27_method_5_code
def yX24_wordEnd : MethodName := ⟨RX24, "wordEnd", "(I)I"⟩
def dkwX24_wordEnd_1 : List UInt8 := [132, 2, 1, 167, 255, 233, 28, 172]
abbrev dktX24_wordEnd_1 : List UInt8 := dkwX24_wordEnd_1 ++ []
def dkwX24_wordEnd_0 : List UInt8 := [27, 61, 28, 42, 180, 0, 40, 162, 0, 21, 42, 180, 0, 19, 28, 51, 184, 0, 44, 154, 0, 9]
abbrev dktX24_wordEnd_0 : List UInt8 := dkwX24_wordEnd_0 ++ dktX24_wordEnd_1
theorem dksX24_wordEnd_0 : cX24_wordEnd.data.toList.drop 0 = dktX24_wordEnd_0 := by decide +kernel
theorem dksX24_wordEnd_1 : cX24_wordEnd.data.toList.drop 22 = dktX24_wordEnd_1 := dk_seg dksX24_wordEnd_0 22 rfl rfl
theorem dX24_wordEnd_0 : decode cX24_wordEnd 0 = .ok (.iload_n 1, 1) := dk_27 (dk_at dksX24_wordEnd_0 0 rfl rfl)
theorem dX24_wordEnd_1 : decode cX24_wordEnd 1 = .ok (.istore_n 2, 1) := dk_61 (dk_at dksX24_wordEnd_0 1 rfl rfl)
theorem dX24_wordEnd_2 : decode cX24_wordEnd 2 = .ok (.iload_n 2, 1) := dk_28 (dk_at dksX24_wordEnd_0 2 rfl rfl)
theorem dX24_wordEnd_3 : decode cX24_wordEnd 3 = .ok (.aload_n 0, 1) := dk_42 (dk_at dksX24_wordEnd_0 3 rfl rfl)
theorem dX24_wordEnd_4 : decode cX24_wordEnd 4 = .ok (.getfield 40, 3) := dk_180 0 40 (dk_at dksX24_wordEnd_0 4 rfl rfl)
theorem dX24_wordEnd_7 : decode cX24_wordEnd 7 = .ok (.if_icmp .ge 21, 3) := dk_162 0 21 (dk_at dksX24_wordEnd_0 7 rfl rfl)
theorem dX24_wordEnd_10 : decode cX24_wordEnd 10 = .ok (.aload_n 0, 1) := dk_42 (dk_at dksX24_wordEnd_0 10 rfl rfl)
theorem dX24_wordEnd_11 : decode cX24_wordEnd 11 = .ok (.getfield 19, 3) := dk_180 0 19 (dk_at dksX24_wordEnd_0 11 rfl rfl)
theorem dX24_wordEnd_14 : decode cX24_wordEnd 14 = .ok (.iload_n 2, 1) := dk_28 (dk_at dksX24_wordEnd_0 14 rfl rfl)
theorem dX24_wordEnd_15 : decode cX24_wordEnd 15 = .ok (.baload, 1) := dk_51 (dk_at dksX24_wordEnd_0 15 rfl rfl)
theorem dX24_wordEnd_16 : decode cX24_wordEnd 16 = .ok (.invokestatic 44, 3) := dk_184 0 44 (dk_at dksX24_wordEnd_0 16 rfl rfl)
theorem dX24_wordEnd_19 : decode cX24_wordEnd 19 = .ok (.ifCond .ne 9, 3) := dk_154 0 9 (dk_at dksX24_wordEnd_0 19 rfl rfl)
theorem dX24_wordEnd_22 : decode cX24_wordEnd 22 = .ok (.iinc 2 1, 3) := dk_132 2 1 (dk_at dksX24_wordEnd_1 0 rfl rfl)
theorem dX24_wordEnd_25 : decode cX24_wordEnd 25 = .ok (.goto (-23), 3) := dk_167 255 233 (dk_at dksX24_wordEnd_1 3 rfl rfl)
theorem dX24_wordEnd_28 : decode cX24_wordEnd 28 = .ok (.iload_n 2, 1) := dk_28 (dk_at dksX24_wordEnd_1 6 rfl rfl)
theorem dX24_wordEnd_29 : decode cX24_wordEnd 29 = .ok (.ireturn, 1) := dk_172 (dk_at dksX24_wordEnd_1 7 rfl rfl)
abbrev cX24_mayBegin : ByteArray := prog_27_method_13_code
def yX24_mayBegin : MethodName := ⟨RX24, "mayBegin", "(LWasteHouse$PartGraphs$Sentence;)Z"⟩
def dkwX24_mayBegin_7 : List UInt8 := [17, 0, 255, 159, 0, 7, 4, 167, 0, 4, 3, 61, 132, 3, 1, 167, 255, 177, 28, 172]
abbrev dktX24_mayBegin_7 : List UInt8 := dkwX24_mayBegin_7 ++ []
def dkwX24_mayBegin_6 : List UInt8 := [154, 0, 28, 43, 178, 0, 165, 166, 0, 25, 42, 180, 0, 16, 180, 0, 113, 29, 50, 180, 0, 117]
abbrev dktX24_mayBegin_6 : List UInt8 := dkwX24_mayBegin_6 ++ dktX24_mayBegin_7
def dkwX24_mayBegin_5 : List UInt8 := [166, 0, 11, 42, 29, 182, 0, 80, 154, 0, 43, 43, 178, 0, 162, 166, 0, 11, 42, 29, 182, 0, 87]
abbrev dktX24_mayBegin_5 : List UInt8 := dkwX24_mayBegin_5 ++ dktX24_mayBegin_6
def dkwX24_mayBegin_4 : List UInt8 := [61, 3, 62, 29, 42, 180, 0, 16, 180, 0, 69, 162, 0, 74, 28, 154, 0, 70, 43, 178, 0, 159]
abbrev dktX24_mayBegin_4 : List UInt8 := dkwX24_mayBegin_4 ++ dktX24_mayBegin_5
def dkwX24_mayBegin_3 : List UInt8 := [180, 0, 103, 16, 20, 162, 0, 18, 42, 180, 0, 16, 180, 0, 69, 4, 164, 0, 7, 4, 167, 0, 4, 3]
abbrev dktX24_mayBegin_3 : List UInt8 := dkwX24_mayBegin_3 ++ dktX24_mayBegin_4
def dkwX24_mayBegin_2 : List UInt8 := [158, 0, 7, 4, 167, 0, 42, 3, 167, 0, 38, 43, 178, 0, 156, 166, 0, 30, 42, 180, 0, 16]
abbrev dktX24_mayBegin_2 : List UInt8 := dkwX24_mayBegin_2 ++ dktX24_mayBegin_3
def dkwX24_mayBegin_1 : List UInt8 := [172, 43, 178, 0, 150, 165, 0, 10, 43, 178, 0, 153, 166, 0, 21, 42, 180, 0, 16, 180, 0, 69]
abbrev dktX24_mayBegin_1 : List UInt8 := dkwX24_mayBegin_1 ++ dktX24_mayBegin_2
def dkwX24_mayBegin_0 : List UInt8 := [43, 178, 0, 146, 166, 0, 21, 42, 180, 0, 16, 180, 0, 69, 16, 10, 162, 0, 7, 4, 167, 0, 4, 3]
abbrev dktX24_mayBegin_0 : List UInt8 := dkwX24_mayBegin_0 ++ dktX24_mayBegin_1
theorem dksX24_mayBegin_0 : cX24_mayBegin.data.toList.drop 0 = dktX24_mayBegin_0 := by decide +kernel
theorem dksX24_mayBegin_1 : cX24_mayBegin.data.toList.drop 24 = dktX24_mayBegin_1 := dk_seg dksX24_mayBegin_0 24 rfl rfl
theorem dksX24_mayBegin_2 : cX24_mayBegin.data.toList.drop 46 = dktX24_mayBegin_2 := dk_seg dksX24_mayBegin_1 22 rfl rfl
theorem dksX24_mayBegin_3 : cX24_mayBegin.data.toList.drop 68 = dktX24_mayBegin_3 := dk_seg dksX24_mayBegin_2 22 rfl rfl
theorem dksX24_mayBegin_4 : cX24_mayBegin.data.toList.drop 92 = dktX24_mayBegin_4 := dk_seg dksX24_mayBegin_3 24 rfl rfl
theorem dksX24_mayBegin_5 : cX24_mayBegin.data.toList.drop 114 = dktX24_mayBegin_5 := dk_seg dksX24_mayBegin_4 22 rfl rfl
theorem dksX24_mayBegin_6 : cX24_mayBegin.data.toList.drop 137 = dktX24_mayBegin_6 := dk_seg dksX24_mayBegin_5 23 rfl rfl
theorem dksX24_mayBegin_7 : cX24_mayBegin.data.toList.drop 159 = dktX24_mayBegin_7 := dk_seg dksX24_mayBegin_6 22 rfl rfl
theorem dX24_mayBegin_0 : decode cX24_mayBegin 0 = .ok (.aload_n 1, 1) := dk_43 (dk_at dksX24_mayBegin_0 0 rfl rfl)
theorem dX24_mayBegin_1 : decode cX24_mayBegin 1 = .ok (.getstatic 146, 3) := dk_178 0 146 (dk_at dksX24_mayBegin_0 1 rfl rfl)
theorem dX24_mayBegin_4 : decode cX24_mayBegin 4 = .ok (.if_acmp .ne 21, 3) := dk_166 0 21 (dk_at dksX24_mayBegin_0 4 rfl rfl)
theorem dX24_mayBegin_7 : decode cX24_mayBegin 7 = .ok (.aload_n 0, 1) := dk_42 (dk_at dksX24_mayBegin_0 7 rfl rfl)
theorem dX24_mayBegin_8 : decode cX24_mayBegin 8 = .ok (.getfield 16, 3) := dk_180 0 16 (dk_at dksX24_mayBegin_0 8 rfl rfl)
theorem dX24_mayBegin_11 : decode cX24_mayBegin 11 = .ok (.getfield 69, 3) := dk_180 0 69 (dk_at dksX24_mayBegin_0 11 rfl rfl)
theorem dX24_mayBegin_14 : decode cX24_mayBegin 14 = .ok (.bipush 10, 2) := dk_16 10 (dk_at dksX24_mayBegin_0 14 rfl rfl)
theorem dX24_mayBegin_16 : decode cX24_mayBegin 16 = .ok (.if_icmp .ge 7, 3) := dk_162 0 7 (dk_at dksX24_mayBegin_0 16 rfl rfl)
theorem dX24_mayBegin_19 : decode cX24_mayBegin 19 = .ok (.iconst 1, 1) := dk_4 (dk_at dksX24_mayBegin_0 19 rfl rfl)
theorem dX24_mayBegin_20 : decode cX24_mayBegin 20 = .ok (.goto 4, 3) := dk_167 0 4 (dk_at dksX24_mayBegin_0 20 rfl rfl)
theorem dX24_mayBegin_23 : decode cX24_mayBegin 23 = .ok (.iconst 0, 1) := dk_3 (dk_at dksX24_mayBegin_0 23 rfl rfl)
theorem dX24_mayBegin_24 : decode cX24_mayBegin 24 = .ok (.ireturn, 1) := dk_172 (dk_at dksX24_mayBegin_1 0 rfl rfl)
theorem dX24_mayBegin_25 : decode cX24_mayBegin 25 = .ok (.aload_n 1, 1) := dk_43 (dk_at dksX24_mayBegin_1 1 rfl rfl)
theorem dX24_mayBegin_26 : decode cX24_mayBegin 26 = .ok (.getstatic 150, 3) := dk_178 0 150 (dk_at dksX24_mayBegin_1 2 rfl rfl)
theorem dX24_mayBegin_29 : decode cX24_mayBegin 29 = .ok (.if_acmp .eq 10, 3) := dk_165 0 10 (dk_at dksX24_mayBegin_1 5 rfl rfl)
theorem dX24_mayBegin_32 : decode cX24_mayBegin 32 = .ok (.aload_n 1, 1) := dk_43 (dk_at dksX24_mayBegin_1 8 rfl rfl)
theorem dX24_mayBegin_33 : decode cX24_mayBegin 33 = .ok (.getstatic 153, 3) := dk_178 0 153 (dk_at dksX24_mayBegin_1 9 rfl rfl)
theorem dX24_mayBegin_36 : decode cX24_mayBegin 36 = .ok (.if_acmp .ne 21, 3) := dk_166 0 21 (dk_at dksX24_mayBegin_1 12 rfl rfl)
theorem dX24_mayBegin_39 : decode cX24_mayBegin 39 = .ok (.aload_n 0, 1) := dk_42 (dk_at dksX24_mayBegin_1 15 rfl rfl)
theorem dX24_mayBegin_40 : decode cX24_mayBegin 40 = .ok (.getfield 16, 3) := dk_180 0 16 (dk_at dksX24_mayBegin_1 16 rfl rfl)
theorem dX24_mayBegin_43 : decode cX24_mayBegin 43 = .ok (.getfield 69, 3) := dk_180 0 69 (dk_at dksX24_mayBegin_1 19 rfl rfl)
theorem dX24_mayBegin_46 : decode cX24_mayBegin 46 = .ok (.ifCond .le 7, 3) := dk_158 0 7 (dk_at dksX24_mayBegin_2 0 rfl rfl)
theorem dX24_mayBegin_49 : decode cX24_mayBegin 49 = .ok (.iconst 1, 1) := dk_4 (dk_at dksX24_mayBegin_2 3 rfl rfl)
theorem dX24_mayBegin_50 : decode cX24_mayBegin 50 = .ok (.goto 42, 3) := dk_167 0 42 (dk_at dksX24_mayBegin_2 4 rfl rfl)
theorem dX24_mayBegin_53 : decode cX24_mayBegin 53 = .ok (.iconst 0, 1) := dk_3 (dk_at dksX24_mayBegin_2 7 rfl rfl)
theorem dX24_mayBegin_54 : decode cX24_mayBegin 54 = .ok (.goto 38, 3) := dk_167 0 38 (dk_at dksX24_mayBegin_2 8 rfl rfl)
theorem dX24_mayBegin_57 : decode cX24_mayBegin 57 = .ok (.aload_n 1, 1) := dk_43 (dk_at dksX24_mayBegin_2 11 rfl rfl)
theorem dX24_mayBegin_58 : decode cX24_mayBegin 58 = .ok (.getstatic 156, 3) := dk_178 0 156 (dk_at dksX24_mayBegin_2 12 rfl rfl)
theorem dX24_mayBegin_61 : decode cX24_mayBegin 61 = .ok (.if_acmp .ne 30, 3) := dk_166 0 30 (dk_at dksX24_mayBegin_2 15 rfl rfl)
theorem dX24_mayBegin_64 : decode cX24_mayBegin 64 = .ok (.aload_n 0, 1) := dk_42 (dk_at dksX24_mayBegin_2 18 rfl rfl)
theorem dX24_mayBegin_65 : decode cX24_mayBegin 65 = .ok (.getfield 16, 3) := dk_180 0 16 (dk_at dksX24_mayBegin_2 19 rfl rfl)
theorem dX24_mayBegin_68 : decode cX24_mayBegin 68 = .ok (.getfield 103, 3) := dk_180 0 103 (dk_at dksX24_mayBegin_3 0 rfl rfl)
theorem dX24_mayBegin_71 : decode cX24_mayBegin 71 = .ok (.bipush 20, 2) := dk_16 20 (dk_at dksX24_mayBegin_3 3 rfl rfl)
theorem dX24_mayBegin_73 : decode cX24_mayBegin 73 = .ok (.if_icmp .ge 18, 3) := dk_162 0 18 (dk_at dksX24_mayBegin_3 5 rfl rfl)
theorem dX24_mayBegin_76 : decode cX24_mayBegin 76 = .ok (.aload_n 0, 1) := dk_42 (dk_at dksX24_mayBegin_3 8 rfl rfl)
theorem dX24_mayBegin_77 : decode cX24_mayBegin 77 = .ok (.getfield 16, 3) := dk_180 0 16 (dk_at dksX24_mayBegin_3 9 rfl rfl)
theorem dX24_mayBegin_80 : decode cX24_mayBegin 80 = .ok (.getfield 69, 3) := dk_180 0 69 (dk_at dksX24_mayBegin_3 12 rfl rfl)
theorem dX24_mayBegin_83 : decode cX24_mayBegin 83 = .ok (.iconst 1, 1) := dk_4 (dk_at dksX24_mayBegin_3 15 rfl rfl)
theorem dX24_mayBegin_84 : decode cX24_mayBegin 84 = .ok (.if_icmp .le 7, 3) := dk_164 0 7 (dk_at dksX24_mayBegin_3 16 rfl rfl)
theorem dX24_mayBegin_87 : decode cX24_mayBegin 87 = .ok (.iconst 1, 1) := dk_4 (dk_at dksX24_mayBegin_3 19 rfl rfl)
theorem dX24_mayBegin_88 : decode cX24_mayBegin 88 = .ok (.goto 4, 3) := dk_167 0 4 (dk_at dksX24_mayBegin_3 20 rfl rfl)
theorem dX24_mayBegin_91 : decode cX24_mayBegin 91 = .ok (.iconst 0, 1) := dk_3 (dk_at dksX24_mayBegin_3 23 rfl rfl)
theorem dX24_mayBegin_92 : decode cX24_mayBegin 92 = .ok (.istore_n 2, 1) := dk_61 (dk_at dksX24_mayBegin_4 0 rfl rfl)
theorem dX24_mayBegin_93 : decode cX24_mayBegin 93 = .ok (.iconst 0, 1) := dk_3 (dk_at dksX24_mayBegin_4 1 rfl rfl)
theorem dX24_mayBegin_94 : decode cX24_mayBegin 94 = .ok (.istore_n 3, 1) := dk_62 (dk_at dksX24_mayBegin_4 2 rfl rfl)
theorem dX24_mayBegin_95 : decode cX24_mayBegin 95 = .ok (.iload_n 3, 1) := dk_29 (dk_at dksX24_mayBegin_4 3 rfl rfl)
theorem dX24_mayBegin_96 : decode cX24_mayBegin 96 = .ok (.aload_n 0, 1) := dk_42 (dk_at dksX24_mayBegin_4 4 rfl rfl)
theorem dX24_mayBegin_97 : decode cX24_mayBegin 97 = .ok (.getfield 16, 3) := dk_180 0 16 (dk_at dksX24_mayBegin_4 5 rfl rfl)
theorem dX24_mayBegin_100 : decode cX24_mayBegin 100 = .ok (.getfield 69, 3) := dk_180 0 69 (dk_at dksX24_mayBegin_4 8 rfl rfl)
theorem dX24_mayBegin_103 : decode cX24_mayBegin 103 = .ok (.if_icmp .ge 74, 3) := dk_162 0 74 (dk_at dksX24_mayBegin_4 11 rfl rfl)
theorem dX24_mayBegin_106 : decode cX24_mayBegin 106 = .ok (.iload_n 2, 1) := dk_28 (dk_at dksX24_mayBegin_4 14 rfl rfl)
theorem dX24_mayBegin_107 : decode cX24_mayBegin 107 = .ok (.ifCond .ne 70, 3) := dk_154 0 70 (dk_at dksX24_mayBegin_4 15 rfl rfl)
theorem dX24_mayBegin_110 : decode cX24_mayBegin 110 = .ok (.aload_n 1, 1) := dk_43 (dk_at dksX24_mayBegin_4 18 rfl rfl)
theorem dX24_mayBegin_111 : decode cX24_mayBegin 111 = .ok (.getstatic 159, 3) := dk_178 0 159 (dk_at dksX24_mayBegin_4 19 rfl rfl)
theorem dX24_mayBegin_114 : decode cX24_mayBegin 114 = .ok (.if_acmp .ne 11, 3) := dk_166 0 11 (dk_at dksX24_mayBegin_5 0 rfl rfl)
theorem dX24_mayBegin_117 : decode cX24_mayBegin 117 = .ok (.aload_n 0, 1) := dk_42 (dk_at dksX24_mayBegin_5 3 rfl rfl)
theorem dX24_mayBegin_118 : decode cX24_mayBegin 118 = .ok (.iload_n 3, 1) := dk_29 (dk_at dksX24_mayBegin_5 4 rfl rfl)
theorem dX24_mayBegin_119 : decode cX24_mayBegin 119 = .ok (.invokevirtual 80, 3) := dk_182 0 80 (dk_at dksX24_mayBegin_5 5 rfl rfl)
theorem dX24_mayBegin_122 : decode cX24_mayBegin 122 = .ok (.ifCond .ne 43, 3) := dk_154 0 43 (dk_at dksX24_mayBegin_5 8 rfl rfl)
theorem dX24_mayBegin_125 : decode cX24_mayBegin 125 = .ok (.aload_n 1, 1) := dk_43 (dk_at dksX24_mayBegin_5 11 rfl rfl)
theorem dX24_mayBegin_126 : decode cX24_mayBegin 126 = .ok (.getstatic 162, 3) := dk_178 0 162 (dk_at dksX24_mayBegin_5 12 rfl rfl)
theorem dX24_mayBegin_129 : decode cX24_mayBegin 129 = .ok (.if_acmp .ne 11, 3) := dk_166 0 11 (dk_at dksX24_mayBegin_5 15 rfl rfl)
theorem dX24_mayBegin_132 : decode cX24_mayBegin 132 = .ok (.aload_n 0, 1) := dk_42 (dk_at dksX24_mayBegin_5 18 rfl rfl)
theorem dX24_mayBegin_133 : decode cX24_mayBegin 133 = .ok (.iload_n 3, 1) := dk_29 (dk_at dksX24_mayBegin_5 19 rfl rfl)
theorem dX24_mayBegin_134 : decode cX24_mayBegin 134 = .ok (.invokevirtual 87, 3) := dk_182 0 87 (dk_at dksX24_mayBegin_5 20 rfl rfl)
theorem dX24_mayBegin_137 : decode cX24_mayBegin 137 = .ok (.ifCond .ne 28, 3) := dk_154 0 28 (dk_at dksX24_mayBegin_6 0 rfl rfl)
theorem dX24_mayBegin_140 : decode cX24_mayBegin 140 = .ok (.aload_n 1, 1) := dk_43 (dk_at dksX24_mayBegin_6 3 rfl rfl)
theorem dX24_mayBegin_141 : decode cX24_mayBegin 141 = .ok (.getstatic 165, 3) := dk_178 0 165 (dk_at dksX24_mayBegin_6 4 rfl rfl)
theorem dX24_mayBegin_144 : decode cX24_mayBegin 144 = .ok (.if_acmp .ne 25, 3) := dk_166 0 25 (dk_at dksX24_mayBegin_6 7 rfl rfl)
theorem dX24_mayBegin_147 : decode cX24_mayBegin 147 = .ok (.aload_n 0, 1) := dk_42 (dk_at dksX24_mayBegin_6 10 rfl rfl)
theorem dX24_mayBegin_148 : decode cX24_mayBegin 148 = .ok (.getfield 16, 3) := dk_180 0 16 (dk_at dksX24_mayBegin_6 11 rfl rfl)
theorem dX24_mayBegin_151 : decode cX24_mayBegin 151 = .ok (.getfield 113, 3) := dk_180 0 113 (dk_at dksX24_mayBegin_6 14 rfl rfl)
theorem dX24_mayBegin_154 : decode cX24_mayBegin 154 = .ok (.iload_n 3, 1) := dk_29 (dk_at dksX24_mayBegin_6 17 rfl rfl)
theorem dX24_mayBegin_155 : decode cX24_mayBegin 155 = .ok (.aaload, 1) := dk_50 (dk_at dksX24_mayBegin_6 18 rfl rfl)
theorem dX24_mayBegin_156 : decode cX24_mayBegin 156 = .ok (.getfield 117, 3) := dk_180 0 117 (dk_at dksX24_mayBegin_6 19 rfl rfl)
theorem dX24_mayBegin_159 : decode cX24_mayBegin 159 = .ok (.sipush 255, 3) := dk_17 0 255 (dk_at dksX24_mayBegin_7 0 rfl rfl)
theorem dX24_mayBegin_162 : decode cX24_mayBegin 162 = .ok (.if_icmp .eq 7, 3) := dk_159 0 7 (dk_at dksX24_mayBegin_7 3 rfl rfl)
theorem dX24_mayBegin_165 : decode cX24_mayBegin 165 = .ok (.iconst 1, 1) := dk_4 (dk_at dksX24_mayBegin_7 6 rfl rfl)
theorem dX24_mayBegin_166 : decode cX24_mayBegin 166 = .ok (.goto 4, 3) := dk_167 0 4 (dk_at dksX24_mayBegin_7 7 rfl rfl)
theorem dX24_mayBegin_169 : decode cX24_mayBegin 169 = .ok (.iconst 0, 1) := dk_3 (dk_at dksX24_mayBegin_7 10 rfl rfl)
theorem dX24_mayBegin_170 : decode cX24_mayBegin 170 = .ok (.istore_n 2, 1) := dk_61 (dk_at dksX24_mayBegin_7 11 rfl rfl)
theorem dX24_mayBegin_171 : decode cX24_mayBegin 171 = .ok (.iinc 3 1, 3) := dk_132 3 1 (dk_at dksX24_mayBegin_7 12 rfl rfl)
theorem dX24_mayBegin_174 : decode cX24_mayBegin 174 = .ok (.goto (-79), 3) := dk_167 255 177 (dk_at dksX24_mayBegin_7 15 rfl rfl)
theorem dX24_mayBegin_177 : decode cX24_mayBegin 177 = .ok (.iload_n 2, 1) := dk_28 (dk_at dksX24_mayBegin_7 18 rfl rfl)
theorem dX24_mayBegin_178 : decode cX24_mayBegin 178 = .ok (.ireturn, 1) := dk_172 (dk_at dksX24_mayBegin_7 19 rfl rfl)
abbrev cX24_canCover : ByteArray := prog_27_method_9_code
def yX24_canCover : MethodName := ⟨RX24, "canCover", "(I)Z"⟩
def dkwX24_canCover_2 : List UInt8 := [61, 132, 3, 1, 167, 255, 210, 28, 172]
abbrev dktX24_canCover_2 : List UInt8 := dkwX24_canCover_2 ++ []
def dkwX24_canCover_1 : List UInt8 := [180, 0, 16, 180, 0, 113, 29, 50, 180, 0, 131, 27, 122, 4, 126, 154, 0, 7, 4, 167, 0, 4, 3, 128]
abbrev dktX24_canCover_1 : List UInt8 := dkwX24_canCover_1 ++ dktX24_canCover_2
def dkwX24_canCover_0 : List UInt8 := [3, 61, 3, 62, 29, 42, 180, 0, 16, 180, 0, 69, 162, 0, 41, 28, 29, 27, 159, 0, 26, 42]
abbrev dktX24_canCover_0 : List UInt8 := dkwX24_canCover_0 ++ dktX24_canCover_1
theorem dksX24_canCover_0 : cX24_canCover.data.toList.drop 0 = dktX24_canCover_0 := by decide +kernel
theorem dksX24_canCover_1 : cX24_canCover.data.toList.drop 22 = dktX24_canCover_1 := dk_seg dksX24_canCover_0 22 rfl rfl
theorem dksX24_canCover_2 : cX24_canCover.data.toList.drop 46 = dktX24_canCover_2 := dk_seg dksX24_canCover_1 24 rfl rfl
theorem dX24_canCover_0 : decode cX24_canCover 0 = .ok (.iconst 0, 1) := dk_3 (dk_at dksX24_canCover_0 0 rfl rfl)
theorem dX24_canCover_1 : decode cX24_canCover 1 = .ok (.istore_n 2, 1) := dk_61 (dk_at dksX24_canCover_0 1 rfl rfl)
theorem dX24_canCover_2 : decode cX24_canCover 2 = .ok (.iconst 0, 1) := dk_3 (dk_at dksX24_canCover_0 2 rfl rfl)
theorem dX24_canCover_3 : decode cX24_canCover 3 = .ok (.istore_n 3, 1) := dk_62 (dk_at dksX24_canCover_0 3 rfl rfl)
theorem dX24_canCover_4 : decode cX24_canCover 4 = .ok (.iload_n 3, 1) := dk_29 (dk_at dksX24_canCover_0 4 rfl rfl)
theorem dX24_canCover_5 : decode cX24_canCover 5 = .ok (.aload_n 0, 1) := dk_42 (dk_at dksX24_canCover_0 5 rfl rfl)
theorem dX24_canCover_6 : decode cX24_canCover 6 = .ok (.getfield 16, 3) := dk_180 0 16 (dk_at dksX24_canCover_0 6 rfl rfl)
theorem dX24_canCover_9 : decode cX24_canCover 9 = .ok (.getfield 69, 3) := dk_180 0 69 (dk_at dksX24_canCover_0 9 rfl rfl)
theorem dX24_canCover_12 : decode cX24_canCover 12 = .ok (.if_icmp .ge 41, 3) := dk_162 0 41 (dk_at dksX24_canCover_0 12 rfl rfl)
theorem dX24_canCover_15 : decode cX24_canCover 15 = .ok (.iload_n 2, 1) := dk_28 (dk_at dksX24_canCover_0 15 rfl rfl)
theorem dX24_canCover_16 : decode cX24_canCover 16 = .ok (.iload_n 3, 1) := dk_29 (dk_at dksX24_canCover_0 16 rfl rfl)
theorem dX24_canCover_17 : decode cX24_canCover 17 = .ok (.iload_n 1, 1) := dk_27 (dk_at dksX24_canCover_0 17 rfl rfl)
theorem dX24_canCover_18 : decode cX24_canCover 18 = .ok (.if_icmp .eq 26, 3) := dk_159 0 26 (dk_at dksX24_canCover_0 18 rfl rfl)
theorem dX24_canCover_21 : decode cX24_canCover 21 = .ok (.aload_n 0, 1) := dk_42 (dk_at dksX24_canCover_0 21 rfl rfl)
theorem dX24_canCover_22 : decode cX24_canCover 22 = .ok (.getfield 16, 3) := dk_180 0 16 (dk_at dksX24_canCover_1 0 rfl rfl)
theorem dX24_canCover_25 : decode cX24_canCover 25 = .ok (.getfield 113, 3) := dk_180 0 113 (dk_at dksX24_canCover_1 3 rfl rfl)
theorem dX24_canCover_28 : decode cX24_canCover 28 = .ok (.iload_n 3, 1) := dk_29 (dk_at dksX24_canCover_1 6 rfl rfl)
theorem dX24_canCover_29 : decode cX24_canCover 29 = .ok (.aaload, 1) := dk_50 (dk_at dksX24_canCover_1 7 rfl rfl)
theorem dX24_canCover_30 : decode cX24_canCover 30 = .ok (.getfield 131, 3) := dk_180 0 131 (dk_at dksX24_canCover_1 8 rfl rfl)
theorem dX24_canCover_33 : decode cX24_canCover 33 = .ok (.iload_n 1, 1) := dk_27 (dk_at dksX24_canCover_1 11 rfl rfl)
theorem dX24_canCover_34 : decode cX24_canCover 34 = .ok (.ishr, 1) := dk_122 (dk_at dksX24_canCover_1 12 rfl rfl)
theorem dX24_canCover_35 : decode cX24_canCover 35 = .ok (.iconst 1, 1) := dk_4 (dk_at dksX24_canCover_1 13 rfl rfl)
theorem dX24_canCover_36 : decode cX24_canCover 36 = .ok (.iand, 1) := dk_126 (dk_at dksX24_canCover_1 14 rfl rfl)
theorem dX24_canCover_37 : decode cX24_canCover 37 = .ok (.ifCond .ne 7, 3) := dk_154 0 7 (dk_at dksX24_canCover_1 15 rfl rfl)
theorem dX24_canCover_40 : decode cX24_canCover 40 = .ok (.iconst 1, 1) := dk_4 (dk_at dksX24_canCover_1 18 rfl rfl)
theorem dX24_canCover_41 : decode cX24_canCover 41 = .ok (.goto 4, 3) := dk_167 0 4 (dk_at dksX24_canCover_1 19 rfl rfl)
theorem dX24_canCover_44 : decode cX24_canCover 44 = .ok (.iconst 0, 1) := dk_3 (dk_at dksX24_canCover_1 22 rfl rfl)
theorem dX24_canCover_45 : decode cX24_canCover 45 = .ok (.ior, 1) := dk_128 (dk_at dksX24_canCover_1 23 rfl rfl)
theorem dX24_canCover_46 : decode cX24_canCover 46 = .ok (.istore_n 2, 1) := dk_61 (dk_at dksX24_canCover_2 0 rfl rfl)
theorem dX24_canCover_47 : decode cX24_canCover 47 = .ok (.iinc 3 1, 3) := dk_132 3 1 (dk_at dksX24_canCover_2 1 rfl rfl)
theorem dX24_canCover_50 : decode cX24_canCover 50 = .ok (.goto (-46), 3) := dk_167 255 210 (dk_at dksX24_canCover_2 4 rfl rfl)
theorem dX24_canCover_53 : decode cX24_canCover 53 = .ok (.iload_n 2, 1) := dk_28 (dk_at dksX24_canCover_2 7 rfl rfl)
theorem dX24_canCover_54 : decode cX24_canCover 54 = .ok (.ireturn, 1) := dk_172 (dk_at dksX24_canCover_2 8 rfl rfl)
abbrev cX24_canBar : ByteArray := prog_27_method_11_code
def yX24_canBar : MethodName := ⟨RX24, "canBar", "(I)Z"⟩
def dkwX24_canBar_1 : List UInt8 := [167, 255, 238, 28, 172]
abbrev dktX24_canBar_1 : List UInt8 := dkwX24_canBar_1 ++ []
def dkwX24_canBar_0 : List UInt8 := [3, 61, 3, 62, 29, 16, 6, 162, 0, 18, 28, 42, 27, 29, 182, 0, 92, 128, 61, 132, 3, 1]
abbrev dktX24_canBar_0 : List UInt8 := dkwX24_canBar_0 ++ dktX24_canBar_1
theorem dksX24_canBar_0 : cX24_canBar.data.toList.drop 0 = dktX24_canBar_0 := by decide +kernel
theorem dksX24_canBar_1 : cX24_canBar.data.toList.drop 22 = dktX24_canBar_1 := dk_seg dksX24_canBar_0 22 rfl rfl
theorem dX24_canBar_0 : decode cX24_canBar 0 = .ok (.iconst 0, 1) := dk_3 (dk_at dksX24_canBar_0 0 rfl rfl)
theorem dX24_canBar_1 : decode cX24_canBar 1 = .ok (.istore_n 2, 1) := dk_61 (dk_at dksX24_canBar_0 1 rfl rfl)
theorem dX24_canBar_2 : decode cX24_canBar 2 = .ok (.iconst 0, 1) := dk_3 (dk_at dksX24_canBar_0 2 rfl rfl)
theorem dX24_canBar_3 : decode cX24_canBar 3 = .ok (.istore_n 3, 1) := dk_62 (dk_at dksX24_canBar_0 3 rfl rfl)
theorem dX24_canBar_4 : decode cX24_canBar 4 = .ok (.iload_n 3, 1) := dk_29 (dk_at dksX24_canBar_0 4 rfl rfl)
theorem dX24_canBar_5 : decode cX24_canBar 5 = .ok (.bipush 6, 2) := dk_16 6 (dk_at dksX24_canBar_0 5 rfl rfl)
theorem dX24_canBar_7 : decode cX24_canBar 7 = .ok (.if_icmp .ge 18, 3) := dk_162 0 18 (dk_at dksX24_canBar_0 7 rfl rfl)
theorem dX24_canBar_10 : decode cX24_canBar 10 = .ok (.iload_n 2, 1) := dk_28 (dk_at dksX24_canBar_0 10 rfl rfl)
theorem dX24_canBar_11 : decode cX24_canBar 11 = .ok (.aload_n 0, 1) := dk_42 (dk_at dksX24_canBar_0 11 rfl rfl)
theorem dX24_canBar_12 : decode cX24_canBar 12 = .ok (.iload_n 1, 1) := dk_27 (dk_at dksX24_canBar_0 12 rfl rfl)
theorem dX24_canBar_13 : decode cX24_canBar 13 = .ok (.iload_n 3, 1) := dk_29 (dk_at dksX24_canBar_0 13 rfl rfl)
theorem dX24_canBar_14 : decode cX24_canBar 14 = .ok (.invokevirtual 92, 3) := dk_182 0 92 (dk_at dksX24_canBar_0 14 rfl rfl)
theorem dX24_canBar_17 : decode cX24_canBar 17 = .ok (.ior, 1) := dk_128 (dk_at dksX24_canBar_0 17 rfl rfl)
theorem dX24_canBar_18 : decode cX24_canBar 18 = .ok (.istore_n 2, 1) := dk_61 (dk_at dksX24_canBar_0 18 rfl rfl)
theorem dX24_canBar_19 : decode cX24_canBar 19 = .ok (.iinc 3 1, 3) := dk_132 3 1 (dk_at dksX24_canBar_0 19 rfl rfl)
theorem dX24_canBar_22 : decode cX24_canBar 22 = .ok (.goto (-18), 3) := dk_167 255 238 (dk_at dksX24_canBar_1 0 rfl rfl)
theorem dX24_canBar_25 : decode cX24_canBar 25 = .ok (.iload_n 2, 1) := dk_28 (dk_at dksX24_canBar_1 3 rfl rfl)
theorem dX24_canBar_26 : decode cX24_canBar 26 = .ok (.ireturn, 1) := dk_172 (dk_at dksX24_canBar_1 4 rfl rfl)
abbrev cX24_isOpen : ByteArray := prog_27_method_10_code
def yX24_isOpen : MethodName := ⟨RX24, "isOpen", "(II)Z"⟩
def dkwX24_isOpen_1 : List UInt8 := [100, 4, 27, 120, 2, 130, 126, 159, 0, 7, 4, 167, 0, 4, 3, 172]
abbrev dktX24_isOpen_1 : List UInt8 := dkwX24_isOpen_1 ++ []
def dkwX24_isOpen_0 : List UInt8 := [42, 180, 0, 16, 180, 0, 113, 27, 50, 180, 0, 134, 28, 46, 4, 42, 180, 0, 16, 180, 0, 69, 120, 4]
abbrev dktX24_isOpen_0 : List UInt8 := dkwX24_isOpen_0 ++ dktX24_isOpen_1
theorem dksX24_isOpen_0 : cX24_isOpen.data.toList.drop 0 = dktX24_isOpen_0 := by decide +kernel
theorem dksX24_isOpen_1 : cX24_isOpen.data.toList.drop 24 = dktX24_isOpen_1 := dk_seg dksX24_isOpen_0 24 rfl rfl
theorem dX24_isOpen_0 : decode cX24_isOpen 0 = .ok (.aload_n 0, 1) := dk_42 (dk_at dksX24_isOpen_0 0 rfl rfl)
theorem dX24_isOpen_1 : decode cX24_isOpen 1 = .ok (.getfield 16, 3) := dk_180 0 16 (dk_at dksX24_isOpen_0 1 rfl rfl)
theorem dX24_isOpen_4 : decode cX24_isOpen 4 = .ok (.getfield 113, 3) := dk_180 0 113 (dk_at dksX24_isOpen_0 4 rfl rfl)
theorem dX24_isOpen_7 : decode cX24_isOpen 7 = .ok (.iload_n 1, 1) := dk_27 (dk_at dksX24_isOpen_0 7 rfl rfl)
theorem dX24_isOpen_8 : decode cX24_isOpen 8 = .ok (.aaload, 1) := dk_50 (dk_at dksX24_isOpen_0 8 rfl rfl)
theorem dX24_isOpen_9 : decode cX24_isOpen 9 = .ok (.getfield 134, 3) := dk_180 0 134 (dk_at dksX24_isOpen_0 9 rfl rfl)
theorem dX24_isOpen_12 : decode cX24_isOpen 12 = .ok (.iload_n 2, 1) := dk_28 (dk_at dksX24_isOpen_0 12 rfl rfl)
theorem dX24_isOpen_13 : decode cX24_isOpen 13 = .ok (.iaload, 1) := dk_46 (dk_at dksX24_isOpen_0 13 rfl rfl)
theorem dX24_isOpen_14 : decode cX24_isOpen 14 = .ok (.iconst 1, 1) := dk_4 (dk_at dksX24_isOpen_0 14 rfl rfl)
theorem dX24_isOpen_15 : decode cX24_isOpen 15 = .ok (.aload_n 0, 1) := dk_42 (dk_at dksX24_isOpen_0 15 rfl rfl)
theorem dX24_isOpen_16 : decode cX24_isOpen 16 = .ok (.getfield 16, 3) := dk_180 0 16 (dk_at dksX24_isOpen_0 16 rfl rfl)
theorem dX24_isOpen_19 : decode cX24_isOpen 19 = .ok (.getfield 69, 3) := dk_180 0 69 (dk_at dksX24_isOpen_0 19 rfl rfl)
theorem dX24_isOpen_22 : decode cX24_isOpen 22 = .ok (.ishl, 1) := dk_120 (dk_at dksX24_isOpen_0 22 rfl rfl)
theorem dX24_isOpen_23 : decode cX24_isOpen 23 = .ok (.iconst 1, 1) := dk_4 (dk_at dksX24_isOpen_0 23 rfl rfl)
theorem dX24_isOpen_24 : decode cX24_isOpen 24 = .ok (.isub, 1) := dk_100 (dk_at dksX24_isOpen_1 0 rfl rfl)
theorem dX24_isOpen_25 : decode cX24_isOpen 25 = .ok (.iconst 1, 1) := dk_4 (dk_at dksX24_isOpen_1 1 rfl rfl)
theorem dX24_isOpen_26 : decode cX24_isOpen 26 = .ok (.iload_n 1, 1) := dk_27 (dk_at dksX24_isOpen_1 2 rfl rfl)
theorem dX24_isOpen_27 : decode cX24_isOpen 27 = .ok (.ishl, 1) := dk_120 (dk_at dksX24_isOpen_1 3 rfl rfl)
theorem dX24_isOpen_28 : decode cX24_isOpen 28 = .ok (.iconst (-1), 1) := dk_2 (dk_at dksX24_isOpen_1 4 rfl rfl)
theorem dX24_isOpen_29 : decode cX24_isOpen 29 = .ok (.ixor, 1) := dk_130 (dk_at dksX24_isOpen_1 5 rfl rfl)
theorem dX24_isOpen_30 : decode cX24_isOpen 30 = .ok (.iand, 1) := dk_126 (dk_at dksX24_isOpen_1 6 rfl rfl)
theorem dX24_isOpen_31 : decode cX24_isOpen 31 = .ok (.if_icmp .eq 7, 3) := dk_159 0 7 (dk_at dksX24_isOpen_1 7 rfl rfl)
theorem dX24_isOpen_34 : decode cX24_isOpen 34 = .ok (.iconst 1, 1) := dk_4 (dk_at dksX24_isOpen_1 10 rfl rfl)
theorem dX24_isOpen_35 : decode cX24_isOpen 35 = .ok (.goto 4, 3) := dk_167 0 4 (dk_at dksX24_isOpen_1 11 rfl rfl)
theorem dX24_isOpen_38 : decode cX24_isOpen 38 = .ok (.iconst 0, 1) := dk_3 (dk_at dksX24_isOpen_1 14 rfl rfl)
theorem dX24_isOpen_39 : decode cX24_isOpen 39 = .ok (.ireturn, 1) := dk_172 (dk_at dksX24_isOpen_1 15 rfl rfl)
abbrev cX24_numberAt : ByteArray := prog_27_method_7_code
def yX24_numberAt : MethodName := ⟨RX24, "numberAt", "(I)J"⟩
def dkwX24_numberAt_3 : List UInt8 := [167, 0, 12, 20, 0, 64, 33, 105, 21, 6, 133, 97, 66, 132, 5, 1, 167, 255, 201, 33, 173]
abbrev dktX24_numberAt_3 : List UInt8 := dkwX24_numberAt_3 ++ []
def dkwX24_numberAt_2 : List UInt8 := [21, 5, 51, 16, 48, 100, 54, 6, 21, 6, 155, 0, 10, 21, 6, 16, 9, 164, 0, 9, 20, 0, 62]
abbrev dktX24_numberAt_2 : List UInt8 := dkwX24_numberAt_2 ++ dktX24_numberAt_3
def dkwX24_numberAt_1 : List UInt8 := [167, 0, 4, 9, 66, 27, 54, 5, 21, 5, 28, 162, 0, 55, 33, 9, 148, 155, 0, 49, 42, 180, 0, 19]
abbrev dktX24_numberAt_1 : List UInt8 := dkwX24_numberAt_1 ++ dktX24_numberAt_2
def dkwX24_numberAt_0 : List UInt8 := [42, 27, 182, 0, 54, 61, 28, 27, 159, 0, 11, 28, 27, 100, 16, 9, 164, 0, 9, 20, 0, 62]
abbrev dktX24_numberAt_0 : List UInt8 := dkwX24_numberAt_0 ++ dktX24_numberAt_1
theorem dksX24_numberAt_0 : cX24_numberAt.data.toList.drop 0 = dktX24_numberAt_0 := by decide +kernel
theorem dksX24_numberAt_1 : cX24_numberAt.data.toList.drop 22 = dktX24_numberAt_1 := dk_seg dksX24_numberAt_0 22 rfl rfl
theorem dksX24_numberAt_2 : cX24_numberAt.data.toList.drop 46 = dktX24_numberAt_2 := dk_seg dksX24_numberAt_1 24 rfl rfl
theorem dksX24_numberAt_3 : cX24_numberAt.data.toList.drop 69 = dktX24_numberAt_3 := dk_seg dksX24_numberAt_2 23 rfl rfl
theorem dX24_numberAt_0 : decode cX24_numberAt 0 = .ok (.aload_n 0, 1) := dk_42 (dk_at dksX24_numberAt_0 0 rfl rfl)
theorem dX24_numberAt_1 : decode cX24_numberAt 1 = .ok (.iload_n 1, 1) := dk_27 (dk_at dksX24_numberAt_0 1 rfl rfl)
theorem dX24_numberAt_2 : decode cX24_numberAt 2 = .ok (.invokevirtual 54, 3) := dk_182 0 54 (dk_at dksX24_numberAt_0 2 rfl rfl)
theorem dX24_numberAt_5 : decode cX24_numberAt 5 = .ok (.istore_n 2, 1) := dk_61 (dk_at dksX24_numberAt_0 5 rfl rfl)
theorem dX24_numberAt_6 : decode cX24_numberAt 6 = .ok (.iload_n 2, 1) := dk_28 (dk_at dksX24_numberAt_0 6 rfl rfl)
theorem dX24_numberAt_7 : decode cX24_numberAt 7 = .ok (.iload_n 1, 1) := dk_27 (dk_at dksX24_numberAt_0 7 rfl rfl)
theorem dX24_numberAt_8 : decode cX24_numberAt 8 = .ok (.if_icmp .eq 11, 3) := dk_159 0 11 (dk_at dksX24_numberAt_0 8 rfl rfl)
theorem dX24_numberAt_11 : decode cX24_numberAt 11 = .ok (.iload_n 2, 1) := dk_28 (dk_at dksX24_numberAt_0 11 rfl rfl)
theorem dX24_numberAt_12 : decode cX24_numberAt 12 = .ok (.iload_n 1, 1) := dk_27 (dk_at dksX24_numberAt_0 12 rfl rfl)
theorem dX24_numberAt_13 : decode cX24_numberAt 13 = .ok (.isub, 1) := dk_100 (dk_at dksX24_numberAt_0 13 rfl rfl)
theorem dX24_numberAt_14 : decode cX24_numberAt 14 = .ok (.bipush 9, 2) := dk_16 9 (dk_at dksX24_numberAt_0 14 rfl rfl)
theorem dX24_numberAt_16 : decode cX24_numberAt 16 = .ok (.if_icmp .le 9, 3) := dk_164 0 9 (dk_at dksX24_numberAt_0 16 rfl rfl)
theorem dX24_numberAt_19 : decode cX24_numberAt 19 = .ok (.ldc2_w 62, 3) := dk_20 0 62 (dk_at dksX24_numberAt_0 19 rfl rfl)
theorem dX24_numberAt_22 : decode cX24_numberAt 22 = .ok (.goto 4, 3) := dk_167 0 4 (dk_at dksX24_numberAt_1 0 rfl rfl)
theorem dX24_numberAt_25 : decode cX24_numberAt 25 = .ok (.lconst 0, 1) := dk_9 (dk_at dksX24_numberAt_1 3 rfl rfl)
theorem dX24_numberAt_26 : decode cX24_numberAt 26 = .ok (.lstore_n 3, 1) := dk_66 (dk_at dksX24_numberAt_1 4 rfl rfl)
theorem dX24_numberAt_27 : decode cX24_numberAt 27 = .ok (.iload_n 1, 1) := dk_27 (dk_at dksX24_numberAt_1 5 rfl rfl)
theorem dX24_numberAt_28 : decode cX24_numberAt 28 = .ok (.istore 5, 2) := dk_54 5 (dk_at dksX24_numberAt_1 6 rfl rfl)
theorem dX24_numberAt_30 : decode cX24_numberAt 30 = .ok (.iload 5, 2) := dk_21 5 (dk_at dksX24_numberAt_1 8 rfl rfl)
theorem dX24_numberAt_32 : decode cX24_numberAt 32 = .ok (.iload_n 2, 1) := dk_28 (dk_at dksX24_numberAt_1 10 rfl rfl)
theorem dX24_numberAt_33 : decode cX24_numberAt 33 = .ok (.if_icmp .ge 55, 3) := dk_162 0 55 (dk_at dksX24_numberAt_1 11 rfl rfl)
theorem dX24_numberAt_36 : decode cX24_numberAt 36 = .ok (.lload_n 3, 1) := dk_33 (dk_at dksX24_numberAt_1 14 rfl rfl)
theorem dX24_numberAt_37 : decode cX24_numberAt 37 = .ok (.lconst 0, 1) := dk_9 (dk_at dksX24_numberAt_1 15 rfl rfl)
theorem dX24_numberAt_38 : decode cX24_numberAt 38 = .ok (.lcmp, 1) := dk_148 (dk_at dksX24_numberAt_1 16 rfl rfl)
theorem dX24_numberAt_39 : decode cX24_numberAt 39 = .ok (.ifCond .lt 49, 3) := dk_155 0 49 (dk_at dksX24_numberAt_1 17 rfl rfl)
theorem dX24_numberAt_42 : decode cX24_numberAt 42 = .ok (.aload_n 0, 1) := dk_42 (dk_at dksX24_numberAt_1 20 rfl rfl)
theorem dX24_numberAt_43 : decode cX24_numberAt 43 = .ok (.getfield 19, 3) := dk_180 0 19 (dk_at dksX24_numberAt_1 21 rfl rfl)
theorem dX24_numberAt_46 : decode cX24_numberAt 46 = .ok (.iload 5, 2) := dk_21 5 (dk_at dksX24_numberAt_2 0 rfl rfl)
theorem dX24_numberAt_48 : decode cX24_numberAt 48 = .ok (.baload, 1) := dk_51 (dk_at dksX24_numberAt_2 2 rfl rfl)
theorem dX24_numberAt_49 : decode cX24_numberAt 49 = .ok (.bipush 48, 2) := dk_16 48 (dk_at dksX24_numberAt_2 3 rfl rfl)
theorem dX24_numberAt_51 : decode cX24_numberAt 51 = .ok (.isub, 1) := dk_100 (dk_at dksX24_numberAt_2 5 rfl rfl)
theorem dX24_numberAt_52 : decode cX24_numberAt 52 = .ok (.istore 6, 2) := dk_54 6 (dk_at dksX24_numberAt_2 6 rfl rfl)
theorem dX24_numberAt_54 : decode cX24_numberAt 54 = .ok (.iload 6, 2) := dk_21 6 (dk_at dksX24_numberAt_2 8 rfl rfl)
theorem dX24_numberAt_56 : decode cX24_numberAt 56 = .ok (.ifCond .lt 10, 3) := dk_155 0 10 (dk_at dksX24_numberAt_2 10 rfl rfl)
theorem dX24_numberAt_59 : decode cX24_numberAt 59 = .ok (.iload 6, 2) := dk_21 6 (dk_at dksX24_numberAt_2 13 rfl rfl)
theorem dX24_numberAt_61 : decode cX24_numberAt 61 = .ok (.bipush 9, 2) := dk_16 9 (dk_at dksX24_numberAt_2 15 rfl rfl)
theorem dX24_numberAt_63 : decode cX24_numberAt 63 = .ok (.if_icmp .le 9, 3) := dk_164 0 9 (dk_at dksX24_numberAt_2 17 rfl rfl)
theorem dX24_numberAt_66 : decode cX24_numberAt 66 = .ok (.ldc2_w 62, 3) := dk_20 0 62 (dk_at dksX24_numberAt_2 20 rfl rfl)
theorem dX24_numberAt_69 : decode cX24_numberAt 69 = .ok (.goto 12, 3) := dk_167 0 12 (dk_at dksX24_numberAt_3 0 rfl rfl)
theorem dX24_numberAt_72 : decode cX24_numberAt 72 = .ok (.ldc2_w 64, 3) := dk_20 0 64 (dk_at dksX24_numberAt_3 3 rfl rfl)
theorem dX24_numberAt_75 : decode cX24_numberAt 75 = .ok (.lload_n 3, 1) := dk_33 (dk_at dksX24_numberAt_3 6 rfl rfl)
theorem dX24_numberAt_76 : decode cX24_numberAt 76 = .ok (.lmul, 1) := dk_105 (dk_at dksX24_numberAt_3 7 rfl rfl)
theorem dX24_numberAt_77 : decode cX24_numberAt 77 = .ok (.iload 6, 2) := dk_21 6 (dk_at dksX24_numberAt_3 8 rfl rfl)
theorem dX24_numberAt_79 : decode cX24_numberAt 79 = .ok (.i2l, 1) := dk_133 (dk_at dksX24_numberAt_3 10 rfl rfl)
theorem dX24_numberAt_80 : decode cX24_numberAt 80 = .ok (.ladd, 1) := dk_97 (dk_at dksX24_numberAt_3 11 rfl rfl)
theorem dX24_numberAt_81 : decode cX24_numberAt 81 = .ok (.lstore_n 3, 1) := dk_66 (dk_at dksX24_numberAt_3 12 rfl rfl)
theorem dX24_numberAt_82 : decode cX24_numberAt 82 = .ok (.iinc 5 1, 3) := dk_132 5 1 (dk_at dksX24_numberAt_3 13 rfl rfl)
theorem dX24_numberAt_85 : decode cX24_numberAt 85 = .ok (.goto (-55), 3) := dk_167 255 201 (dk_at dksX24_numberAt_3 16 rfl rfl)
theorem dX24_numberAt_88 : decode cX24_numberAt 88 = .ok (.lload_n 3, 1) := dk_33 (dk_at dksX24_numberAt_3 19 rfl rfl)
theorem dX24_numberAt_89 : decode cX24_numberAt 89 = .ok (.lreturn, 1) := dk_173 (dk_at dksX24_numberAt_3 20 rfl rfl)
abbrev cX24_mayStand : ByteArray := prog_27_method_8_code
def yX24_mayStand : MethodName := ⟨RX24, "mayStand", "(LWasteHouse$PartGraphs$Sentence;I)Z"⟩
def dkwX24_mayStand_23 : List UInt8 := [172]
abbrev dktX24_mayStand_23 : List UInt8 := dkwX24_mayStand_23 ++ []
def dkwX24_mayStand_22 : List UInt8 := [42, 180, 0, 33, 3, 47, 42, 180, 0, 33, 4, 47, 182, 0, 128, 2, 159, 0, 7, 4, 167, 0, 4, 3]
abbrev dktX24_mayStand_22 : List UInt8 := dkwX24_mayStand_22 ++ dktX24_mayStand_23
def dkwX24_mayStand_21 : List UInt8 := [182, 0, 125, 172, 28, 4, 160, 0, 14, 42, 180, 0, 16, 33, 182, 0, 76, 167, 0, 31, 42, 180, 0, 16]
abbrev dktX24_mayStand_21 : List UInt8 := dkwX24_mayStand_21 ++ dktX24_mayStand_22
def dkwX24_mayStand_20 : List UInt8 := [33, 182, 0, 76, 167, 0, 22, 42, 180, 0, 16, 42, 180, 0, 33, 3, 47, 42, 180, 0, 33, 4, 47]
abbrev dktX24_mayStand_20 : List UInt8 := dkwX24_mayStand_20 ++ dktX24_mayStand_21
def dkwX24_mayStand_19 : List UInt8 := [180, 0, 33, 3, 47, 42, 180, 0, 33, 4, 47, 182, 0, 122, 172, 28, 4, 160, 0, 14, 42, 180, 0, 16]
abbrev dktX24_mayStand_19 : List UInt8 := dkwX24_mayStand_19 ++ dktX24_mayStand_20
def dkwX24_mayStand_18 : List UInt8 := [136, 50, 180, 0, 117, 17, 0, 255, 159, 0, 7, 4, 167, 0, 26, 3, 167, 0, 22, 42, 180, 0, 16, 42]
abbrev dktX24_mayStand_18 : List UInt8 := dkwX24_mayStand_18 ++ dktX24_mayStand_19
def dkwX24_mayStand_17 : List UInt8 := [28, 4, 160, 0, 41, 42, 180, 0, 16, 33, 182, 0, 76, 153, 0, 26, 42, 180, 0, 16, 180, 0, 113, 33]
abbrev dktX24_mayStand_17 : List UInt8 := dkwX24_mayStand_17 ++ dktX24_mayStand_18
def dkwX24_mayStand_16 : List UInt8 := [180, 0, 33, 4, 47, 42, 180, 0, 33, 5, 47, 182, 0, 109, 2, 159, 0, 7, 4, 167, 0, 4, 3, 172]
abbrev dktX24_mayStand_16 : List UInt8 := dkwX24_mayStand_16 ++ dktX24_mayStand_17
def dkwX24_mayStand_15 : List UInt8 := [180, 0, 33, 3, 47, 33, 182, 0, 106, 167, 0, 37, 42, 180, 0, 16, 42, 180, 0, 33, 3, 47, 42]
abbrev dktX24_mayStand_15 : List UInt8 := dkwX24_mayStand_15 ++ dktX24_mayStand_16
def dkwX24_mayStand_14 : List UInt8 := [16, 20, 162, 0, 7, 4, 167, 0, 63, 3, 167, 0, 59, 28, 5, 160, 0, 20, 42, 180, 0, 16, 42]
abbrev dktX24_mayStand_14 : List UInt8 := dkwX24_mayStand_14 ++ dktX24_mayStand_15
def dkwX24_mayStand_13 : List UInt8 := [182, 0, 76, 153, 0, 30, 42, 180, 0, 16, 180, 0, 69, 4, 164, 0, 19, 42, 180, 0, 16, 180, 0, 103]
abbrev dktX24_mayStand_13 : List UInt8 := dkwX24_mayStand_13 ++ dktX24_mayStand_14
def dkwX24_mayStand_12 : List UInt8 := [47, 182, 0, 100, 153, 0, 7, 4, 167, 0, 4, 3, 172, 28, 4, 160, 0, 45, 42, 180, 0, 16, 33]
abbrev dktX24_mayStand_12 : List UInt8 := dkwX24_mayStand_12 ++ dktX24_mayStand_13
def dkwX24_mayStand_11 : List UInt8 := [153, 0, 35, 42, 180, 0, 16, 42, 180, 0, 33, 3, 47, 42, 180, 0, 33, 4, 47, 42, 180, 0, 33, 5]
abbrev dktX24_mayStand_11 : List UInt8 := dkwX24_mayStand_11 ++ dktX24_mayStand_12
def dkwX24_mayStand_10 : List UInt8 := [180, 0, 16, 42, 180, 0, 33, 3, 47, 42, 180, 0, 33, 4, 47, 42, 180, 0, 33, 5, 47, 182, 0, 96]
abbrev dktX24_mayStand_10 : List UInt8 := dkwX24_mayStand_10 ++ dktX24_mayStand_11
def dkwX24_mayStand_9 : List UInt8 := [180, 0, 33, 3, 47, 136, 33, 136, 182, 0, 92, 153, 0, 7, 4, 167, 0, 68, 3, 167, 0, 64, 42]
abbrev dktX24_mayStand_9 : List UInt8 := dkwX24_mayStand_9 ++ dktX24_mayStand_10
def dkwX24_mayStand_8 : List UInt8 := [4, 167, 0, 105, 3, 167, 0, 101, 28, 5, 160, 0, 35, 33, 20, 0, 90, 148, 156, 0, 23, 42, 42]
abbrev dktX24_mayStand_8 : List UInt8 := dkwX24_mayStand_8 ++ dktX24_mayStand_9
def dkwX24_mayStand_7 : List UInt8 := [4, 160, 0, 31, 42, 180, 0, 16, 33, 182, 0, 76, 153, 0, 16, 42, 33, 136, 182, 0, 87, 153, 0, 7]
abbrev dktX24_mayStand_7 : List UInt8 := dkwX24_mayStand_7 ++ dktX24_mayStand_8
def dkwX24_mayStand_6 : List UInt8 := [167, 0, 22, 42, 180, 0, 16, 42, 180, 0, 33, 3, 47, 42, 180, 0, 33, 4, 47, 182, 0, 83, 172, 28]
abbrev dktX24_mayStand_6 : List UInt8 := dkwX24_mayStand_6 ++ dktX24_mayStand_7
def dkwX24_mayStand_5 : List UInt8 := [180, 0, 16, 33, 182, 0, 76, 153, 0, 16, 42, 33, 136, 182, 0, 80, 153, 0, 7, 4, 167, 0, 26, 3]
abbrev dktX24_mayStand_5 : List UInt8 := dkwX24_mayStand_5 ++ dktX24_mayStand_6
def dkwX24_mayStand_4 : List UInt8 := [180, 0, 33, 4, 47, 182, 0, 72, 2, 159, 0, 7, 4, 167, 0, 4, 3, 172, 28, 4, 160, 0, 31, 42]
abbrev dktX24_mayStand_4 : List UInt8 := dkwX24_mayStand_4 ++ dktX24_mayStand_5
def dkwX24_mayStand_3 : List UInt8 := [162, 0, 7, 4, 167, 0, 35, 3, 167, 0, 31, 42, 180, 0, 16, 42, 180, 0, 33, 3, 47, 42]
abbrev dktX24_mayStand_3 : List UInt8 := dkwX24_mayStand_3 ++ dktX24_mayStand_4
def dkwX24_mayStand_2 : List UInt8 := [28, 4, 160, 0, 31, 33, 20, 0, 64, 148, 156, 0, 19, 42, 180, 0, 16, 180, 0, 69, 16, 10]
abbrev dktX24_mayStand_2 : List UInt8 := dkwX24_mayStand_2 ++ dktX24_mayStand_3
def dkwX24_mayStand_1 : List UInt8 := [170, 0, 0, 0, 0, 1, 233, 0, 0, 0, 0, 0, 0, 0, 5, 0, 0, 0, 39, 0, 0, 0, 101, 0, 0, 0, 154, 0, 0, 1, 30, 0, 0, 1, 134, 0, 0, 1, 197]
abbrev dktX24_mayStand_1 : List UInt8 := dkwX24_mayStand_1 ++ dktX24_mayStand_2
def dkwX24_mayStand_0 : List UInt8 := [42, 180, 0, 33, 28, 4, 100, 47, 66, 43, 182, 0, 66]
abbrev dktX24_mayStand_0 : List UInt8 := dkwX24_mayStand_0 ++ dktX24_mayStand_1
theorem dksX24_mayStand_0 : cX24_mayStand.data.toList.drop 0 = dktX24_mayStand_0 := by decide +kernel
theorem dksX24_mayStand_1 : cX24_mayStand.data.toList.drop 13 = dktX24_mayStand_1 := dk_seg dksX24_mayStand_0 13 rfl rfl
theorem dksX24_mayStand_2 : cX24_mayStand.data.toList.drop 52 = dktX24_mayStand_2 := dk_seg dksX24_mayStand_1 39 rfl rfl
theorem dksX24_mayStand_3 : cX24_mayStand.data.toList.drop 74 = dktX24_mayStand_3 := dk_seg dksX24_mayStand_2 22 rfl rfl
theorem dksX24_mayStand_4 : cX24_mayStand.data.toList.drop 96 = dktX24_mayStand_4 := dk_seg dksX24_mayStand_3 22 rfl rfl
theorem dksX24_mayStand_5 : cX24_mayStand.data.toList.drop 120 = dktX24_mayStand_5 := dk_seg dksX24_mayStand_4 24 rfl rfl
theorem dksX24_mayStand_6 : cX24_mayStand.data.toList.drop 144 = dktX24_mayStand_6 := dk_seg dksX24_mayStand_5 24 rfl rfl
theorem dksX24_mayStand_7 : cX24_mayStand.data.toList.drop 168 = dktX24_mayStand_7 := dk_seg dksX24_mayStand_6 24 rfl rfl
theorem dksX24_mayStand_8 : cX24_mayStand.data.toList.drop 192 = dktX24_mayStand_8 := dk_seg dksX24_mayStand_7 24 rfl rfl
theorem dksX24_mayStand_9 : cX24_mayStand.data.toList.drop 215 = dktX24_mayStand_9 := dk_seg dksX24_mayStand_8 23 rfl rfl
theorem dksX24_mayStand_10 : cX24_mayStand.data.toList.drop 238 = dktX24_mayStand_10 := dk_seg dksX24_mayStand_9 23 rfl rfl
theorem dksX24_mayStand_11 : cX24_mayStand.data.toList.drop 262 = dktX24_mayStand_11 := dk_seg dksX24_mayStand_10 24 rfl rfl
theorem dksX24_mayStand_12 : cX24_mayStand.data.toList.drop 286 = dktX24_mayStand_12 := dk_seg dksX24_mayStand_11 24 rfl rfl
theorem dksX24_mayStand_13 : cX24_mayStand.data.toList.drop 309 = dktX24_mayStand_13 := dk_seg dksX24_mayStand_12 23 rfl rfl
theorem dksX24_mayStand_14 : cX24_mayStand.data.toList.drop 333 = dktX24_mayStand_14 := dk_seg dksX24_mayStand_13 24 rfl rfl
theorem dksX24_mayStand_15 : cX24_mayStand.data.toList.drop 356 = dktX24_mayStand_15 := dk_seg dksX24_mayStand_14 23 rfl rfl
theorem dksX24_mayStand_16 : cX24_mayStand.data.toList.drop 379 = dktX24_mayStand_16 := dk_seg dksX24_mayStand_15 23 rfl rfl
theorem dksX24_mayStand_17 : cX24_mayStand.data.toList.drop 403 = dktX24_mayStand_17 := dk_seg dksX24_mayStand_16 24 rfl rfl
theorem dksX24_mayStand_18 : cX24_mayStand.data.toList.drop 427 = dktX24_mayStand_18 := dk_seg dksX24_mayStand_17 24 rfl rfl
theorem dksX24_mayStand_19 : cX24_mayStand.data.toList.drop 451 = dktX24_mayStand_19 := dk_seg dksX24_mayStand_18 24 rfl rfl
theorem dksX24_mayStand_20 : cX24_mayStand.data.toList.drop 475 = dktX24_mayStand_20 := dk_seg dksX24_mayStand_19 24 rfl rfl
theorem dksX24_mayStand_21 : cX24_mayStand.data.toList.drop 498 = dktX24_mayStand_21 := dk_seg dksX24_mayStand_20 23 rfl rfl
theorem dksX24_mayStand_22 : cX24_mayStand.data.toList.drop 522 = dktX24_mayStand_22 := dk_seg dksX24_mayStand_21 24 rfl rfl
theorem dksX24_mayStand_23 : cX24_mayStand.data.toList.drop 546 = dktX24_mayStand_23 := dk_seg dksX24_mayStand_22 24 rfl rfl
theorem dX24_mayStand_0 : decode cX24_mayStand 0 = .ok (.aload_n 0, 1) := dk_42 (dk_at dksX24_mayStand_0 0 rfl rfl)
theorem dX24_mayStand_1 : decode cX24_mayStand 1 = .ok (.getfield 33, 3) := dk_180 0 33 (dk_at dksX24_mayStand_0 1 rfl rfl)
theorem dX24_mayStand_4 : decode cX24_mayStand 4 = .ok (.iload_n 2, 1) := dk_28 (dk_at dksX24_mayStand_0 4 rfl rfl)
theorem dX24_mayStand_5 : decode cX24_mayStand 5 = .ok (.iconst 1, 1) := dk_4 (dk_at dksX24_mayStand_0 5 rfl rfl)
theorem dX24_mayStand_6 : decode cX24_mayStand 6 = .ok (.isub, 1) := dk_100 (dk_at dksX24_mayStand_0 6 rfl rfl)
theorem dX24_mayStand_7 : decode cX24_mayStand 7 = .ok (.laload, 1) := dk_47 (dk_at dksX24_mayStand_0 7 rfl rfl)
theorem dX24_mayStand_8 : decode cX24_mayStand 8 = .ok (.lstore_n 3, 1) := dk_66 (dk_at dksX24_mayStand_0 8 rfl rfl)
theorem dX24_mayStand_9 : decode cX24_mayStand 9 = .ok (.aload_n 1, 1) := dk_43 (dk_at dksX24_mayStand_0 9 rfl rfl)
theorem dX24_mayStand_10 : decode cX24_mayStand 10 = .ok (.invokevirtual 66, 3) := dk_182 0 66 (dk_at dksX24_mayStand_0 10 rfl rfl)
theorem dX24_mayStand_13 : decode cX24_mayStand 13 = .ok (.tableswitch 489 0 5 #[39, 101, 154, 286, 390, 453], 39) := by decide +kernel
theorem dX24_mayStand_52 : decode cX24_mayStand 52 = .ok (.iload_n 2, 1) := dk_28 (dk_at dksX24_mayStand_2 0 rfl rfl)
theorem dX24_mayStand_53 : decode cX24_mayStand 53 = .ok (.iconst 1, 1) := dk_4 (dk_at dksX24_mayStand_2 1 rfl rfl)
theorem dX24_mayStand_54 : decode cX24_mayStand 54 = .ok (.if_icmp .ne 31, 3) := dk_160 0 31 (dk_at dksX24_mayStand_2 2 rfl rfl)
theorem dX24_mayStand_57 : decode cX24_mayStand 57 = .ok (.lload_n 3, 1) := dk_33 (dk_at dksX24_mayStand_2 5 rfl rfl)
theorem dX24_mayStand_58 : decode cX24_mayStand 58 = .ok (.ldc2_w 64, 3) := dk_20 0 64 (dk_at dksX24_mayStand_2 6 rfl rfl)
theorem dX24_mayStand_61 : decode cX24_mayStand 61 = .ok (.lcmp, 1) := dk_148 (dk_at dksX24_mayStand_2 9 rfl rfl)
theorem dX24_mayStand_62 : decode cX24_mayStand 62 = .ok (.ifCond .ge 19, 3) := dk_156 0 19 (dk_at dksX24_mayStand_2 10 rfl rfl)
theorem dX24_mayStand_65 : decode cX24_mayStand 65 = .ok (.aload_n 0, 1) := dk_42 (dk_at dksX24_mayStand_2 13 rfl rfl)
theorem dX24_mayStand_66 : decode cX24_mayStand 66 = .ok (.getfield 16, 3) := dk_180 0 16 (dk_at dksX24_mayStand_2 14 rfl rfl)
theorem dX24_mayStand_69 : decode cX24_mayStand 69 = .ok (.getfield 69, 3) := dk_180 0 69 (dk_at dksX24_mayStand_2 17 rfl rfl)
theorem dX24_mayStand_72 : decode cX24_mayStand 72 = .ok (.bipush 10, 2) := dk_16 10 (dk_at dksX24_mayStand_2 20 rfl rfl)
theorem dX24_mayStand_74 : decode cX24_mayStand 74 = .ok (.if_icmp .ge 7, 3) := dk_162 0 7 (dk_at dksX24_mayStand_3 0 rfl rfl)
theorem dX24_mayStand_77 : decode cX24_mayStand 77 = .ok (.iconst 1, 1) := dk_4 (dk_at dksX24_mayStand_3 3 rfl rfl)
theorem dX24_mayStand_78 : decode cX24_mayStand 78 = .ok (.goto 35, 3) := dk_167 0 35 (dk_at dksX24_mayStand_3 4 rfl rfl)
theorem dX24_mayStand_81 : decode cX24_mayStand 81 = .ok (.iconst 0, 1) := dk_3 (dk_at dksX24_mayStand_3 7 rfl rfl)
theorem dX24_mayStand_82 : decode cX24_mayStand 82 = .ok (.goto 31, 3) := dk_167 0 31 (dk_at dksX24_mayStand_3 8 rfl rfl)
theorem dX24_mayStand_85 : decode cX24_mayStand 85 = .ok (.aload_n 0, 1) := dk_42 (dk_at dksX24_mayStand_3 11 rfl rfl)
theorem dX24_mayStand_86 : decode cX24_mayStand 86 = .ok (.getfield 16, 3) := dk_180 0 16 (dk_at dksX24_mayStand_3 12 rfl rfl)
theorem dX24_mayStand_89 : decode cX24_mayStand 89 = .ok (.aload_n 0, 1) := dk_42 (dk_at dksX24_mayStand_3 15 rfl rfl)
theorem dX24_mayStand_90 : decode cX24_mayStand 90 = .ok (.getfield 33, 3) := dk_180 0 33 (dk_at dksX24_mayStand_3 16 rfl rfl)
theorem dX24_mayStand_93 : decode cX24_mayStand 93 = .ok (.iconst 0, 1) := dk_3 (dk_at dksX24_mayStand_3 19 rfl rfl)
theorem dX24_mayStand_94 : decode cX24_mayStand 94 = .ok (.laload, 1) := dk_47 (dk_at dksX24_mayStand_3 20 rfl rfl)
theorem dX24_mayStand_95 : decode cX24_mayStand 95 = .ok (.aload_n 0, 1) := dk_42 (dk_at dksX24_mayStand_3 21 rfl rfl)
theorem dX24_mayStand_96 : decode cX24_mayStand 96 = .ok (.getfield 33, 3) := dk_180 0 33 (dk_at dksX24_mayStand_4 0 rfl rfl)
theorem dX24_mayStand_99 : decode cX24_mayStand 99 = .ok (.iconst 1, 1) := dk_4 (dk_at dksX24_mayStand_4 3 rfl rfl)
theorem dX24_mayStand_100 : decode cX24_mayStand 100 = .ok (.laload, 1) := dk_47 (dk_at dksX24_mayStand_4 4 rfl rfl)
theorem dX24_mayStand_101 : decode cX24_mayStand 101 = .ok (.invokevirtual 72, 3) := dk_182 0 72 (dk_at dksX24_mayStand_4 5 rfl rfl)
theorem dX24_mayStand_104 : decode cX24_mayStand 104 = .ok (.iconst (-1), 1) := dk_2 (dk_at dksX24_mayStand_4 8 rfl rfl)
theorem dX24_mayStand_105 : decode cX24_mayStand 105 = .ok (.if_icmp .eq 7, 3) := dk_159 0 7 (dk_at dksX24_mayStand_4 9 rfl rfl)
theorem dX24_mayStand_108 : decode cX24_mayStand 108 = .ok (.iconst 1, 1) := dk_4 (dk_at dksX24_mayStand_4 12 rfl rfl)
theorem dX24_mayStand_109 : decode cX24_mayStand 109 = .ok (.goto 4, 3) := dk_167 0 4 (dk_at dksX24_mayStand_4 13 rfl rfl)
theorem dX24_mayStand_112 : decode cX24_mayStand 112 = .ok (.iconst 0, 1) := dk_3 (dk_at dksX24_mayStand_4 16 rfl rfl)
theorem dX24_mayStand_113 : decode cX24_mayStand 113 = .ok (.ireturn, 1) := dk_172 (dk_at dksX24_mayStand_4 17 rfl rfl)
theorem dX24_mayStand_114 : decode cX24_mayStand 114 = .ok (.iload_n 2, 1) := dk_28 (dk_at dksX24_mayStand_4 18 rfl rfl)
theorem dX24_mayStand_115 : decode cX24_mayStand 115 = .ok (.iconst 1, 1) := dk_4 (dk_at dksX24_mayStand_4 19 rfl rfl)
theorem dX24_mayStand_116 : decode cX24_mayStand 116 = .ok (.if_icmp .ne 31, 3) := dk_160 0 31 (dk_at dksX24_mayStand_4 20 rfl rfl)
theorem dX24_mayStand_119 : decode cX24_mayStand 119 = .ok (.aload_n 0, 1) := dk_42 (dk_at dksX24_mayStand_4 23 rfl rfl)
theorem dX24_mayStand_120 : decode cX24_mayStand 120 = .ok (.getfield 16, 3) := dk_180 0 16 (dk_at dksX24_mayStand_5 0 rfl rfl)
theorem dX24_mayStand_123 : decode cX24_mayStand 123 = .ok (.lload_n 3, 1) := dk_33 (dk_at dksX24_mayStand_5 3 rfl rfl)
theorem dX24_mayStand_124 : decode cX24_mayStand 124 = .ok (.invokevirtual 76, 3) := dk_182 0 76 (dk_at dksX24_mayStand_5 4 rfl rfl)
theorem dX24_mayStand_127 : decode cX24_mayStand 127 = .ok (.ifCond .eq 16, 3) := dk_153 0 16 (dk_at dksX24_mayStand_5 7 rfl rfl)
theorem dX24_mayStand_130 : decode cX24_mayStand 130 = .ok (.aload_n 0, 1) := dk_42 (dk_at dksX24_mayStand_5 10 rfl rfl)
theorem dX24_mayStand_131 : decode cX24_mayStand 131 = .ok (.lload_n 3, 1) := dk_33 (dk_at dksX24_mayStand_5 11 rfl rfl)
theorem dX24_mayStand_132 : decode cX24_mayStand 132 = .ok (.l2i, 1) := dk_136 (dk_at dksX24_mayStand_5 12 rfl rfl)
theorem dX24_mayStand_133 : decode cX24_mayStand 133 = .ok (.invokevirtual 80, 3) := dk_182 0 80 (dk_at dksX24_mayStand_5 13 rfl rfl)
theorem dX24_mayStand_136 : decode cX24_mayStand 136 = .ok (.ifCond .eq 7, 3) := dk_153 0 7 (dk_at dksX24_mayStand_5 16 rfl rfl)
theorem dX24_mayStand_139 : decode cX24_mayStand 139 = .ok (.iconst 1, 1) := dk_4 (dk_at dksX24_mayStand_5 19 rfl rfl)
theorem dX24_mayStand_140 : decode cX24_mayStand 140 = .ok (.goto 26, 3) := dk_167 0 26 (dk_at dksX24_mayStand_5 20 rfl rfl)
theorem dX24_mayStand_143 : decode cX24_mayStand 143 = .ok (.iconst 0, 1) := dk_3 (dk_at dksX24_mayStand_5 23 rfl rfl)
theorem dX24_mayStand_144 : decode cX24_mayStand 144 = .ok (.goto 22, 3) := dk_167 0 22 (dk_at dksX24_mayStand_6 0 rfl rfl)
theorem dX24_mayStand_147 : decode cX24_mayStand 147 = .ok (.aload_n 0, 1) := dk_42 (dk_at dksX24_mayStand_6 3 rfl rfl)
theorem dX24_mayStand_148 : decode cX24_mayStand 148 = .ok (.getfield 16, 3) := dk_180 0 16 (dk_at dksX24_mayStand_6 4 rfl rfl)
theorem dX24_mayStand_151 : decode cX24_mayStand 151 = .ok (.aload_n 0, 1) := dk_42 (dk_at dksX24_mayStand_6 7 rfl rfl)
theorem dX24_mayStand_152 : decode cX24_mayStand 152 = .ok (.getfield 33, 3) := dk_180 0 33 (dk_at dksX24_mayStand_6 8 rfl rfl)
theorem dX24_mayStand_155 : decode cX24_mayStand 155 = .ok (.iconst 0, 1) := dk_3 (dk_at dksX24_mayStand_6 11 rfl rfl)
theorem dX24_mayStand_156 : decode cX24_mayStand 156 = .ok (.laload, 1) := dk_47 (dk_at dksX24_mayStand_6 12 rfl rfl)
theorem dX24_mayStand_157 : decode cX24_mayStand 157 = .ok (.aload_n 0, 1) := dk_42 (dk_at dksX24_mayStand_6 13 rfl rfl)
theorem dX24_mayStand_158 : decode cX24_mayStand 158 = .ok (.getfield 33, 3) := dk_180 0 33 (dk_at dksX24_mayStand_6 14 rfl rfl)
theorem dX24_mayStand_161 : decode cX24_mayStand 161 = .ok (.iconst 1, 1) := dk_4 (dk_at dksX24_mayStand_6 17 rfl rfl)
theorem dX24_mayStand_162 : decode cX24_mayStand 162 = .ok (.laload, 1) := dk_47 (dk_at dksX24_mayStand_6 18 rfl rfl)
theorem dX24_mayStand_163 : decode cX24_mayStand 163 = .ok (.invokevirtual 83, 3) := dk_182 0 83 (dk_at dksX24_mayStand_6 19 rfl rfl)
theorem dX24_mayStand_166 : decode cX24_mayStand 166 = .ok (.ireturn, 1) := dk_172 (dk_at dksX24_mayStand_6 22 rfl rfl)
theorem dX24_mayStand_167 : decode cX24_mayStand 167 = .ok (.iload_n 2, 1) := dk_28 (dk_at dksX24_mayStand_6 23 rfl rfl)
theorem dX24_mayStand_168 : decode cX24_mayStand 168 = .ok (.iconst 1, 1) := dk_4 (dk_at dksX24_mayStand_7 0 rfl rfl)
theorem dX24_mayStand_169 : decode cX24_mayStand 169 = .ok (.if_icmp .ne 31, 3) := dk_160 0 31 (dk_at dksX24_mayStand_7 1 rfl rfl)
theorem dX24_mayStand_172 : decode cX24_mayStand 172 = .ok (.aload_n 0, 1) := dk_42 (dk_at dksX24_mayStand_7 4 rfl rfl)
theorem dX24_mayStand_173 : decode cX24_mayStand 173 = .ok (.getfield 16, 3) := dk_180 0 16 (dk_at dksX24_mayStand_7 5 rfl rfl)
theorem dX24_mayStand_176 : decode cX24_mayStand 176 = .ok (.lload_n 3, 1) := dk_33 (dk_at dksX24_mayStand_7 8 rfl rfl)
theorem dX24_mayStand_177 : decode cX24_mayStand 177 = .ok (.invokevirtual 76, 3) := dk_182 0 76 (dk_at dksX24_mayStand_7 9 rfl rfl)
theorem dX24_mayStand_180 : decode cX24_mayStand 180 = .ok (.ifCond .eq 16, 3) := dk_153 0 16 (dk_at dksX24_mayStand_7 12 rfl rfl)
theorem dX24_mayStand_183 : decode cX24_mayStand 183 = .ok (.aload_n 0, 1) := dk_42 (dk_at dksX24_mayStand_7 15 rfl rfl)
theorem dX24_mayStand_184 : decode cX24_mayStand 184 = .ok (.lload_n 3, 1) := dk_33 (dk_at dksX24_mayStand_7 16 rfl rfl)
theorem dX24_mayStand_185 : decode cX24_mayStand 185 = .ok (.l2i, 1) := dk_136 (dk_at dksX24_mayStand_7 17 rfl rfl)
theorem dX24_mayStand_186 : decode cX24_mayStand 186 = .ok (.invokevirtual 87, 3) := dk_182 0 87 (dk_at dksX24_mayStand_7 18 rfl rfl)
theorem dX24_mayStand_189 : decode cX24_mayStand 189 = .ok (.ifCond .eq 7, 3) := dk_153 0 7 (dk_at dksX24_mayStand_7 21 rfl rfl)
theorem dX24_mayStand_192 : decode cX24_mayStand 192 = .ok (.iconst 1, 1) := dk_4 (dk_at dksX24_mayStand_8 0 rfl rfl)
theorem dX24_mayStand_193 : decode cX24_mayStand 193 = .ok (.goto 105, 3) := dk_167 0 105 (dk_at dksX24_mayStand_8 1 rfl rfl)
theorem dX24_mayStand_196 : decode cX24_mayStand 196 = .ok (.iconst 0, 1) := dk_3 (dk_at dksX24_mayStand_8 4 rfl rfl)
theorem dX24_mayStand_197 : decode cX24_mayStand 197 = .ok (.goto 101, 3) := dk_167 0 101 (dk_at dksX24_mayStand_8 5 rfl rfl)
theorem dX24_mayStand_200 : decode cX24_mayStand 200 = .ok (.iload_n 2, 1) := dk_28 (dk_at dksX24_mayStand_8 8 rfl rfl)
theorem dX24_mayStand_201 : decode cX24_mayStand 201 = .ok (.iconst 2, 1) := dk_5 (dk_at dksX24_mayStand_8 9 rfl rfl)
theorem dX24_mayStand_202 : decode cX24_mayStand 202 = .ok (.if_icmp .ne 35, 3) := dk_160 0 35 (dk_at dksX24_mayStand_8 10 rfl rfl)
theorem dX24_mayStand_205 : decode cX24_mayStand 205 = .ok (.lload_n 3, 1) := dk_33 (dk_at dksX24_mayStand_8 13 rfl rfl)
theorem dX24_mayStand_206 : decode cX24_mayStand 206 = .ok (.ldc2_w 90, 3) := dk_20 0 90 (dk_at dksX24_mayStand_8 14 rfl rfl)
theorem dX24_mayStand_209 : decode cX24_mayStand 209 = .ok (.lcmp, 1) := dk_148 (dk_at dksX24_mayStand_8 17 rfl rfl)
theorem dX24_mayStand_210 : decode cX24_mayStand 210 = .ok (.ifCond .ge 23, 3) := dk_156 0 23 (dk_at dksX24_mayStand_8 18 rfl rfl)
theorem dX24_mayStand_213 : decode cX24_mayStand 213 = .ok (.aload_n 0, 1) := dk_42 (dk_at dksX24_mayStand_8 21 rfl rfl)
theorem dX24_mayStand_214 : decode cX24_mayStand 214 = .ok (.aload_n 0, 1) := dk_42 (dk_at dksX24_mayStand_8 22 rfl rfl)
theorem dX24_mayStand_215 : decode cX24_mayStand 215 = .ok (.getfield 33, 3) := dk_180 0 33 (dk_at dksX24_mayStand_9 0 rfl rfl)
theorem dX24_mayStand_218 : decode cX24_mayStand 218 = .ok (.iconst 0, 1) := dk_3 (dk_at dksX24_mayStand_9 3 rfl rfl)
theorem dX24_mayStand_219 : decode cX24_mayStand 219 = .ok (.laload, 1) := dk_47 (dk_at dksX24_mayStand_9 4 rfl rfl)
theorem dX24_mayStand_220 : decode cX24_mayStand 220 = .ok (.l2i, 1) := dk_136 (dk_at dksX24_mayStand_9 5 rfl rfl)
theorem dX24_mayStand_221 : decode cX24_mayStand 221 = .ok (.lload_n 3, 1) := dk_33 (dk_at dksX24_mayStand_9 6 rfl rfl)
theorem dX24_mayStand_222 : decode cX24_mayStand 222 = .ok (.l2i, 1) := dk_136 (dk_at dksX24_mayStand_9 7 rfl rfl)
theorem dX24_mayStand_223 : decode cX24_mayStand 223 = .ok (.invokevirtual 92, 3) := dk_182 0 92 (dk_at dksX24_mayStand_9 8 rfl rfl)
theorem dX24_mayStand_226 : decode cX24_mayStand 226 = .ok (.ifCond .eq 7, 3) := dk_153 0 7 (dk_at dksX24_mayStand_9 11 rfl rfl)
theorem dX24_mayStand_229 : decode cX24_mayStand 229 = .ok (.iconst 1, 1) := dk_4 (dk_at dksX24_mayStand_9 14 rfl rfl)
theorem dX24_mayStand_230 : decode cX24_mayStand 230 = .ok (.goto 68, 3) := dk_167 0 68 (dk_at dksX24_mayStand_9 15 rfl rfl)
theorem dX24_mayStand_233 : decode cX24_mayStand 233 = .ok (.iconst 0, 1) := dk_3 (dk_at dksX24_mayStand_9 18 rfl rfl)
theorem dX24_mayStand_234 : decode cX24_mayStand 234 = .ok (.goto 64, 3) := dk_167 0 64 (dk_at dksX24_mayStand_9 19 rfl rfl)
theorem dX24_mayStand_237 : decode cX24_mayStand 237 = .ok (.aload_n 0, 1) := dk_42 (dk_at dksX24_mayStand_9 22 rfl rfl)
theorem dX24_mayStand_238 : decode cX24_mayStand 238 = .ok (.getfield 16, 3) := dk_180 0 16 (dk_at dksX24_mayStand_10 0 rfl rfl)
theorem dX24_mayStand_241 : decode cX24_mayStand 241 = .ok (.aload_n 0, 1) := dk_42 (dk_at dksX24_mayStand_10 3 rfl rfl)
theorem dX24_mayStand_242 : decode cX24_mayStand 242 = .ok (.getfield 33, 3) := dk_180 0 33 (dk_at dksX24_mayStand_10 4 rfl rfl)
theorem dX24_mayStand_245 : decode cX24_mayStand 245 = .ok (.iconst 0, 1) := dk_3 (dk_at dksX24_mayStand_10 7 rfl rfl)
theorem dX24_mayStand_246 : decode cX24_mayStand 246 = .ok (.laload, 1) := dk_47 (dk_at dksX24_mayStand_10 8 rfl rfl)
theorem dX24_mayStand_247 : decode cX24_mayStand 247 = .ok (.aload_n 0, 1) := dk_42 (dk_at dksX24_mayStand_10 9 rfl rfl)
theorem dX24_mayStand_248 : decode cX24_mayStand 248 = .ok (.getfield 33, 3) := dk_180 0 33 (dk_at dksX24_mayStand_10 10 rfl rfl)
theorem dX24_mayStand_251 : decode cX24_mayStand 251 = .ok (.iconst 1, 1) := dk_4 (dk_at dksX24_mayStand_10 13 rfl rfl)
theorem dX24_mayStand_252 : decode cX24_mayStand 252 = .ok (.laload, 1) := dk_47 (dk_at dksX24_mayStand_10 14 rfl rfl)
theorem dX24_mayStand_253 : decode cX24_mayStand 253 = .ok (.aload_n 0, 1) := dk_42 (dk_at dksX24_mayStand_10 15 rfl rfl)
theorem dX24_mayStand_254 : decode cX24_mayStand 254 = .ok (.getfield 33, 3) := dk_180 0 33 (dk_at dksX24_mayStand_10 16 rfl rfl)
theorem dX24_mayStand_257 : decode cX24_mayStand 257 = .ok (.iconst 2, 1) := dk_5 (dk_at dksX24_mayStand_10 19 rfl rfl)
theorem dX24_mayStand_258 : decode cX24_mayStand 258 = .ok (.laload, 1) := dk_47 (dk_at dksX24_mayStand_10 20 rfl rfl)
theorem dX24_mayStand_259 : decode cX24_mayStand 259 = .ok (.invokevirtual 96, 3) := dk_182 0 96 (dk_at dksX24_mayStand_10 21 rfl rfl)
theorem dX24_mayStand_262 : decode cX24_mayStand 262 = .ok (.ifCond .eq 35, 3) := dk_153 0 35 (dk_at dksX24_mayStand_11 0 rfl rfl)
theorem dX24_mayStand_265 : decode cX24_mayStand 265 = .ok (.aload_n 0, 1) := dk_42 (dk_at dksX24_mayStand_11 3 rfl rfl)
theorem dX24_mayStand_266 : decode cX24_mayStand 266 = .ok (.getfield 16, 3) := dk_180 0 16 (dk_at dksX24_mayStand_11 4 rfl rfl)
theorem dX24_mayStand_269 : decode cX24_mayStand 269 = .ok (.aload_n 0, 1) := dk_42 (dk_at dksX24_mayStand_11 7 rfl rfl)
theorem dX24_mayStand_270 : decode cX24_mayStand 270 = .ok (.getfield 33, 3) := dk_180 0 33 (dk_at dksX24_mayStand_11 8 rfl rfl)
theorem dX24_mayStand_273 : decode cX24_mayStand 273 = .ok (.iconst 0, 1) := dk_3 (dk_at dksX24_mayStand_11 11 rfl rfl)
theorem dX24_mayStand_274 : decode cX24_mayStand 274 = .ok (.laload, 1) := dk_47 (dk_at dksX24_mayStand_11 12 rfl rfl)
theorem dX24_mayStand_275 : decode cX24_mayStand 275 = .ok (.aload_n 0, 1) := dk_42 (dk_at dksX24_mayStand_11 13 rfl rfl)
theorem dX24_mayStand_276 : decode cX24_mayStand 276 = .ok (.getfield 33, 3) := dk_180 0 33 (dk_at dksX24_mayStand_11 14 rfl rfl)
theorem dX24_mayStand_279 : decode cX24_mayStand 279 = .ok (.iconst 1, 1) := dk_4 (dk_at dksX24_mayStand_11 17 rfl rfl)
theorem dX24_mayStand_280 : decode cX24_mayStand 280 = .ok (.laload, 1) := dk_47 (dk_at dksX24_mayStand_11 18 rfl rfl)
theorem dX24_mayStand_281 : decode cX24_mayStand 281 = .ok (.aload_n 0, 1) := dk_42 (dk_at dksX24_mayStand_11 19 rfl rfl)
theorem dX24_mayStand_282 : decode cX24_mayStand 282 = .ok (.getfield 33, 3) := dk_180 0 33 (dk_at dksX24_mayStand_11 20 rfl rfl)
theorem dX24_mayStand_285 : decode cX24_mayStand 285 = .ok (.iconst 2, 1) := dk_5 (dk_at dksX24_mayStand_11 23 rfl rfl)
theorem dX24_mayStand_286 : decode cX24_mayStand 286 = .ok (.laload, 1) := dk_47 (dk_at dksX24_mayStand_12 0 rfl rfl)
theorem dX24_mayStand_287 : decode cX24_mayStand 287 = .ok (.invokevirtual 100, 3) := dk_182 0 100 (dk_at dksX24_mayStand_12 1 rfl rfl)
theorem dX24_mayStand_290 : decode cX24_mayStand 290 = .ok (.ifCond .eq 7, 3) := dk_153 0 7 (dk_at dksX24_mayStand_12 4 rfl rfl)
theorem dX24_mayStand_293 : decode cX24_mayStand 293 = .ok (.iconst 1, 1) := dk_4 (dk_at dksX24_mayStand_12 7 rfl rfl)
theorem dX24_mayStand_294 : decode cX24_mayStand 294 = .ok (.goto 4, 3) := dk_167 0 4 (dk_at dksX24_mayStand_12 8 rfl rfl)
theorem dX24_mayStand_297 : decode cX24_mayStand 297 = .ok (.iconst 0, 1) := dk_3 (dk_at dksX24_mayStand_12 11 rfl rfl)
theorem dX24_mayStand_298 : decode cX24_mayStand 298 = .ok (.ireturn, 1) := dk_172 (dk_at dksX24_mayStand_12 12 rfl rfl)
theorem dX24_mayStand_299 : decode cX24_mayStand 299 = .ok (.iload_n 2, 1) := dk_28 (dk_at dksX24_mayStand_12 13 rfl rfl)
theorem dX24_mayStand_300 : decode cX24_mayStand 300 = .ok (.iconst 1, 1) := dk_4 (dk_at dksX24_mayStand_12 14 rfl rfl)
theorem dX24_mayStand_301 : decode cX24_mayStand 301 = .ok (.if_icmp .ne 45, 3) := dk_160 0 45 (dk_at dksX24_mayStand_12 15 rfl rfl)
theorem dX24_mayStand_304 : decode cX24_mayStand 304 = .ok (.aload_n 0, 1) := dk_42 (dk_at dksX24_mayStand_12 18 rfl rfl)
theorem dX24_mayStand_305 : decode cX24_mayStand 305 = .ok (.getfield 16, 3) := dk_180 0 16 (dk_at dksX24_mayStand_12 19 rfl rfl)
theorem dX24_mayStand_308 : decode cX24_mayStand 308 = .ok (.lload_n 3, 1) := dk_33 (dk_at dksX24_mayStand_12 22 rfl rfl)
theorem dX24_mayStand_309 : decode cX24_mayStand 309 = .ok (.invokevirtual 76, 3) := dk_182 0 76 (dk_at dksX24_mayStand_13 0 rfl rfl)
theorem dX24_mayStand_312 : decode cX24_mayStand 312 = .ok (.ifCond .eq 30, 3) := dk_153 0 30 (dk_at dksX24_mayStand_13 3 rfl rfl)
theorem dX24_mayStand_315 : decode cX24_mayStand 315 = .ok (.aload_n 0, 1) := dk_42 (dk_at dksX24_mayStand_13 6 rfl rfl)
theorem dX24_mayStand_316 : decode cX24_mayStand 316 = .ok (.getfield 16, 3) := dk_180 0 16 (dk_at dksX24_mayStand_13 7 rfl rfl)
theorem dX24_mayStand_319 : decode cX24_mayStand 319 = .ok (.getfield 69, 3) := dk_180 0 69 (dk_at dksX24_mayStand_13 10 rfl rfl)
theorem dX24_mayStand_322 : decode cX24_mayStand 322 = .ok (.iconst 1, 1) := dk_4 (dk_at dksX24_mayStand_13 13 rfl rfl)
theorem dX24_mayStand_323 : decode cX24_mayStand 323 = .ok (.if_icmp .le 19, 3) := dk_164 0 19 (dk_at dksX24_mayStand_13 14 rfl rfl)
theorem dX24_mayStand_326 : decode cX24_mayStand 326 = .ok (.aload_n 0, 1) := dk_42 (dk_at dksX24_mayStand_13 17 rfl rfl)
theorem dX24_mayStand_327 : decode cX24_mayStand 327 = .ok (.getfield 16, 3) := dk_180 0 16 (dk_at dksX24_mayStand_13 18 rfl rfl)
theorem dX24_mayStand_330 : decode cX24_mayStand 330 = .ok (.getfield 103, 3) := dk_180 0 103 (dk_at dksX24_mayStand_13 21 rfl rfl)
theorem dX24_mayStand_333 : decode cX24_mayStand 333 = .ok (.bipush 20, 2) := dk_16 20 (dk_at dksX24_mayStand_14 0 rfl rfl)
theorem dX24_mayStand_335 : decode cX24_mayStand 335 = .ok (.if_icmp .ge 7, 3) := dk_162 0 7 (dk_at dksX24_mayStand_14 2 rfl rfl)
theorem dX24_mayStand_338 : decode cX24_mayStand 338 = .ok (.iconst 1, 1) := dk_4 (dk_at dksX24_mayStand_14 5 rfl rfl)
theorem dX24_mayStand_339 : decode cX24_mayStand 339 = .ok (.goto 63, 3) := dk_167 0 63 (dk_at dksX24_mayStand_14 6 rfl rfl)
theorem dX24_mayStand_342 : decode cX24_mayStand 342 = .ok (.iconst 0, 1) := dk_3 (dk_at dksX24_mayStand_14 9 rfl rfl)
theorem dX24_mayStand_343 : decode cX24_mayStand 343 = .ok (.goto 59, 3) := dk_167 0 59 (dk_at dksX24_mayStand_14 10 rfl rfl)
theorem dX24_mayStand_346 : decode cX24_mayStand 346 = .ok (.iload_n 2, 1) := dk_28 (dk_at dksX24_mayStand_14 13 rfl rfl)
theorem dX24_mayStand_347 : decode cX24_mayStand 347 = .ok (.iconst 2, 1) := dk_5 (dk_at dksX24_mayStand_14 14 rfl rfl)
theorem dX24_mayStand_348 : decode cX24_mayStand 348 = .ok (.if_icmp .ne 20, 3) := dk_160 0 20 (dk_at dksX24_mayStand_14 15 rfl rfl)
theorem dX24_mayStand_351 : decode cX24_mayStand 351 = .ok (.aload_n 0, 1) := dk_42 (dk_at dksX24_mayStand_14 18 rfl rfl)
theorem dX24_mayStand_352 : decode cX24_mayStand 352 = .ok (.getfield 16, 3) := dk_180 0 16 (dk_at dksX24_mayStand_14 19 rfl rfl)
theorem dX24_mayStand_355 : decode cX24_mayStand 355 = .ok (.aload_n 0, 1) := dk_42 (dk_at dksX24_mayStand_14 22 rfl rfl)
theorem dX24_mayStand_356 : decode cX24_mayStand 356 = .ok (.getfield 33, 3) := dk_180 0 33 (dk_at dksX24_mayStand_15 0 rfl rfl)
theorem dX24_mayStand_359 : decode cX24_mayStand 359 = .ok (.iconst 0, 1) := dk_3 (dk_at dksX24_mayStand_15 3 rfl rfl)
theorem dX24_mayStand_360 : decode cX24_mayStand 360 = .ok (.laload, 1) := dk_47 (dk_at dksX24_mayStand_15 4 rfl rfl)
theorem dX24_mayStand_361 : decode cX24_mayStand 361 = .ok (.lload_n 3, 1) := dk_33 (dk_at dksX24_mayStand_15 5 rfl rfl)
theorem dX24_mayStand_362 : decode cX24_mayStand 362 = .ok (.invokevirtual 106, 3) := dk_182 0 106 (dk_at dksX24_mayStand_15 6 rfl rfl)
theorem dX24_mayStand_365 : decode cX24_mayStand 365 = .ok (.goto 37, 3) := dk_167 0 37 (dk_at dksX24_mayStand_15 9 rfl rfl)
theorem dX24_mayStand_368 : decode cX24_mayStand 368 = .ok (.aload_n 0, 1) := dk_42 (dk_at dksX24_mayStand_15 12 rfl rfl)
theorem dX24_mayStand_369 : decode cX24_mayStand 369 = .ok (.getfield 16, 3) := dk_180 0 16 (dk_at dksX24_mayStand_15 13 rfl rfl)
theorem dX24_mayStand_372 : decode cX24_mayStand 372 = .ok (.aload_n 0, 1) := dk_42 (dk_at dksX24_mayStand_15 16 rfl rfl)
theorem dX24_mayStand_373 : decode cX24_mayStand 373 = .ok (.getfield 33, 3) := dk_180 0 33 (dk_at dksX24_mayStand_15 17 rfl rfl)
theorem dX24_mayStand_376 : decode cX24_mayStand 376 = .ok (.iconst 0, 1) := dk_3 (dk_at dksX24_mayStand_15 20 rfl rfl)
theorem dX24_mayStand_377 : decode cX24_mayStand 377 = .ok (.laload, 1) := dk_47 (dk_at dksX24_mayStand_15 21 rfl rfl)
theorem dX24_mayStand_378 : decode cX24_mayStand 378 = .ok (.aload_n 0, 1) := dk_42 (dk_at dksX24_mayStand_15 22 rfl rfl)
theorem dX24_mayStand_379 : decode cX24_mayStand 379 = .ok (.getfield 33, 3) := dk_180 0 33 (dk_at dksX24_mayStand_16 0 rfl rfl)
theorem dX24_mayStand_382 : decode cX24_mayStand 382 = .ok (.iconst 1, 1) := dk_4 (dk_at dksX24_mayStand_16 3 rfl rfl)
theorem dX24_mayStand_383 : decode cX24_mayStand 383 = .ok (.laload, 1) := dk_47 (dk_at dksX24_mayStand_16 4 rfl rfl)
theorem dX24_mayStand_384 : decode cX24_mayStand 384 = .ok (.aload_n 0, 1) := dk_42 (dk_at dksX24_mayStand_16 5 rfl rfl)
theorem dX24_mayStand_385 : decode cX24_mayStand 385 = .ok (.getfield 33, 3) := dk_180 0 33 (dk_at dksX24_mayStand_16 6 rfl rfl)
theorem dX24_mayStand_388 : decode cX24_mayStand 388 = .ok (.iconst 2, 1) := dk_5 (dk_at dksX24_mayStand_16 9 rfl rfl)
theorem dX24_mayStand_389 : decode cX24_mayStand 389 = .ok (.laload, 1) := dk_47 (dk_at dksX24_mayStand_16 10 rfl rfl)
theorem dX24_mayStand_390 : decode cX24_mayStand 390 = .ok (.invokevirtual 109, 3) := dk_182 0 109 (dk_at dksX24_mayStand_16 11 rfl rfl)
theorem dX24_mayStand_393 : decode cX24_mayStand 393 = .ok (.iconst (-1), 1) := dk_2 (dk_at dksX24_mayStand_16 14 rfl rfl)
theorem dX24_mayStand_394 : decode cX24_mayStand 394 = .ok (.if_icmp .eq 7, 3) := dk_159 0 7 (dk_at dksX24_mayStand_16 15 rfl rfl)
theorem dX24_mayStand_397 : decode cX24_mayStand 397 = .ok (.iconst 1, 1) := dk_4 (dk_at dksX24_mayStand_16 18 rfl rfl)
theorem dX24_mayStand_398 : decode cX24_mayStand 398 = .ok (.goto 4, 3) := dk_167 0 4 (dk_at dksX24_mayStand_16 19 rfl rfl)
theorem dX24_mayStand_401 : decode cX24_mayStand 401 = .ok (.iconst 0, 1) := dk_3 (dk_at dksX24_mayStand_16 22 rfl rfl)
theorem dX24_mayStand_402 : decode cX24_mayStand 402 = .ok (.ireturn, 1) := dk_172 (dk_at dksX24_mayStand_16 23 rfl rfl)
theorem dX24_mayStand_403 : decode cX24_mayStand 403 = .ok (.iload_n 2, 1) := dk_28 (dk_at dksX24_mayStand_17 0 rfl rfl)
theorem dX24_mayStand_404 : decode cX24_mayStand 404 = .ok (.iconst 1, 1) := dk_4 (dk_at dksX24_mayStand_17 1 rfl rfl)
theorem dX24_mayStand_405 : decode cX24_mayStand 405 = .ok (.if_icmp .ne 41, 3) := dk_160 0 41 (dk_at dksX24_mayStand_17 2 rfl rfl)
theorem dX24_mayStand_408 : decode cX24_mayStand 408 = .ok (.aload_n 0, 1) := dk_42 (dk_at dksX24_mayStand_17 5 rfl rfl)
theorem dX24_mayStand_409 : decode cX24_mayStand 409 = .ok (.getfield 16, 3) := dk_180 0 16 (dk_at dksX24_mayStand_17 6 rfl rfl)
theorem dX24_mayStand_412 : decode cX24_mayStand 412 = .ok (.lload_n 3, 1) := dk_33 (dk_at dksX24_mayStand_17 9 rfl rfl)
theorem dX24_mayStand_413 : decode cX24_mayStand 413 = .ok (.invokevirtual 76, 3) := dk_182 0 76 (dk_at dksX24_mayStand_17 10 rfl rfl)
theorem dX24_mayStand_416 : decode cX24_mayStand 416 = .ok (.ifCond .eq 26, 3) := dk_153 0 26 (dk_at dksX24_mayStand_17 13 rfl rfl)
theorem dX24_mayStand_419 : decode cX24_mayStand 419 = .ok (.aload_n 0, 1) := dk_42 (dk_at dksX24_mayStand_17 16 rfl rfl)
theorem dX24_mayStand_420 : decode cX24_mayStand 420 = .ok (.getfield 16, 3) := dk_180 0 16 (dk_at dksX24_mayStand_17 17 rfl rfl)
theorem dX24_mayStand_423 : decode cX24_mayStand 423 = .ok (.getfield 113, 3) := dk_180 0 113 (dk_at dksX24_mayStand_17 20 rfl rfl)
theorem dX24_mayStand_426 : decode cX24_mayStand 426 = .ok (.lload_n 3, 1) := dk_33 (dk_at dksX24_mayStand_17 23 rfl rfl)
theorem dX24_mayStand_427 : decode cX24_mayStand 427 = .ok (.l2i, 1) := dk_136 (dk_at dksX24_mayStand_18 0 rfl rfl)
theorem dX24_mayStand_428 : decode cX24_mayStand 428 = .ok (.aaload, 1) := dk_50 (dk_at dksX24_mayStand_18 1 rfl rfl)
theorem dX24_mayStand_429 : decode cX24_mayStand 429 = .ok (.getfield 117, 3) := dk_180 0 117 (dk_at dksX24_mayStand_18 2 rfl rfl)
theorem dX24_mayStand_432 : decode cX24_mayStand 432 = .ok (.sipush 255, 3) := dk_17 0 255 (dk_at dksX24_mayStand_18 5 rfl rfl)
theorem dX24_mayStand_435 : decode cX24_mayStand 435 = .ok (.if_icmp .eq 7, 3) := dk_159 0 7 (dk_at dksX24_mayStand_18 8 rfl rfl)
theorem dX24_mayStand_438 : decode cX24_mayStand 438 = .ok (.iconst 1, 1) := dk_4 (dk_at dksX24_mayStand_18 11 rfl rfl)
theorem dX24_mayStand_439 : decode cX24_mayStand 439 = .ok (.goto 26, 3) := dk_167 0 26 (dk_at dksX24_mayStand_18 12 rfl rfl)
theorem dX24_mayStand_442 : decode cX24_mayStand 442 = .ok (.iconst 0, 1) := dk_3 (dk_at dksX24_mayStand_18 15 rfl rfl)
theorem dX24_mayStand_443 : decode cX24_mayStand 443 = .ok (.goto 22, 3) := dk_167 0 22 (dk_at dksX24_mayStand_18 16 rfl rfl)
theorem dX24_mayStand_446 : decode cX24_mayStand 446 = .ok (.aload_n 0, 1) := dk_42 (dk_at dksX24_mayStand_18 19 rfl rfl)
theorem dX24_mayStand_447 : decode cX24_mayStand 447 = .ok (.getfield 16, 3) := dk_180 0 16 (dk_at dksX24_mayStand_18 20 rfl rfl)
theorem dX24_mayStand_450 : decode cX24_mayStand 450 = .ok (.aload_n 0, 1) := dk_42 (dk_at dksX24_mayStand_18 23 rfl rfl)
theorem dX24_mayStand_451 : decode cX24_mayStand 451 = .ok (.getfield 33, 3) := dk_180 0 33 (dk_at dksX24_mayStand_19 0 rfl rfl)
theorem dX24_mayStand_454 : decode cX24_mayStand 454 = .ok (.iconst 0, 1) := dk_3 (dk_at dksX24_mayStand_19 3 rfl rfl)
theorem dX24_mayStand_455 : decode cX24_mayStand 455 = .ok (.laload, 1) := dk_47 (dk_at dksX24_mayStand_19 4 rfl rfl)
theorem dX24_mayStand_456 : decode cX24_mayStand 456 = .ok (.aload_n 0, 1) := dk_42 (dk_at dksX24_mayStand_19 5 rfl rfl)
theorem dX24_mayStand_457 : decode cX24_mayStand 457 = .ok (.getfield 33, 3) := dk_180 0 33 (dk_at dksX24_mayStand_19 6 rfl rfl)
theorem dX24_mayStand_460 : decode cX24_mayStand 460 = .ok (.iconst 1, 1) := dk_4 (dk_at dksX24_mayStand_19 9 rfl rfl)
theorem dX24_mayStand_461 : decode cX24_mayStand 461 = .ok (.laload, 1) := dk_47 (dk_at dksX24_mayStand_19 10 rfl rfl)
theorem dX24_mayStand_462 : decode cX24_mayStand 462 = .ok (.invokevirtual 122, 3) := dk_182 0 122 (dk_at dksX24_mayStand_19 11 rfl rfl)
theorem dX24_mayStand_465 : decode cX24_mayStand 465 = .ok (.ireturn, 1) := dk_172 (dk_at dksX24_mayStand_19 14 rfl rfl)
theorem dX24_mayStand_466 : decode cX24_mayStand 466 = .ok (.iload_n 2, 1) := dk_28 (dk_at dksX24_mayStand_19 15 rfl rfl)
theorem dX24_mayStand_467 : decode cX24_mayStand 467 = .ok (.iconst 1, 1) := dk_4 (dk_at dksX24_mayStand_19 16 rfl rfl)
theorem dX24_mayStand_468 : decode cX24_mayStand 468 = .ok (.if_icmp .ne 14, 3) := dk_160 0 14 (dk_at dksX24_mayStand_19 17 rfl rfl)
theorem dX24_mayStand_471 : decode cX24_mayStand 471 = .ok (.aload_n 0, 1) := dk_42 (dk_at dksX24_mayStand_19 20 rfl rfl)
theorem dX24_mayStand_472 : decode cX24_mayStand 472 = .ok (.getfield 16, 3) := dk_180 0 16 (dk_at dksX24_mayStand_19 21 rfl rfl)
theorem dX24_mayStand_475 : decode cX24_mayStand 475 = .ok (.lload_n 3, 1) := dk_33 (dk_at dksX24_mayStand_20 0 rfl rfl)
theorem dX24_mayStand_476 : decode cX24_mayStand 476 = .ok (.invokevirtual 76, 3) := dk_182 0 76 (dk_at dksX24_mayStand_20 1 rfl rfl)
theorem dX24_mayStand_479 : decode cX24_mayStand 479 = .ok (.goto 22, 3) := dk_167 0 22 (dk_at dksX24_mayStand_20 4 rfl rfl)
theorem dX24_mayStand_482 : decode cX24_mayStand 482 = .ok (.aload_n 0, 1) := dk_42 (dk_at dksX24_mayStand_20 7 rfl rfl)
theorem dX24_mayStand_483 : decode cX24_mayStand 483 = .ok (.getfield 16, 3) := dk_180 0 16 (dk_at dksX24_mayStand_20 8 rfl rfl)
theorem dX24_mayStand_486 : decode cX24_mayStand 486 = .ok (.aload_n 0, 1) := dk_42 (dk_at dksX24_mayStand_20 11 rfl rfl)
theorem dX24_mayStand_487 : decode cX24_mayStand 487 = .ok (.getfield 33, 3) := dk_180 0 33 (dk_at dksX24_mayStand_20 12 rfl rfl)
theorem dX24_mayStand_490 : decode cX24_mayStand 490 = .ok (.iconst 0, 1) := dk_3 (dk_at dksX24_mayStand_20 15 rfl rfl)
theorem dX24_mayStand_491 : decode cX24_mayStand 491 = .ok (.laload, 1) := dk_47 (dk_at dksX24_mayStand_20 16 rfl rfl)
theorem dX24_mayStand_492 : decode cX24_mayStand 492 = .ok (.aload_n 0, 1) := dk_42 (dk_at dksX24_mayStand_20 17 rfl rfl)
theorem dX24_mayStand_493 : decode cX24_mayStand 493 = .ok (.getfield 33, 3) := dk_180 0 33 (dk_at dksX24_mayStand_20 18 rfl rfl)
theorem dX24_mayStand_496 : decode cX24_mayStand 496 = .ok (.iconst 1, 1) := dk_4 (dk_at dksX24_mayStand_20 21 rfl rfl)
theorem dX24_mayStand_497 : decode cX24_mayStand 497 = .ok (.laload, 1) := dk_47 (dk_at dksX24_mayStand_20 22 rfl rfl)
theorem dX24_mayStand_498 : decode cX24_mayStand 498 = .ok (.invokevirtual 125, 3) := dk_182 0 125 (dk_at dksX24_mayStand_21 0 rfl rfl)
theorem dX24_mayStand_501 : decode cX24_mayStand 501 = .ok (.ireturn, 1) := dk_172 (dk_at dksX24_mayStand_21 3 rfl rfl)
theorem dX24_mayStand_502 : decode cX24_mayStand 502 = .ok (.iload_n 2, 1) := dk_28 (dk_at dksX24_mayStand_21 4 rfl rfl)
theorem dX24_mayStand_503 : decode cX24_mayStand 503 = .ok (.iconst 1, 1) := dk_4 (dk_at dksX24_mayStand_21 5 rfl rfl)
theorem dX24_mayStand_504 : decode cX24_mayStand 504 = .ok (.if_icmp .ne 14, 3) := dk_160 0 14 (dk_at dksX24_mayStand_21 6 rfl rfl)
theorem dX24_mayStand_507 : decode cX24_mayStand 507 = .ok (.aload_n 0, 1) := dk_42 (dk_at dksX24_mayStand_21 9 rfl rfl)
theorem dX24_mayStand_508 : decode cX24_mayStand 508 = .ok (.getfield 16, 3) := dk_180 0 16 (dk_at dksX24_mayStand_21 10 rfl rfl)
theorem dX24_mayStand_511 : decode cX24_mayStand 511 = .ok (.lload_n 3, 1) := dk_33 (dk_at dksX24_mayStand_21 13 rfl rfl)
theorem dX24_mayStand_512 : decode cX24_mayStand 512 = .ok (.invokevirtual 76, 3) := dk_182 0 76 (dk_at dksX24_mayStand_21 14 rfl rfl)
theorem dX24_mayStand_515 : decode cX24_mayStand 515 = .ok (.goto 31, 3) := dk_167 0 31 (dk_at dksX24_mayStand_21 17 rfl rfl)
theorem dX24_mayStand_518 : decode cX24_mayStand 518 = .ok (.aload_n 0, 1) := dk_42 (dk_at dksX24_mayStand_21 20 rfl rfl)
theorem dX24_mayStand_519 : decode cX24_mayStand 519 = .ok (.getfield 16, 3) := dk_180 0 16 (dk_at dksX24_mayStand_21 21 rfl rfl)
theorem dX24_mayStand_522 : decode cX24_mayStand 522 = .ok (.aload_n 0, 1) := dk_42 (dk_at dksX24_mayStand_22 0 rfl rfl)
theorem dX24_mayStand_523 : decode cX24_mayStand 523 = .ok (.getfield 33, 3) := dk_180 0 33 (dk_at dksX24_mayStand_22 1 rfl rfl)
theorem dX24_mayStand_526 : decode cX24_mayStand 526 = .ok (.iconst 0, 1) := dk_3 (dk_at dksX24_mayStand_22 4 rfl rfl)
theorem dX24_mayStand_527 : decode cX24_mayStand 527 = .ok (.laload, 1) := dk_47 (dk_at dksX24_mayStand_22 5 rfl rfl)
theorem dX24_mayStand_528 : decode cX24_mayStand 528 = .ok (.aload_n 0, 1) := dk_42 (dk_at dksX24_mayStand_22 6 rfl rfl)
theorem dX24_mayStand_529 : decode cX24_mayStand 529 = .ok (.getfield 33, 3) := dk_180 0 33 (dk_at dksX24_mayStand_22 7 rfl rfl)
theorem dX24_mayStand_532 : decode cX24_mayStand 532 = .ok (.iconst 1, 1) := dk_4 (dk_at dksX24_mayStand_22 10 rfl rfl)
theorem dX24_mayStand_533 : decode cX24_mayStand 533 = .ok (.laload, 1) := dk_47 (dk_at dksX24_mayStand_22 11 rfl rfl)
theorem dX24_mayStand_534 : decode cX24_mayStand 534 = .ok (.invokevirtual 128, 3) := dk_182 0 128 (dk_at dksX24_mayStand_22 12 rfl rfl)
theorem dX24_mayStand_537 : decode cX24_mayStand 537 = .ok (.iconst (-1), 1) := dk_2 (dk_at dksX24_mayStand_22 15 rfl rfl)
theorem dX24_mayStand_538 : decode cX24_mayStand 538 = .ok (.if_icmp .eq 7, 3) := dk_159 0 7 (dk_at dksX24_mayStand_22 16 rfl rfl)
theorem dX24_mayStand_541 : decode cX24_mayStand 541 = .ok (.iconst 1, 1) := dk_4 (dk_at dksX24_mayStand_22 19 rfl rfl)
theorem dX24_mayStand_542 : decode cX24_mayStand 542 = .ok (.goto 4, 3) := dk_167 0 4 (dk_at dksX24_mayStand_22 20 rfl rfl)
theorem dX24_mayStand_545 : decode cX24_mayStand 545 = .ok (.iconst 0, 1) := dk_3 (dk_at dksX24_mayStand_22 23 rfl rfl)
theorem dX24_mayStand_546 : decode cX24_mayStand 546 = .ok (.ireturn, 1) := dk_172 (dk_at dksX24_mayStand_23 0 rfl rfl)
abbrev cX24_part : ByteArray := prog_27_method_22_code
def yX24_part : MethodName := ⟨RX24, "part", "(IJ)I"⟩
def dkwX24_part_0 : List UInt8 := [42, 180, 0, 10, 27, 133, 32, 182, 0, 72, 172]
abbrev dktX24_part_0 : List UInt8 := dkwX24_part_0 ++ []
theorem dksX24_part_0 : cX24_part.data.toList.drop 0 = dktX24_part_0 := by decide +kernel
theorem dX24_part_0 : decode cX24_part 0 = .ok (.aload_n 0, 1) := dk_42 (dk_at dksX24_part_0 0 rfl rfl)
theorem dX24_part_1 : decode cX24_part 1 = .ok (.getfield 10, 3) := dk_180 0 10 (dk_at dksX24_part_0 1 rfl rfl)
theorem dX24_part_4 : decode cX24_part 4 = .ok (.iload_n 1, 1) := dk_27 (dk_at dksX24_part_0 4 rfl rfl)
theorem dX24_part_5 : decode cX24_part 5 = .ok (.i2l, 1) := dk_133 (dk_at dksX24_part_0 5 rfl rfl)
theorem dX24_part_6 : decode cX24_part 6 = .ok (.lload_n 2, 1) := dk_32 (dk_at dksX24_part_0 6 rfl rfl)
theorem dX24_part_7 : decode cX24_part 7 = .ok (.invokevirtual 72, 3) := dk_182 0 72 (dk_at dksX24_part_0 7 rfl rfl)
theorem dX24_part_10 : decode cX24_part 10 = .ok (.ireturn, 1) := dk_172 (dk_at dksX24_part_0 10 rfl rfl)
abbrev cX24_fasten : ByteArray := prog_27_method_23_code
def yX24_fasten : MethodName := ⟨RX24, "fasten", "(III)I"⟩
def dkwX24_fasten_0 : List UInt8 := [42, 180, 0, 10, 27, 133, 28, 133, 29, 133, 182, 0, 109, 172]
abbrev dktX24_fasten_0 : List UInt8 := dkwX24_fasten_0 ++ []
theorem dksX24_fasten_0 : cX24_fasten.data.toList.drop 0 = dktX24_fasten_0 := by decide +kernel
theorem dX24_fasten_0 : decode cX24_fasten 0 = .ok (.aload_n 0, 1) := dk_42 (dk_at dksX24_fasten_0 0 rfl rfl)
theorem dX24_fasten_1 : decode cX24_fasten 1 = .ok (.getfield 10, 3) := dk_180 0 10 (dk_at dksX24_fasten_0 1 rfl rfl)
theorem dX24_fasten_4 : decode cX24_fasten 4 = .ok (.iload_n 1, 1) := dk_27 (dk_at dksX24_fasten_0 4 rfl rfl)
theorem dX24_fasten_5 : decode cX24_fasten 5 = .ok (.i2l, 1) := dk_133 (dk_at dksX24_fasten_0 5 rfl rfl)
theorem dX24_fasten_6 : decode cX24_fasten 6 = .ok (.iload_n 2, 1) := dk_28 (dk_at dksX24_fasten_0 6 rfl rfl)
theorem dX24_fasten_7 : decode cX24_fasten 7 = .ok (.i2l, 1) := dk_133 (dk_at dksX24_fasten_0 7 rfl rfl)
theorem dX24_fasten_8 : decode cX24_fasten 8 = .ok (.iload_n 3, 1) := dk_29 (dk_at dksX24_fasten_0 8 rfl rfl)
theorem dX24_fasten_9 : decode cX24_fasten 9 = .ok (.i2l, 1) := dk_133 (dk_at dksX24_fasten_0 9 rfl rfl)
theorem dX24_fasten_10 : decode cX24_fasten 10 = .ok (.invokevirtual 109, 3) := dk_182 0 109 (dk_at dksX24_fasten_0 10 rfl rfl)
theorem dX24_fasten_13 : decode cX24_fasten 13 = .ok (.ireturn, 1) := dk_172 (dk_at dksX24_fasten_0 13 rfl rfl)
abbrev cX24_cover : ByteArray := prog_27_method_24_code
def yX24_cover : MethodName := ⟨RX24, "cover", "(II)Z"⟩
def dkwX24_cover_0 : List UInt8 := [42, 180, 0, 10, 27, 133, 28, 133, 182, 0, 83, 172]
abbrev dktX24_cover_0 : List UInt8 := dkwX24_cover_0 ++ []
theorem dksX24_cover_0 : cX24_cover.data.toList.drop 0 = dktX24_cover_0 := by decide +kernel
theorem dX24_cover_0 : decode cX24_cover 0 = .ok (.aload_n 0, 1) := dk_42 (dk_at dksX24_cover_0 0 rfl rfl)
theorem dX24_cover_1 : decode cX24_cover 1 = .ok (.getfield 10, 3) := dk_180 0 10 (dk_at dksX24_cover_0 1 rfl rfl)
theorem dX24_cover_4 : decode cX24_cover 4 = .ok (.iload_n 1, 1) := dk_27 (dk_at dksX24_cover_0 4 rfl rfl)
theorem dX24_cover_5 : decode cX24_cover 5 = .ok (.i2l, 1) := dk_133 (dk_at dksX24_cover_0 5 rfl rfl)
theorem dX24_cover_6 : decode cX24_cover 6 = .ok (.iload_n 2, 1) := dk_28 (dk_at dksX24_cover_0 6 rfl rfl)
theorem dX24_cover_7 : decode cX24_cover 7 = .ok (.i2l, 1) := dk_133 (dk_at dksX24_cover_0 7 rfl rfl)
theorem dX24_cover_8 : decode cX24_cover 8 = .ok (.invokevirtual 83, 3) := dk_182 0 83 (dk_at dksX24_cover_0 8 rfl rfl)
theorem dX24_cover_11 : decode cX24_cover 11 = .ok (.ireturn, 1) := dk_172 (dk_at dksX24_cover_0 11 rfl rfl)
abbrev cX24_way : ByteArray := prog_27_method_25_code
def yX24_way : MethodName := ⟨RX24, "way", "(III)Z"⟩
def dkwX24_way_1 : List UInt8 := [183, 0, 242, 191, 42, 180, 0, 10, 27, 133, 28, 133, 29, 133, 182, 0, 100, 172]
abbrev dktX24_way_1 : List UInt8 := dkwX24_way_1 ++ []
def dkwX24_way_0 : List UInt8 := [42, 180, 0, 10, 27, 133, 28, 133, 29, 133, 182, 0, 96, 154, 0, 13, 187, 0, 238, 89, 18, 240]
abbrev dktX24_way_0 : List UInt8 := dkwX24_way_0 ++ dktX24_way_1
theorem dksX24_way_0 : cX24_way.data.toList.drop 0 = dktX24_way_0 := by decide +kernel
theorem dksX24_way_1 : cX24_way.data.toList.drop 22 = dktX24_way_1 := dk_seg dksX24_way_0 22 rfl rfl
theorem dX24_way_0 : decode cX24_way 0 = .ok (.aload_n 0, 1) := dk_42 (dk_at dksX24_way_0 0 rfl rfl)
theorem dX24_way_1 : decode cX24_way 1 = .ok (.getfield 10, 3) := dk_180 0 10 (dk_at dksX24_way_0 1 rfl rfl)
theorem dX24_way_4 : decode cX24_way 4 = .ok (.iload_n 1, 1) := dk_27 (dk_at dksX24_way_0 4 rfl rfl)
theorem dX24_way_5 : decode cX24_way 5 = .ok (.i2l, 1) := dk_133 (dk_at dksX24_way_0 5 rfl rfl)
theorem dX24_way_6 : decode cX24_way 6 = .ok (.iload_n 2, 1) := dk_28 (dk_at dksX24_way_0 6 rfl rfl)
theorem dX24_way_7 : decode cX24_way 7 = .ok (.i2l, 1) := dk_133 (dk_at dksX24_way_0 7 rfl rfl)
theorem dX24_way_8 : decode cX24_way 8 = .ok (.iload_n 3, 1) := dk_29 (dk_at dksX24_way_0 8 rfl rfl)
theorem dX24_way_9 : decode cX24_way 9 = .ok (.i2l, 1) := dk_133 (dk_at dksX24_way_0 9 rfl rfl)
theorem dX24_way_10 : decode cX24_way 10 = .ok (.invokevirtual 96, 3) := dk_182 0 96 (dk_at dksX24_way_0 10 rfl rfl)
theorem dX24_way_13 : decode cX24_way 13 = .ok (.ifCond .ne 13, 3) := dk_154 0 13 (dk_at dksX24_way_0 13 rfl rfl)
theorem dX24_way_16 : decode cX24_way 16 = .ok (.new 238, 3) := dk_187 0 238 (dk_at dksX24_way_0 16 rfl rfl)
theorem dX24_way_19 : decode cX24_way 19 = .ok (.dup, 1) := dk_89 (dk_at dksX24_way_0 19 rfl rfl)
theorem dX24_way_20 : decode cX24_way 20 = .ok (.ldc 240, 2) := dk_18 240 (dk_at dksX24_way_0 20 rfl rfl)
theorem dX24_way_22 : decode cX24_way 22 = .ok (.invokespecial 242, 3) := dk_183 0 242 (dk_at dksX24_way_1 0 rfl rfl)
theorem dX24_way_25 : decode cX24_way 25 = .ok (.athrow, 1) := dk_191 (dk_at dksX24_way_1 3 rfl rfl)
theorem dX24_way_26 : decode cX24_way 26 = .ok (.aload_n 0, 1) := dk_42 (dk_at dksX24_way_1 4 rfl rfl)
theorem dX24_way_27 : decode cX24_way 27 = .ok (.getfield 10, 3) := dk_180 0 10 (dk_at dksX24_way_1 5 rfl rfl)
theorem dX24_way_30 : decode cX24_way 30 = .ok (.iload_n 1, 1) := dk_27 (dk_at dksX24_way_1 8 rfl rfl)
theorem dX24_way_31 : decode cX24_way 31 = .ok (.i2l, 1) := dk_133 (dk_at dksX24_way_1 9 rfl rfl)
theorem dX24_way_32 : decode cX24_way 32 = .ok (.iload_n 2, 1) := dk_28 (dk_at dksX24_way_1 10 rfl rfl)
theorem dX24_way_33 : decode cX24_way 33 = .ok (.i2l, 1) := dk_133 (dk_at dksX24_way_1 11 rfl rfl)
theorem dX24_way_34 : decode cX24_way 34 = .ok (.iload_n 3, 1) := dk_29 (dk_at dksX24_way_1 12 rfl rfl)
theorem dX24_way_35 : decode cX24_way 35 = .ok (.i2l, 1) := dk_133 (dk_at dksX24_way_1 13 rfl rfl)
theorem dX24_way_36 : decode cX24_way 36 = .ok (.invokevirtual 100, 3) := dk_182 0 100 (dk_at dksX24_way_1 14 rfl rfl)
theorem dX24_way_39 : decode cX24_way 39 = .ok (.ireturn, 1) := dk_172 (dk_at dksX24_way_1 17 rfl rfl)
abbrev cX24_ring : ByteArray := prog_27_method_34_code
def yX24_ring : MethodName := ⟨RX24, "ring", "(I)I"⟩
def dkwX24_ring_0 : List UInt8 := [42, 182, 1, 6, 42, 180, 0, 10, 2, 182, 0, 255, 2, 130, 126, 27, 184, 1, 2, 172]
abbrev dktX24_ring_0 : List UInt8 := dkwX24_ring_0 ++ []
theorem dksX24_ring_0 : cX24_ring.data.toList.drop 0 = dktX24_ring_0 := by decide +kernel
theorem dX24_ring_0 : decode cX24_ring 0 = .ok (.aload_n 0, 1) := dk_42 (dk_at dksX24_ring_0 0 rfl rfl)
theorem dX24_ring_1 : decode cX24_ring 1 = .ok (.invokevirtual 262, 3) := dk_182 1 6 (dk_at dksX24_ring_0 1 rfl rfl)
theorem dX24_ring_4 : decode cX24_ring 4 = .ok (.aload_n 0, 1) := dk_42 (dk_at dksX24_ring_0 4 rfl rfl)
theorem dX24_ring_5 : decode cX24_ring 5 = .ok (.getfield 10, 3) := dk_180 0 10 (dk_at dksX24_ring_0 5 rfl rfl)
theorem dX24_ring_8 : decode cX24_ring 8 = .ok (.iconst (-1), 1) := dk_2 (dk_at dksX24_ring_0 8 rfl rfl)
theorem dX24_ring_9 : decode cX24_ring 9 = .ok (.invokevirtual 255, 3) := dk_182 0 255 (dk_at dksX24_ring_0 9 rfl rfl)
theorem dX24_ring_12 : decode cX24_ring 12 = .ok (.iconst (-1), 1) := dk_2 (dk_at dksX24_ring_0 12 rfl rfl)
theorem dX24_ring_13 : decode cX24_ring 13 = .ok (.ixor, 1) := dk_130 (dk_at dksX24_ring_0 13 rfl rfl)
theorem dX24_ring_14 : decode cX24_ring 14 = .ok (.iand, 1) := dk_126 (dk_at dksX24_ring_0 14 rfl rfl)
theorem dX24_ring_15 : decode cX24_ring 15 = .ok (.iload_n 1, 1) := dk_27 (dk_at dksX24_ring_0 15 rfl rfl)
theorem dX24_ring_16 : decode cX24_ring 16 = .ok (.invokestatic 258, 3) := dk_184 1 2 (dk_at dksX24_ring_0 16 rfl rfl)
theorem dX24_ring_19 : decode cX24_ring 19 = .ok (.ireturn, 1) := dk_172 (dk_at dksX24_ring_0 19 rfl rfl)
abbrev cX24_all : ByteArray := prog_27_method_30_code
def yX24_all : MethodName := ⟨RX24, "all", "()I"⟩
def dkwX24_all_0 : List UInt8 := [4, 42, 180, 0, 10, 180, 0, 69, 120, 4, 100, 172]
abbrev dktX24_all_0 : List UInt8 := dkwX24_all_0 ++ []
theorem dksX24_all_0 : cX24_all.data.toList.drop 0 = dktX24_all_0 := by decide +kernel
theorem dX24_all_0 : decode cX24_all 0 = .ok (.iconst 1, 1) := dk_4 (dk_at dksX24_all_0 0 rfl rfl)
theorem dX24_all_1 : decode cX24_all 1 = .ok (.aload_n 0, 1) := dk_42 (dk_at dksX24_all_0 1 rfl rfl)
theorem dX24_all_2 : decode cX24_all 2 = .ok (.getfield 10, 3) := dk_180 0 10 (dk_at dksX24_all_0 2 rfl rfl)
theorem dX24_all_5 : decode cX24_all 5 = .ok (.getfield 69, 3) := dk_180 0 69 (dk_at dksX24_all_0 5 rfl rfl)
theorem dX24_all_8 : decode cX24_all 8 = .ok (.ishl, 1) := dk_120 (dk_at dksX24_all_0 8 rfl rfl)
theorem dX24_all_9 : decode cX24_all 9 = .ok (.iconst 1, 1) := dk_4 (dk_at dksX24_all_0 9 rfl rfl)
theorem dX24_all_10 : decode cX24_all 10 = .ok (.isub, 1) := dk_100 (dk_at dksX24_all_0 10 rfl rfl)
theorem dX24_all_11 : decode cX24_all 11 = .ok (.ireturn, 1) := dk_172 (dk_at dksX24_all_0 11 rfl rfl)
abbrev cX24_option : ByteArray := prog_27_method_27_code
def yX24_option : MethodName := ⟨RX24, "option", "(II)Z"⟩
def dkwX24_option_0 : List UInt8 := [42, 180, 0, 10, 27, 133, 28, 133, 182, 0, 125, 172]
abbrev dktX24_option_0 : List UInt8 := dkwX24_option_0 ++ []
theorem dksX24_option_0 : cX24_option.data.toList.drop 0 = dktX24_option_0 := by decide +kernel
theorem dX24_option_0 : decode cX24_option 0 = .ok (.aload_n 0, 1) := dk_42 (dk_at dksX24_option_0 0 rfl rfl)
theorem dX24_option_1 : decode cX24_option 1 = .ok (.getfield 10, 3) := dk_180 0 10 (dk_at dksX24_option_0 1 rfl rfl)
theorem dX24_option_4 : decode cX24_option 4 = .ok (.iload_n 1, 1) := dk_27 (dk_at dksX24_option_0 4 rfl rfl)
theorem dX24_option_5 : decode cX24_option 5 = .ok (.i2l, 1) := dk_133 (dk_at dksX24_option_0 5 rfl rfl)
theorem dX24_option_6 : decode cX24_option 6 = .ok (.iload_n 2, 1) := dk_28 (dk_at dksX24_option_0 6 rfl rfl)
theorem dX24_option_7 : decode cX24_option 7 = .ok (.i2l, 1) := dk_133 (dk_at dksX24_option_0 7 rfl rfl)
theorem dX24_option_8 : decode cX24_option 8 = .ok (.invokevirtual 125, 3) := dk_182 0 125 (dk_at dksX24_option_0 8 rfl rfl)
theorem dX24_option_11 : decode cX24_option 11 = .ok (.ireturn, 1) := dk_172 (dk_at dksX24_option_0 11 rfl rfl)
abbrev cX24_family : ByteArray := prog_27_method_36_code
def yX24_family : MethodName := ⟨RX24, "family", "(II)I"⟩
def dkwX24_family_3 : List UInt8 := [153, 0, 7, 2, 167, 0, 9, 21, 4, 28, 184, 1, 2, 172]
abbrev dktX24_family_3 : List UInt8 := dkwX24_family_3 ++ []
def dkwX24_family_2 : List UInt8 := [21, 7, 112, 184, 1, 2, 120, 128, 54, 4, 29, 21, 7, 108, 62, 132, 5, 255, 167, 255, 203, 29]
abbrev dktX24_family_2 : List UInt8 := dkwX24_family_2 ++ dktX24_family_3
def dkwX24_family_1 : List UInt8 := [182, 1, 9, 54, 6, 21, 6, 184, 1, 12, 54, 7, 21, 7, 158, 0, 24, 21, 4, 4, 21, 6, 29]
abbrev dktX24_family_1 : List UInt8 := dkwX24_family_1 ++ dktX24_family_2
def dkwX24_family_0 : List UInt8 := [27, 62, 42, 2, 182, 1, 9, 54, 4, 6, 54, 5, 21, 5, 155, 0, 54, 29, 155, 0, 50, 42, 21, 5]
abbrev dktX24_family_0 : List UInt8 := dkwX24_family_0 ++ dktX24_family_1
theorem dksX24_family_0 : cX24_family.data.toList.drop 0 = dktX24_family_0 := by decide +kernel
theorem dksX24_family_1 : cX24_family.data.toList.drop 24 = dktX24_family_1 := dk_seg dksX24_family_0 24 rfl rfl
theorem dksX24_family_2 : cX24_family.data.toList.drop 47 = dktX24_family_2 := dk_seg dksX24_family_1 23 rfl rfl
theorem dksX24_family_3 : cX24_family.data.toList.drop 69 = dktX24_family_3 := dk_seg dksX24_family_2 22 rfl rfl
theorem dX24_family_0 : decode cX24_family 0 = .ok (.iload_n 1, 1) := dk_27 (dk_at dksX24_family_0 0 rfl rfl)
theorem dX24_family_1 : decode cX24_family 1 = .ok (.istore_n 3, 1) := dk_62 (dk_at dksX24_family_0 1 rfl rfl)
theorem dX24_family_2 : decode cX24_family 2 = .ok (.aload_n 0, 1) := dk_42 (dk_at dksX24_family_0 2 rfl rfl)
theorem dX24_family_3 : decode cX24_family 3 = .ok (.iconst (-1), 1) := dk_2 (dk_at dksX24_family_0 3 rfl rfl)
theorem dX24_family_4 : decode cX24_family 4 = .ok (.invokevirtual 265, 3) := dk_182 1 9 (dk_at dksX24_family_0 4 rfl rfl)
theorem dX24_family_7 : decode cX24_family 7 = .ok (.istore 4, 2) := dk_54 4 (dk_at dksX24_family_0 7 rfl rfl)
theorem dX24_family_9 : decode cX24_family 9 = .ok (.iconst 3, 1) := dk_6 (dk_at dksX24_family_0 9 rfl rfl)
theorem dX24_family_10 : decode cX24_family 10 = .ok (.istore 5, 2) := dk_54 5 (dk_at dksX24_family_0 10 rfl rfl)
theorem dX24_family_12 : decode cX24_family 12 = .ok (.iload 5, 2) := dk_21 5 (dk_at dksX24_family_0 12 rfl rfl)
theorem dX24_family_14 : decode cX24_family 14 = .ok (.ifCond .lt 54, 3) := dk_155 0 54 (dk_at dksX24_family_0 14 rfl rfl)
theorem dX24_family_17 : decode cX24_family 17 = .ok (.iload_n 3, 1) := dk_29 (dk_at dksX24_family_0 17 rfl rfl)
theorem dX24_family_18 : decode cX24_family 18 = .ok (.ifCond .lt 50, 3) := dk_155 0 50 (dk_at dksX24_family_0 18 rfl rfl)
theorem dX24_family_21 : decode cX24_family 21 = .ok (.aload_n 0, 1) := dk_42 (dk_at dksX24_family_0 21 rfl rfl)
theorem dX24_family_22 : decode cX24_family 22 = .ok (.iload 5, 2) := dk_21 5 (dk_at dksX24_family_0 22 rfl rfl)
theorem dX24_family_24 : decode cX24_family 24 = .ok (.invokevirtual 265, 3) := dk_182 1 9 (dk_at dksX24_family_1 0 rfl rfl)
theorem dX24_family_27 : decode cX24_family 27 = .ok (.istore 6, 2) := dk_54 6 (dk_at dksX24_family_1 3 rfl rfl)
theorem dX24_family_29 : decode cX24_family 29 = .ok (.iload 6, 2) := dk_21 6 (dk_at dksX24_family_1 5 rfl rfl)
theorem dX24_family_31 : decode cX24_family 31 = .ok (.invokestatic 268, 3) := dk_184 1 12 (dk_at dksX24_family_1 7 rfl rfl)
theorem dX24_family_34 : decode cX24_family 34 = .ok (.istore 7, 2) := dk_54 7 (dk_at dksX24_family_1 10 rfl rfl)
theorem dX24_family_36 : decode cX24_family 36 = .ok (.iload 7, 2) := dk_21 7 (dk_at dksX24_family_1 12 rfl rfl)
theorem dX24_family_38 : decode cX24_family 38 = .ok (.ifCond .le 24, 3) := dk_158 0 24 (dk_at dksX24_family_1 14 rfl rfl)
theorem dX24_family_41 : decode cX24_family 41 = .ok (.iload 4, 2) := dk_21 4 (dk_at dksX24_family_1 17 rfl rfl)
theorem dX24_family_43 : decode cX24_family 43 = .ok (.iconst 1, 1) := dk_4 (dk_at dksX24_family_1 19 rfl rfl)
theorem dX24_family_44 : decode cX24_family 44 = .ok (.iload 6, 2) := dk_21 6 (dk_at dksX24_family_1 20 rfl rfl)
theorem dX24_family_46 : decode cX24_family 46 = .ok (.iload_n 3, 1) := dk_29 (dk_at dksX24_family_1 22 rfl rfl)
theorem dX24_family_47 : decode cX24_family 47 = .ok (.iload 7, 2) := dk_21 7 (dk_at dksX24_family_2 0 rfl rfl)
theorem dX24_family_49 : decode cX24_family 49 = .ok (.irem, 1) := dk_112 (dk_at dksX24_family_2 2 rfl rfl)
theorem dX24_family_50 : decode cX24_family 50 = .ok (.invokestatic 258, 3) := dk_184 1 2 (dk_at dksX24_family_2 3 rfl rfl)
theorem dX24_family_53 : decode cX24_family 53 = .ok (.ishl, 1) := dk_120 (dk_at dksX24_family_2 6 rfl rfl)
theorem dX24_family_54 : decode cX24_family 54 = .ok (.ior, 1) := dk_128 (dk_at dksX24_family_2 7 rfl rfl)
theorem dX24_family_55 : decode cX24_family 55 = .ok (.istore 4, 2) := dk_54 4 (dk_at dksX24_family_2 8 rfl rfl)
theorem dX24_family_57 : decode cX24_family 57 = .ok (.iload_n 3, 1) := dk_29 (dk_at dksX24_family_2 10 rfl rfl)
theorem dX24_family_58 : decode cX24_family 58 = .ok (.iload 7, 2) := dk_21 7 (dk_at dksX24_family_2 11 rfl rfl)
theorem dX24_family_60 : decode cX24_family 60 = .ok (.idiv, 1) := dk_108 (dk_at dksX24_family_2 13 rfl rfl)
theorem dX24_family_61 : decode cX24_family 61 = .ok (.istore_n 3, 1) := dk_62 (dk_at dksX24_family_2 14 rfl rfl)
theorem dX24_family_62 : decode cX24_family 62 = .ok (.iinc 5 (-1), 3) := dk_132 5 255 (dk_at dksX24_family_2 15 rfl rfl)
theorem dX24_family_65 : decode cX24_family 65 = .ok (.goto (-53), 3) := dk_167 255 203 (dk_at dksX24_family_2 18 rfl rfl)
theorem dX24_family_68 : decode cX24_family 68 = .ok (.iload_n 3, 1) := dk_29 (dk_at dksX24_family_2 21 rfl rfl)
theorem dX24_family_69 : decode cX24_family 69 = .ok (.ifCond .eq 7, 3) := dk_153 0 7 (dk_at dksX24_family_3 0 rfl rfl)
theorem dX24_family_72 : decode cX24_family 72 = .ok (.iconst (-1), 1) := dk_2 (dk_at dksX24_family_3 3 rfl rfl)
theorem dX24_family_73 : decode cX24_family 73 = .ok (.goto 9, 3) := dk_167 0 9 (dk_at dksX24_family_3 4 rfl rfl)
theorem dX24_family_76 : decode cX24_family 76 = .ok (.iload 4, 2) := dk_21 4 (dk_at dksX24_family_3 7 rfl rfl)
theorem dX24_family_78 : decode cX24_family 78 = .ok (.iload_n 2, 1) := dk_28 (dk_at dksX24_family_3 9 rfl rfl)
theorem dX24_family_79 : decode cX24_family 79 = .ok (.invokestatic 258, 3) := dk_184 1 2 (dk_at dksX24_family_3 10 rfl rfl)
theorem dX24_family_82 : decode cX24_family 82 = .ok (.ireturn, 1) := dk_172 (dk_at dksX24_family_3 13 rfl rfl)
abbrev cX24_familySet : ByteArray := prog_27_method_35_code
def yX24_familySet : MethodName := ⟨RX24, "familySet", "(I)I"⟩
def dkwX24_familySet_2 : List UInt8 := [172]
abbrev dktX24_familySet_2 : List UInt8 := dkwX24_familySet_2 ++ []
def dkwX24_familySet_1 : List UInt8 := [50, 180, 0, 231, 27, 160, 0, 9, 4, 29, 120, 167, 0, 4, 3, 128, 61, 132, 3, 1, 167, 255, 216, 28]
abbrev dktX24_familySet_1 : List UInt8 := dkwX24_familySet_1 ++ dktX24_familySet_2
def dkwX24_familySet_0 : List UInt8 := [3, 61, 3, 62, 29, 42, 180, 0, 10, 180, 0, 69, 162, 0, 35, 28, 42, 180, 0, 10, 180, 0, 113, 29]
abbrev dktX24_familySet_0 : List UInt8 := dkwX24_familySet_0 ++ dktX24_familySet_1
theorem dksX24_familySet_0 : cX24_familySet.data.toList.drop 0 = dktX24_familySet_0 := by decide +kernel
theorem dksX24_familySet_1 : cX24_familySet.data.toList.drop 24 = dktX24_familySet_1 := dk_seg dksX24_familySet_0 24 rfl rfl
theorem dksX24_familySet_2 : cX24_familySet.data.toList.drop 48 = dktX24_familySet_2 := dk_seg dksX24_familySet_1 24 rfl rfl
theorem dX24_familySet_0 : decode cX24_familySet 0 = .ok (.iconst 0, 1) := dk_3 (dk_at dksX24_familySet_0 0 rfl rfl)
theorem dX24_familySet_1 : decode cX24_familySet 1 = .ok (.istore_n 2, 1) := dk_61 (dk_at dksX24_familySet_0 1 rfl rfl)
theorem dX24_familySet_2 : decode cX24_familySet 2 = .ok (.iconst 0, 1) := dk_3 (dk_at dksX24_familySet_0 2 rfl rfl)
theorem dX24_familySet_3 : decode cX24_familySet 3 = .ok (.istore_n 3, 1) := dk_62 (dk_at dksX24_familySet_0 3 rfl rfl)
theorem dX24_familySet_4 : decode cX24_familySet 4 = .ok (.iload_n 3, 1) := dk_29 (dk_at dksX24_familySet_0 4 rfl rfl)
theorem dX24_familySet_5 : decode cX24_familySet 5 = .ok (.aload_n 0, 1) := dk_42 (dk_at dksX24_familySet_0 5 rfl rfl)
theorem dX24_familySet_6 : decode cX24_familySet 6 = .ok (.getfield 10, 3) := dk_180 0 10 (dk_at dksX24_familySet_0 6 rfl rfl)
theorem dX24_familySet_9 : decode cX24_familySet 9 = .ok (.getfield 69, 3) := dk_180 0 69 (dk_at dksX24_familySet_0 9 rfl rfl)
theorem dX24_familySet_12 : decode cX24_familySet 12 = .ok (.if_icmp .ge 35, 3) := dk_162 0 35 (dk_at dksX24_familySet_0 12 rfl rfl)
theorem dX24_familySet_15 : decode cX24_familySet 15 = .ok (.iload_n 2, 1) := dk_28 (dk_at dksX24_familySet_0 15 rfl rfl)
theorem dX24_familySet_16 : decode cX24_familySet 16 = .ok (.aload_n 0, 1) := dk_42 (dk_at dksX24_familySet_0 16 rfl rfl)
theorem dX24_familySet_17 : decode cX24_familySet 17 = .ok (.getfield 10, 3) := dk_180 0 10 (dk_at dksX24_familySet_0 17 rfl rfl)
theorem dX24_familySet_20 : decode cX24_familySet 20 = .ok (.getfield 113, 3) := dk_180 0 113 (dk_at dksX24_familySet_0 20 rfl rfl)
theorem dX24_familySet_23 : decode cX24_familySet 23 = .ok (.iload_n 3, 1) := dk_29 (dk_at dksX24_familySet_0 23 rfl rfl)
theorem dX24_familySet_24 : decode cX24_familySet 24 = .ok (.aaload, 1) := dk_50 (dk_at dksX24_familySet_1 0 rfl rfl)
theorem dX24_familySet_25 : decode cX24_familySet 25 = .ok (.getfield 231, 3) := dk_180 0 231 (dk_at dksX24_familySet_1 1 rfl rfl)
theorem dX24_familySet_28 : decode cX24_familySet 28 = .ok (.iload_n 1, 1) := dk_27 (dk_at dksX24_familySet_1 4 rfl rfl)
theorem dX24_familySet_29 : decode cX24_familySet 29 = .ok (.if_icmp .ne 9, 3) := dk_160 0 9 (dk_at dksX24_familySet_1 5 rfl rfl)
theorem dX24_familySet_32 : decode cX24_familySet 32 = .ok (.iconst 1, 1) := dk_4 (dk_at dksX24_familySet_1 8 rfl rfl)
theorem dX24_familySet_33 : decode cX24_familySet 33 = .ok (.iload_n 3, 1) := dk_29 (dk_at dksX24_familySet_1 9 rfl rfl)
theorem dX24_familySet_34 : decode cX24_familySet 34 = .ok (.ishl, 1) := dk_120 (dk_at dksX24_familySet_1 10 rfl rfl)
theorem dX24_familySet_35 : decode cX24_familySet 35 = .ok (.goto 4, 3) := dk_167 0 4 (dk_at dksX24_familySet_1 11 rfl rfl)
theorem dX24_familySet_38 : decode cX24_familySet 38 = .ok (.iconst 0, 1) := dk_3 (dk_at dksX24_familySet_1 14 rfl rfl)
theorem dX24_familySet_39 : decode cX24_familySet 39 = .ok (.ior, 1) := dk_128 (dk_at dksX24_familySet_1 15 rfl rfl)
theorem dX24_familySet_40 : decode cX24_familySet 40 = .ok (.istore_n 2, 1) := dk_61 (dk_at dksX24_familySet_1 16 rfl rfl)
theorem dX24_familySet_41 : decode cX24_familySet 41 = .ok (.iinc 3 1, 3) := dk_132 3 1 (dk_at dksX24_familySet_1 17 rfl rfl)
theorem dX24_familySet_44 : decode cX24_familySet 44 = .ok (.goto (-40), 3) := dk_167 255 216 (dk_at dksX24_familySet_1 20 rfl rfl)
theorem dX24_familySet_47 : decode cX24_familySet 47 = .ok (.iload_n 2, 1) := dk_28 (dk_at dksX24_familySet_1 23 rfl rfl)
theorem dX24_familySet_48 : decode cX24_familySet 48 = .ok (.ireturn, 1) := dk_172 (dk_at dksX24_familySet_2 0 rfl rfl)
abbrev cX24_holds : ByteArray := prog_27_method_37_code
def yX24_holds : MethodName := ⟨RX24, "holds", "(III)Z"⟩
def dkwX24_holds_3 : List UInt8 := [167, 0, 4, 3, 172]
abbrev dktX24_holds_3 : List UInt8 := dkwX24_holds_3 ++ []
def dkwX24_holds_2 : List UInt8 := [21, 4, 153, 0, 24, 42, 180, 0, 10, 27, 29, 182, 1, 15, 28, 122, 4, 126, 4, 160, 0, 7, 4]
abbrev dktX24_holds_2 : List UInt8 := dkwX24_holds_2 ++ dktX24_holds_3
def dkwX24_holds_1 : List UInt8 := [29, 27, 122, 4, 126, 154, 0, 15, 29, 28, 122, 4, 126, 154, 0, 7, 4, 167, 0, 4, 3, 54, 4]
abbrev dktX24_holds_1 : List UInt8 := dkwX24_holds_1 ++ dktX24_holds_2
def dkwX24_holds_0 : List UInt8 := [42, 180, 0, 10, 27, 133, 182, 0, 76, 153, 0, 35, 42, 180, 0, 10, 28, 133, 182, 0, 76, 153, 0, 23]
abbrev dktX24_holds_0 : List UInt8 := dkwX24_holds_0 ++ dktX24_holds_1
theorem dksX24_holds_0 : cX24_holds.data.toList.drop 0 = dktX24_holds_0 := by decide +kernel
theorem dksX24_holds_1 : cX24_holds.data.toList.drop 24 = dktX24_holds_1 := dk_seg dksX24_holds_0 24 rfl rfl
theorem dksX24_holds_2 : cX24_holds.data.toList.drop 47 = dktX24_holds_2 := dk_seg dksX24_holds_1 23 rfl rfl
theorem dksX24_holds_3 : cX24_holds.data.toList.drop 70 = dktX24_holds_3 := dk_seg dksX24_holds_2 23 rfl rfl
theorem dX24_holds_0 : decode cX24_holds 0 = .ok (.aload_n 0, 1) := dk_42 (dk_at dksX24_holds_0 0 rfl rfl)
theorem dX24_holds_1 : decode cX24_holds 1 = .ok (.getfield 10, 3) := dk_180 0 10 (dk_at dksX24_holds_0 1 rfl rfl)
theorem dX24_holds_4 : decode cX24_holds 4 = .ok (.iload_n 1, 1) := dk_27 (dk_at dksX24_holds_0 4 rfl rfl)
theorem dX24_holds_5 : decode cX24_holds 5 = .ok (.i2l, 1) := dk_133 (dk_at dksX24_holds_0 5 rfl rfl)
theorem dX24_holds_6 : decode cX24_holds 6 = .ok (.invokevirtual 76, 3) := dk_182 0 76 (dk_at dksX24_holds_0 6 rfl rfl)
theorem dX24_holds_9 : decode cX24_holds 9 = .ok (.ifCond .eq 35, 3) := dk_153 0 35 (dk_at dksX24_holds_0 9 rfl rfl)
theorem dX24_holds_12 : decode cX24_holds 12 = .ok (.aload_n 0, 1) := dk_42 (dk_at dksX24_holds_0 12 rfl rfl)
theorem dX24_holds_13 : decode cX24_holds 13 = .ok (.getfield 10, 3) := dk_180 0 10 (dk_at dksX24_holds_0 13 rfl rfl)
theorem dX24_holds_16 : decode cX24_holds 16 = .ok (.iload_n 2, 1) := dk_28 (dk_at dksX24_holds_0 16 rfl rfl)
theorem dX24_holds_17 : decode cX24_holds 17 = .ok (.i2l, 1) := dk_133 (dk_at dksX24_holds_0 17 rfl rfl)
theorem dX24_holds_18 : decode cX24_holds 18 = .ok (.invokevirtual 76, 3) := dk_182 0 76 (dk_at dksX24_holds_0 18 rfl rfl)
theorem dX24_holds_21 : decode cX24_holds 21 = .ok (.ifCond .eq 23, 3) := dk_153 0 23 (dk_at dksX24_holds_0 21 rfl rfl)
theorem dX24_holds_24 : decode cX24_holds 24 = .ok (.iload_n 3, 1) := dk_29 (dk_at dksX24_holds_1 0 rfl rfl)
theorem dX24_holds_25 : decode cX24_holds 25 = .ok (.iload_n 1, 1) := dk_27 (dk_at dksX24_holds_1 1 rfl rfl)
theorem dX24_holds_26 : decode cX24_holds 26 = .ok (.ishr, 1) := dk_122 (dk_at dksX24_holds_1 2 rfl rfl)
theorem dX24_holds_27 : decode cX24_holds 27 = .ok (.iconst 1, 1) := dk_4 (dk_at dksX24_holds_1 3 rfl rfl)
theorem dX24_holds_28 : decode cX24_holds 28 = .ok (.iand, 1) := dk_126 (dk_at dksX24_holds_1 4 rfl rfl)
theorem dX24_holds_29 : decode cX24_holds 29 = .ok (.ifCond .ne 15, 3) := dk_154 0 15 (dk_at dksX24_holds_1 5 rfl rfl)
theorem dX24_holds_32 : decode cX24_holds 32 = .ok (.iload_n 3, 1) := dk_29 (dk_at dksX24_holds_1 8 rfl rfl)
theorem dX24_holds_33 : decode cX24_holds 33 = .ok (.iload_n 2, 1) := dk_28 (dk_at dksX24_holds_1 9 rfl rfl)
theorem dX24_holds_34 : decode cX24_holds 34 = .ok (.ishr, 1) := dk_122 (dk_at dksX24_holds_1 10 rfl rfl)
theorem dX24_holds_35 : decode cX24_holds 35 = .ok (.iconst 1, 1) := dk_4 (dk_at dksX24_holds_1 11 rfl rfl)
theorem dX24_holds_36 : decode cX24_holds 36 = .ok (.iand, 1) := dk_126 (dk_at dksX24_holds_1 12 rfl rfl)
theorem dX24_holds_37 : decode cX24_holds 37 = .ok (.ifCond .ne 7, 3) := dk_154 0 7 (dk_at dksX24_holds_1 13 rfl rfl)
theorem dX24_holds_40 : decode cX24_holds 40 = .ok (.iconst 1, 1) := dk_4 (dk_at dksX24_holds_1 16 rfl rfl)
theorem dX24_holds_41 : decode cX24_holds 41 = .ok (.goto 4, 3) := dk_167 0 4 (dk_at dksX24_holds_1 17 rfl rfl)
theorem dX24_holds_44 : decode cX24_holds 44 = .ok (.iconst 0, 1) := dk_3 (dk_at dksX24_holds_1 20 rfl rfl)
theorem dX24_holds_45 : decode cX24_holds 45 = .ok (.istore 4, 2) := dk_54 4 (dk_at dksX24_holds_1 21 rfl rfl)
theorem dX24_holds_47 : decode cX24_holds 47 = .ok (.iload 4, 2) := dk_21 4 (dk_at dksX24_holds_2 0 rfl rfl)
theorem dX24_holds_49 : decode cX24_holds 49 = .ok (.ifCond .eq 24, 3) := dk_153 0 24 (dk_at dksX24_holds_2 2 rfl rfl)
theorem dX24_holds_52 : decode cX24_holds 52 = .ok (.aload_n 0, 1) := dk_42 (dk_at dksX24_holds_2 5 rfl rfl)
theorem dX24_holds_53 : decode cX24_holds 53 = .ok (.getfield 10, 3) := dk_180 0 10 (dk_at dksX24_holds_2 6 rfl rfl)
theorem dX24_holds_56 : decode cX24_holds 56 = .ok (.iload_n 1, 1) := dk_27 (dk_at dksX24_holds_2 9 rfl rfl)
theorem dX24_holds_57 : decode cX24_holds 57 = .ok (.iload_n 3, 1) := dk_29 (dk_at dksX24_holds_2 10 rfl rfl)
theorem dX24_holds_58 : decode cX24_holds 58 = .ok (.invokevirtual 271, 3) := dk_182 1 15 (dk_at dksX24_holds_2 11 rfl rfl)
theorem dX24_holds_61 : decode cX24_holds 61 = .ok (.iload_n 2, 1) := dk_28 (dk_at dksX24_holds_2 14 rfl rfl)
theorem dX24_holds_62 : decode cX24_holds 62 = .ok (.ishr, 1) := dk_122 (dk_at dksX24_holds_2 15 rfl rfl)
theorem dX24_holds_63 : decode cX24_holds 63 = .ok (.iconst 1, 1) := dk_4 (dk_at dksX24_holds_2 16 rfl rfl)
theorem dX24_holds_64 : decode cX24_holds 64 = .ok (.iand, 1) := dk_126 (dk_at dksX24_holds_2 17 rfl rfl)
theorem dX24_holds_65 : decode cX24_holds 65 = .ok (.iconst 1, 1) := dk_4 (dk_at dksX24_holds_2 18 rfl rfl)
theorem dX24_holds_66 : decode cX24_holds 66 = .ok (.if_icmp .ne 7, 3) := dk_160 0 7 (dk_at dksX24_holds_2 19 rfl rfl)
theorem dX24_holds_69 : decode cX24_holds 69 = .ok (.iconst 1, 1) := dk_4 (dk_at dksX24_holds_2 22 rfl rfl)
theorem dX24_holds_70 : decode cX24_holds 70 = .ok (.goto 4, 3) := dk_167 0 4 (dk_at dksX24_holds_3 0 rfl rfl)
theorem dX24_holds_73 : decode cX24_holds 73 = .ok (.iconst 0, 1) := dk_3 (dk_at dksX24_holds_3 3 rfl rfl)
theorem dX24_holds_74 : decode cX24_holds 74 = .ok (.ireturn, 1) := dk_172 (dk_at dksX24_holds_3 4 rfl rfl)
abbrev cX24_alike : ByteArray := prog_27_method_38_code
def yX24_alike : MethodName := ⟨RX24, "alike", "(II)I"⟩
def dkwX24_alike_3 : List UInt8 := [167, 0, 4, 3, 128, 62, 132, 4, 1, 167, 255, 199, 29, 28, 184, 1, 2, 172]
abbrev dktX24_alike_3 : List UInt8 := dkwX24_alike_3 ++ []
def dkwX24_alike_2 : List UInt8 := [21, 4, 50, 42, 180, 0, 10, 180, 0, 113, 27, 50, 182, 1, 18, 153, 0, 10, 4, 21, 4, 120]
abbrev dktX24_alike_2 : List UInt8 := dkwX24_alike_2 ++ dktX24_alike_3
def dkwX24_alike_1 : List UInt8 := [180, 0, 10, 180, 0, 69, 162, 0, 51, 29, 21, 4, 27, 159, 0, 35, 42, 180, 0, 10, 180, 0, 113]
abbrev dktX24_alike_1 : List UInt8 := dkwX24_alike_1 ++ dktX24_alike_2
def dkwX24_alike_0 : List UInt8 := [42, 180, 0, 10, 27, 133, 182, 0, 76, 154, 0, 5, 2, 172, 3, 62, 3, 54, 4, 21, 4, 42]
abbrev dktX24_alike_0 : List UInt8 := dkwX24_alike_0 ++ dktX24_alike_1
theorem dksX24_alike_0 : cX24_alike.data.toList.drop 0 = dktX24_alike_0 := by decide +kernel
theorem dksX24_alike_1 : cX24_alike.data.toList.drop 22 = dktX24_alike_1 := dk_seg dksX24_alike_0 22 rfl rfl
theorem dksX24_alike_2 : cX24_alike.data.toList.drop 45 = dktX24_alike_2 := dk_seg dksX24_alike_1 23 rfl rfl
theorem dksX24_alike_3 : cX24_alike.data.toList.drop 67 = dktX24_alike_3 := dk_seg dksX24_alike_2 22 rfl rfl
theorem dX24_alike_0 : decode cX24_alike 0 = .ok (.aload_n 0, 1) := dk_42 (dk_at dksX24_alike_0 0 rfl rfl)
theorem dX24_alike_1 : decode cX24_alike 1 = .ok (.getfield 10, 3) := dk_180 0 10 (dk_at dksX24_alike_0 1 rfl rfl)
theorem dX24_alike_4 : decode cX24_alike 4 = .ok (.iload_n 1, 1) := dk_27 (dk_at dksX24_alike_0 4 rfl rfl)
theorem dX24_alike_5 : decode cX24_alike 5 = .ok (.i2l, 1) := dk_133 (dk_at dksX24_alike_0 5 rfl rfl)
theorem dX24_alike_6 : decode cX24_alike 6 = .ok (.invokevirtual 76, 3) := dk_182 0 76 (dk_at dksX24_alike_0 6 rfl rfl)
theorem dX24_alike_9 : decode cX24_alike 9 = .ok (.ifCond .ne 5, 3) := dk_154 0 5 (dk_at dksX24_alike_0 9 rfl rfl)
theorem dX24_alike_12 : decode cX24_alike 12 = .ok (.iconst (-1), 1) := dk_2 (dk_at dksX24_alike_0 12 rfl rfl)
theorem dX24_alike_13 : decode cX24_alike 13 = .ok (.ireturn, 1) := dk_172 (dk_at dksX24_alike_0 13 rfl rfl)
theorem dX24_alike_14 : decode cX24_alike 14 = .ok (.iconst 0, 1) := dk_3 (dk_at dksX24_alike_0 14 rfl rfl)
theorem dX24_alike_15 : decode cX24_alike 15 = .ok (.istore_n 3, 1) := dk_62 (dk_at dksX24_alike_0 15 rfl rfl)
theorem dX24_alike_16 : decode cX24_alike 16 = .ok (.iconst 0, 1) := dk_3 (dk_at dksX24_alike_0 16 rfl rfl)
theorem dX24_alike_17 : decode cX24_alike 17 = .ok (.istore 4, 2) := dk_54 4 (dk_at dksX24_alike_0 17 rfl rfl)
theorem dX24_alike_19 : decode cX24_alike 19 = .ok (.iload 4, 2) := dk_21 4 (dk_at dksX24_alike_0 19 rfl rfl)
theorem dX24_alike_21 : decode cX24_alike 21 = .ok (.aload_n 0, 1) := dk_42 (dk_at dksX24_alike_0 21 rfl rfl)
theorem dX24_alike_22 : decode cX24_alike 22 = .ok (.getfield 10, 3) := dk_180 0 10 (dk_at dksX24_alike_1 0 rfl rfl)
theorem dX24_alike_25 : decode cX24_alike 25 = .ok (.getfield 69, 3) := dk_180 0 69 (dk_at dksX24_alike_1 3 rfl rfl)
theorem dX24_alike_28 : decode cX24_alike 28 = .ok (.if_icmp .ge 51, 3) := dk_162 0 51 (dk_at dksX24_alike_1 6 rfl rfl)
theorem dX24_alike_31 : decode cX24_alike 31 = .ok (.iload_n 3, 1) := dk_29 (dk_at dksX24_alike_1 9 rfl rfl)
theorem dX24_alike_32 : decode cX24_alike 32 = .ok (.iload 4, 2) := dk_21 4 (dk_at dksX24_alike_1 10 rfl rfl)
theorem dX24_alike_34 : decode cX24_alike 34 = .ok (.iload_n 1, 1) := dk_27 (dk_at dksX24_alike_1 12 rfl rfl)
theorem dX24_alike_35 : decode cX24_alike 35 = .ok (.if_icmp .eq 35, 3) := dk_159 0 35 (dk_at dksX24_alike_1 13 rfl rfl)
theorem dX24_alike_38 : decode cX24_alike 38 = .ok (.aload_n 0, 1) := dk_42 (dk_at dksX24_alike_1 16 rfl rfl)
theorem dX24_alike_39 : decode cX24_alike 39 = .ok (.getfield 10, 3) := dk_180 0 10 (dk_at dksX24_alike_1 17 rfl rfl)
theorem dX24_alike_42 : decode cX24_alike 42 = .ok (.getfield 113, 3) := dk_180 0 113 (dk_at dksX24_alike_1 20 rfl rfl)
theorem dX24_alike_45 : decode cX24_alike 45 = .ok (.iload 4, 2) := dk_21 4 (dk_at dksX24_alike_2 0 rfl rfl)
theorem dX24_alike_47 : decode cX24_alike 47 = .ok (.aaload, 1) := dk_50 (dk_at dksX24_alike_2 2 rfl rfl)
theorem dX24_alike_48 : decode cX24_alike 48 = .ok (.aload_n 0, 1) := dk_42 (dk_at dksX24_alike_2 3 rfl rfl)
theorem dX24_alike_49 : decode cX24_alike 49 = .ok (.getfield 10, 3) := dk_180 0 10 (dk_at dksX24_alike_2 4 rfl rfl)
theorem dX24_alike_52 : decode cX24_alike 52 = .ok (.getfield 113, 3) := dk_180 0 113 (dk_at dksX24_alike_2 7 rfl rfl)
theorem dX24_alike_55 : decode cX24_alike 55 = .ok (.iload_n 1, 1) := dk_27 (dk_at dksX24_alike_2 10 rfl rfl)
theorem dX24_alike_56 : decode cX24_alike 56 = .ok (.aaload, 1) := dk_50 (dk_at dksX24_alike_2 11 rfl rfl)
theorem dX24_alike_57 : decode cX24_alike 57 = .ok (.invokevirtual 274, 3) := dk_182 1 18 (dk_at dksX24_alike_2 12 rfl rfl)
theorem dX24_alike_60 : decode cX24_alike 60 = .ok (.ifCond .eq 10, 3) := dk_153 0 10 (dk_at dksX24_alike_2 15 rfl rfl)
theorem dX24_alike_63 : decode cX24_alike 63 = .ok (.iconst 1, 1) := dk_4 (dk_at dksX24_alike_2 18 rfl rfl)
theorem dX24_alike_64 : decode cX24_alike 64 = .ok (.iload 4, 2) := dk_21 4 (dk_at dksX24_alike_2 19 rfl rfl)
theorem dX24_alike_66 : decode cX24_alike 66 = .ok (.ishl, 1) := dk_120 (dk_at dksX24_alike_2 21 rfl rfl)
theorem dX24_alike_67 : decode cX24_alike 67 = .ok (.goto 4, 3) := dk_167 0 4 (dk_at dksX24_alike_3 0 rfl rfl)
theorem dX24_alike_70 : decode cX24_alike 70 = .ok (.iconst 0, 1) := dk_3 (dk_at dksX24_alike_3 3 rfl rfl)
theorem dX24_alike_71 : decode cX24_alike 71 = .ok (.ior, 1) := dk_128 (dk_at dksX24_alike_3 4 rfl rfl)
theorem dX24_alike_72 : decode cX24_alike 72 = .ok (.istore_n 3, 1) := dk_62 (dk_at dksX24_alike_3 5 rfl rfl)
theorem dX24_alike_73 : decode cX24_alike 73 = .ok (.iinc 4 1, 3) := dk_132 4 1 (dk_at dksX24_alike_3 6 rfl rfl)
theorem dX24_alike_76 : decode cX24_alike 76 = .ok (.goto (-57), 3) := dk_167 255 199 (dk_at dksX24_alike_3 9 rfl rfl)
theorem dX24_alike_79 : decode cX24_alike 79 = .ok (.iload_n 3, 1) := dk_29 (dk_at dksX24_alike_3 12 rfl rfl)
theorem dX24_alike_80 : decode cX24_alike 80 = .ok (.iload_n 2, 1) := dk_28 (dk_at dksX24_alike_3 13 rfl rfl)
theorem dX24_alike_81 : decode cX24_alike 81 = .ok (.invokestatic 258, 3) := dk_184 1 2 (dk_at dksX24_alike_3 14 rfl rfl)
theorem dX24_alike_84 : decode cX24_alike 84 = .ok (.ireturn, 1) := dk_172 (dk_at dksX24_alike_3 17 rfl rfl)
abbrev cX24_weight : ByteArray := prog_27_method_39_code
def yX24_weight : MethodName := ⟨RX24, "weight", "(I)J"⟩
def dkwX24_weight_3 : List UInt8 := [180, 0, 212, 133, 167, 0, 4, 9, 97, 66, 132, 5, 1, 167, 255, 210, 33, 173]
abbrev dktX24_weight_3 : List UInt8 := dkwX24_weight_3 ++ []
def dkwX24_weight_2 : List UInt8 := [162, 0, 40, 33, 28, 21, 5, 122, 4, 126, 4, 160, 0, 20, 42, 180, 0, 10, 180, 0, 113, 21, 5, 50]
abbrev dktX24_weight_2 : List UInt8 := dkwX24_weight_2 ++ dktX24_weight_3
def dkwX24_weight_1 : List UInt8 := [180, 0, 10, 27, 3, 182, 1, 15, 61, 9, 66, 3, 54, 5, 21, 5, 42, 180, 0, 10, 180, 0, 69]
abbrev dktX24_weight_1 : List UInt8 := dkwX24_weight_1 ++ dktX24_weight_2
def dkwX24_weight_0 : List UInt8 := [42, 180, 0, 10, 27, 133, 182, 0, 76, 154, 0, 14, 187, 0, 238, 89, 19, 1, 22, 183, 0, 242, 191, 42]
abbrev dktX24_weight_0 : List UInt8 := dkwX24_weight_0 ++ dktX24_weight_1
theorem dksX24_weight_0 : cX24_weight.data.toList.drop 0 = dktX24_weight_0 := by decide +kernel
theorem dksX24_weight_1 : cX24_weight.data.toList.drop 24 = dktX24_weight_1 := dk_seg dksX24_weight_0 24 rfl rfl
theorem dksX24_weight_2 : cX24_weight.data.toList.drop 47 = dktX24_weight_2 := dk_seg dksX24_weight_1 23 rfl rfl
theorem dksX24_weight_3 : cX24_weight.data.toList.drop 71 = dktX24_weight_3 := dk_seg dksX24_weight_2 24 rfl rfl
theorem dX24_weight_0 : decode cX24_weight 0 = .ok (.aload_n 0, 1) := dk_42 (dk_at dksX24_weight_0 0 rfl rfl)
theorem dX24_weight_1 : decode cX24_weight 1 = .ok (.getfield 10, 3) := dk_180 0 10 (dk_at dksX24_weight_0 1 rfl rfl)
theorem dX24_weight_4 : decode cX24_weight 4 = .ok (.iload_n 1, 1) := dk_27 (dk_at dksX24_weight_0 4 rfl rfl)
theorem dX24_weight_5 : decode cX24_weight 5 = .ok (.i2l, 1) := dk_133 (dk_at dksX24_weight_0 5 rfl rfl)
theorem dX24_weight_6 : decode cX24_weight 6 = .ok (.invokevirtual 76, 3) := dk_182 0 76 (dk_at dksX24_weight_0 6 rfl rfl)
theorem dX24_weight_9 : decode cX24_weight 9 = .ok (.ifCond .ne 14, 3) := dk_154 0 14 (dk_at dksX24_weight_0 9 rfl rfl)
theorem dX24_weight_12 : decode cX24_weight 12 = .ok (.new 238, 3) := dk_187 0 238 (dk_at dksX24_weight_0 12 rfl rfl)
theorem dX24_weight_15 : decode cX24_weight 15 = .ok (.dup, 1) := dk_89 (dk_at dksX24_weight_0 15 rfl rfl)
theorem dX24_weight_16 : decode cX24_weight 16 = .ok (.ldc_w 278, 3) := dk_19 1 22 (dk_at dksX24_weight_0 16 rfl rfl)
theorem dX24_weight_19 : decode cX24_weight 19 = .ok (.invokespecial 242, 3) := dk_183 0 242 (dk_at dksX24_weight_0 19 rfl rfl)
theorem dX24_weight_22 : decode cX24_weight 22 = .ok (.athrow, 1) := dk_191 (dk_at dksX24_weight_0 22 rfl rfl)
theorem dX24_weight_23 : decode cX24_weight 23 = .ok (.aload_n 0, 1) := dk_42 (dk_at dksX24_weight_0 23 rfl rfl)
theorem dX24_weight_24 : decode cX24_weight 24 = .ok (.getfield 10, 3) := dk_180 0 10 (dk_at dksX24_weight_1 0 rfl rfl)
theorem dX24_weight_27 : decode cX24_weight 27 = .ok (.iload_n 1, 1) := dk_27 (dk_at dksX24_weight_1 3 rfl rfl)
theorem dX24_weight_28 : decode cX24_weight 28 = .ok (.iconst 0, 1) := dk_3 (dk_at dksX24_weight_1 4 rfl rfl)
theorem dX24_weight_29 : decode cX24_weight 29 = .ok (.invokevirtual 271, 3) := dk_182 1 15 (dk_at dksX24_weight_1 5 rfl rfl)
theorem dX24_weight_32 : decode cX24_weight 32 = .ok (.istore_n 2, 1) := dk_61 (dk_at dksX24_weight_1 8 rfl rfl)
theorem dX24_weight_33 : decode cX24_weight 33 = .ok (.lconst 0, 1) := dk_9 (dk_at dksX24_weight_1 9 rfl rfl)
theorem dX24_weight_34 : decode cX24_weight 34 = .ok (.lstore_n 3, 1) := dk_66 (dk_at dksX24_weight_1 10 rfl rfl)
theorem dX24_weight_35 : decode cX24_weight 35 = .ok (.iconst 0, 1) := dk_3 (dk_at dksX24_weight_1 11 rfl rfl)
theorem dX24_weight_36 : decode cX24_weight 36 = .ok (.istore 5, 2) := dk_54 5 (dk_at dksX24_weight_1 12 rfl rfl)
theorem dX24_weight_38 : decode cX24_weight 38 = .ok (.iload 5, 2) := dk_21 5 (dk_at dksX24_weight_1 14 rfl rfl)
theorem dX24_weight_40 : decode cX24_weight 40 = .ok (.aload_n 0, 1) := dk_42 (dk_at dksX24_weight_1 16 rfl rfl)
theorem dX24_weight_41 : decode cX24_weight 41 = .ok (.getfield 10, 3) := dk_180 0 10 (dk_at dksX24_weight_1 17 rfl rfl)
theorem dX24_weight_44 : decode cX24_weight 44 = .ok (.getfield 69, 3) := dk_180 0 69 (dk_at dksX24_weight_1 20 rfl rfl)
theorem dX24_weight_47 : decode cX24_weight 47 = .ok (.if_icmp .ge 40, 3) := dk_162 0 40 (dk_at dksX24_weight_2 0 rfl rfl)
theorem dX24_weight_50 : decode cX24_weight 50 = .ok (.lload_n 3, 1) := dk_33 (dk_at dksX24_weight_2 3 rfl rfl)
theorem dX24_weight_51 : decode cX24_weight 51 = .ok (.iload_n 2, 1) := dk_28 (dk_at dksX24_weight_2 4 rfl rfl)
theorem dX24_weight_52 : decode cX24_weight 52 = .ok (.iload 5, 2) := dk_21 5 (dk_at dksX24_weight_2 5 rfl rfl)
theorem dX24_weight_54 : decode cX24_weight 54 = .ok (.ishr, 1) := dk_122 (dk_at dksX24_weight_2 7 rfl rfl)
theorem dX24_weight_55 : decode cX24_weight 55 = .ok (.iconst 1, 1) := dk_4 (dk_at dksX24_weight_2 8 rfl rfl)
theorem dX24_weight_56 : decode cX24_weight 56 = .ok (.iand, 1) := dk_126 (dk_at dksX24_weight_2 9 rfl rfl)
theorem dX24_weight_57 : decode cX24_weight 57 = .ok (.iconst 1, 1) := dk_4 (dk_at dksX24_weight_2 10 rfl rfl)
theorem dX24_weight_58 : decode cX24_weight 58 = .ok (.if_icmp .ne 20, 3) := dk_160 0 20 (dk_at dksX24_weight_2 11 rfl rfl)
theorem dX24_weight_61 : decode cX24_weight 61 = .ok (.aload_n 0, 1) := dk_42 (dk_at dksX24_weight_2 14 rfl rfl)
theorem dX24_weight_62 : decode cX24_weight 62 = .ok (.getfield 10, 3) := dk_180 0 10 (dk_at dksX24_weight_2 15 rfl rfl)
theorem dX24_weight_65 : decode cX24_weight 65 = .ok (.getfield 113, 3) := dk_180 0 113 (dk_at dksX24_weight_2 18 rfl rfl)
theorem dX24_weight_68 : decode cX24_weight 68 = .ok (.iload 5, 2) := dk_21 5 (dk_at dksX24_weight_2 21 rfl rfl)
theorem dX24_weight_70 : decode cX24_weight 70 = .ok (.aaload, 1) := dk_50 (dk_at dksX24_weight_2 23 rfl rfl)
theorem dX24_weight_71 : decode cX24_weight 71 = .ok (.getfield 212, 3) := dk_180 0 212 (dk_at dksX24_weight_3 0 rfl rfl)
theorem dX24_weight_74 : decode cX24_weight 74 = .ok (.i2l, 1) := dk_133 (dk_at dksX24_weight_3 3 rfl rfl)
theorem dX24_weight_75 : decode cX24_weight 75 = .ok (.goto 4, 3) := dk_167 0 4 (dk_at dksX24_weight_3 4 rfl rfl)
theorem dX24_weight_78 : decode cX24_weight 78 = .ok (.lconst 0, 1) := dk_9 (dk_at dksX24_weight_3 7 rfl rfl)
theorem dX24_weight_79 : decode cX24_weight 79 = .ok (.ladd, 1) := dk_97 (dk_at dksX24_weight_3 8 rfl rfl)
theorem dX24_weight_80 : decode cX24_weight 80 = .ok (.lstore_n 3, 1) := dk_66 (dk_at dksX24_weight_3 9 rfl rfl)
theorem dX24_weight_81 : decode cX24_weight 81 = .ok (.iinc 5 1, 3) := dk_132 5 1 (dk_at dksX24_weight_3 10 rfl rfl)
theorem dX24_weight_84 : decode cX24_weight 84 = .ok (.goto (-46), 3) := dk_167 255 210 (dk_at dksX24_weight_3 13 rfl rfl)
theorem dX24_weight_87 : decode cX24_weight 87 = .ok (.lload_n 3, 1) := dk_33 (dk_at dksX24_weight_3 16 rfl rfl)
theorem dX24_weight_88 : decode cX24_weight 88 = .ok (.lreturn, 1) := dk_173 (dk_at dksX24_weight_3 17 rfl rfl)
abbrev cX24_hazard : ByteArray := prog_27_method_26_code
def yX24_hazard : MethodName := ⟨RX24, "hazard", "(II)Z"⟩
def dkwX24_hazard_0 : List UInt8 := [42, 180, 0, 10, 27, 133, 28, 133, 182, 0, 122, 172]
abbrev dktX24_hazard_0 : List UInt8 := dkwX24_hazard_0 ++ []
theorem dksX24_hazard_0 : cX24_hazard.data.toList.drop 0 = dktX24_hazard_0 := by decide +kernel
theorem dX24_hazard_0 : decode cX24_hazard 0 = .ok (.aload_n 0, 1) := dk_42 (dk_at dksX24_hazard_0 0 rfl rfl)
theorem dX24_hazard_1 : decode cX24_hazard 1 = .ok (.getfield 10, 3) := dk_180 0 10 (dk_at dksX24_hazard_0 1 rfl rfl)
theorem dX24_hazard_4 : decode cX24_hazard 4 = .ok (.iload_n 1, 1) := dk_27 (dk_at dksX24_hazard_0 4 rfl rfl)
theorem dX24_hazard_5 : decode cX24_hazard 5 = .ok (.i2l, 1) := dk_133 (dk_at dksX24_hazard_0 5 rfl rfl)
theorem dX24_hazard_6 : decode cX24_hazard 6 = .ok (.iload_n 2, 1) := dk_28 (dk_at dksX24_hazard_0 6 rfl rfl)
theorem dX24_hazard_7 : decode cX24_hazard 7 = .ok (.i2l, 1) := dk_133 (dk_at dksX24_hazard_0 7 rfl rfl)
theorem dX24_hazard_8 : decode cX24_hazard 8 = .ok (.invokevirtual 122, 3) := dk_182 0 122 (dk_at dksX24_hazard_0 8 rfl rfl)
theorem dX24_hazard_11 : decode cX24_hazard 11 = .ok (.ireturn, 1) := dk_172 (dk_at dksX24_hazard_0 11 rfl rfl)
abbrev cX24_damage : ByteArray := prog_27_method_28_code
def yX24_damage : MethodName := ⟨RX24, "damage", "(II)I"⟩
def dkwX24_damage_0 : List UInt8 := [42, 180, 0, 10, 27, 133, 28, 133, 182, 0, 128, 172]
abbrev dktX24_damage_0 : List UInt8 := dkwX24_damage_0 ++ []
theorem dksX24_damage_0 : cX24_damage.data.toList.drop 0 = dktX24_damage_0 := by decide +kernel
theorem dX24_damage_0 : decode cX24_damage 0 = .ok (.aload_n 0, 1) := dk_42 (dk_at dksX24_damage_0 0 rfl rfl)
theorem dX24_damage_1 : decode cX24_damage 1 = .ok (.getfield 10, 3) := dk_180 0 10 (dk_at dksX24_damage_0 1 rfl rfl)
theorem dX24_damage_4 : decode cX24_damage 4 = .ok (.iload_n 1, 1) := dk_27 (dk_at dksX24_damage_0 4 rfl rfl)
theorem dX24_damage_5 : decode cX24_damage 5 = .ok (.i2l, 1) := dk_133 (dk_at dksX24_damage_0 5 rfl rfl)
theorem dX24_damage_6 : decode cX24_damage 6 = .ok (.iload_n 2, 1) := dk_28 (dk_at dksX24_damage_0 6 rfl rfl)
theorem dX24_damage_7 : decode cX24_damage 7 = .ok (.i2l, 1) := dk_133 (dk_at dksX24_damage_0 7 rfl rfl)
theorem dX24_damage_8 : decode cX24_damage 8 = .ok (.invokevirtual 128, 3) := dk_182 0 128 (dk_at dksX24_damage_0 8 rfl rfl)
theorem dX24_damage_11 : decode cX24_damage 11 = .ok (.ireturn, 1) := dk_172 (dk_at dksX24_damage_0 11 rfl rfl)
abbrev cX24_free : ByteArray := prog_27_method_32_code
def yX24_free : MethodName := ⟨RX24, "free", "(IJ)Z"⟩
def dkwX24_free_1 : List UInt8 := [180, 0, 10, 180, 0, 113, 27, 50, 32, 136, 182, 0, 252, 153, 0, 7, 4, 167, 0, 4, 3, 172]
abbrev dktX24_free_1 : List UInt8 := dkwX24_free_1 ++ []
def dkwX24_free_0 : List UInt8 := [42, 180, 0, 10, 27, 133, 182, 0, 76, 153, 0, 34, 32, 27, 123, 10, 127, 9, 148, 154, 0, 24, 42]
abbrev dktX24_free_0 : List UInt8 := dkwX24_free_0 ++ dktX24_free_1
theorem dksX24_free_0 : cX24_free.data.toList.drop 0 = dktX24_free_0 := by decide +kernel
theorem dksX24_free_1 : cX24_free.data.toList.drop 23 = dktX24_free_1 := dk_seg dksX24_free_0 23 rfl rfl
theorem dX24_free_0 : decode cX24_free 0 = .ok (.aload_n 0, 1) := dk_42 (dk_at dksX24_free_0 0 rfl rfl)
theorem dX24_free_1 : decode cX24_free 1 = .ok (.getfield 10, 3) := dk_180 0 10 (dk_at dksX24_free_0 1 rfl rfl)
theorem dX24_free_4 : decode cX24_free 4 = .ok (.iload_n 1, 1) := dk_27 (dk_at dksX24_free_0 4 rfl rfl)
theorem dX24_free_5 : decode cX24_free 5 = .ok (.i2l, 1) := dk_133 (dk_at dksX24_free_0 5 rfl rfl)
theorem dX24_free_6 : decode cX24_free 6 = .ok (.invokevirtual 76, 3) := dk_182 0 76 (dk_at dksX24_free_0 6 rfl rfl)
theorem dX24_free_9 : decode cX24_free 9 = .ok (.ifCond .eq 34, 3) := dk_153 0 34 (dk_at dksX24_free_0 9 rfl rfl)
theorem dX24_free_12 : decode cX24_free 12 = .ok (.lload_n 2, 1) := dk_32 (dk_at dksX24_free_0 12 rfl rfl)
theorem dX24_free_13 : decode cX24_free 13 = .ok (.iload_n 1, 1) := dk_27 (dk_at dksX24_free_0 13 rfl rfl)
theorem dX24_free_14 : decode cX24_free 14 = .ok (.lshr, 1) := dk_123 (dk_at dksX24_free_0 14 rfl rfl)
theorem dX24_free_15 : decode cX24_free 15 = .ok (.lconst 1, 1) := dk_10 (dk_at dksX24_free_0 15 rfl rfl)
theorem dX24_free_16 : decode cX24_free 16 = .ok (.land, 1) := dk_127 (dk_at dksX24_free_0 16 rfl rfl)
theorem dX24_free_17 : decode cX24_free 17 = .ok (.lconst 0, 1) := dk_9 (dk_at dksX24_free_0 17 rfl rfl)
theorem dX24_free_18 : decode cX24_free 18 = .ok (.lcmp, 1) := dk_148 (dk_at dksX24_free_0 18 rfl rfl)
theorem dX24_free_19 : decode cX24_free 19 = .ok (.ifCond .ne 24, 3) := dk_154 0 24 (dk_at dksX24_free_0 19 rfl rfl)
theorem dX24_free_22 : decode cX24_free 22 = .ok (.aload_n 0, 1) := dk_42 (dk_at dksX24_free_0 22 rfl rfl)
theorem dX24_free_23 : decode cX24_free 23 = .ok (.getfield 10, 3) := dk_180 0 10 (dk_at dksX24_free_1 0 rfl rfl)
theorem dX24_free_26 : decode cX24_free 26 = .ok (.getfield 113, 3) := dk_180 0 113 (dk_at dksX24_free_1 3 rfl rfl)
theorem dX24_free_29 : decode cX24_free 29 = .ok (.iload_n 1, 1) := dk_27 (dk_at dksX24_free_1 6 rfl rfl)
theorem dX24_free_30 : decode cX24_free 30 = .ok (.aaload, 1) := dk_50 (dk_at dksX24_free_1 7 rfl rfl)
theorem dX24_free_31 : decode cX24_free 31 = .ok (.lload_n 2, 1) := dk_32 (dk_at dksX24_free_1 8 rfl rfl)
theorem dX24_free_32 : decode cX24_free 32 = .ok (.l2i, 1) := dk_136 (dk_at dksX24_free_1 9 rfl rfl)
theorem dX24_free_33 : decode cX24_free 33 = .ok (.invokevirtual 252, 3) := dk_182 0 252 (dk_at dksX24_free_1 10 rfl rfl)
theorem dX24_free_36 : decode cX24_free 36 = .ok (.ifCond .eq 7, 3) := dk_153 0 7 (dk_at dksX24_free_1 13 rfl rfl)
theorem dX24_free_39 : decode cX24_free 39 = .ok (.iconst 1, 1) := dk_4 (dk_at dksX24_free_1 16 rfl rfl)
theorem dX24_free_40 : decode cX24_free 40 = .ok (.goto 4, 3) := dk_167 0 4 (dk_at dksX24_free_1 17 rfl rfl)
theorem dX24_free_43 : decode cX24_free 43 = .ok (.iconst 0, 1) := dk_3 (dk_at dksX24_free_1 20 rfl rfl)
theorem dX24_free_44 : decode cX24_free 44 = .ok (.ireturn, 1) := dk_172 (dk_at dksX24_free_1 21 rfl rfl)
abbrev cX24_plain : ByteArray := prog_27_method_31_code
def yX24_plain : MethodName := ⟨RX24, "plain", "(IJ)Z"⟩
def dkwX24_plain_1 : List UInt8 := [180, 0, 10, 180, 0, 113, 27, 50, 32, 136, 182, 0, 249, 153, 0, 7, 4, 167, 0, 4, 3, 172]
abbrev dktX24_plain_1 : List UInt8 := dkwX24_plain_1 ++ []
def dkwX24_plain_0 : List UInt8 := [42, 180, 0, 10, 27, 133, 182, 0, 76, 153, 0, 34, 32, 27, 123, 10, 127, 9, 148, 154, 0, 24, 42]
abbrev dktX24_plain_0 : List UInt8 := dkwX24_plain_0 ++ dktX24_plain_1
theorem dksX24_plain_0 : cX24_plain.data.toList.drop 0 = dktX24_plain_0 := by decide +kernel
theorem dksX24_plain_1 : cX24_plain.data.toList.drop 23 = dktX24_plain_1 := dk_seg dksX24_plain_0 23 rfl rfl
theorem dX24_plain_0 : decode cX24_plain 0 = .ok (.aload_n 0, 1) := dk_42 (dk_at dksX24_plain_0 0 rfl rfl)
theorem dX24_plain_1 : decode cX24_plain 1 = .ok (.getfield 10, 3) := dk_180 0 10 (dk_at dksX24_plain_0 1 rfl rfl)
theorem dX24_plain_4 : decode cX24_plain 4 = .ok (.iload_n 1, 1) := dk_27 (dk_at dksX24_plain_0 4 rfl rfl)
theorem dX24_plain_5 : decode cX24_plain 5 = .ok (.i2l, 1) := dk_133 (dk_at dksX24_plain_0 5 rfl rfl)
theorem dX24_plain_6 : decode cX24_plain 6 = .ok (.invokevirtual 76, 3) := dk_182 0 76 (dk_at dksX24_plain_0 6 rfl rfl)
theorem dX24_plain_9 : decode cX24_plain 9 = .ok (.ifCond .eq 34, 3) := dk_153 0 34 (dk_at dksX24_plain_0 9 rfl rfl)
theorem dX24_plain_12 : decode cX24_plain 12 = .ok (.lload_n 2, 1) := dk_32 (dk_at dksX24_plain_0 12 rfl rfl)
theorem dX24_plain_13 : decode cX24_plain 13 = .ok (.iload_n 1, 1) := dk_27 (dk_at dksX24_plain_0 13 rfl rfl)
theorem dX24_plain_14 : decode cX24_plain 14 = .ok (.lshr, 1) := dk_123 (dk_at dksX24_plain_0 14 rfl rfl)
theorem dX24_plain_15 : decode cX24_plain 15 = .ok (.lconst 1, 1) := dk_10 (dk_at dksX24_plain_0 15 rfl rfl)
theorem dX24_plain_16 : decode cX24_plain 16 = .ok (.land, 1) := dk_127 (dk_at dksX24_plain_0 16 rfl rfl)
theorem dX24_plain_17 : decode cX24_plain 17 = .ok (.lconst 0, 1) := dk_9 (dk_at dksX24_plain_0 17 rfl rfl)
theorem dX24_plain_18 : decode cX24_plain 18 = .ok (.lcmp, 1) := dk_148 (dk_at dksX24_plain_0 18 rfl rfl)
theorem dX24_plain_19 : decode cX24_plain 19 = .ok (.ifCond .ne 24, 3) := dk_154 0 24 (dk_at dksX24_plain_0 19 rfl rfl)
theorem dX24_plain_22 : decode cX24_plain 22 = .ok (.aload_n 0, 1) := dk_42 (dk_at dksX24_plain_0 22 rfl rfl)
theorem dX24_plain_23 : decode cX24_plain 23 = .ok (.getfield 10, 3) := dk_180 0 10 (dk_at dksX24_plain_1 0 rfl rfl)
theorem dX24_plain_26 : decode cX24_plain 26 = .ok (.getfield 113, 3) := dk_180 0 113 (dk_at dksX24_plain_1 3 rfl rfl)
theorem dX24_plain_29 : decode cX24_plain 29 = .ok (.iload_n 1, 1) := dk_27 (dk_at dksX24_plain_1 6 rfl rfl)
theorem dX24_plain_30 : decode cX24_plain 30 = .ok (.aaload, 1) := dk_50 (dk_at dksX24_plain_1 7 rfl rfl)
theorem dX24_plain_31 : decode cX24_plain 31 = .ok (.lload_n 2, 1) := dk_32 (dk_at dksX24_plain_1 8 rfl rfl)
theorem dX24_plain_32 : decode cX24_plain 32 = .ok (.l2i, 1) := dk_136 (dk_at dksX24_plain_1 9 rfl rfl)
theorem dX24_plain_33 : decode cX24_plain 33 = .ok (.invokevirtual 249, 3) := dk_182 0 249 (dk_at dksX24_plain_1 10 rfl rfl)
theorem dX24_plain_36 : decode cX24_plain 36 = .ok (.ifCond .eq 7, 3) := dk_153 0 7 (dk_at dksX24_plain_1 13 rfl rfl)
theorem dX24_plain_39 : decode cX24_plain 39 = .ok (.iconst 1, 1) := dk_4 (dk_at dksX24_plain_1 16 rfl rfl)
theorem dX24_plain_40 : decode cX24_plain 40 = .ok (.goto 4, 3) := dk_167 0 4 (dk_at dksX24_plain_1 17 rfl rfl)
theorem dX24_plain_43 : decode cX24_plain 43 = .ok (.iconst 0, 1) := dk_3 (dk_at dksX24_plain_1 20 rfl rfl)
theorem dX24_plain_44 : decode cX24_plain 44 = .ok (.ireturn, 1) := dk_172 (dk_at dksX24_plain_1 21 rfl rfl)
abbrev cX24_write : ByteArray := prog_27_method_21_code
def yX24_write : MethodName := ⟨RX24, "write", "(I)I"⟩
def dkwX24_write_1 : List UInt8 := [167, 0, 4, 2, 172]
abbrev dktX24_write_1 : List UInt8 := dkwX24_write_1 ++ []
def dkwX24_write_0 : List UInt8 := [42, 182, 0, 236, 27, 155, 0, 20, 27, 42, 180, 0, 199, 162, 0, 12, 42, 180, 0, 37, 27, 51]
abbrev dktX24_write_0 : List UInt8 := dkwX24_write_0 ++ dktX24_write_1
theorem dksX24_write_0 : cX24_write.data.toList.drop 0 = dktX24_write_0 := by decide +kernel
theorem dksX24_write_1 : cX24_write.data.toList.drop 22 = dktX24_write_1 := dk_seg dksX24_write_0 22 rfl rfl
theorem dX24_write_0 : decode cX24_write 0 = .ok (.aload_n 0, 1) := dk_42 (dk_at dksX24_write_0 0 rfl rfl)
theorem dX24_write_1 : decode cX24_write 1 = .ok (.invokevirtual 236, 3) := dk_182 0 236 (dk_at dksX24_write_0 1 rfl rfl)
theorem dX24_write_4 : decode cX24_write 4 = .ok (.iload_n 1, 1) := dk_27 (dk_at dksX24_write_0 4 rfl rfl)
theorem dX24_write_5 : decode cX24_write 5 = .ok (.ifCond .lt 20, 3) := dk_155 0 20 (dk_at dksX24_write_0 5 rfl rfl)
theorem dX24_write_8 : decode cX24_write 8 = .ok (.iload_n 1, 1) := dk_27 (dk_at dksX24_write_0 8 rfl rfl)
theorem dX24_write_9 : decode cX24_write 9 = .ok (.aload_n 0, 1) := dk_42 (dk_at dksX24_write_0 9 rfl rfl)
theorem dX24_write_10 : decode cX24_write 10 = .ok (.getfield 199, 3) := dk_180 0 199 (dk_at dksX24_write_0 10 rfl rfl)
theorem dX24_write_13 : decode cX24_write 13 = .ok (.if_icmp .ge 12, 3) := dk_162 0 12 (dk_at dksX24_write_0 13 rfl rfl)
theorem dX24_write_16 : decode cX24_write 16 = .ok (.aload_n 0, 1) := dk_42 (dk_at dksX24_write_0 16 rfl rfl)
theorem dX24_write_17 : decode cX24_write 17 = .ok (.getfield 37, 3) := dk_180 0 37 (dk_at dksX24_write_0 17 rfl rfl)
theorem dX24_write_20 : decode cX24_write 20 = .ok (.iload_n 1, 1) := dk_27 (dk_at dksX24_write_0 20 rfl rfl)
theorem dX24_write_21 : decode cX24_write 21 = .ok (.baload, 1) := dk_51 (dk_at dksX24_write_0 21 rfl rfl)
theorem dX24_write_22 : decode cX24_write 22 = .ok (.goto 4, 3) := dk_167 0 4 (dk_at dksX24_write_1 0 rfl rfl)
theorem dX24_write_25 : decode cX24_write 25 = .ok (.iconst (-1), 1) := dk_2 (dk_at dksX24_write_1 3 rfl rfl)
theorem dX24_write_26 : decode cX24_write 26 = .ok (.ireturn, 1) := dk_172 (dk_at dksX24_write_1 4 rfl rfl)
abbrev cX24_tell : ByteArray := prog_27_method_19_code
def yX24_tell : MethodName := ⟨RX24, "tell", "()V"⟩
def dkwX24_tell_6 : List UInt8 := [132, 1, 1, 167, 255, 204, 177]
abbrev dktX24_tell_6 : List UInt8 := dkwX24_tell_6 ++ []
def dkwX24_tell_5 : List UInt8 := [180, 0, 10, 180, 0, 225, 27, 51, 182, 0, 215, 42, 42, 180, 0, 10, 180, 0, 228, 27, 51, 182, 0, 206]
abbrev dktX24_tell_5 : List UInt8 := dkwX24_tell_5 ++ dktX24_tell_6
def dkwX24_tell_4 : List UInt8 := [180, 0, 10, 180, 0, 103, 162, 0, 47, 42, 178, 0, 156, 42, 180, 0, 10, 180, 0, 222, 27, 51, 42]
abbrev dktX24_tell_4 : List UInt8 := dkwX24_tell_4 ++ dktX24_tell_5
def dkwX24_tell_3 : List UInt8 := [42, 180, 0, 10, 180, 0, 113, 27, 50, 182, 0, 218, 132, 1, 1, 167, 255, 228, 3, 60, 27, 42]
abbrev dktX24_tell_3 : List UInt8 := dkwX24_tell_3 ++ dktX24_tell_4
def dkwX24_tell_2 : List UInt8 := [182, 0, 215, 132, 1, 1, 167, 255, 211, 3, 60, 27, 42, 180, 0, 10, 180, 0, 69, 162, 0, 23, 42, 27]
abbrev dktX24_tell_2 : List UInt8 := dkwX24_tell_2 ++ dktX24_tell_3
def dkwX24_tell_1 : List UInt8 := [180, 0, 10, 180, 0, 113, 27, 50, 180, 0, 209, 42, 180, 0, 10, 180, 0, 113, 27, 50, 180, 0, 212]
abbrev dktX24_tell_1 : List UInt8 := dkwX24_tell_1 ++ dktX24_tell_2
def dkwX24_tell_0 : List UInt8 := [42, 3, 181, 0, 199, 3, 60, 27, 42, 180, 0, 10, 180, 0, 69, 162, 0, 40, 42, 178, 0, 146, 42]
abbrev dktX24_tell_0 : List UInt8 := dkwX24_tell_0 ++ dktX24_tell_1
theorem dksX24_tell_0 : cX24_tell.data.toList.drop 0 = dktX24_tell_0 := by decide +kernel
theorem dksX24_tell_1 : cX24_tell.data.toList.drop 23 = dktX24_tell_1 := dk_seg dksX24_tell_0 23 rfl rfl
theorem dksX24_tell_2 : cX24_tell.data.toList.drop 46 = dktX24_tell_2 := dk_seg dksX24_tell_1 23 rfl rfl
theorem dksX24_tell_3 : cX24_tell.data.toList.drop 70 = dktX24_tell_3 := dk_seg dksX24_tell_2 24 rfl rfl
theorem dksX24_tell_4 : cX24_tell.data.toList.drop 92 = dktX24_tell_4 := dk_seg dksX24_tell_3 22 rfl rfl
theorem dksX24_tell_5 : cX24_tell.data.toList.drop 115 = dktX24_tell_5 := dk_seg dksX24_tell_4 23 rfl rfl
theorem dksX24_tell_6 : cX24_tell.data.toList.drop 139 = dktX24_tell_6 := dk_seg dksX24_tell_5 24 rfl rfl
theorem dX24_tell_0 : decode cX24_tell 0 = .ok (.aload_n 0, 1) := dk_42 (dk_at dksX24_tell_0 0 rfl rfl)
theorem dX24_tell_1 : decode cX24_tell 1 = .ok (.iconst 0, 1) := dk_3 (dk_at dksX24_tell_0 1 rfl rfl)
theorem dX24_tell_2 : decode cX24_tell 2 = .ok (.putfield 199, 3) := dk_181 0 199 (dk_at dksX24_tell_0 2 rfl rfl)
theorem dX24_tell_5 : decode cX24_tell 5 = .ok (.iconst 0, 1) := dk_3 (dk_at dksX24_tell_0 5 rfl rfl)
theorem dX24_tell_6 : decode cX24_tell 6 = .ok (.istore_n 1, 1) := dk_60 (dk_at dksX24_tell_0 6 rfl rfl)
theorem dX24_tell_7 : decode cX24_tell 7 = .ok (.iload_n 1, 1) := dk_27 (dk_at dksX24_tell_0 7 rfl rfl)
theorem dX24_tell_8 : decode cX24_tell 8 = .ok (.aload_n 0, 1) := dk_42 (dk_at dksX24_tell_0 8 rfl rfl)
theorem dX24_tell_9 : decode cX24_tell 9 = .ok (.getfield 10, 3) := dk_180 0 10 (dk_at dksX24_tell_0 9 rfl rfl)
theorem dX24_tell_12 : decode cX24_tell 12 = .ok (.getfield 69, 3) := dk_180 0 69 (dk_at dksX24_tell_0 12 rfl rfl)
theorem dX24_tell_15 : decode cX24_tell 15 = .ok (.if_icmp .ge 40, 3) := dk_162 0 40 (dk_at dksX24_tell_0 15 rfl rfl)
theorem dX24_tell_18 : decode cX24_tell 18 = .ok (.aload_n 0, 1) := dk_42 (dk_at dksX24_tell_0 18 rfl rfl)
theorem dX24_tell_19 : decode cX24_tell 19 = .ok (.getstatic 146, 3) := dk_178 0 146 (dk_at dksX24_tell_0 19 rfl rfl)
theorem dX24_tell_22 : decode cX24_tell 22 = .ok (.aload_n 0, 1) := dk_42 (dk_at dksX24_tell_0 22 rfl rfl)
theorem dX24_tell_23 : decode cX24_tell 23 = .ok (.getfield 10, 3) := dk_180 0 10 (dk_at dksX24_tell_1 0 rfl rfl)
theorem dX24_tell_26 : decode cX24_tell 26 = .ok (.getfield 113, 3) := dk_180 0 113 (dk_at dksX24_tell_1 3 rfl rfl)
theorem dX24_tell_29 : decode cX24_tell 29 = .ok (.iload_n 1, 1) := dk_27 (dk_at dksX24_tell_1 6 rfl rfl)
theorem dX24_tell_30 : decode cX24_tell 30 = .ok (.aaload, 1) := dk_50 (dk_at dksX24_tell_1 7 rfl rfl)
theorem dX24_tell_31 : decode cX24_tell 31 = .ok (.getfield 209, 3) := dk_180 0 209 (dk_at dksX24_tell_1 8 rfl rfl)
theorem dX24_tell_34 : decode cX24_tell 34 = .ok (.aload_n 0, 1) := dk_42 (dk_at dksX24_tell_1 11 rfl rfl)
theorem dX24_tell_35 : decode cX24_tell 35 = .ok (.getfield 10, 3) := dk_180 0 10 (dk_at dksX24_tell_1 12 rfl rfl)
theorem dX24_tell_38 : decode cX24_tell 38 = .ok (.getfield 113, 3) := dk_180 0 113 (dk_at dksX24_tell_1 15 rfl rfl)
theorem dX24_tell_41 : decode cX24_tell 41 = .ok (.iload_n 1, 1) := dk_27 (dk_at dksX24_tell_1 18 rfl rfl)
theorem dX24_tell_42 : decode cX24_tell 42 = .ok (.aaload, 1) := dk_50 (dk_at dksX24_tell_1 19 rfl rfl)
theorem dX24_tell_43 : decode cX24_tell 43 = .ok (.getfield 212, 3) := dk_180 0 212 (dk_at dksX24_tell_1 20 rfl rfl)
theorem dX24_tell_46 : decode cX24_tell 46 = .ok (.invokevirtual 215, 3) := dk_182 0 215 (dk_at dksX24_tell_2 0 rfl rfl)
theorem dX24_tell_49 : decode cX24_tell 49 = .ok (.iinc 1 1, 3) := dk_132 1 1 (dk_at dksX24_tell_2 3 rfl rfl)
theorem dX24_tell_52 : decode cX24_tell 52 = .ok (.goto (-45), 3) := dk_167 255 211 (dk_at dksX24_tell_2 6 rfl rfl)
theorem dX24_tell_55 : decode cX24_tell 55 = .ok (.iconst 0, 1) := dk_3 (dk_at dksX24_tell_2 9 rfl rfl)
theorem dX24_tell_56 : decode cX24_tell 56 = .ok (.istore_n 1, 1) := dk_60 (dk_at dksX24_tell_2 10 rfl rfl)
theorem dX24_tell_57 : decode cX24_tell 57 = .ok (.iload_n 1, 1) := dk_27 (dk_at dksX24_tell_2 11 rfl rfl)
theorem dX24_tell_58 : decode cX24_tell 58 = .ok (.aload_n 0, 1) := dk_42 (dk_at dksX24_tell_2 12 rfl rfl)
theorem dX24_tell_59 : decode cX24_tell 59 = .ok (.getfield 10, 3) := dk_180 0 10 (dk_at dksX24_tell_2 13 rfl rfl)
theorem dX24_tell_62 : decode cX24_tell 62 = .ok (.getfield 69, 3) := dk_180 0 69 (dk_at dksX24_tell_2 16 rfl rfl)
theorem dX24_tell_65 : decode cX24_tell 65 = .ok (.if_icmp .ge 23, 3) := dk_162 0 23 (dk_at dksX24_tell_2 19 rfl rfl)
theorem dX24_tell_68 : decode cX24_tell 68 = .ok (.aload_n 0, 1) := dk_42 (dk_at dksX24_tell_2 22 rfl rfl)
theorem dX24_tell_69 : decode cX24_tell 69 = .ok (.iload_n 1, 1) := dk_27 (dk_at dksX24_tell_2 23 rfl rfl)
theorem dX24_tell_70 : decode cX24_tell 70 = .ok (.aload_n 0, 1) := dk_42 (dk_at dksX24_tell_3 0 rfl rfl)
theorem dX24_tell_71 : decode cX24_tell 71 = .ok (.getfield 10, 3) := dk_180 0 10 (dk_at dksX24_tell_3 1 rfl rfl)
theorem dX24_tell_74 : decode cX24_tell 74 = .ok (.getfield 113, 3) := dk_180 0 113 (dk_at dksX24_tell_3 4 rfl rfl)
theorem dX24_tell_77 : decode cX24_tell 77 = .ok (.iload_n 1, 1) := dk_27 (dk_at dksX24_tell_3 7 rfl rfl)
theorem dX24_tell_78 : decode cX24_tell 78 = .ok (.aaload, 1) := dk_50 (dk_at dksX24_tell_3 8 rfl rfl)
theorem dX24_tell_79 : decode cX24_tell 79 = .ok (.invokevirtual 218, 3) := dk_182 0 218 (dk_at dksX24_tell_3 9 rfl rfl)
theorem dX24_tell_82 : decode cX24_tell 82 = .ok (.iinc 1 1, 3) := dk_132 1 1 (dk_at dksX24_tell_3 12 rfl rfl)
theorem dX24_tell_85 : decode cX24_tell 85 = .ok (.goto (-28), 3) := dk_167 255 228 (dk_at dksX24_tell_3 15 rfl rfl)
theorem dX24_tell_88 : decode cX24_tell 88 = .ok (.iconst 0, 1) := dk_3 (dk_at dksX24_tell_3 18 rfl rfl)
theorem dX24_tell_89 : decode cX24_tell 89 = .ok (.istore_n 1, 1) := dk_60 (dk_at dksX24_tell_3 19 rfl rfl)
theorem dX24_tell_90 : decode cX24_tell 90 = .ok (.iload_n 1, 1) := dk_27 (dk_at dksX24_tell_3 20 rfl rfl)
theorem dX24_tell_91 : decode cX24_tell 91 = .ok (.aload_n 0, 1) := dk_42 (dk_at dksX24_tell_3 21 rfl rfl)
theorem dX24_tell_92 : decode cX24_tell 92 = .ok (.getfield 10, 3) := dk_180 0 10 (dk_at dksX24_tell_4 0 rfl rfl)
theorem dX24_tell_95 : decode cX24_tell 95 = .ok (.getfield 103, 3) := dk_180 0 103 (dk_at dksX24_tell_4 3 rfl rfl)
theorem dX24_tell_98 : decode cX24_tell 98 = .ok (.if_icmp .ge 47, 3) := dk_162 0 47 (dk_at dksX24_tell_4 6 rfl rfl)
theorem dX24_tell_101 : decode cX24_tell 101 = .ok (.aload_n 0, 1) := dk_42 (dk_at dksX24_tell_4 9 rfl rfl)
theorem dX24_tell_102 : decode cX24_tell 102 = .ok (.getstatic 156, 3) := dk_178 0 156 (dk_at dksX24_tell_4 10 rfl rfl)
theorem dX24_tell_105 : decode cX24_tell 105 = .ok (.aload_n 0, 1) := dk_42 (dk_at dksX24_tell_4 13 rfl rfl)
theorem dX24_tell_106 : decode cX24_tell 106 = .ok (.getfield 10, 3) := dk_180 0 10 (dk_at dksX24_tell_4 14 rfl rfl)
theorem dX24_tell_109 : decode cX24_tell 109 = .ok (.getfield 222, 3) := dk_180 0 222 (dk_at dksX24_tell_4 17 rfl rfl)
theorem dX24_tell_112 : decode cX24_tell 112 = .ok (.iload_n 1, 1) := dk_27 (dk_at dksX24_tell_4 20 rfl rfl)
theorem dX24_tell_113 : decode cX24_tell 113 = .ok (.baload, 1) := dk_51 (dk_at dksX24_tell_4 21 rfl rfl)
theorem dX24_tell_114 : decode cX24_tell 114 = .ok (.aload_n 0, 1) := dk_42 (dk_at dksX24_tell_4 22 rfl rfl)
theorem dX24_tell_115 : decode cX24_tell 115 = .ok (.getfield 10, 3) := dk_180 0 10 (dk_at dksX24_tell_5 0 rfl rfl)
theorem dX24_tell_118 : decode cX24_tell 118 = .ok (.getfield 225, 3) := dk_180 0 225 (dk_at dksX24_tell_5 3 rfl rfl)
theorem dX24_tell_121 : decode cX24_tell 121 = .ok (.iload_n 1, 1) := dk_27 (dk_at dksX24_tell_5 6 rfl rfl)
theorem dX24_tell_122 : decode cX24_tell 122 = .ok (.baload, 1) := dk_51 (dk_at dksX24_tell_5 7 rfl rfl)
theorem dX24_tell_123 : decode cX24_tell 123 = .ok (.invokevirtual 215, 3) := dk_182 0 215 (dk_at dksX24_tell_5 8 rfl rfl)
theorem dX24_tell_126 : decode cX24_tell 126 = .ok (.aload_n 0, 1) := dk_42 (dk_at dksX24_tell_5 11 rfl rfl)
theorem dX24_tell_127 : decode cX24_tell 127 = .ok (.aload_n 0, 1) := dk_42 (dk_at dksX24_tell_5 12 rfl rfl)
theorem dX24_tell_128 : decode cX24_tell 128 = .ok (.getfield 10, 3) := dk_180 0 10 (dk_at dksX24_tell_5 13 rfl rfl)
theorem dX24_tell_131 : decode cX24_tell 131 = .ok (.getfield 228, 3) := dk_180 0 228 (dk_at dksX24_tell_5 16 rfl rfl)
theorem dX24_tell_134 : decode cX24_tell 134 = .ok (.iload_n 1, 1) := dk_27 (dk_at dksX24_tell_5 19 rfl rfl)
theorem dX24_tell_135 : decode cX24_tell 135 = .ok (.baload, 1) := dk_51 (dk_at dksX24_tell_5 20 rfl rfl)
theorem dX24_tell_136 : decode cX24_tell 136 = .ok (.invokevirtual 206, 3) := dk_182 0 206 (dk_at dksX24_tell_5 21 rfl rfl)
theorem dX24_tell_139 : decode cX24_tell 139 = .ok (.iinc 1 1, 3) := dk_132 1 1 (dk_at dksX24_tell_6 0 rfl rfl)
theorem dX24_tell_142 : decode cX24_tell 142 = .ok (.goto (-52), 3) := dk_167 255 204 (dk_at dksX24_tell_6 3 rfl rfl)
theorem dX24_tell_145 : decode cX24_tell 145 = .ok (.return_, 1) := dk_177 (dk_at dksX24_tell_6 6 rfl rfl)
abbrev cX24_say : ByteArray := prog_27_method_18_code
def yX24_say : MethodName := ⟨RX24, "say", "(LWasteHouse$PartGraphs$Sentence;II)V"⟩
def dkwX24_say_0 : List UInt8 := [42, 43, 180, 0, 138, 182, 0, 202, 42, 28, 182, 0, 206, 42, 29, 182, 0, 206, 177]
abbrev dktX24_say_0 : List UInt8 := dkwX24_say_0 ++ []
theorem dksX24_say_0 : cX24_say.data.toList.drop 0 = dktX24_say_0 := by decide +kernel
theorem dX24_say_0 : decode cX24_say 0 = .ok (.aload_n 0, 1) := dk_42 (dk_at dksX24_say_0 0 rfl rfl)
theorem dX24_say_1 : decode cX24_say 1 = .ok (.aload_n 1, 1) := dk_43 (dk_at dksX24_say_0 1 rfl rfl)
theorem dX24_say_2 : decode cX24_say 2 = .ok (.getfield 138, 3) := dk_180 0 138 (dk_at dksX24_say_0 2 rfl rfl)
theorem dX24_say_5 : decode cX24_say 5 = .ok (.invokevirtual 202, 3) := dk_182 0 202 (dk_at dksX24_say_0 5 rfl rfl)
theorem dX24_say_8 : decode cX24_say 8 = .ok (.aload_n 0, 1) := dk_42 (dk_at dksX24_say_0 8 rfl rfl)
theorem dX24_say_9 : decode cX24_say 9 = .ok (.iload_n 2, 1) := dk_28 (dk_at dksX24_say_0 9 rfl rfl)
theorem dX24_say_10 : decode cX24_say 10 = .ok (.invokevirtual 206, 3) := dk_182 0 206 (dk_at dksX24_say_0 10 rfl rfl)
theorem dX24_say_13 : decode cX24_say 13 = .ok (.aload_n 0, 1) := dk_42 (dk_at dksX24_say_0 13 rfl rfl)
theorem dX24_say_14 : decode cX24_say 14 = .ok (.iload_n 3, 1) := dk_29 (dk_at dksX24_say_0 14 rfl rfl)
theorem dX24_say_15 : decode cX24_say 15 = .ok (.invokevirtual 206, 3) := dk_182 0 206 (dk_at dksX24_say_0 15 rfl rfl)
theorem dX24_say_18 : decode cX24_say 18 = .ok (.return_, 1) := dk_177 (dk_at dksX24_say_0 18 rfl rfl)
abbrev cX24_say_2 : ByteArray := prog_27_method_16_code
def yX24_say_2 : MethodName := ⟨RX24, "say", "(Ljava/lang/String;)V"⟩
def dkwX24_say_2_2 : List UInt8 := [180, 0, 199, 90, 4, 96, 181, 0, 199, 16, 32, 84, 177]
abbrev dktX24_say_2_2 : List UInt8 := dkwX24_say_2_2 ++ []
def dkwX24_say_2_1 : List UInt8 := [181, 0, 199, 43, 28, 182, 0, 58, 145, 84, 132, 2, 1, 167, 255, 223, 42, 180, 0, 37, 42, 89]
abbrev dktX24_say_2_1 : List UInt8 := dkwX24_say_2_1 ++ dktX24_say_2_2
def dkwX24_say_2_0 : List UInt8 := [3, 61, 28, 43, 182, 0, 48, 162, 0, 31, 42, 180, 0, 37, 42, 89, 180, 0, 199, 90, 4, 96]
abbrev dktX24_say_2_0 : List UInt8 := dkwX24_say_2_0 ++ dktX24_say_2_1
theorem dksX24_say_2_0 : cX24_say_2.data.toList.drop 0 = dktX24_say_2_0 := by decide +kernel
theorem dksX24_say_2_1 : cX24_say_2.data.toList.drop 22 = dktX24_say_2_1 := dk_seg dksX24_say_2_0 22 rfl rfl
theorem dksX24_say_2_2 : cX24_say_2.data.toList.drop 44 = dktX24_say_2_2 := dk_seg dksX24_say_2_1 22 rfl rfl
theorem dX24_say_2_0 : decode cX24_say_2 0 = .ok (.iconst 0, 1) := dk_3 (dk_at dksX24_say_2_0 0 rfl rfl)
theorem dX24_say_2_1 : decode cX24_say_2 1 = .ok (.istore_n 2, 1) := dk_61 (dk_at dksX24_say_2_0 1 rfl rfl)
theorem dX24_say_2_2 : decode cX24_say_2 2 = .ok (.iload_n 2, 1) := dk_28 (dk_at dksX24_say_2_0 2 rfl rfl)
theorem dX24_say_2_3 : decode cX24_say_2 3 = .ok (.aload_n 1, 1) := dk_43 (dk_at dksX24_say_2_0 3 rfl rfl)
theorem dX24_say_2_4 : decode cX24_say_2 4 = .ok (.invokevirtual 48, 3) := dk_182 0 48 (dk_at dksX24_say_2_0 4 rfl rfl)
theorem dX24_say_2_7 : decode cX24_say_2 7 = .ok (.if_icmp .ge 31, 3) := dk_162 0 31 (dk_at dksX24_say_2_0 7 rfl rfl)
theorem dX24_say_2_10 : decode cX24_say_2 10 = .ok (.aload_n 0, 1) := dk_42 (dk_at dksX24_say_2_0 10 rfl rfl)
theorem dX24_say_2_11 : decode cX24_say_2 11 = .ok (.getfield 37, 3) := dk_180 0 37 (dk_at dksX24_say_2_0 11 rfl rfl)
theorem dX24_say_2_14 : decode cX24_say_2 14 = .ok (.aload_n 0, 1) := dk_42 (dk_at dksX24_say_2_0 14 rfl rfl)
theorem dX24_say_2_15 : decode cX24_say_2 15 = .ok (.dup, 1) := dk_89 (dk_at dksX24_say_2_0 15 rfl rfl)
theorem dX24_say_2_16 : decode cX24_say_2 16 = .ok (.getfield 199, 3) := dk_180 0 199 (dk_at dksX24_say_2_0 16 rfl rfl)
theorem dX24_say_2_19 : decode cX24_say_2 19 = .ok (.dup_x1, 1) := dk_90 (dk_at dksX24_say_2_0 19 rfl rfl)
theorem dX24_say_2_20 : decode cX24_say_2 20 = .ok (.iconst 1, 1) := dk_4 (dk_at dksX24_say_2_0 20 rfl rfl)
theorem dX24_say_2_21 : decode cX24_say_2 21 = .ok (.iadd, 1) := dk_96 (dk_at dksX24_say_2_0 21 rfl rfl)
theorem dX24_say_2_22 : decode cX24_say_2 22 = .ok (.putfield 199, 3) := dk_181 0 199 (dk_at dksX24_say_2_1 0 rfl rfl)
theorem dX24_say_2_25 : decode cX24_say_2 25 = .ok (.aload_n 1, 1) := dk_43 (dk_at dksX24_say_2_1 3 rfl rfl)
theorem dX24_say_2_26 : decode cX24_say_2 26 = .ok (.iload_n 2, 1) := dk_28 (dk_at dksX24_say_2_1 4 rfl rfl)
theorem dX24_say_2_27 : decode cX24_say_2 27 = .ok (.invokevirtual 58, 3) := dk_182 0 58 (dk_at dksX24_say_2_1 5 rfl rfl)
theorem dX24_say_2_30 : decode cX24_say_2 30 = .ok (.i2b, 1) := dk_145 (dk_at dksX24_say_2_1 8 rfl rfl)
theorem dX24_say_2_31 : decode cX24_say_2 31 = .ok (.bastore, 1) := dk_84 (dk_at dksX24_say_2_1 9 rfl rfl)
theorem dX24_say_2_32 : decode cX24_say_2 32 = .ok (.iinc 2 1, 3) := dk_132 2 1 (dk_at dksX24_say_2_1 10 rfl rfl)
theorem dX24_say_2_35 : decode cX24_say_2 35 = .ok (.goto (-33), 3) := dk_167 255 223 (dk_at dksX24_say_2_1 13 rfl rfl)
theorem dX24_say_2_38 : decode cX24_say_2 38 = .ok (.aload_n 0, 1) := dk_42 (dk_at dksX24_say_2_1 16 rfl rfl)
theorem dX24_say_2_39 : decode cX24_say_2 39 = .ok (.getfield 37, 3) := dk_180 0 37 (dk_at dksX24_say_2_1 17 rfl rfl)
theorem dX24_say_2_42 : decode cX24_say_2 42 = .ok (.aload_n 0, 1) := dk_42 (dk_at dksX24_say_2_1 20 rfl rfl)
theorem dX24_say_2_43 : decode cX24_say_2 43 = .ok (.dup, 1) := dk_89 (dk_at dksX24_say_2_1 21 rfl rfl)
theorem dX24_say_2_44 : decode cX24_say_2 44 = .ok (.getfield 199, 3) := dk_180 0 199 (dk_at dksX24_say_2_2 0 rfl rfl)
theorem dX24_say_2_47 : decode cX24_say_2 47 = .ok (.dup_x1, 1) := dk_90 (dk_at dksX24_say_2_2 3 rfl rfl)
theorem dX24_say_2_48 : decode cX24_say_2 48 = .ok (.iconst 1, 1) := dk_4 (dk_at dksX24_say_2_2 4 rfl rfl)
theorem dX24_say_2_49 : decode cX24_say_2 49 = .ok (.iadd, 1) := dk_96 (dk_at dksX24_say_2_2 5 rfl rfl)
theorem dX24_say_2_50 : decode cX24_say_2 50 = .ok (.putfield 199, 3) := dk_181 0 199 (dk_at dksX24_say_2_2 6 rfl rfl)
theorem dX24_say_2_53 : decode cX24_say_2 53 = .ok (.bipush 32, 2) := dk_16 32 (dk_at dksX24_say_2_2 9 rfl rfl)
theorem dX24_say_2_55 : decode cX24_say_2 55 = .ok (.bastore, 1) := dk_84 (dk_at dksX24_say_2_2 11 rfl rfl)
theorem dX24_say_2_56 : decode cX24_say_2 56 = .ok (.return_, 1) := dk_177 (dk_at dksX24_say_2_2 12 rfl rfl)
abbrev cX24_say_3 : ByteArray := prog_27_method_17_code
def yX24_say_3 : MethodName := ⟨RX24, "say", "(I)V"⟩
def dkwX24_say_3_3 : List UInt8 := [16, 32, 84, 177]
abbrev dktX24_say_3_3 : List UInt8 := dkwX24_say_3_3 ++ []
def dkwX24_say_3_2 : List UInt8 := [84, 28, 16, 10, 108, 61, 167, 255, 221, 42, 180, 0, 37, 42, 89, 180, 0, 199, 90, 4, 96, 181, 0, 199]
abbrev dktX24_say_3_2 : List UInt8 := dkwX24_say_3_2 ++ dktX24_say_3_3
def dkwX24_say_3_1 : List UInt8 := [180, 0, 37, 42, 89, 180, 0, 199, 90, 4, 96, 181, 0, 199, 16, 48, 27, 28, 108, 16, 10, 112, 96, 145]
abbrev dktX24_say_3_1 : List UInt8 := dkwX24_say_3_1 ++ dktX24_say_3_2
def dkwX24_say_3_0 : List UInt8 := [4, 61, 27, 28, 108, 16, 9, 164, 0, 11, 28, 16, 10, 104, 61, 167, 255, 243, 28, 158, 0, 37, 42]
abbrev dktX24_say_3_0 : List UInt8 := dkwX24_say_3_0 ++ dktX24_say_3_1
theorem dksX24_say_3_0 : cX24_say_3.data.toList.drop 0 = dktX24_say_3_0 := by decide +kernel
theorem dksX24_say_3_1 : cX24_say_3.data.toList.drop 23 = dktX24_say_3_1 := dk_seg dksX24_say_3_0 23 rfl rfl
theorem dksX24_say_3_2 : cX24_say_3.data.toList.drop 47 = dktX24_say_3_2 := dk_seg dksX24_say_3_1 24 rfl rfl
theorem dksX24_say_3_3 : cX24_say_3.data.toList.drop 71 = dktX24_say_3_3 := dk_seg dksX24_say_3_2 24 rfl rfl
theorem dX24_say_3_0 : decode cX24_say_3 0 = .ok (.iconst 1, 1) := dk_4 (dk_at dksX24_say_3_0 0 rfl rfl)
theorem dX24_say_3_1 : decode cX24_say_3 1 = .ok (.istore_n 2, 1) := dk_61 (dk_at dksX24_say_3_0 1 rfl rfl)
theorem dX24_say_3_2 : decode cX24_say_3 2 = .ok (.iload_n 1, 1) := dk_27 (dk_at dksX24_say_3_0 2 rfl rfl)
theorem dX24_say_3_3 : decode cX24_say_3 3 = .ok (.iload_n 2, 1) := dk_28 (dk_at dksX24_say_3_0 3 rfl rfl)
theorem dX24_say_3_4 : decode cX24_say_3 4 = .ok (.idiv, 1) := dk_108 (dk_at dksX24_say_3_0 4 rfl rfl)
theorem dX24_say_3_5 : decode cX24_say_3 5 = .ok (.bipush 9, 2) := dk_16 9 (dk_at dksX24_say_3_0 5 rfl rfl)
theorem dX24_say_3_7 : decode cX24_say_3 7 = .ok (.if_icmp .le 11, 3) := dk_164 0 11 (dk_at dksX24_say_3_0 7 rfl rfl)
theorem dX24_say_3_10 : decode cX24_say_3 10 = .ok (.iload_n 2, 1) := dk_28 (dk_at dksX24_say_3_0 10 rfl rfl)
theorem dX24_say_3_11 : decode cX24_say_3 11 = .ok (.bipush 10, 2) := dk_16 10 (dk_at dksX24_say_3_0 11 rfl rfl)
theorem dX24_say_3_13 : decode cX24_say_3 13 = .ok (.imul, 1) := dk_104 (dk_at dksX24_say_3_0 13 rfl rfl)
theorem dX24_say_3_14 : decode cX24_say_3 14 = .ok (.istore_n 2, 1) := dk_61 (dk_at dksX24_say_3_0 14 rfl rfl)
theorem dX24_say_3_15 : decode cX24_say_3 15 = .ok (.goto (-13), 3) := dk_167 255 243 (dk_at dksX24_say_3_0 15 rfl rfl)
theorem dX24_say_3_18 : decode cX24_say_3 18 = .ok (.iload_n 2, 1) := dk_28 (dk_at dksX24_say_3_0 18 rfl rfl)
theorem dX24_say_3_19 : decode cX24_say_3 19 = .ok (.ifCond .le 37, 3) := dk_158 0 37 (dk_at dksX24_say_3_0 19 rfl rfl)
theorem dX24_say_3_22 : decode cX24_say_3 22 = .ok (.aload_n 0, 1) := dk_42 (dk_at dksX24_say_3_0 22 rfl rfl)
theorem dX24_say_3_23 : decode cX24_say_3 23 = .ok (.getfield 37, 3) := dk_180 0 37 (dk_at dksX24_say_3_1 0 rfl rfl)
theorem dX24_say_3_26 : decode cX24_say_3 26 = .ok (.aload_n 0, 1) := dk_42 (dk_at dksX24_say_3_1 3 rfl rfl)
theorem dX24_say_3_27 : decode cX24_say_3 27 = .ok (.dup, 1) := dk_89 (dk_at dksX24_say_3_1 4 rfl rfl)
theorem dX24_say_3_28 : decode cX24_say_3 28 = .ok (.getfield 199, 3) := dk_180 0 199 (dk_at dksX24_say_3_1 5 rfl rfl)
theorem dX24_say_3_31 : decode cX24_say_3 31 = .ok (.dup_x1, 1) := dk_90 (dk_at dksX24_say_3_1 8 rfl rfl)
theorem dX24_say_3_32 : decode cX24_say_3 32 = .ok (.iconst 1, 1) := dk_4 (dk_at dksX24_say_3_1 9 rfl rfl)
theorem dX24_say_3_33 : decode cX24_say_3 33 = .ok (.iadd, 1) := dk_96 (dk_at dksX24_say_3_1 10 rfl rfl)
theorem dX24_say_3_34 : decode cX24_say_3 34 = .ok (.putfield 199, 3) := dk_181 0 199 (dk_at dksX24_say_3_1 11 rfl rfl)
theorem dX24_say_3_37 : decode cX24_say_3 37 = .ok (.bipush 48, 2) := dk_16 48 (dk_at dksX24_say_3_1 14 rfl rfl)
theorem dX24_say_3_39 : decode cX24_say_3 39 = .ok (.iload_n 1, 1) := dk_27 (dk_at dksX24_say_3_1 16 rfl rfl)
theorem dX24_say_3_40 : decode cX24_say_3 40 = .ok (.iload_n 2, 1) := dk_28 (dk_at dksX24_say_3_1 17 rfl rfl)
theorem dX24_say_3_41 : decode cX24_say_3 41 = .ok (.idiv, 1) := dk_108 (dk_at dksX24_say_3_1 18 rfl rfl)
theorem dX24_say_3_42 : decode cX24_say_3 42 = .ok (.bipush 10, 2) := dk_16 10 (dk_at dksX24_say_3_1 19 rfl rfl)
theorem dX24_say_3_44 : decode cX24_say_3 44 = .ok (.irem, 1) := dk_112 (dk_at dksX24_say_3_1 21 rfl rfl)
theorem dX24_say_3_45 : decode cX24_say_3 45 = .ok (.iadd, 1) := dk_96 (dk_at dksX24_say_3_1 22 rfl rfl)
theorem dX24_say_3_46 : decode cX24_say_3 46 = .ok (.i2b, 1) := dk_145 (dk_at dksX24_say_3_1 23 rfl rfl)
theorem dX24_say_3_47 : decode cX24_say_3 47 = .ok (.bastore, 1) := dk_84 (dk_at dksX24_say_3_2 0 rfl rfl)
theorem dX24_say_3_48 : decode cX24_say_3 48 = .ok (.iload_n 2, 1) := dk_28 (dk_at dksX24_say_3_2 1 rfl rfl)
theorem dX24_say_3_49 : decode cX24_say_3 49 = .ok (.bipush 10, 2) := dk_16 10 (dk_at dksX24_say_3_2 2 rfl rfl)
theorem dX24_say_3_51 : decode cX24_say_3 51 = .ok (.idiv, 1) := dk_108 (dk_at dksX24_say_3_2 4 rfl rfl)
theorem dX24_say_3_52 : decode cX24_say_3 52 = .ok (.istore_n 2, 1) := dk_61 (dk_at dksX24_say_3_2 5 rfl rfl)
theorem dX24_say_3_53 : decode cX24_say_3 53 = .ok (.goto (-35), 3) := dk_167 255 221 (dk_at dksX24_say_3_2 6 rfl rfl)
theorem dX24_say_3_56 : decode cX24_say_3 56 = .ok (.aload_n 0, 1) := dk_42 (dk_at dksX24_say_3_2 9 rfl rfl)
theorem dX24_say_3_57 : decode cX24_say_3 57 = .ok (.getfield 37, 3) := dk_180 0 37 (dk_at dksX24_say_3_2 10 rfl rfl)
theorem dX24_say_3_60 : decode cX24_say_3 60 = .ok (.aload_n 0, 1) := dk_42 (dk_at dksX24_say_3_2 13 rfl rfl)
theorem dX24_say_3_61 : decode cX24_say_3 61 = .ok (.dup, 1) := dk_89 (dk_at dksX24_say_3_2 14 rfl rfl)
theorem dX24_say_3_62 : decode cX24_say_3 62 = .ok (.getfield 199, 3) := dk_180 0 199 (dk_at dksX24_say_3_2 15 rfl rfl)
theorem dX24_say_3_65 : decode cX24_say_3 65 = .ok (.dup_x1, 1) := dk_90 (dk_at dksX24_say_3_2 18 rfl rfl)
theorem dX24_say_3_66 : decode cX24_say_3 66 = .ok (.iconst 1, 1) := dk_4 (dk_at dksX24_say_3_2 19 rfl rfl)
theorem dX24_say_3_67 : decode cX24_say_3 67 = .ok (.iadd, 1) := dk_96 (dk_at dksX24_say_3_2 20 rfl rfl)
theorem dX24_say_3_68 : decode cX24_say_3 68 = .ok (.putfield 199, 3) := dk_181 0 199 (dk_at dksX24_say_3_2 21 rfl rfl)
theorem dX24_say_3_71 : decode cX24_say_3 71 = .ok (.bipush 32, 2) := dk_16 32 (dk_at dksX24_say_3_3 0 rfl rfl)
theorem dX24_say_3_73 : decode cX24_say_3 73 = .ok (.bastore, 1) := dk_84 (dk_at dksX24_say_3_3 2 rfl rfl)
theorem dX24_say_3_74 : decode cX24_say_3 74 = .ok (.return_, 1) := dk_177 (dk_at dksX24_say_3_3 3 rfl rfl)
abbrev cX24_tell_2 : ByteArray := prog_27_method_20_code
def yX24_tell_2 : MethodName := ⟨RX24, "tell", "(ILWasteHouse$PartGraphs$Part;)V"⟩
def dkwX24_tell_2_8 : List UInt8 := [182, 0, 215, 177]
abbrev dktX24_tell_2_8 : List UInt8 := dkwX24_tell_2_8 ++ []
def dkwX24_tell_2_7 : List UInt8 := [180, 0, 231, 182, 0, 215, 44, 180, 0, 234, 158, 0, 15, 42, 178, 0, 153, 27, 44, 180, 0, 234]
abbrev dktX24_tell_2_7 : List UInt8 := dkwX24_tell_2_7 ++ dktX24_tell_2_8
def dkwX24_tell_2_6 : List UInt8 := [182, 0, 215, 132, 3, 1, 167, 255, 226, 44, 180, 0, 231, 2, 159, 0, 15, 42, 178, 0, 150, 27, 44]
abbrev dktX24_tell_2_6 : List UInt8 := dkwX24_tell_2_6 ++ dktX24_tell_2_7
def dkwX24_tell_2_5 : List UInt8 := [16, 8, 162, 0, 30, 44, 180, 0, 117, 29, 122, 4, 126, 4, 160, 0, 12, 42, 178, 0, 165, 27, 29]
abbrev dktX24_tell_2_5 : List UInt8 := dkwX24_tell_2_5 ++ dktX24_tell_2_6
def dkwX24_tell_2_4 : List UInt8 := [182, 0, 215, 42, 21, 4, 182, 0, 206, 132, 4, 1, 167, 255, 211, 132, 3, 1, 167, 255, 196, 3, 62, 29]
abbrev dktX24_tell_2_4 : List UInt8 := dkwX24_tell_2_4 ++ dktX24_tell_2_5
def dkwX24_tell_2_3 : List UInt8 := [162, 0, 39, 44, 180, 0, 134, 29, 46, 21, 4, 122, 4, 126, 4, 160, 0, 18, 42, 178, 0, 162, 27, 29]
abbrev dktX24_tell_2_3 : List UInt8 := dkwX24_tell_2_3 ++ dktX24_tell_2_4
def dkwX24_tell_2_2 : List UInt8 := [167, 255, 213, 3, 62, 29, 16, 6, 162, 0, 60, 3, 54, 4, 21, 4, 42, 180, 0, 10, 180, 0, 69]
abbrev dktX24_tell_2_2 : List UInt8 := dkwX24_tell_2_2 ++ dktX24_tell_2_3
def dkwX24_tell_2_1 : List UInt8 := [180, 0, 131, 27, 122, 4, 126, 4, 160, 0, 12, 42, 178, 0, 159, 27, 29, 182, 0, 215, 132, 3, 1]
abbrev dktX24_tell_2_1 : List UInt8 := dkwX24_tell_2_1 ++ dktX24_tell_2_2
def dkwX24_tell_2_0 : List UInt8 := [3, 62, 29, 42, 180, 0, 10, 180, 0, 69, 162, 0, 38, 42, 180, 0, 10, 180, 0, 113, 29, 50]
abbrev dktX24_tell_2_0 : List UInt8 := dkwX24_tell_2_0 ++ dktX24_tell_2_1
theorem dksX24_tell_2_0 : cX24_tell_2.data.toList.drop 0 = dktX24_tell_2_0 := by decide +kernel
theorem dksX24_tell_2_1 : cX24_tell_2.data.toList.drop 22 = dktX24_tell_2_1 := dk_seg dksX24_tell_2_0 22 rfl rfl
theorem dksX24_tell_2_2 : cX24_tell_2.data.toList.drop 45 = dktX24_tell_2_2 := dk_seg dksX24_tell_2_1 23 rfl rfl
theorem dksX24_tell_2_3 : cX24_tell_2.data.toList.drop 68 = dktX24_tell_2_3 := dk_seg dksX24_tell_2_2 23 rfl rfl
theorem dksX24_tell_2_4 : cX24_tell_2.data.toList.drop 92 = dktX24_tell_2_4 := dk_seg dksX24_tell_2_3 24 rfl rfl
theorem dksX24_tell_2_5 : cX24_tell_2.data.toList.drop 116 = dktX24_tell_2_5 := dk_seg dksX24_tell_2_4 24 rfl rfl
theorem dksX24_tell_2_6 : cX24_tell_2.data.toList.drop 139 = dktX24_tell_2_6 := dk_seg dksX24_tell_2_5 23 rfl rfl
theorem dksX24_tell_2_7 : cX24_tell_2.data.toList.drop 162 = dktX24_tell_2_7 := dk_seg dksX24_tell_2_6 23 rfl rfl
theorem dksX24_tell_2_8 : cX24_tell_2.data.toList.drop 184 = dktX24_tell_2_8 := dk_seg dksX24_tell_2_7 22 rfl rfl
theorem dX24_tell_2_0 : decode cX24_tell_2 0 = .ok (.iconst 0, 1) := dk_3 (dk_at dksX24_tell_2_0 0 rfl rfl)
theorem dX24_tell_2_1 : decode cX24_tell_2 1 = .ok (.istore_n 3, 1) := dk_62 (dk_at dksX24_tell_2_0 1 rfl rfl)
theorem dX24_tell_2_2 : decode cX24_tell_2 2 = .ok (.iload_n 3, 1) := dk_29 (dk_at dksX24_tell_2_0 2 rfl rfl)
theorem dX24_tell_2_3 : decode cX24_tell_2 3 = .ok (.aload_n 0, 1) := dk_42 (dk_at dksX24_tell_2_0 3 rfl rfl)
theorem dX24_tell_2_4 : decode cX24_tell_2 4 = .ok (.getfield 10, 3) := dk_180 0 10 (dk_at dksX24_tell_2_0 4 rfl rfl)
theorem dX24_tell_2_7 : decode cX24_tell_2 7 = .ok (.getfield 69, 3) := dk_180 0 69 (dk_at dksX24_tell_2_0 7 rfl rfl)
theorem dX24_tell_2_10 : decode cX24_tell_2 10 = .ok (.if_icmp .ge 38, 3) := dk_162 0 38 (dk_at dksX24_tell_2_0 10 rfl rfl)
theorem dX24_tell_2_13 : decode cX24_tell_2 13 = .ok (.aload_n 0, 1) := dk_42 (dk_at dksX24_tell_2_0 13 rfl rfl)
theorem dX24_tell_2_14 : decode cX24_tell_2 14 = .ok (.getfield 10, 3) := dk_180 0 10 (dk_at dksX24_tell_2_0 14 rfl rfl)
theorem dX24_tell_2_17 : decode cX24_tell_2 17 = .ok (.getfield 113, 3) := dk_180 0 113 (dk_at dksX24_tell_2_0 17 rfl rfl)
theorem dX24_tell_2_20 : decode cX24_tell_2 20 = .ok (.iload_n 3, 1) := dk_29 (dk_at dksX24_tell_2_0 20 rfl rfl)
theorem dX24_tell_2_21 : decode cX24_tell_2 21 = .ok (.aaload, 1) := dk_50 (dk_at dksX24_tell_2_0 21 rfl rfl)
theorem dX24_tell_2_22 : decode cX24_tell_2 22 = .ok (.getfield 131, 3) := dk_180 0 131 (dk_at dksX24_tell_2_1 0 rfl rfl)
theorem dX24_tell_2_25 : decode cX24_tell_2 25 = .ok (.iload_n 1, 1) := dk_27 (dk_at dksX24_tell_2_1 3 rfl rfl)
theorem dX24_tell_2_26 : decode cX24_tell_2 26 = .ok (.ishr, 1) := dk_122 (dk_at dksX24_tell_2_1 4 rfl rfl)
theorem dX24_tell_2_27 : decode cX24_tell_2 27 = .ok (.iconst 1, 1) := dk_4 (dk_at dksX24_tell_2_1 5 rfl rfl)
theorem dX24_tell_2_28 : decode cX24_tell_2 28 = .ok (.iand, 1) := dk_126 (dk_at dksX24_tell_2_1 6 rfl rfl)
theorem dX24_tell_2_29 : decode cX24_tell_2 29 = .ok (.iconst 1, 1) := dk_4 (dk_at dksX24_tell_2_1 7 rfl rfl)
theorem dX24_tell_2_30 : decode cX24_tell_2 30 = .ok (.if_icmp .ne 12, 3) := dk_160 0 12 (dk_at dksX24_tell_2_1 8 rfl rfl)
theorem dX24_tell_2_33 : decode cX24_tell_2 33 = .ok (.aload_n 0, 1) := dk_42 (dk_at dksX24_tell_2_1 11 rfl rfl)
theorem dX24_tell_2_34 : decode cX24_tell_2 34 = .ok (.getstatic 159, 3) := dk_178 0 159 (dk_at dksX24_tell_2_1 12 rfl rfl)
theorem dX24_tell_2_37 : decode cX24_tell_2 37 = .ok (.iload_n 1, 1) := dk_27 (dk_at dksX24_tell_2_1 15 rfl rfl)
theorem dX24_tell_2_38 : decode cX24_tell_2 38 = .ok (.iload_n 3, 1) := dk_29 (dk_at dksX24_tell_2_1 16 rfl rfl)
theorem dX24_tell_2_39 : decode cX24_tell_2 39 = .ok (.invokevirtual 215, 3) := dk_182 0 215 (dk_at dksX24_tell_2_1 17 rfl rfl)
theorem dX24_tell_2_42 : decode cX24_tell_2 42 = .ok (.iinc 3 1, 3) := dk_132 3 1 (dk_at dksX24_tell_2_1 20 rfl rfl)
theorem dX24_tell_2_45 : decode cX24_tell_2 45 = .ok (.goto (-43), 3) := dk_167 255 213 (dk_at dksX24_tell_2_2 0 rfl rfl)
theorem dX24_tell_2_48 : decode cX24_tell_2 48 = .ok (.iconst 0, 1) := dk_3 (dk_at dksX24_tell_2_2 3 rfl rfl)
theorem dX24_tell_2_49 : decode cX24_tell_2 49 = .ok (.istore_n 3, 1) := dk_62 (dk_at dksX24_tell_2_2 4 rfl rfl)
theorem dX24_tell_2_50 : decode cX24_tell_2 50 = .ok (.iload_n 3, 1) := dk_29 (dk_at dksX24_tell_2_2 5 rfl rfl)
theorem dX24_tell_2_51 : decode cX24_tell_2 51 = .ok (.bipush 6, 2) := dk_16 6 (dk_at dksX24_tell_2_2 6 rfl rfl)
theorem dX24_tell_2_53 : decode cX24_tell_2 53 = .ok (.if_icmp .ge 60, 3) := dk_162 0 60 (dk_at dksX24_tell_2_2 8 rfl rfl)
theorem dX24_tell_2_56 : decode cX24_tell_2 56 = .ok (.iconst 0, 1) := dk_3 (dk_at dksX24_tell_2_2 11 rfl rfl)
theorem dX24_tell_2_57 : decode cX24_tell_2 57 = .ok (.istore 4, 2) := dk_54 4 (dk_at dksX24_tell_2_2 12 rfl rfl)
theorem dX24_tell_2_59 : decode cX24_tell_2 59 = .ok (.iload 4, 2) := dk_21 4 (dk_at dksX24_tell_2_2 14 rfl rfl)
theorem dX24_tell_2_61 : decode cX24_tell_2 61 = .ok (.aload_n 0, 1) := dk_42 (dk_at dksX24_tell_2_2 16 rfl rfl)
theorem dX24_tell_2_62 : decode cX24_tell_2 62 = .ok (.getfield 10, 3) := dk_180 0 10 (dk_at dksX24_tell_2_2 17 rfl rfl)
theorem dX24_tell_2_65 : decode cX24_tell_2 65 = .ok (.getfield 69, 3) := dk_180 0 69 (dk_at dksX24_tell_2_2 20 rfl rfl)
theorem dX24_tell_2_68 : decode cX24_tell_2 68 = .ok (.if_icmp .ge 39, 3) := dk_162 0 39 (dk_at dksX24_tell_2_3 0 rfl rfl)
theorem dX24_tell_2_71 : decode cX24_tell_2 71 = .ok (.aload_n 2, 1) := dk_44 (dk_at dksX24_tell_2_3 3 rfl rfl)
theorem dX24_tell_2_72 : decode cX24_tell_2 72 = .ok (.getfield 134, 3) := dk_180 0 134 (dk_at dksX24_tell_2_3 4 rfl rfl)
theorem dX24_tell_2_75 : decode cX24_tell_2 75 = .ok (.iload_n 3, 1) := dk_29 (dk_at dksX24_tell_2_3 7 rfl rfl)
theorem dX24_tell_2_76 : decode cX24_tell_2 76 = .ok (.iaload, 1) := dk_46 (dk_at dksX24_tell_2_3 8 rfl rfl)
theorem dX24_tell_2_77 : decode cX24_tell_2 77 = .ok (.iload 4, 2) := dk_21 4 (dk_at dksX24_tell_2_3 9 rfl rfl)
theorem dX24_tell_2_79 : decode cX24_tell_2 79 = .ok (.ishr, 1) := dk_122 (dk_at dksX24_tell_2_3 11 rfl rfl)
theorem dX24_tell_2_80 : decode cX24_tell_2 80 = .ok (.iconst 1, 1) := dk_4 (dk_at dksX24_tell_2_3 12 rfl rfl)
theorem dX24_tell_2_81 : decode cX24_tell_2 81 = .ok (.iand, 1) := dk_126 (dk_at dksX24_tell_2_3 13 rfl rfl)
theorem dX24_tell_2_82 : decode cX24_tell_2 82 = .ok (.iconst 1, 1) := dk_4 (dk_at dksX24_tell_2_3 14 rfl rfl)
theorem dX24_tell_2_83 : decode cX24_tell_2 83 = .ok (.if_icmp .ne 18, 3) := dk_160 0 18 (dk_at dksX24_tell_2_3 15 rfl rfl)
theorem dX24_tell_2_86 : decode cX24_tell_2 86 = .ok (.aload_n 0, 1) := dk_42 (dk_at dksX24_tell_2_3 18 rfl rfl)
theorem dX24_tell_2_87 : decode cX24_tell_2 87 = .ok (.getstatic 162, 3) := dk_178 0 162 (dk_at dksX24_tell_2_3 19 rfl rfl)
theorem dX24_tell_2_90 : decode cX24_tell_2 90 = .ok (.iload_n 1, 1) := dk_27 (dk_at dksX24_tell_2_3 22 rfl rfl)
theorem dX24_tell_2_91 : decode cX24_tell_2 91 = .ok (.iload_n 3, 1) := dk_29 (dk_at dksX24_tell_2_3 23 rfl rfl)
theorem dX24_tell_2_92 : decode cX24_tell_2 92 = .ok (.invokevirtual 215, 3) := dk_182 0 215 (dk_at dksX24_tell_2_4 0 rfl rfl)
theorem dX24_tell_2_95 : decode cX24_tell_2 95 = .ok (.aload_n 0, 1) := dk_42 (dk_at dksX24_tell_2_4 3 rfl rfl)
theorem dX24_tell_2_96 : decode cX24_tell_2 96 = .ok (.iload 4, 2) := dk_21 4 (dk_at dksX24_tell_2_4 4 rfl rfl)
theorem dX24_tell_2_98 : decode cX24_tell_2 98 = .ok (.invokevirtual 206, 3) := dk_182 0 206 (dk_at dksX24_tell_2_4 6 rfl rfl)
theorem dX24_tell_2_101 : decode cX24_tell_2 101 = .ok (.iinc 4 1, 3) := dk_132 4 1 (dk_at dksX24_tell_2_4 9 rfl rfl)
theorem dX24_tell_2_104 : decode cX24_tell_2 104 = .ok (.goto (-45), 3) := dk_167 255 211 (dk_at dksX24_tell_2_4 12 rfl rfl)
theorem dX24_tell_2_107 : decode cX24_tell_2 107 = .ok (.iinc 3 1, 3) := dk_132 3 1 (dk_at dksX24_tell_2_4 15 rfl rfl)
theorem dX24_tell_2_110 : decode cX24_tell_2 110 = .ok (.goto (-60), 3) := dk_167 255 196 (dk_at dksX24_tell_2_4 18 rfl rfl)
theorem dX24_tell_2_113 : decode cX24_tell_2 113 = .ok (.iconst 0, 1) := dk_3 (dk_at dksX24_tell_2_4 21 rfl rfl)
theorem dX24_tell_2_114 : decode cX24_tell_2 114 = .ok (.istore_n 3, 1) := dk_62 (dk_at dksX24_tell_2_4 22 rfl rfl)
theorem dX24_tell_2_115 : decode cX24_tell_2 115 = .ok (.iload_n 3, 1) := dk_29 (dk_at dksX24_tell_2_4 23 rfl rfl)
theorem dX24_tell_2_116 : decode cX24_tell_2 116 = .ok (.bipush 8, 2) := dk_16 8 (dk_at dksX24_tell_2_5 0 rfl rfl)
theorem dX24_tell_2_118 : decode cX24_tell_2 118 = .ok (.if_icmp .ge 30, 3) := dk_162 0 30 (dk_at dksX24_tell_2_5 2 rfl rfl)
theorem dX24_tell_2_121 : decode cX24_tell_2 121 = .ok (.aload_n 2, 1) := dk_44 (dk_at dksX24_tell_2_5 5 rfl rfl)
theorem dX24_tell_2_122 : decode cX24_tell_2 122 = .ok (.getfield 117, 3) := dk_180 0 117 (dk_at dksX24_tell_2_5 6 rfl rfl)
theorem dX24_tell_2_125 : decode cX24_tell_2 125 = .ok (.iload_n 3, 1) := dk_29 (dk_at dksX24_tell_2_5 9 rfl rfl)
theorem dX24_tell_2_126 : decode cX24_tell_2 126 = .ok (.ishr, 1) := dk_122 (dk_at dksX24_tell_2_5 10 rfl rfl)
theorem dX24_tell_2_127 : decode cX24_tell_2 127 = .ok (.iconst 1, 1) := dk_4 (dk_at dksX24_tell_2_5 11 rfl rfl)
theorem dX24_tell_2_128 : decode cX24_tell_2 128 = .ok (.iand, 1) := dk_126 (dk_at dksX24_tell_2_5 12 rfl rfl)
theorem dX24_tell_2_129 : decode cX24_tell_2 129 = .ok (.iconst 1, 1) := dk_4 (dk_at dksX24_tell_2_5 13 rfl rfl)
theorem dX24_tell_2_130 : decode cX24_tell_2 130 = .ok (.if_icmp .ne 12, 3) := dk_160 0 12 (dk_at dksX24_tell_2_5 14 rfl rfl)
theorem dX24_tell_2_133 : decode cX24_tell_2 133 = .ok (.aload_n 0, 1) := dk_42 (dk_at dksX24_tell_2_5 17 rfl rfl)
theorem dX24_tell_2_134 : decode cX24_tell_2 134 = .ok (.getstatic 165, 3) := dk_178 0 165 (dk_at dksX24_tell_2_5 18 rfl rfl)
theorem dX24_tell_2_137 : decode cX24_tell_2 137 = .ok (.iload_n 1, 1) := dk_27 (dk_at dksX24_tell_2_5 21 rfl rfl)
theorem dX24_tell_2_138 : decode cX24_tell_2 138 = .ok (.iload_n 3, 1) := dk_29 (dk_at dksX24_tell_2_5 22 rfl rfl)
theorem dX24_tell_2_139 : decode cX24_tell_2 139 = .ok (.invokevirtual 215, 3) := dk_182 0 215 (dk_at dksX24_tell_2_6 0 rfl rfl)
theorem dX24_tell_2_142 : decode cX24_tell_2 142 = .ok (.iinc 3 1, 3) := dk_132 3 1 (dk_at dksX24_tell_2_6 3 rfl rfl)
theorem dX24_tell_2_145 : decode cX24_tell_2 145 = .ok (.goto (-30), 3) := dk_167 255 226 (dk_at dksX24_tell_2_6 6 rfl rfl)
theorem dX24_tell_2_148 : decode cX24_tell_2 148 = .ok (.aload_n 2, 1) := dk_44 (dk_at dksX24_tell_2_6 9 rfl rfl)
theorem dX24_tell_2_149 : decode cX24_tell_2 149 = .ok (.getfield 231, 3) := dk_180 0 231 (dk_at dksX24_tell_2_6 10 rfl rfl)
theorem dX24_tell_2_152 : decode cX24_tell_2 152 = .ok (.iconst (-1), 1) := dk_2 (dk_at dksX24_tell_2_6 13 rfl rfl)
theorem dX24_tell_2_153 : decode cX24_tell_2 153 = .ok (.if_icmp .eq 15, 3) := dk_159 0 15 (dk_at dksX24_tell_2_6 14 rfl rfl)
theorem dX24_tell_2_156 : decode cX24_tell_2 156 = .ok (.aload_n 0, 1) := dk_42 (dk_at dksX24_tell_2_6 17 rfl rfl)
theorem dX24_tell_2_157 : decode cX24_tell_2 157 = .ok (.getstatic 150, 3) := dk_178 0 150 (dk_at dksX24_tell_2_6 18 rfl rfl)
theorem dX24_tell_2_160 : decode cX24_tell_2 160 = .ok (.iload_n 1, 1) := dk_27 (dk_at dksX24_tell_2_6 21 rfl rfl)
theorem dX24_tell_2_161 : decode cX24_tell_2 161 = .ok (.aload_n 2, 1) := dk_44 (dk_at dksX24_tell_2_6 22 rfl rfl)
theorem dX24_tell_2_162 : decode cX24_tell_2 162 = .ok (.getfield 231, 3) := dk_180 0 231 (dk_at dksX24_tell_2_7 0 rfl rfl)
theorem dX24_tell_2_165 : decode cX24_tell_2 165 = .ok (.invokevirtual 215, 3) := dk_182 0 215 (dk_at dksX24_tell_2_7 3 rfl rfl)
theorem dX24_tell_2_168 : decode cX24_tell_2 168 = .ok (.aload_n 2, 1) := dk_44 (dk_at dksX24_tell_2_7 6 rfl rfl)
theorem dX24_tell_2_169 : decode cX24_tell_2 169 = .ok (.getfield 234, 3) := dk_180 0 234 (dk_at dksX24_tell_2_7 7 rfl rfl)
theorem dX24_tell_2_172 : decode cX24_tell_2 172 = .ok (.ifCond .le 15, 3) := dk_158 0 15 (dk_at dksX24_tell_2_7 10 rfl rfl)
theorem dX24_tell_2_175 : decode cX24_tell_2 175 = .ok (.aload_n 0, 1) := dk_42 (dk_at dksX24_tell_2_7 13 rfl rfl)
theorem dX24_tell_2_176 : decode cX24_tell_2 176 = .ok (.getstatic 153, 3) := dk_178 0 153 (dk_at dksX24_tell_2_7 14 rfl rfl)
theorem dX24_tell_2_179 : decode cX24_tell_2 179 = .ok (.iload_n 1, 1) := dk_27 (dk_at dksX24_tell_2_7 17 rfl rfl)
theorem dX24_tell_2_180 : decode cX24_tell_2 180 = .ok (.aload_n 2, 1) := dk_44 (dk_at dksX24_tell_2_7 18 rfl rfl)
theorem dX24_tell_2_181 : decode cX24_tell_2 181 = .ok (.getfield 234, 3) := dk_180 0 234 (dk_at dksX24_tell_2_7 19 rfl rfl)
theorem dX24_tell_2_184 : decode cX24_tell_2 184 = .ok (.invokevirtual 215, 3) := dk_182 0 215 (dk_at dksX24_tell_2_8 0 rfl rfl)
theorem dX24_tell_2_187 : decode cX24_tell_2 187 = .ok (.return_, 1) := dk_177 (dk_at dksX24_tell_2_8 3 rfl rfl)
abbrev cX24_loose : ByteArray := prog_27_method_40_code
def yX24_loose : MethodName := ⟨RX24, "loose", "()I"⟩
def dkwX24_loose_1 : List UInt8 := [2, 130, 126, 61, 132, 1, 1, 167, 255, 232, 27, 172]
abbrev dktX24_loose_1 : List UInt8 := dkwX24_loose_1 ++ []
def dkwX24_loose_0 : List UInt8 := [3, 60, 42, 182, 1, 6, 61, 28, 153, 0, 26, 28, 42, 180, 0, 10, 28, 184, 0, 244, 3, 182, 1, 15]
abbrev dktX24_loose_0 : List UInt8 := dkwX24_loose_0 ++ dktX24_loose_1
theorem dksX24_loose_0 : cX24_loose.data.toList.drop 0 = dktX24_loose_0 := by decide +kernel
theorem dksX24_loose_1 : cX24_loose.data.toList.drop 24 = dktX24_loose_1 := dk_seg dksX24_loose_0 24 rfl rfl
theorem dX24_loose_0 : decode cX24_loose 0 = .ok (.iconst 0, 1) := dk_3 (dk_at dksX24_loose_0 0 rfl rfl)
theorem dX24_loose_1 : decode cX24_loose 1 = .ok (.istore_n 1, 1) := dk_60 (dk_at dksX24_loose_0 1 rfl rfl)
theorem dX24_loose_2 : decode cX24_loose 2 = .ok (.aload_n 0, 1) := dk_42 (dk_at dksX24_loose_0 2 rfl rfl)
theorem dX24_loose_3 : decode cX24_loose 3 = .ok (.invokevirtual 262, 3) := dk_182 1 6 (dk_at dksX24_loose_0 3 rfl rfl)
theorem dX24_loose_6 : decode cX24_loose 6 = .ok (.istore_n 2, 1) := dk_61 (dk_at dksX24_loose_0 6 rfl rfl)
theorem dX24_loose_7 : decode cX24_loose 7 = .ok (.iload_n 2, 1) := dk_28 (dk_at dksX24_loose_0 7 rfl rfl)
theorem dX24_loose_8 : decode cX24_loose 8 = .ok (.ifCond .eq 26, 3) := dk_153 0 26 (dk_at dksX24_loose_0 8 rfl rfl)
theorem dX24_loose_11 : decode cX24_loose 11 = .ok (.iload_n 2, 1) := dk_28 (dk_at dksX24_loose_0 11 rfl rfl)
theorem dX24_loose_12 : decode cX24_loose 12 = .ok (.aload_n 0, 1) := dk_42 (dk_at dksX24_loose_0 12 rfl rfl)
theorem dX24_loose_13 : decode cX24_loose 13 = .ok (.getfield 10, 3) := dk_180 0 10 (dk_at dksX24_loose_0 13 rfl rfl)
theorem dX24_loose_16 : decode cX24_loose 16 = .ok (.iload_n 2, 1) := dk_28 (dk_at dksX24_loose_0 16 rfl rfl)
theorem dX24_loose_17 : decode cX24_loose 17 = .ok (.invokestatic 244, 3) := dk_184 0 244 (dk_at dksX24_loose_0 17 rfl rfl)
theorem dX24_loose_20 : decode cX24_loose 20 = .ok (.iconst 0, 1) := dk_3 (dk_at dksX24_loose_0 20 rfl rfl)
theorem dX24_loose_21 : decode cX24_loose 21 = .ok (.invokevirtual 271, 3) := dk_182 1 15 (dk_at dksX24_loose_0 21 rfl rfl)
theorem dX24_loose_24 : decode cX24_loose 24 = .ok (.iconst (-1), 1) := dk_2 (dk_at dksX24_loose_1 0 rfl rfl)
theorem dX24_loose_25 : decode cX24_loose 25 = .ok (.ixor, 1) := dk_130 (dk_at dksX24_loose_1 1 rfl rfl)
theorem dX24_loose_26 : decode cX24_loose 26 = .ok (.iand, 1) := dk_126 (dk_at dksX24_loose_1 2 rfl rfl)
theorem dX24_loose_27 : decode cX24_loose 27 = .ok (.istore_n 2, 1) := dk_61 (dk_at dksX24_loose_1 3 rfl rfl)
theorem dX24_loose_28 : decode cX24_loose 28 = .ok (.iinc 1 1, 3) := dk_132 1 1 (dk_at dksX24_loose_1 4 rfl rfl)
theorem dX24_loose_31 : decode cX24_loose 31 = .ok (.goto (-24), 3) := dk_167 255 232 (dk_at dksX24_loose_1 7 rfl rfl)
theorem dX24_loose_34 : decode cX24_loose 34 = .ok (.iload_n 1, 1) := dk_27 (dk_at dksX24_loose_1 10 rfl rfl)
theorem dX24_loose_35 : decode cX24_loose 35 = .ok (.ireturn, 1) := dk_172 (dk_at dksX24_loose_1 11 rfl rfl)
theorem q423 : (Jvm.Cond.initialized "WasteHouse$PartGraphs") ∈ lw_all := lw_g (lw_at lw_m1 31 rfl) rfl
theorem q1406 : (Jvm.Cond.instantiable "WasteHouse$PartGraphs" (8 : Nat)) ∈ lw_all := lw_g (lw_at lw_m5 54 rfl) rfl
theorem q1408 : (Jvm.Cond.instanceMethod ({ cls := "WasteHouse$PartGraphs", name := "<init>", desc := "()V" } : Jvm.MethodName)) ∈ lw_all := lw_g (lw_at lw_m5 56 rfl) rfl
theorem q1409 : (Jvm.Cond.code ({ cls := "WasteHouse$PartGraphs", name := "<init>", desc := "()V" } : Jvm.MethodName) prog_27_method_1_code (1 : Nat) (Option.none : Option Jvm.ClassFile.FieldType)) ∈ lw_all := lw_g (lw_at lw_m5 57 rfl) rfl
theorem q1410 : (Jvm.Cond.methodLink "WasteHouse$PartGraphs" (1 : Nat) ({ cls := "java/lang/Object", name := "<init>", desc := "()V" } : Jvm.MethodName)) ∈ lw_all := lw_g (lw_at lw_m5 58 rfl) rfl
theorem q1411 : (Jvm.Cond.classLink "WasteHouse$PartGraphs" (7 : Nat) "WasteHouse$PartGraphs$Product") ∈ lw_all := lw_g (lw_at lw_m5 59 rfl) rfl
theorem q1413 : (Jvm.Cond.methodLink "WasteHouse$PartGraphs" (9 : Nat) ({ cls := "WasteHouse$PartGraphs$Product", name := "<init>", desc := "()V" } : Jvm.MethodName)) ∈ lw_all := lw_g (lw_at lw_m5 61 rfl) rfl
theorem q1426 : (Jvm.Cond.fieldLink "WasteHouse$PartGraphs" (209 : Nat) "WasteHouse$PartGraphs$Part" "kind" "I") ∈ lw_all := lw_g (lw_at lw_m5 74 rfl) rfl
theorem q1429 : (Jvm.Cond.fieldLink "WasteHouse$PartGraphs" (212 : Nat) "WasteHouse$PartGraphs$Part" "grams" "I") ∈ lw_all := lw_g (lw_at lw_m5 77 rfl) rfl
theorem q1432 : (Jvm.Cond.fieldLink "WasteHouse$PartGraphs" (131 : Nat) "WasteHouse$PartGraphs$Part" "covers" "I") ∈ lw_all := lw_g (lw_at lw_m5 80 rfl) rfl
theorem q1435 : (Jvm.Cond.fieldLink "WasteHouse$PartGraphs" (134 : Nat) "WasteHouse$PartGraphs$Part" "bars" "[I") ∈ lw_all := lw_g (lw_at lw_m5 83 rfl) rfl
theorem q1437 : (Jvm.Cond.fieldLink "WasteHouse$PartGraphs" (117 : Nat) "WasteHouse$PartGraphs$Part" "hazards" "I") ∈ lw_all := lw_g (lw_at lw_m5 85 rfl) rfl
theorem q1442 : (Jvm.Cond.fieldLink "WasteHouse$PartGraphs" (231 : Nat) "WasteHouse$PartGraphs$Part" "family" "I") ∈ lw_all := lw_g (lw_at lw_m5 90 rfl) rfl
theorem q1445 : (Jvm.Cond.fieldLink "WasteHouse$PartGraphs" (234 : Nat) "WasteHouse$PartGraphs$Part" "damage" "I") ∈ lw_all := lw_g (lw_at lw_m5 93 rfl) rfl
theorem q1462 : (Jvm.Cond.fieldLink "WasteHouse$PartGraphs" (69 : Nat) "WasteHouse$PartGraphs$Product" "count" "I") ∈ lw_all := lw_g (lw_at lw_m5 110 rfl) rfl
theorem q1465 : (Jvm.Cond.fieldLink "WasteHouse$PartGraphs" (113 : Nat) "WasteHouse$PartGraphs$Product" "parts" "[LWasteHouse$PartGraphs$Part;") ∈ lw_all := lw_g (lw_at lw_m5 113 rfl) rfl
theorem q1468 : (Jvm.Cond.fieldLink "WasteHouse$PartGraphs" (103 : Nat) "WasteHouse$PartGraphs$Product" "fastenings" "I") ∈ lw_all := lw_g (lw_at lw_m5 116 rfl) rfl
theorem q1470 : (Jvm.Cond.fieldLink "WasteHouse$PartGraphs" (222 : Nat) "WasteHouse$PartGraphs$Product" "as" "[B") ∈ lw_all := lw_g (lw_at lw_m5 118 rfl) rfl
theorem q1472 : (Jvm.Cond.fieldLink "WasteHouse$PartGraphs" (225 : Nat) "WasteHouse$PartGraphs$Product" "bs" "[B") ∈ lw_all := lw_g (lw_at lw_m5 120 rfl) rfl
theorem q1474 : (Jvm.Cond.fieldLink "WasteHouse$PartGraphs" (228 : Nat) "WasteHouse$PartGraphs$Product" "kinds" "[B") ∈ lw_all := lw_g (lw_at lw_m5 122 rfl) rfl
theorem q1488 : (Jvm.Cond.methodLink "WasteHouse$PartGraphs" (23 : Nat) ({ cls := "WasteHouse$PartGraphs$Sentence", name := "values", desc := "()[LWasteHouse$PartGraphs$Sentence;" } : Jvm.MethodName)) ∈ lw_all := lw_g (lw_at lw_m5 136 rfl) rfl
theorem q1499 : (Jvm.Cond.fieldLink "WasteHouse$PartGraphs" (10 : Nat) "WasteHouse$PartGraphs" "product" "LWasteHouse$PartGraphs$Product;") ∈ lw_all := lw_g (lw_at lw_m5 147 rfl) rfl
theorem q1501 : (Jvm.Cond.fieldLink "WasteHouse$PartGraphs" (16 : Nat) "WasteHouse$PartGraphs" "fresh" "LWasteHouse$PartGraphs$Product;") ∈ lw_all := lw_g (lw_at lw_m5 149 rfl) rfl
theorem q1502 : (Jvm.Cond.fieldLink "WasteHouse$PartGraphs" (19 : Nat) "WasteHouse$PartGraphs" "text" "[B") ∈ lw_all := lw_g (lw_at lw_m5 150 rfl) rfl
theorem q1503 : (Jvm.Cond.fieldLink "WasteHouse$PartGraphs" (40 : Nat) "WasteHouse$PartGraphs" "size" "I") ∈ lw_all := lw_g (lw_at lw_m5 151 rfl) rfl
theorem q1504 : (Jvm.Cond.fieldLink "WasteHouse$PartGraphs" (29 : Nat) "WasteHouse$PartGraphs" "sentences" "[LWasteHouse$PartGraphs$Sentence;") ∈ lw_all := lw_g (lw_at lw_m5 152 rfl) rfl
theorem q1505 : (Jvm.Cond.fieldLink "WasteHouse$PartGraphs" (33 : Nat) "WasteHouse$PartGraphs" "numbers" "[J") ∈ lw_all := lw_g (lw_at lw_m5 153 rfl) rfl
theorem q1506 : (Jvm.Cond.fieldLink "WasteHouse$PartGraphs" (37 : Nat) "WasteHouse$PartGraphs" "written" "[B") ∈ lw_all := lw_g (lw_at lw_m5 154 rfl) rfl
theorem q1507 : (Jvm.Cond.fieldLink "WasteHouse$PartGraphs" (199 : Nat) "WasteHouse$PartGraphs" "writtenSize" "I") ∈ lw_all := lw_g (lw_at lw_m5 155 rfl) rfl
theorem q1508 : (Jvm.Cond.laysFinal "WasteHouse$PartGraphs" "WasteHouse$PartGraphs" "product" "LWasteHouse$PartGraphs$Product;") ∈ lw_all := lw_g (lw_at lw_m5 156 rfl) rfl
theorem q1509 : (Jvm.Cond.soleField "WasteHouse$PartGraphs" "product") ∈ lw_all := lw_g (lw_at lw_m5 157 rfl) rfl
theorem q1510 : (Jvm.Cond.laysFinal "WasteHouse$PartGraphs" "WasteHouse$PartGraphs" "fresh" "LWasteHouse$PartGraphs$Product;") ∈ lw_all := lw_g (lw_at lw_m5 158 rfl) rfl
theorem q1511 : (Jvm.Cond.soleField "WasteHouse$PartGraphs" "fresh") ∈ lw_all := lw_g (lw_at lw_m5 159 rfl) rfl
theorem q1512 : (Jvm.Cond.laysFinal "WasteHouse$PartGraphs" "WasteHouse$PartGraphs" "text" "[B") ∈ lw_all := lw_g (lw_at lw_m5 160 rfl) rfl
theorem q1513 : (Jvm.Cond.soleField "WasteHouse$PartGraphs" "text") ∈ lw_all := lw_g (lw_at lw_m5 161 rfl) rfl
theorem q1514 : (Jvm.Cond.lays "WasteHouse$PartGraphs" "WasteHouse$PartGraphs" "size" "I") ∈ lw_all := lw_g (lw_at lw_m5 162 rfl) rfl
theorem q1515 : (Jvm.Cond.soleField "WasteHouse$PartGraphs" "size") ∈ lw_all := lw_g (lw_at lw_m5 163 rfl) rfl
theorem q1516 : (Jvm.Cond.laysFinal "WasteHouse$PartGraphs" "WasteHouse$PartGraphs" "sentences" "[LWasteHouse$PartGraphs$Sentence;") ∈ lw_all := lw_g (lw_at lw_m5 164 rfl) rfl
theorem q1517 : (Jvm.Cond.soleField "WasteHouse$PartGraphs" "sentences") ∈ lw_all := lw_g (lw_at lw_m5 165 rfl) rfl
theorem q1518 : (Jvm.Cond.laysFinal "WasteHouse$PartGraphs" "WasteHouse$PartGraphs" "numbers" "[J") ∈ lw_all := lw_g (lw_at lw_m5 166 rfl) rfl
theorem q1519 : (Jvm.Cond.soleField "WasteHouse$PartGraphs" "numbers") ∈ lw_all := lw_g (lw_at lw_m5 167 rfl) rfl
theorem q1520 : (Jvm.Cond.laysFinal "WasteHouse$PartGraphs" "WasteHouse$PartGraphs" "written" "[B") ∈ lw_all := lw_g (lw_at lw_m5 168 rfl) rfl
theorem q1521 : (Jvm.Cond.soleField "WasteHouse$PartGraphs" "written") ∈ lw_all := lw_g (lw_at lw_m5 169 rfl) rfl
theorem q1522 : (Jvm.Cond.lays "WasteHouse$PartGraphs" "WasteHouse$PartGraphs" "writtenSize" "I") ∈ lw_all := lw_g (lw_at lw_m5 170 rfl) rfl
theorem q1523 : (Jvm.Cond.soleField "WasteHouse$PartGraphs" "writtenSize") ∈ lw_all := lw_g (lw_at lw_m5 171 rfl) rfl
theorem q1524 : (Jvm.Cond.superclass "WasteHouse$PartGraphs" "java/lang/Object") ∈ lw_all := lw_g (lw_at lw_m5 172 rfl) rfl
theorem q1997 : (Jvm.Cond.selects "WasteHouse$PartGraphs" ({ cls := "java/lang/Object", name := "getClass", desc := "()Ljava/lang/Class;" } : Jvm.MethodName) ({ cls := "java/lang/Object", name := "getClass", desc := "()Ljava/lang/Class;" } : Jvm.MethodName)) ∈ lw_all := lw_g (lw_at lw_m7 165 rfl) rfl
theorem q3107 : (Jvm.Cond.selects "WasteHouse$PartGraphs" ({ cls := "java/lang/Object", name := "equals", desc := "(Ljava/lang/Object;)Z" } : Jvm.MethodName) ({ cls := "java/lang/Object", name := "equals", desc := "(Ljava/lang/Object;)Z" } : Jvm.MethodName)) ∈ lw_all := lw_g (lw_at lw_m12 75 rfl) rfl
theorem q3206 : (Jvm.Cond.instanceMethod ({ cls := "WasteHouse$PartGraphs", name := "unit", desc := "(I)Z" } : Jvm.MethodName)) ∈ lw_all := lw_g (lw_at lw_m12 174 rfl) rfl
theorem q3207 : (Jvm.Cond.selects "WasteHouse$PartGraphs" ({ cls := "WasteHouse$PartGraphs", name := "unit", desc := "(I)Z" } : Jvm.MethodName) ({ cls := "WasteHouse$PartGraphs", name := "unit", desc := "(I)Z" } : Jvm.MethodName)) ∈ lw_all := lw_g (lw_at lw_m12 175 rfl) rfl
theorem q3208 : (Jvm.Cond.code ({ cls := "WasteHouse$PartGraphs", name := "unit", desc := "(I)Z" } : Jvm.MethodName) prog_27_method_2_code (2 : Nat) (Option.some Jvm.ClassFile.FieldType.boolean)) ∈ lw_all := lw_g (lw_at lw_m12 176 rfl) rfl
theorem q3625 : (Jvm.Cond.selects "WasteHouse$PartGraphs" ({ cls := "java/lang/Object", name := "hashCode", desc := "()I" } : Jvm.MethodName) ({ cls := "java/lang/Object", name := "hashCode", desc := "()I" } : Jvm.MethodName)) ∈ lw_all := lw_g (lw_at lw_m14 113 rfl) rfl
theorem q5587 : (Jvm.Cond.instanceMethod ({ cls := "WasteHouse$PartGraphs", name := "before", desc := "(II)I" } : Jvm.MethodName)) ∈ lw_all := lw_g (lw_at lw_m22 155 rfl) rfl
theorem q5588 : (Jvm.Cond.selects "WasteHouse$PartGraphs" ({ cls := "WasteHouse$PartGraphs", name := "before", desc := "(II)I" } : Jvm.MethodName) ({ cls := "WasteHouse$PartGraphs", name := "before", desc := "(II)I" } : Jvm.MethodName)) ∈ lw_all := lw_g (lw_at lw_m22 156 rfl) rfl
theorem q5589 : (Jvm.Cond.code ({ cls := "WasteHouse$PartGraphs", name := "before", desc := "(II)I" } : Jvm.MethodName) prog_27_method_33_code (5 : Nat) (Option.some Jvm.ClassFile.FieldType.int)) ∈ lw_all := lw_g (lw_at lw_m22 157 rfl) rfl
theorem q5590 : (Jvm.Cond.methodLink "WasteHouse$PartGraphs" (76 : Nat) ({ cls := "WasteHouse$PartGraphs$Product", name := "isPart", desc := "(J)Z" } : Jvm.MethodName)) ∈ lw_all := lw_g (lw_at lw_m22 158 rfl) rfl
theorem q5594 : (Jvm.Cond.methodLink "WasteHouse$PartGraphs" (255 : Nat) ({ cls := "WasteHouse$PartGraphs$Product", name := "comesOff", desc := "(I)I" } : Jvm.MethodName)) ∈ lw_all := lw_g (lw_at lw_m22 162 rfl) rfl
theorem q5595 : (Jvm.Cond.methodLink "WasteHouse$PartGraphs" (258 : Nat) ({ cls := "WasteHouse$PartGraphs", name := "bit", desc := "(II)I" } : Jvm.MethodName)) ∈ lw_all := lw_g (lw_at lw_m22 163 rfl) rfl
theorem q5596 : (Jvm.Cond.static ({ cls := "WasteHouse$PartGraphs", name := "bit", desc := "(II)I" } : Jvm.MethodName)) ∈ lw_all := lw_g (lw_at lw_m22 164 rfl) rfl
theorem q5597 : (Jvm.Cond.code ({ cls := "WasteHouse$PartGraphs", name := "bit", desc := "(II)I" } : Jvm.MethodName) prog_27_method_29_code (4 : Nat) (Option.some Jvm.ClassFile.FieldType.int)) ∈ lw_all := lw_g (lw_at lw_m22 165 rfl) rfl
theorem q5598 : (Jvm.Cond.methodLink "WasteHouse$PartGraphs" (244 : Nat) ({ cls := "java/lang/Integer", name := "numberOfTrailingZeros", desc := "(I)I" } : Jvm.MethodName)) ∈ lw_all := lw_g (lw_at lw_m22 166 rfl) rfl
theorem q5780 : (Jvm.Cond.instanceMethod ({ cls := "WasteHouse$PartGraphs", name := "read", desc := "()I" } : Jvm.MethodName)) ∈ lw_all := lw_g (lw_at lw_m23 108 rfl) rfl
theorem q5781 : (Jvm.Cond.selects "WasteHouse$PartGraphs" ({ cls := "WasteHouse$PartGraphs", name := "read", desc := "()I" } : Jvm.MethodName) ({ cls := "WasteHouse$PartGraphs", name := "read", desc := "()I" } : Jvm.MethodName)) ∈ lw_all := lw_g (lw_at lw_m23 109 rfl) rfl
theorem q5782 : (Jvm.Cond.code ({ cls := "WasteHouse$PartGraphs", name := "read", desc := "()I" } : Jvm.MethodName) prog_27_method_15_code (2 : Nat) (Option.some Jvm.ClassFile.FieldType.int)) ∈ lw_all := lw_g (lw_at lw_m23 110 rfl) rfl
theorem q5783 : (Jvm.Cond.methodLink "WasteHouse$PartGraphs" (192 : Nat) ({ cls := "WasteHouse$PartGraphs", name := "wrong", desc := "()I" } : Jvm.MethodName)) ∈ lw_all := lw_g (lw_at lw_m23 111 rfl) rfl
theorem q5784 : (Jvm.Cond.privateMethod ({ cls := "WasteHouse$PartGraphs", name := "wrong", desc := "()I" } : Jvm.MethodName)) ∈ lw_tbl := lw_at lw_m23 112 rfl
theorem q5785 : (Jvm.Cond.instanceMethod ({ cls := "WasteHouse$PartGraphs", name := "wrong", desc := "()I" } : Jvm.MethodName)) ∈ lw_all := lw_g (lw_at lw_m23 113 rfl) rfl
theorem q5786 : (Jvm.Cond.code ({ cls := "WasteHouse$PartGraphs", name := "wrong", desc := "()I" } : Jvm.MethodName) prog_27_method_14_code (4 : Nat) (Option.some Jvm.ClassFile.FieldType.int)) ∈ lw_all := lw_g (lw_at lw_m23 114 rfl) rfl
theorem q5787 : (Jvm.Cond.methodLink "WasteHouse$PartGraphs" (168 : Nat) ({ cls := "WasteHouse$PartGraphs$Product", name := "clear", desc := "()V" } : Jvm.MethodName)) ∈ lw_all := lw_g (lw_at lw_m23 115 rfl) rfl
theorem q5791 : (Jvm.Cond.methodLink "WasteHouse$PartGraphs" (171 : Nat) ({ cls := "WasteHouse$PartGraphs", name := "skip", desc := "(I)I" } : Jvm.MethodName)) ∈ lw_all := lw_g (lw_at lw_m23 119 rfl) rfl
theorem q5792 : (Jvm.Cond.privateMethod ({ cls := "WasteHouse$PartGraphs", name := "skip", desc := "(I)I" } : Jvm.MethodName)) ∈ lw_tbl := lw_at lw_m23 120 rfl
theorem q5793 : (Jvm.Cond.instanceMethod ({ cls := "WasteHouse$PartGraphs", name := "skip", desc := "(I)I" } : Jvm.MethodName)) ∈ lw_all := lw_g (lw_at lw_m23 121 rfl) rfl
theorem q5794 : (Jvm.Cond.code ({ cls := "WasteHouse$PartGraphs", name := "skip", desc := "(I)I" } : Jvm.MethodName) prog_27_method_4_code (3 : Nat) (Option.some Jvm.ClassFile.FieldType.int)) ∈ lw_all := lw_g (lw_at lw_m23 122 rfl) rfl
theorem q5795 : (Jvm.Cond.methodLink "WasteHouse$PartGraphs" (44 : Nat) ({ cls := "WasteHouse$PartGraphs", name := "isBlank", desc := "(I)Z" } : Jvm.MethodName)) ∈ lw_all := lw_g (lw_at lw_m23 123 rfl) rfl
theorem q5796 : (Jvm.Cond.static ({ cls := "WasteHouse$PartGraphs", name := "isBlank", desc := "(I)Z" } : Jvm.MethodName)) ∈ lw_all := lw_g (lw_at lw_m23 124 rfl) rfl
theorem q5797 : (Jvm.Cond.code ({ cls := "WasteHouse$PartGraphs", name := "isBlank", desc := "(I)Z" } : Jvm.MethodName) prog_27_method_3_code (1 : Nat) (Option.some Jvm.ClassFile.FieldType.boolean)) ∈ lw_all := lw_g (lw_at lw_m23 125 rfl) rfl
theorem q5798 : (Jvm.Cond.methodLink "WasteHouse$PartGraphs" (174 : Nat) ({ cls := "WasteHouse$PartGraphs", name := "sentenceAt", desc := "(I)LWasteHouse$PartGraphs$Sentence;" } : Jvm.MethodName)) ∈ lw_all := lw_g (lw_at lw_m23 126 rfl) rfl
theorem q5799 : (Jvm.Cond.privateMethod ({ cls := "WasteHouse$PartGraphs", name := "sentenceAt", desc := "(I)LWasteHouse$PartGraphs$Sentence;" } : Jvm.MethodName)) ∈ lw_tbl := lw_at lw_m23 127 rfl
theorem q5800 : (Jvm.Cond.instanceMethod ({ cls := "WasteHouse$PartGraphs", name := "sentenceAt", desc := "(I)LWasteHouse$PartGraphs$Sentence;" } : Jvm.MethodName)) ∈ lw_all := lw_g (lw_at lw_m23 128 rfl) rfl
theorem q5801 : (Jvm.Cond.code ({ cls := "WasteHouse$PartGraphs", name := "sentenceAt", desc := "(I)LWasteHouse$PartGraphs$Sentence;" } : Jvm.MethodName) prog_27_method_12_code (4 : Nat) (Option.some (Jvm.ClassFile.FieldType.object "WasteHouse$PartGraphs$Sentence"))) ∈ lw_all := lw_g (lw_at lw_m23 129 rfl) rfl
theorem q5802 : (Jvm.Cond.methodLink "WasteHouse$PartGraphs" (142 : Nat) ({ cls := "WasteHouse$PartGraphs", name := "isWord", desc := "(ILjava/lang/String;)Z" } : Jvm.MethodName)) ∈ lw_all := lw_g (lw_at lw_m23 130 rfl) rfl
theorem q5803 : (Jvm.Cond.privateMethod ({ cls := "WasteHouse$PartGraphs", name := "isWord", desc := "(ILjava/lang/String;)Z" } : Jvm.MethodName)) ∈ lw_tbl := lw_at lw_m23 131 rfl
theorem q5804 : (Jvm.Cond.instanceMethod ({ cls := "WasteHouse$PartGraphs", name := "isWord", desc := "(ILjava/lang/String;)Z" } : Jvm.MethodName)) ∈ lw_all := lw_g (lw_at lw_m23 132 rfl) rfl
theorem q5805 : (Jvm.Cond.code ({ cls := "WasteHouse$PartGraphs", name := "isWord", desc := "(ILjava/lang/String;)Z" } : Jvm.MethodName) prog_27_method_6_code (5 : Nat) (Option.some Jvm.ClassFile.FieldType.boolean)) ∈ lw_all := lw_g (lw_at lw_m23 133 rfl) rfl
theorem q5806 : (Jvm.Cond.methodLink "WasteHouse$PartGraphs" (48 : Nat) ({ cls := "java/lang/String", name := "length", desc := "()I" } : Jvm.MethodName)) ∈ lw_all := lw_g (lw_at lw_m23 134 rfl) rfl
theorem q5807 : (Jvm.Cond.methodLink "WasteHouse$PartGraphs" (54 : Nat) ({ cls := "WasteHouse$PartGraphs", name := "wordEnd", desc := "(I)I" } : Jvm.MethodName)) ∈ lw_all := lw_g (lw_at lw_m23 135 rfl) rfl
theorem q5808 : (Jvm.Cond.privateMethod ({ cls := "WasteHouse$PartGraphs", name := "wordEnd", desc := "(I)I" } : Jvm.MethodName)) ∈ lw_tbl := lw_at lw_m23 136 rfl
theorem q5809 : (Jvm.Cond.instanceMethod ({ cls := "WasteHouse$PartGraphs", name := "wordEnd", desc := "(I)I" } : Jvm.MethodName)) ∈ lw_all := lw_g (lw_at lw_m23 137 rfl) rfl
theorem q5810 : (Jvm.Cond.code ({ cls := "WasteHouse$PartGraphs", name := "wordEnd", desc := "(I)I" } : Jvm.MethodName) prog_27_method_5_code (3 : Nat) (Option.some Jvm.ClassFile.FieldType.int)) ∈ lw_all := lw_g (lw_at lw_m23 138 rfl) rfl
theorem q5811 : (Jvm.Cond.methodLink "WasteHouse$PartGraphs" (58 : Nat) ({ cls := "java/lang/String", name := "charAt", desc := "(I)C" } : Jvm.MethodName)) ∈ lw_all := lw_g (lw_at lw_m23 139 rfl) rfl
theorem q5812 : (Jvm.Cond.methodLink "WasteHouse$PartGraphs" (178 : Nat) ({ cls := "WasteHouse$PartGraphs", name := "mayBegin", desc := "(LWasteHouse$PartGraphs$Sentence;)Z" } : Jvm.MethodName)) ∈ lw_all := lw_g (lw_at lw_m23 140 rfl) rfl
theorem q5813 : (Jvm.Cond.privateMethod ({ cls := "WasteHouse$PartGraphs", name := "mayBegin", desc := "(LWasteHouse$PartGraphs$Sentence;)Z" } : Jvm.MethodName)) ∈ lw_tbl := lw_at lw_m23 141 rfl
theorem q5814 : (Jvm.Cond.instanceMethod ({ cls := "WasteHouse$PartGraphs", name := "mayBegin", desc := "(LWasteHouse$PartGraphs$Sentence;)Z" } : Jvm.MethodName)) ∈ lw_all := lw_g (lw_at lw_m23 142 rfl) rfl
theorem q5815 : (Jvm.Cond.code ({ cls := "WasteHouse$PartGraphs", name := "mayBegin", desc := "(LWasteHouse$PartGraphs$Sentence;)Z" } : Jvm.MethodName) prog_27_method_13_code (4 : Nat) (Option.some Jvm.ClassFile.FieldType.boolean)) ∈ lw_all := lw_g (lw_at lw_m23 143 rfl) rfl
theorem q5816 : (Jvm.Cond.fieldLink "WasteHouse$PartGraphs" (146 : Nat) "WasteHouse$PartGraphs$Sentence" "PART" "LWasteHouse$PartGraphs$Sentence;") ∈ lw_all := lw_g (lw_at lw_m23 144 rfl) rfl
theorem q5818 : (Jvm.Cond.fieldLink "WasteHouse$PartGraphs" (150 : Nat) "WasteHouse$PartGraphs$Sentence" "OPTION" "LWasteHouse$PartGraphs$Sentence;") ∈ lw_all := lw_g (lw_at lw_m23 146 rfl) rfl
theorem q5820 : (Jvm.Cond.fieldLink "WasteHouse$PartGraphs" (153 : Nat) "WasteHouse$PartGraphs$Sentence" "DAMAGE" "LWasteHouse$PartGraphs$Sentence;") ∈ lw_all := lw_g (lw_at lw_m23 148 rfl) rfl
theorem q5822 : (Jvm.Cond.fieldLink "WasteHouse$PartGraphs" (156 : Nat) "WasteHouse$PartGraphs$Sentence" "FASTEN" "LWasteHouse$PartGraphs$Sentence;") ∈ lw_all := lw_g (lw_at lw_m23 150 rfl) rfl
theorem q5824 : (Jvm.Cond.fieldLink "WasteHouse$PartGraphs" (159 : Nat) "WasteHouse$PartGraphs$Sentence" "COVER" "LWasteHouse$PartGraphs$Sentence;") ∈ lw_all := lw_g (lw_at lw_m23 152 rfl) rfl
theorem q5826 : (Jvm.Cond.methodLink "WasteHouse$PartGraphs" (80 : Nat) ({ cls := "WasteHouse$PartGraphs", name := "canCover", desc := "(I)Z" } : Jvm.MethodName)) ∈ lw_all := lw_g (lw_at lw_m23 154 rfl) rfl
theorem q5827 : (Jvm.Cond.privateMethod ({ cls := "WasteHouse$PartGraphs", name := "canCover", desc := "(I)Z" } : Jvm.MethodName)) ∈ lw_tbl := lw_at lw_m23 155 rfl
theorem q5828 : (Jvm.Cond.instanceMethod ({ cls := "WasteHouse$PartGraphs", name := "canCover", desc := "(I)Z" } : Jvm.MethodName)) ∈ lw_all := lw_g (lw_at lw_m23 156 rfl) rfl
theorem q5829 : (Jvm.Cond.code ({ cls := "WasteHouse$PartGraphs", name := "canCover", desc := "(I)Z" } : Jvm.MethodName) prog_27_method_9_code (4 : Nat) (Option.some Jvm.ClassFile.FieldType.boolean)) ∈ lw_all := lw_g (lw_at lw_m23 157 rfl) rfl
theorem q5830 : (Jvm.Cond.fieldLink "WasteHouse$PartGraphs" (162 : Nat) "WasteHouse$PartGraphs$Sentence" "WAY" "LWasteHouse$PartGraphs$Sentence;") ∈ lw_all := lw_g (lw_at lw_m23 158 rfl) rfl
theorem q5832 : (Jvm.Cond.methodLink "WasteHouse$PartGraphs" (87 : Nat) ({ cls := "WasteHouse$PartGraphs", name := "canBar", desc := "(I)Z" } : Jvm.MethodName)) ∈ lw_all := lw_g (lw_at lw_m23 160 rfl) rfl
theorem q5833 : (Jvm.Cond.privateMethod ({ cls := "WasteHouse$PartGraphs", name := "canBar", desc := "(I)Z" } : Jvm.MethodName)) ∈ lw_tbl := lw_at lw_m23 161 rfl
theorem q5834 : (Jvm.Cond.instanceMethod ({ cls := "WasteHouse$PartGraphs", name := "canBar", desc := "(I)Z" } : Jvm.MethodName)) ∈ lw_all := lw_g (lw_at lw_m23 162 rfl) rfl
theorem q5835 : (Jvm.Cond.code ({ cls := "WasteHouse$PartGraphs", name := "canBar", desc := "(I)Z" } : Jvm.MethodName) prog_27_method_11_code (4 : Nat) (Option.some Jvm.ClassFile.FieldType.boolean)) ∈ lw_all := lw_g (lw_at lw_m23 163 rfl) rfl
theorem q5836 : (Jvm.Cond.methodLink "WasteHouse$PartGraphs" (92 : Nat) ({ cls := "WasteHouse$PartGraphs", name := "isOpen", desc := "(II)Z" } : Jvm.MethodName)) ∈ lw_all := lw_g (lw_at lw_m23 164 rfl) rfl
theorem q5837 : (Jvm.Cond.privateMethod ({ cls := "WasteHouse$PartGraphs", name := "isOpen", desc := "(II)Z" } : Jvm.MethodName)) ∈ lw_tbl := lw_at lw_m23 165 rfl
theorem q5838 : (Jvm.Cond.instanceMethod ({ cls := "WasteHouse$PartGraphs", name := "isOpen", desc := "(II)Z" } : Jvm.MethodName)) ∈ lw_all := lw_g (lw_at lw_m23 166 rfl) rfl
theorem q5839 : (Jvm.Cond.code ({ cls := "WasteHouse$PartGraphs", name := "isOpen", desc := "(II)Z" } : Jvm.MethodName) prog_27_method_10_code (3 : Nat) (Option.some Jvm.ClassFile.FieldType.boolean)) ∈ lw_all := lw_g (lw_at lw_m23 167 rfl) rfl
theorem q5840 : (Jvm.Cond.fieldLink "WasteHouse$PartGraphs" (165 : Nat) "WasteHouse$PartGraphs$Sentence" "HAZARD" "LWasteHouse$PartGraphs$Sentence;") ∈ lw_all := lw_g (lw_at lw_m23 168 rfl) rfl
theorem q5842 : (Jvm.Cond.methodLink "WasteHouse$PartGraphs" (184 : Nat) ({ cls := "WasteHouse$PartGraphs", name := "numberAt", desc := "(I)J" } : Jvm.MethodName)) ∈ lw_all := lw_g (lw_at lw_m23 170 rfl) rfl
theorem q5843 : (Jvm.Cond.privateMethod ({ cls := "WasteHouse$PartGraphs", name := "numberAt", desc := "(I)J" } : Jvm.MethodName)) ∈ lw_tbl := lw_at lw_m23 171 rfl
theorem q5844 : (Jvm.Cond.instanceMethod ({ cls := "WasteHouse$PartGraphs", name := "numberAt", desc := "(I)J" } : Jvm.MethodName)) ∈ lw_all := lw_g (lw_at lw_m23 172 rfl) rfl
theorem q5845 : (Jvm.Cond.code ({ cls := "WasteHouse$PartGraphs", name := "numberAt", desc := "(I)J" } : Jvm.MethodName) prog_27_method_7_code (7 : Nat) (Option.some Jvm.ClassFile.FieldType.long)) ∈ lw_all := lw_g (lw_at lw_m23 173 rfl) rfl
theorem q5846 : (Jvm.Cond.constantLong "WasteHouse$PartGraphs" (62 : Nat) (-1 : Int64)) ∈ lw_all := lw_g (lw_at lw_m23 174 rfl) rfl
theorem q5847 : (Jvm.Cond.constantLong "WasteHouse$PartGraphs" (64 : Nat) (10 : Int64)) ∈ lw_all := lw_g (lw_at lw_m23 175 rfl) rfl
theorem q5848 : (Jvm.Cond.methodLink "WasteHouse$PartGraphs" (188 : Nat) ({ cls := "WasteHouse$PartGraphs", name := "mayStand", desc := "(LWasteHouse$PartGraphs$Sentence;I)Z" } : Jvm.MethodName)) ∈ lw_all := lw_g (lw_at lw_m23 176 rfl) rfl
theorem q5849 : (Jvm.Cond.privateMethod ({ cls := "WasteHouse$PartGraphs", name := "mayStand", desc := "(LWasteHouse$PartGraphs$Sentence;I)Z" } : Jvm.MethodName)) ∈ lw_tbl := lw_at lw_m23 177 rfl
theorem q5850 : (Jvm.Cond.instanceMethod ({ cls := "WasteHouse$PartGraphs", name := "mayStand", desc := "(LWasteHouse$PartGraphs$Sentence;I)Z" } : Jvm.MethodName)) ∈ lw_all := lw_g (lw_at lw_m23 178 rfl) rfl
theorem q5851 : (Jvm.Cond.code ({ cls := "WasteHouse$PartGraphs", name := "mayStand", desc := "(LWasteHouse$PartGraphs$Sentence;I)Z" } : Jvm.MethodName) prog_27_method_8_code (5 : Nat) (Option.some Jvm.ClassFile.FieldType.boolean)) ∈ lw_all := lw_g (lw_at lw_m23 179 rfl) rfl
theorem q5852 : (Jvm.Cond.methodLink "WasteHouse$PartGraphs" (66 : Nat) ({ cls := "WasteHouse$PartGraphs$Sentence", name := "ordinal", desc := "()I" } : Jvm.MethodName)) ∈ lw_all := lw_g (lw_at lw_m23 180 rfl) rfl
theorem q5858 : (Jvm.Cond.methodLink "WasteHouse$PartGraphs" (72 : Nat) ({ cls := "WasteHouse$PartGraphs$Product", name := "part", desc := "(JJ)I" } : Jvm.MethodName)) ∈ lw_all := lw_g (lw_at lw_m23 186 rfl) rfl
theorem q5868 : (Jvm.Cond.methodLink "WasteHouse$PartGraphs" (83 : Nat) ({ cls := "WasteHouse$PartGraphs$Product", name := "cover", desc := "(JJ)Z" } : Jvm.MethodName)) ∈ lw_all := lw_g (lw_at lw_m23 196 rfl) rfl
theorem q5877 : (Jvm.Cond.constantLong "WasteHouse$PartGraphs" (90 : Nat) (6 : Int64)) ∈ lw_all := lw_g (lw_at lw_m23 205 rfl) rfl
theorem q5878 : (Jvm.Cond.methodLink "WasteHouse$PartGraphs" (96 : Nat) ({ cls := "WasteHouse$PartGraphs$Product", name := "canWay", desc := "(JJJ)Z" } : Jvm.MethodName)) ∈ lw_all := lw_g (lw_at lw_m23 206 rfl) rfl
theorem q5883 : (Jvm.Cond.methodLink "WasteHouse$PartGraphs" (100 : Nat) ({ cls := "WasteHouse$PartGraphs$Product", name := "way", desc := "(JJJ)Z" } : Jvm.MethodName)) ∈ lw_all := lw_g (lw_at lw_m23 211 rfl) rfl
theorem q5887 : (Jvm.Cond.methodLinkNest "WasteHouse$PartGraphs" (106 : Nat) ({ cls := "WasteHouse$PartGraphs$Product", name := "areTwo", desc := "(JJ)Z" } : Jvm.MethodName) "WasteHouse") ∈ lw_tbl := lw_at lw_m23 215 rfl
theorem q5888 : (Jvm.Cond.methodLink "WasteHouse$PartGraphs" (109 : Nat) ({ cls := "WasteHouse$PartGraphs$Product", name := "fasten", desc := "(JJJ)I" } : Jvm.MethodName)) ∈ lw_all := lw_g (lw_at lw_m23 216 rfl) rfl
theorem q5893 : (Jvm.Cond.methodLink "WasteHouse$PartGraphs" (122 : Nat) ({ cls := "WasteHouse$PartGraphs$Product", name := "hazard", desc := "(JJ)Z" } : Jvm.MethodName)) ∈ lw_all := lw_g (lw_at lw_m23 221 rfl) rfl
theorem q5898 : (Jvm.Cond.methodLink "WasteHouse$PartGraphs" (125 : Nat) ({ cls := "WasteHouse$PartGraphs$Product", name := "option", desc := "(JJ)Z" } : Jvm.MethodName)) ∈ lw_all := lw_g (lw_at lw_m23 226 rfl) rfl
theorem q5903 : (Jvm.Cond.methodLink "WasteHouse$PartGraphs" (128 : Nat) ({ cls := "WasteHouse$PartGraphs$Product", name := "damage", desc := "(JJ)I" } : Jvm.MethodName)) ∈ lw_all := lw_g (lw_at lw_m23 231 rfl) rfl
theorem q5907 : (Jvm.Cond.methodLink "WasteHouse$PartGraphs" (195 : Nat) ({ cls := "WasteHouse$PartGraphs$Product", name := "copy", desc := "(LWasteHouse$PartGraphs$Product;)V" } : Jvm.MethodName)) ∈ lw_all := lw_g (lw_at lw_m23 235 rfl) rfl
theorem q5919 : (Jvm.Cond.instanceMethod ({ cls := "WasteHouse$PartGraphs", name := "part", desc := "(IJ)I" } : Jvm.MethodName)) ∈ lw_all := lw_g (lw_at lw_m24 7 rfl) rfl
theorem q5920 : (Jvm.Cond.selects "WasteHouse$PartGraphs" ({ cls := "WasteHouse$PartGraphs", name := "part", desc := "(IJ)I" } : Jvm.MethodName) ({ cls := "WasteHouse$PartGraphs", name := "part", desc := "(IJ)I" } : Jvm.MethodName)) ∈ lw_all := lw_g (lw_at lw_m24 8 rfl) rfl
theorem q5921 : (Jvm.Cond.code ({ cls := "WasteHouse$PartGraphs", name := "part", desc := "(IJ)I" } : Jvm.MethodName) prog_27_method_22_code (4 : Nat) (Option.some Jvm.ClassFile.FieldType.int)) ∈ lw_all := lw_g (lw_at lw_m24 9 rfl) rfl
theorem q5923 : (Jvm.Cond.instanceMethod ({ cls := "WasteHouse$PartGraphs", name := "fasten", desc := "(III)I" } : Jvm.MethodName)) ∈ lw_all := lw_g (lw_at lw_m24 11 rfl) rfl
theorem q5924 : (Jvm.Cond.selects "WasteHouse$PartGraphs" ({ cls := "WasteHouse$PartGraphs", name := "fasten", desc := "(III)I" } : Jvm.MethodName) ({ cls := "WasteHouse$PartGraphs", name := "fasten", desc := "(III)I" } : Jvm.MethodName)) ∈ lw_all := lw_g (lw_at lw_m24 12 rfl) rfl
theorem q5925 : (Jvm.Cond.code ({ cls := "WasteHouse$PartGraphs", name := "fasten", desc := "(III)I" } : Jvm.MethodName) prog_27_method_23_code (4 : Nat) (Option.some Jvm.ClassFile.FieldType.int)) ∈ lw_all := lw_g (lw_at lw_m24 13 rfl) rfl
theorem q5927 : (Jvm.Cond.instanceMethod ({ cls := "WasteHouse$PartGraphs", name := "cover", desc := "(II)Z" } : Jvm.MethodName)) ∈ lw_all := lw_g (lw_at lw_m24 15 rfl) rfl
theorem q5928 : (Jvm.Cond.selects "WasteHouse$PartGraphs" ({ cls := "WasteHouse$PartGraphs", name := "cover", desc := "(II)Z" } : Jvm.MethodName) ({ cls := "WasteHouse$PartGraphs", name := "cover", desc := "(II)Z" } : Jvm.MethodName)) ∈ lw_all := lw_g (lw_at lw_m24 16 rfl) rfl
theorem q5929 : (Jvm.Cond.code ({ cls := "WasteHouse$PartGraphs", name := "cover", desc := "(II)Z" } : Jvm.MethodName) prog_27_method_24_code (3 : Nat) (Option.some Jvm.ClassFile.FieldType.boolean)) ∈ lw_all := lw_g (lw_at lw_m24 17 rfl) rfl
theorem q5933 : (Jvm.Cond.instanceMethod ({ cls := "WasteHouse$PartGraphs", name := "way", desc := "(III)Z" } : Jvm.MethodName)) ∈ lw_all := lw_g (lw_at lw_m24 21 rfl) rfl
theorem q5934 : (Jvm.Cond.selects "WasteHouse$PartGraphs" ({ cls := "WasteHouse$PartGraphs", name := "way", desc := "(III)Z" } : Jvm.MethodName) ({ cls := "WasteHouse$PartGraphs", name := "way", desc := "(III)Z" } : Jvm.MethodName)) ∈ lw_all := lw_g (lw_at lw_m24 22 rfl) rfl
theorem q5935 : (Jvm.Cond.code ({ cls := "WasteHouse$PartGraphs", name := "way", desc := "(III)Z" } : Jvm.MethodName) prog_27_method_25_code (4 : Nat) (Option.some Jvm.ClassFile.FieldType.boolean)) ∈ lw_all := lw_g (lw_at lw_m24 23 rfl) rfl
theorem q5936 : (Jvm.Cond.classLink "WasteHouse$PartGraphs" (238 : Nat) "java/lang/ArrayIndexOutOfBoundsException") ∈ lw_all := lw_g (lw_at lw_m24 24 rfl) rfl
theorem q5937 : (Jvm.Cond.stringRef "WasteHouse$PartGraphs" (240 : Nat) "no such way") ∈ lw_tbl := lw_at lw_m24 25 rfl
theorem q5938 : (Jvm.Cond.methodLink "WasteHouse$PartGraphs" (242 : Nat) ({ cls := "java/lang/ArrayIndexOutOfBoundsException", name := "<init>", desc := "(Ljava/lang/String;)V" } : Jvm.MethodName)) ∈ lw_all := lw_g (lw_at lw_m24 26 rfl) rfl
theorem q5941 : (Jvm.Cond.instanceMethod ({ cls := "WasteHouse$PartGraphs", name := "ring", desc := "(I)I" } : Jvm.MethodName)) ∈ lw_all := lw_g (lw_at lw_m24 29 rfl) rfl
theorem q5942 : (Jvm.Cond.selects "WasteHouse$PartGraphs" ({ cls := "WasteHouse$PartGraphs", name := "ring", desc := "(I)I" } : Jvm.MethodName) ({ cls := "WasteHouse$PartGraphs", name := "ring", desc := "(I)I" } : Jvm.MethodName)) ∈ lw_all := lw_g (lw_at lw_m24 30 rfl) rfl
theorem q5943 : (Jvm.Cond.code ({ cls := "WasteHouse$PartGraphs", name := "ring", desc := "(I)I" } : Jvm.MethodName) prog_27_method_34_code (2 : Nat) (Option.some Jvm.ClassFile.FieldType.int)) ∈ lw_all := lw_g (lw_at lw_m24 31 rfl) rfl
theorem q5944 : (Jvm.Cond.methodLink "WasteHouse$PartGraphs" (262 : Nat) ({ cls := "WasteHouse$PartGraphs", name := "all", desc := "()I" } : Jvm.MethodName)) ∈ lw_all := lw_g (lw_at lw_m24 32 rfl) rfl
theorem q5945 : (Jvm.Cond.privateMethod ({ cls := "WasteHouse$PartGraphs", name := "all", desc := "()I" } : Jvm.MethodName)) ∈ lw_tbl := lw_at lw_m24 33 rfl
theorem q5946 : (Jvm.Cond.instanceMethod ({ cls := "WasteHouse$PartGraphs", name := "all", desc := "()I" } : Jvm.MethodName)) ∈ lw_all := lw_g (lw_at lw_m24 34 rfl) rfl
theorem q5947 : (Jvm.Cond.code ({ cls := "WasteHouse$PartGraphs", name := "all", desc := "()I" } : Jvm.MethodName) prog_27_method_30_code (1 : Nat) (Option.some Jvm.ClassFile.FieldType.int)) ∈ lw_all := lw_g (lw_at lw_m24 35 rfl) rfl
theorem q5949 : (Jvm.Cond.instanceMethod ({ cls := "WasteHouse$PartGraphs", name := "option", desc := "(II)Z" } : Jvm.MethodName)) ∈ lw_all := lw_g (lw_at lw_m24 37 rfl) rfl
theorem q5950 : (Jvm.Cond.selects "WasteHouse$PartGraphs" ({ cls := "WasteHouse$PartGraphs", name := "option", desc := "(II)Z" } : Jvm.MethodName) ({ cls := "WasteHouse$PartGraphs", name := "option", desc := "(II)Z" } : Jvm.MethodName)) ∈ lw_all := lw_g (lw_at lw_m24 38 rfl) rfl
theorem q5951 : (Jvm.Cond.code ({ cls := "WasteHouse$PartGraphs", name := "option", desc := "(II)Z" } : Jvm.MethodName) prog_27_method_27_code (3 : Nat) (Option.some Jvm.ClassFile.FieldType.boolean)) ∈ lw_all := lw_g (lw_at lw_m24 39 rfl) rfl
theorem q5953 : (Jvm.Cond.instanceMethod ({ cls := "WasteHouse$PartGraphs", name := "family", desc := "(II)I" } : Jvm.MethodName)) ∈ lw_all := lw_g (lw_at lw_m24 41 rfl) rfl
theorem q5954 : (Jvm.Cond.selects "WasteHouse$PartGraphs" ({ cls := "WasteHouse$PartGraphs", name := "family", desc := "(II)I" } : Jvm.MethodName) ({ cls := "WasteHouse$PartGraphs", name := "family", desc := "(II)I" } : Jvm.MethodName)) ∈ lw_all := lw_g (lw_at lw_m24 42 rfl) rfl
theorem q5955 : (Jvm.Cond.code ({ cls := "WasteHouse$PartGraphs", name := "family", desc := "(II)I" } : Jvm.MethodName) prog_27_method_36_code (8 : Nat) (Option.some Jvm.ClassFile.FieldType.int)) ∈ lw_all := lw_g (lw_at lw_m24 43 rfl) rfl
theorem q5956 : (Jvm.Cond.methodLink "WasteHouse$PartGraphs" (265 : Nat) ({ cls := "WasteHouse$PartGraphs", name := "familySet", desc := "(I)I" } : Jvm.MethodName)) ∈ lw_all := lw_g (lw_at lw_m24 44 rfl) rfl
theorem q5957 : (Jvm.Cond.privateMethod ({ cls := "WasteHouse$PartGraphs", name := "familySet", desc := "(I)I" } : Jvm.MethodName)) ∈ lw_tbl := lw_at lw_m24 45 rfl
theorem q5958 : (Jvm.Cond.instanceMethod ({ cls := "WasteHouse$PartGraphs", name := "familySet", desc := "(I)I" } : Jvm.MethodName)) ∈ lw_all := lw_g (lw_at lw_m24 46 rfl) rfl
theorem q5959 : (Jvm.Cond.code ({ cls := "WasteHouse$PartGraphs", name := "familySet", desc := "(I)I" } : Jvm.MethodName) prog_27_method_35_code (4 : Nat) (Option.some Jvm.ClassFile.FieldType.int)) ∈ lw_all := lw_g (lw_at lw_m24 47 rfl) rfl
theorem q5960 : (Jvm.Cond.methodLink "WasteHouse$PartGraphs" (268 : Nat) ({ cls := "java/lang/Integer", name := "bitCount", desc := "(I)I" } : Jvm.MethodName)) ∈ lw_all := lw_g (lw_at lw_m24 48 rfl) rfl
theorem q5967 : (Jvm.Cond.instanceMethod ({ cls := "WasteHouse$PartGraphs", name := "holds", desc := "(III)Z" } : Jvm.MethodName)) ∈ lw_all := lw_g (lw_at lw_m24 55 rfl) rfl
theorem q5968 : (Jvm.Cond.selects "WasteHouse$PartGraphs" ({ cls := "WasteHouse$PartGraphs", name := "holds", desc := "(III)Z" } : Jvm.MethodName) ({ cls := "WasteHouse$PartGraphs", name := "holds", desc := "(III)Z" } : Jvm.MethodName)) ∈ lw_all := lw_g (lw_at lw_m24 56 rfl) rfl
theorem q5969 : (Jvm.Cond.code ({ cls := "WasteHouse$PartGraphs", name := "holds", desc := "(III)Z" } : Jvm.MethodName) prog_27_method_37_code (5 : Nat) (Option.some Jvm.ClassFile.FieldType.boolean)) ∈ lw_all := lw_g (lw_at lw_m24 57 rfl) rfl
theorem q5970 : (Jvm.Cond.methodLink "WasteHouse$PartGraphs" (271 : Nat) ({ cls := "WasteHouse$PartGraphs$Product", name := "hanging", desc := "(II)I" } : Jvm.MethodName)) ∈ lw_all := lw_g (lw_at lw_m24 58 rfl) rfl
theorem q5975 : (Jvm.Cond.instanceMethod ({ cls := "WasteHouse$PartGraphs", name := "alike", desc := "(II)I" } : Jvm.MethodName)) ∈ lw_all := lw_g (lw_at lw_m24 63 rfl) rfl
theorem q5976 : (Jvm.Cond.selects "WasteHouse$PartGraphs" ({ cls := "WasteHouse$PartGraphs", name := "alike", desc := "(II)I" } : Jvm.MethodName) ({ cls := "WasteHouse$PartGraphs", name := "alike", desc := "(II)I" } : Jvm.MethodName)) ∈ lw_all := lw_g (lw_at lw_m24 64 rfl) rfl
theorem q5977 : (Jvm.Cond.code ({ cls := "WasteHouse$PartGraphs", name := "alike", desc := "(II)I" } : Jvm.MethodName) prog_27_method_38_code (5 : Nat) (Option.some Jvm.ClassFile.FieldType.int)) ∈ lw_all := lw_g (lw_at lw_m24 65 rfl) rfl
theorem q5978 : (Jvm.Cond.methodLink "WasteHouse$PartGraphs" (274 : Nat) ({ cls := "WasteHouse$PartGraphs$Part", name := "isAlike", desc := "(LWasteHouse$PartGraphs$Part;)Z" } : Jvm.MethodName)) ∈ lw_all := lw_g (lw_at lw_m24 66 rfl) rfl
theorem q5983 : (Jvm.Cond.instanceMethod ({ cls := "WasteHouse$PartGraphs", name := "weight", desc := "(I)J" } : Jvm.MethodName)) ∈ lw_all := lw_g (lw_at lw_m24 71 rfl) rfl
theorem q5984 : (Jvm.Cond.selects "WasteHouse$PartGraphs" ({ cls := "WasteHouse$PartGraphs", name := "weight", desc := "(I)J" } : Jvm.MethodName) ({ cls := "WasteHouse$PartGraphs", name := "weight", desc := "(I)J" } : Jvm.MethodName)) ∈ lw_all := lw_g (lw_at lw_m24 72 rfl) rfl
theorem q5985 : (Jvm.Cond.code ({ cls := "WasteHouse$PartGraphs", name := "weight", desc := "(I)J" } : Jvm.MethodName) prog_27_method_39_code (6 : Nat) (Option.some Jvm.ClassFile.FieldType.long)) ∈ lw_all := lw_g (lw_at lw_m24 73 rfl) rfl
theorem q5986 : (Jvm.Cond.stringRef "WasteHouse$PartGraphs" (278 : Nat) "no such part") ∈ lw_tbl := lw_at lw_m24 74 rfl
theorem q5988 : (Jvm.Cond.instanceMethod ({ cls := "WasteHouse$PartGraphs", name := "hazard", desc := "(II)Z" } : Jvm.MethodName)) ∈ lw_all := lw_g (lw_at lw_m24 76 rfl) rfl
theorem q5989 : (Jvm.Cond.selects "WasteHouse$PartGraphs" ({ cls := "WasteHouse$PartGraphs", name := "hazard", desc := "(II)Z" } : Jvm.MethodName) ({ cls := "WasteHouse$PartGraphs", name := "hazard", desc := "(II)Z" } : Jvm.MethodName)) ∈ lw_all := lw_g (lw_at lw_m24 77 rfl) rfl
theorem q5990 : (Jvm.Cond.code ({ cls := "WasteHouse$PartGraphs", name := "hazard", desc := "(II)Z" } : Jvm.MethodName) prog_27_method_26_code (3 : Nat) (Option.some Jvm.ClassFile.FieldType.boolean)) ∈ lw_all := lw_g (lw_at lw_m24 78 rfl) rfl
theorem q5992 : (Jvm.Cond.instanceMethod ({ cls := "WasteHouse$PartGraphs", name := "damage", desc := "(II)I" } : Jvm.MethodName)) ∈ lw_all := lw_g (lw_at lw_m24 80 rfl) rfl
theorem q5993 : (Jvm.Cond.selects "WasteHouse$PartGraphs" ({ cls := "WasteHouse$PartGraphs", name := "damage", desc := "(II)I" } : Jvm.MethodName) ({ cls := "WasteHouse$PartGraphs", name := "damage", desc := "(II)I" } : Jvm.MethodName)) ∈ lw_all := lw_g (lw_at lw_m24 81 rfl) rfl
theorem q5994 : (Jvm.Cond.code ({ cls := "WasteHouse$PartGraphs", name := "damage", desc := "(II)I" } : Jvm.MethodName) prog_27_method_28_code (3 : Nat) (Option.some Jvm.ClassFile.FieldType.int)) ∈ lw_all := lw_g (lw_at lw_m24 82 rfl) rfl
theorem q5996 : (Jvm.Cond.instanceMethod ({ cls := "WasteHouse$PartGraphs", name := "free", desc := "(IJ)Z" } : Jvm.MethodName)) ∈ lw_all := lw_g (lw_at lw_m24 84 rfl) rfl
theorem q5997 : (Jvm.Cond.selects "WasteHouse$PartGraphs" ({ cls := "WasteHouse$PartGraphs", name := "free", desc := "(IJ)Z" } : Jvm.MethodName) ({ cls := "WasteHouse$PartGraphs", name := "free", desc := "(IJ)Z" } : Jvm.MethodName)) ∈ lw_all := lw_g (lw_at lw_m24 85 rfl) rfl
theorem q5998 : (Jvm.Cond.code ({ cls := "WasteHouse$PartGraphs", name := "free", desc := "(IJ)Z" } : Jvm.MethodName) prog_27_method_32_code (4 : Nat) (Option.some Jvm.ClassFile.FieldType.boolean)) ∈ lw_all := lw_g (lw_at lw_m24 86 rfl) rfl
theorem q5999 : (Jvm.Cond.methodLink "WasteHouse$PartGraphs" (252 : Nat) ({ cls := "WasteHouse$PartGraphs$Part", name := "isFree", desc := "(I)Z" } : Jvm.MethodName)) ∈ lw_all := lw_g (lw_at lw_m24 87 rfl) rfl
theorem q6001 : (Jvm.Cond.instanceMethod ({ cls := "WasteHouse$PartGraphs", name := "plain", desc := "(IJ)Z" } : Jvm.MethodName)) ∈ lw_all := lw_g (lw_at lw_m24 89 rfl) rfl
theorem q6002 : (Jvm.Cond.selects "WasteHouse$PartGraphs" ({ cls := "WasteHouse$PartGraphs", name := "plain", desc := "(IJ)Z" } : Jvm.MethodName) ({ cls := "WasteHouse$PartGraphs", name := "plain", desc := "(IJ)Z" } : Jvm.MethodName)) ∈ lw_all := lw_g (lw_at lw_m24 90 rfl) rfl
theorem q6003 : (Jvm.Cond.code ({ cls := "WasteHouse$PartGraphs", name := "plain", desc := "(IJ)Z" } : Jvm.MethodName) prog_27_method_31_code (4 : Nat) (Option.some Jvm.ClassFile.FieldType.boolean)) ∈ lw_all := lw_g (lw_at lw_m24 91 rfl) rfl
theorem q6004 : (Jvm.Cond.methodLink "WasteHouse$PartGraphs" (249 : Nat) ({ cls := "WasteHouse$PartGraphs$Part", name := "isPlain", desc := "(I)Z" } : Jvm.MethodName)) ∈ lw_all := lw_g (lw_at lw_m24 92 rfl) rfl
theorem q6006 : (Jvm.Cond.instanceMethod ({ cls := "WasteHouse$PartGraphs", name := "write", desc := "(I)I" } : Jvm.MethodName)) ∈ lw_all := lw_g (lw_at lw_m24 94 rfl) rfl
theorem q6007 : (Jvm.Cond.selects "WasteHouse$PartGraphs" ({ cls := "WasteHouse$PartGraphs", name := "write", desc := "(I)I" } : Jvm.MethodName) ({ cls := "WasteHouse$PartGraphs", name := "write", desc := "(I)I" } : Jvm.MethodName)) ∈ lw_all := lw_g (lw_at lw_m24 95 rfl) rfl
theorem q6008 : (Jvm.Cond.code ({ cls := "WasteHouse$PartGraphs", name := "write", desc := "(I)I" } : Jvm.MethodName) prog_27_method_21_code (2 : Nat) (Option.some Jvm.ClassFile.FieldType.int)) ∈ lw_all := lw_g (lw_at lw_m24 96 rfl) rfl
theorem q6009 : (Jvm.Cond.methodLink "WasteHouse$PartGraphs" (236 : Nat) ({ cls := "WasteHouse$PartGraphs", name := "tell", desc := "()V" } : Jvm.MethodName)) ∈ lw_all := lw_g (lw_at lw_m24 97 rfl) rfl
theorem q6010 : (Jvm.Cond.privateMethod ({ cls := "WasteHouse$PartGraphs", name := "tell", desc := "()V" } : Jvm.MethodName)) ∈ lw_tbl := lw_at lw_m24 98 rfl
theorem q6011 : (Jvm.Cond.instanceMethod ({ cls := "WasteHouse$PartGraphs", name := "tell", desc := "()V" } : Jvm.MethodName)) ∈ lw_all := lw_g (lw_at lw_m24 99 rfl) rfl
theorem q6012 : (Jvm.Cond.code ({ cls := "WasteHouse$PartGraphs", name := "tell", desc := "()V" } : Jvm.MethodName) prog_27_method_19_code (2 : Nat) (Option.none : Option Jvm.ClassFile.FieldType)) ∈ lw_all := lw_g (lw_at lw_m24 100 rfl) rfl
theorem q6013 : (Jvm.Cond.methodLink "WasteHouse$PartGraphs" (215 : Nat) ({ cls := "WasteHouse$PartGraphs", name := "say", desc := "(LWasteHouse$PartGraphs$Sentence;II)V" } : Jvm.MethodName)) ∈ lw_all := lw_g (lw_at lw_m24 101 rfl) rfl
theorem q6014 : (Jvm.Cond.privateMethod ({ cls := "WasteHouse$PartGraphs", name := "say", desc := "(LWasteHouse$PartGraphs$Sentence;II)V" } : Jvm.MethodName)) ∈ lw_tbl := lw_at lw_m24 102 rfl
theorem q6015 : (Jvm.Cond.instanceMethod ({ cls := "WasteHouse$PartGraphs", name := "say", desc := "(LWasteHouse$PartGraphs$Sentence;II)V" } : Jvm.MethodName)) ∈ lw_all := lw_g (lw_at lw_m24 103 rfl) rfl
theorem q6016 : (Jvm.Cond.code ({ cls := "WasteHouse$PartGraphs", name := "say", desc := "(LWasteHouse$PartGraphs$Sentence;II)V" } : Jvm.MethodName) prog_27_method_18_code (4 : Nat) (Option.none : Option Jvm.ClassFile.FieldType)) ∈ lw_all := lw_g (lw_at lw_m24 104 rfl) rfl
theorem q6017 : (Jvm.Cond.methodLink "WasteHouse$PartGraphs" (202 : Nat) ({ cls := "WasteHouse$PartGraphs", name := "say", desc := "(Ljava/lang/String;)V" } : Jvm.MethodName)) ∈ lw_all := lw_g (lw_at lw_m24 105 rfl) rfl
theorem q6018 : (Jvm.Cond.privateMethod ({ cls := "WasteHouse$PartGraphs", name := "say", desc := "(Ljava/lang/String;)V" } : Jvm.MethodName)) ∈ lw_tbl := lw_at lw_m24 106 rfl
theorem q6019 : (Jvm.Cond.instanceMethod ({ cls := "WasteHouse$PartGraphs", name := "say", desc := "(Ljava/lang/String;)V" } : Jvm.MethodName)) ∈ lw_all := lw_g (lw_at lw_m24 107 rfl) rfl
theorem q6020 : (Jvm.Cond.code ({ cls := "WasteHouse$PartGraphs", name := "say", desc := "(Ljava/lang/String;)V" } : Jvm.MethodName) prog_27_method_16_code (3 : Nat) (Option.none : Option Jvm.ClassFile.FieldType)) ∈ lw_all := lw_g (lw_at lw_m24 108 rfl) rfl
theorem q6021 : (Jvm.Cond.methodLink "WasteHouse$PartGraphs" (206 : Nat) ({ cls := "WasteHouse$PartGraphs", name := "say", desc := "(I)V" } : Jvm.MethodName)) ∈ lw_all := lw_g (lw_at lw_m24 109 rfl) rfl
theorem q6022 : (Jvm.Cond.privateMethod ({ cls := "WasteHouse$PartGraphs", name := "say", desc := "(I)V" } : Jvm.MethodName)) ∈ lw_tbl := lw_at lw_m24 110 rfl
theorem q6023 : (Jvm.Cond.instanceMethod ({ cls := "WasteHouse$PartGraphs", name := "say", desc := "(I)V" } : Jvm.MethodName)) ∈ lw_all := lw_g (lw_at lw_m24 111 rfl) rfl
theorem q6024 : (Jvm.Cond.code ({ cls := "WasteHouse$PartGraphs", name := "say", desc := "(I)V" } : Jvm.MethodName) prog_27_method_17_code (3 : Nat) (Option.none : Option Jvm.ClassFile.FieldType)) ∈ lw_all := lw_g (lw_at lw_m24 112 rfl) rfl
theorem q6025 : (Jvm.Cond.methodLink "WasteHouse$PartGraphs" (218 : Nat) ({ cls := "WasteHouse$PartGraphs", name := "tell", desc := "(ILWasteHouse$PartGraphs$Part;)V" } : Jvm.MethodName)) ∈ lw_all := lw_g (lw_at lw_m24 113 rfl) rfl
theorem q6026 : (Jvm.Cond.privateMethod ({ cls := "WasteHouse$PartGraphs", name := "tell", desc := "(ILWasteHouse$PartGraphs$Part;)V" } : Jvm.MethodName)) ∈ lw_tbl := lw_at lw_m24 114 rfl
theorem q6027 : (Jvm.Cond.instanceMethod ({ cls := "WasteHouse$PartGraphs", name := "tell", desc := "(ILWasteHouse$PartGraphs$Part;)V" } : Jvm.MethodName)) ∈ lw_all := lw_g (lw_at lw_m24 115 rfl) rfl
theorem q6028 : (Jvm.Cond.code ({ cls := "WasteHouse$PartGraphs", name := "tell", desc := "(ILWasteHouse$PartGraphs$Part;)V" } : Jvm.MethodName) prog_27_method_20_code (5 : Nat) (Option.none : Option Jvm.ClassFile.FieldType)) ∈ lw_all := lw_g (lw_at lw_m24 116 rfl) rfl
theorem q6030 : (Jvm.Cond.instanceMethod ({ cls := "WasteHouse$PartGraphs", name := "loose", desc := "()I" } : Jvm.MethodName)) ∈ lw_all := lw_g (lw_at lw_m24 118 rfl) rfl
theorem q6031 : (Jvm.Cond.selects "WasteHouse$PartGraphs" ({ cls := "WasteHouse$PartGraphs", name := "loose", desc := "()I" } : Jvm.MethodName) ({ cls := "WasteHouse$PartGraphs", name := "loose", desc := "()I" } : Jvm.MethodName)) ∈ lw_all := lw_g (lw_at lw_m24 119 rfl) rfl
theorem q6032 : (Jvm.Cond.code ({ cls := "WasteHouse$PartGraphs", name := "loose", desc := "()I" } : Jvm.MethodName) prog_27_method_40_code (3 : Nat) (Option.some Jvm.ClassFile.FieldType.int)) ∈ lw_all := lw_g (lw_at lw_m24 120 rfl) rfl
theorem q9650 : (Jvm.Cond.castable "WasteHouse$PartGraphs" "java/lang/Object") ∈ lw_tbl := lw_at lw_m39 138 rfl
theorem q9732 : (Jvm.Cond.fieldLink "WasteHouse$PartGraphs" (138 : Nat) "WasteHouse$PartGraphs$Sentence" "word" "Ljava/lang/String;") ∈ lw_all := lw_g (lw_at lw_m39 220 rfl) rfl
theorem q9733 : (Jvm.Cond.fieldLink "WasteHouse$PartGraphs" (182 : Nat) "WasteHouse$PartGraphs$Sentence" "numbers" "I") ∈ lw_all := lw_g (lw_at lw_m39 221 rfl) rfl
theorem in_X24 : ∀ w ∈ wsX240, w ∈ lw_all := lw_in wsX240 [1508, 1510, 1512, 1514, 1516, 1518, 1520, 1522] (by decide +kernel) (by decide +kernel)
