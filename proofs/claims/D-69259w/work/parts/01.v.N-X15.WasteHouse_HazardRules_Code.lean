/-! WasteHouse$HazardRules$Code -/
set_option maxRecDepth 100000
def RX15 : String := "WasteHouse$HazardRules$Code"
def TX15 : u_T := fun k => match k with
  | 0 => ("WasteHouse$HazardRules$Code", "editions", "I", false)
  | 1 => ("WasteHouse$HazardRules$Code", "days", "[I", true)
  | 2 => ("WasteHouse$HazardRules$Code", "firsts", "[I", true)
  | 3 => ("WasteHouse$HazardRules$Code", "rules", "I", false)
  | 4 => ("WasteHouse$HazardRules$Code", "classes", "[I", true)
  | 5 => ("WasteHouse$HazardRules$Code", "itemFroms", "[I", true)
  | 6 => ("WasteHouse$HazardRules$Code", "wordFroms", "[I", true)
  | 7 => ("WasteHouse$HazardRules$Code", "items", "I", false)
  | 8 => ("WasteHouse$HazardRules$Code", "kinds", "[I", true)
  | 9 => ("WasteHouse$HazardRules$Code", "ones", "[I", true)
  | 10 => ("WasteHouse$HazardRules$Code", "twos", "[I", true)
  | 11 => ("WasteHouse$HazardRules$Code", "threes", "[I", true)
  | 12 => ("WasteHouse$HazardRules$Code", "terms", "I", false)
  | 13 => ("WasteHouse$HazardRules$Code", "parts", "[I", true)
  | _ => ("WasteHouse$HazardRules$Code", "termEnds", "[I", true)
def tyX15 : Nat → FieldType := fun k => match k with
  | 0 => .int
  | 1 => .array .int
  | 2 => .array .int
  | 3 => .int
  | 4 => .array .int
  | 5 => .array .int
  | 6 => .array .int
  | 7 => .int
  | 8 => .array .int
  | 9 => .array .int
  | 10 => .array .int
  | 11 => .array .int
  | 12 => .int
  | 13 => .array .int
  | _ => .array .int
abbrev wsX150 : List Cond := u_ws RX15 TX15 15
set_option maxRecDepth 100000 in
theorem nmX15 : ∀ a, a < 15 → ∀ b, b < 15 → a ≠ b → (TX15 a).2.1 ≠ (TX15 b).2.1 := by decide +kernel
set_option maxRecDepth 100000 in
theorem tyX15_ok : ∀ k, k < 15 → parseFieldDescriptor (TX15 k).2.2.1 = some (tyX15 k) := by decide +kernel
abbrev cX15_init : ByteArray := prog_20_method_1_code
def yX15_init : MethodName := ⟨RX15, "<init>", "()V"⟩
def dkwX15_init_4 : List UInt8 := [17, 5, 220, 188, 10, 181, 0, 40, 177]
abbrev dktX15_init_4 : List UInt8 := dkwX15_init_4 ++ []
def dkwX15_init_3 : List UInt8 := [181, 0, 31, 42, 17, 5, 220, 188, 10, 181, 0, 34, 42, 17, 29, 76, 188, 10, 181, 0, 37, 42]
abbrev dktX15_init_3 : List UInt8 := dkwX15_init_3 ++ dktX15_init_4
def dkwX15_init_2 : List UInt8 := [17, 5, 220, 188, 10, 181, 0, 25, 42, 17, 5, 220, 188, 10, 181, 0, 28, 42, 17, 5, 220, 188, 10]
abbrev dktX15_init_2 : List UInt8 := dkwX15_init_2 ++ dktX15_init_3
def dkwX15_init_1 : List UInt8 := [16, 60, 188, 10, 181, 0, 16, 42, 16, 61, 188, 10, 181, 0, 19, 42, 16, 60, 188, 10, 181, 0, 22, 42]
abbrev dktX15_init_1 : List UInt8 := dkwX15_init_1 ++ dktX15_init_2
def dkwX15_init_0 : List UInt8 := [42, 183, 0, 1, 42, 17, 5, 220, 188, 10, 181, 0, 7, 42, 17, 5, 221, 188, 10, 181, 0, 13, 42]
abbrev dktX15_init_0 : List UInt8 := dkwX15_init_0 ++ dktX15_init_1
theorem dksX15_init_0 : cX15_init.data.toList.drop 0 = dktX15_init_0 := by decide +kernel
theorem dksX15_init_1 : cX15_init.data.toList.drop 23 = dktX15_init_1 := dk_seg dksX15_init_0 23 rfl rfl
theorem dksX15_init_2 : cX15_init.data.toList.drop 47 = dktX15_init_2 := dk_seg dksX15_init_1 24 rfl rfl
theorem dksX15_init_3 : cX15_init.data.toList.drop 70 = dktX15_init_3 := dk_seg dksX15_init_2 23 rfl rfl
theorem dksX15_init_4 : cX15_init.data.toList.drop 92 = dktX15_init_4 := dk_seg dksX15_init_3 22 rfl rfl
theorem dX15_init_0 : decode cX15_init 0 = .ok (.aload_n 0, 1) := dk_42 (dk_at dksX15_init_0 0 rfl rfl)
theorem dX15_init_1 : decode cX15_init 1 = .ok (.invokespecial 1, 3) := dk_183 0 1 (dk_at dksX15_init_0 1 rfl rfl)
theorem dX15_init_4 : decode cX15_init 4 = .ok (.aload_n 0, 1) := dk_42 (dk_at dksX15_init_0 4 rfl rfl)
theorem dX15_init_5 : decode cX15_init 5 = .ok (.sipush 1500, 3) := dk_17 5 220 (dk_at dksX15_init_0 5 rfl rfl)
theorem dX15_init_8 : decode cX15_init 8 = .ok (.newarray .int, 2) := dk_188_10 (dk_at dksX15_init_0 8 rfl rfl)
theorem dX15_init_10 : decode cX15_init 10 = .ok (.putfield 7, 3) := dk_181 0 7 (dk_at dksX15_init_0 10 rfl rfl)
theorem dX15_init_13 : decode cX15_init 13 = .ok (.aload_n 0, 1) := dk_42 (dk_at dksX15_init_0 13 rfl rfl)
theorem dX15_init_14 : decode cX15_init 14 = .ok (.sipush 1501, 3) := dk_17 5 221 (dk_at dksX15_init_0 14 rfl rfl)
theorem dX15_init_17 : decode cX15_init 17 = .ok (.newarray .int, 2) := dk_188_10 (dk_at dksX15_init_0 17 rfl rfl)
theorem dX15_init_19 : decode cX15_init 19 = .ok (.putfield 13, 3) := dk_181 0 13 (dk_at dksX15_init_0 19 rfl rfl)
theorem dX15_init_22 : decode cX15_init 22 = .ok (.aload_n 0, 1) := dk_42 (dk_at dksX15_init_0 22 rfl rfl)
theorem dX15_init_23 : decode cX15_init 23 = .ok (.bipush 60, 2) := dk_16 60 (dk_at dksX15_init_1 0 rfl rfl)
theorem dX15_init_25 : decode cX15_init 25 = .ok (.newarray .int, 2) := dk_188_10 (dk_at dksX15_init_1 2 rfl rfl)
theorem dX15_init_27 : decode cX15_init 27 = .ok (.putfield 16, 3) := dk_181 0 16 (dk_at dksX15_init_1 4 rfl rfl)
theorem dX15_init_30 : decode cX15_init 30 = .ok (.aload_n 0, 1) := dk_42 (dk_at dksX15_init_1 7 rfl rfl)
theorem dX15_init_31 : decode cX15_init 31 = .ok (.bipush 61, 2) := dk_16 61 (dk_at dksX15_init_1 8 rfl rfl)
theorem dX15_init_33 : decode cX15_init 33 = .ok (.newarray .int, 2) := dk_188_10 (dk_at dksX15_init_1 10 rfl rfl)
theorem dX15_init_35 : decode cX15_init 35 = .ok (.putfield 19, 3) := dk_181 0 19 (dk_at dksX15_init_1 12 rfl rfl)
theorem dX15_init_38 : decode cX15_init 38 = .ok (.aload_n 0, 1) := dk_42 (dk_at dksX15_init_1 15 rfl rfl)
theorem dX15_init_39 : decode cX15_init 39 = .ok (.bipush 60, 2) := dk_16 60 (dk_at dksX15_init_1 16 rfl rfl)
theorem dX15_init_41 : decode cX15_init 41 = .ok (.newarray .int, 2) := dk_188_10 (dk_at dksX15_init_1 18 rfl rfl)
theorem dX15_init_43 : decode cX15_init 43 = .ok (.putfield 22, 3) := dk_181 0 22 (dk_at dksX15_init_1 20 rfl rfl)
theorem dX15_init_46 : decode cX15_init 46 = .ok (.aload_n 0, 1) := dk_42 (dk_at dksX15_init_1 23 rfl rfl)
theorem dX15_init_47 : decode cX15_init 47 = .ok (.sipush 1500, 3) := dk_17 5 220 (dk_at dksX15_init_2 0 rfl rfl)
theorem dX15_init_50 : decode cX15_init 50 = .ok (.newarray .int, 2) := dk_188_10 (dk_at dksX15_init_2 3 rfl rfl)
theorem dX15_init_52 : decode cX15_init 52 = .ok (.putfield 25, 3) := dk_181 0 25 (dk_at dksX15_init_2 5 rfl rfl)
theorem dX15_init_55 : decode cX15_init 55 = .ok (.aload_n 0, 1) := dk_42 (dk_at dksX15_init_2 8 rfl rfl)
theorem dX15_init_56 : decode cX15_init 56 = .ok (.sipush 1500, 3) := dk_17 5 220 (dk_at dksX15_init_2 9 rfl rfl)
theorem dX15_init_59 : decode cX15_init 59 = .ok (.newarray .int, 2) := dk_188_10 (dk_at dksX15_init_2 12 rfl rfl)
theorem dX15_init_61 : decode cX15_init 61 = .ok (.putfield 28, 3) := dk_181 0 28 (dk_at dksX15_init_2 14 rfl rfl)
theorem dX15_init_64 : decode cX15_init 64 = .ok (.aload_n 0, 1) := dk_42 (dk_at dksX15_init_2 17 rfl rfl)
theorem dX15_init_65 : decode cX15_init 65 = .ok (.sipush 1500, 3) := dk_17 5 220 (dk_at dksX15_init_2 18 rfl rfl)
theorem dX15_init_68 : decode cX15_init 68 = .ok (.newarray .int, 2) := dk_188_10 (dk_at dksX15_init_2 21 rfl rfl)
theorem dX15_init_70 : decode cX15_init 70 = .ok (.putfield 31, 3) := dk_181 0 31 (dk_at dksX15_init_3 0 rfl rfl)
theorem dX15_init_73 : decode cX15_init 73 = .ok (.aload_n 0, 1) := dk_42 (dk_at dksX15_init_3 3 rfl rfl)
theorem dX15_init_74 : decode cX15_init 74 = .ok (.sipush 1500, 3) := dk_17 5 220 (dk_at dksX15_init_3 4 rfl rfl)
theorem dX15_init_77 : decode cX15_init 77 = .ok (.newarray .int, 2) := dk_188_10 (dk_at dksX15_init_3 7 rfl rfl)
theorem dX15_init_79 : decode cX15_init 79 = .ok (.putfield 34, 3) := dk_181 0 34 (dk_at dksX15_init_3 9 rfl rfl)
theorem dX15_init_82 : decode cX15_init 82 = .ok (.aload_n 0, 1) := dk_42 (dk_at dksX15_init_3 12 rfl rfl)
theorem dX15_init_83 : decode cX15_init 83 = .ok (.sipush 7500, 3) := dk_17 29 76 (dk_at dksX15_init_3 13 rfl rfl)
theorem dX15_init_86 : decode cX15_init 86 = .ok (.newarray .int, 2) := dk_188_10 (dk_at dksX15_init_3 16 rfl rfl)
theorem dX15_init_88 : decode cX15_init 88 = .ok (.putfield 37, 3) := dk_181 0 37 (dk_at dksX15_init_3 18 rfl rfl)
theorem dX15_init_91 : decode cX15_init 91 = .ok (.aload_n 0, 1) := dk_42 (dk_at dksX15_init_3 21 rfl rfl)
theorem dX15_init_92 : decode cX15_init 92 = .ok (.sipush 1500, 3) := dk_17 5 220 (dk_at dksX15_init_4 0 rfl rfl)
theorem dX15_init_95 : decode cX15_init 95 = .ok (.newarray .int, 2) := dk_188_10 (dk_at dksX15_init_4 3 rfl rfl)
theorem dX15_init_97 : decode cX15_init 97 = .ok (.putfield 40, 3) := dk_181 0 40 (dk_at dksX15_init_4 5 rfl rfl)
theorem dX15_init_100 : decode cX15_init 100 = .ok (.return_, 1) := dk_177 (dk_at dksX15_init_4 8 rfl rfl)
abbrev cX15_clear : ByteArray := prog_20_method_2_code
def yX15_clear : MethodName := ⟨RX15, "clear", "()V"⟩
def dkwX15_clear_1 : List UInt8 := [3, 3, 79, 42, 180, 0, 19, 3, 3, 79, 177]
abbrev dktX15_clear_1 : List UInt8 := dkwX15_clear_1 ++ []
def dkwX15_clear_0 : List UInt8 := [42, 3, 181, 0, 43, 42, 3, 181, 0, 47, 42, 3, 181, 0, 50, 42, 3, 181, 0, 53, 42, 180, 0, 13]
abbrev dktX15_clear_0 : List UInt8 := dkwX15_clear_0 ++ dktX15_clear_1
theorem dksX15_clear_0 : cX15_clear.data.toList.drop 0 = dktX15_clear_0 := by decide +kernel
theorem dksX15_clear_1 : cX15_clear.data.toList.drop 24 = dktX15_clear_1 := dk_seg dksX15_clear_0 24 rfl rfl
theorem dX15_clear_0 : decode cX15_clear 0 = .ok (.aload_n 0, 1) := dk_42 (dk_at dksX15_clear_0 0 rfl rfl)
theorem dX15_clear_1 : decode cX15_clear 1 = .ok (.iconst 0, 1) := dk_3 (dk_at dksX15_clear_0 1 rfl rfl)
theorem dX15_clear_2 : decode cX15_clear 2 = .ok (.putfield 43, 3) := dk_181 0 43 (dk_at dksX15_clear_0 2 rfl rfl)
theorem dX15_clear_5 : decode cX15_clear 5 = .ok (.aload_n 0, 1) := dk_42 (dk_at dksX15_clear_0 5 rfl rfl)
theorem dX15_clear_6 : decode cX15_clear 6 = .ok (.iconst 0, 1) := dk_3 (dk_at dksX15_clear_0 6 rfl rfl)
theorem dX15_clear_7 : decode cX15_clear 7 = .ok (.putfield 47, 3) := dk_181 0 47 (dk_at dksX15_clear_0 7 rfl rfl)
theorem dX15_clear_10 : decode cX15_clear 10 = .ok (.aload_n 0, 1) := dk_42 (dk_at dksX15_clear_0 10 rfl rfl)
theorem dX15_clear_11 : decode cX15_clear 11 = .ok (.iconst 0, 1) := dk_3 (dk_at dksX15_clear_0 11 rfl rfl)
theorem dX15_clear_12 : decode cX15_clear 12 = .ok (.putfield 50, 3) := dk_181 0 50 (dk_at dksX15_clear_0 12 rfl rfl)
theorem dX15_clear_15 : decode cX15_clear 15 = .ok (.aload_n 0, 1) := dk_42 (dk_at dksX15_clear_0 15 rfl rfl)
theorem dX15_clear_16 : decode cX15_clear 16 = .ok (.iconst 0, 1) := dk_3 (dk_at dksX15_clear_0 16 rfl rfl)
theorem dX15_clear_17 : decode cX15_clear 17 = .ok (.putfield 53, 3) := dk_181 0 53 (dk_at dksX15_clear_0 17 rfl rfl)
theorem dX15_clear_20 : decode cX15_clear 20 = .ok (.aload_n 0, 1) := dk_42 (dk_at dksX15_clear_0 20 rfl rfl)
theorem dX15_clear_21 : decode cX15_clear 21 = .ok (.getfield 13, 3) := dk_180 0 13 (dk_at dksX15_clear_0 21 rfl rfl)
theorem dX15_clear_24 : decode cX15_clear 24 = .ok (.iconst 0, 1) := dk_3 (dk_at dksX15_clear_1 0 rfl rfl)
theorem dX15_clear_25 : decode cX15_clear 25 = .ok (.iconst 0, 1) := dk_3 (dk_at dksX15_clear_1 1 rfl rfl)
theorem dX15_clear_26 : decode cX15_clear 26 = .ok (.iastore, 1) := dk_79 (dk_at dksX15_clear_1 2 rfl rfl)
theorem dX15_clear_27 : decode cX15_clear 27 = .ok (.aload_n 0, 1) := dk_42 (dk_at dksX15_clear_1 3 rfl rfl)
theorem dX15_clear_28 : decode cX15_clear 28 = .ok (.getfield 19, 3) := dk_180 0 19 (dk_at dksX15_clear_1 4 rfl rfl)
theorem dX15_clear_31 : decode cX15_clear 31 = .ok (.iconst 0, 1) := dk_3 (dk_at dksX15_clear_1 7 rfl rfl)
theorem dX15_clear_32 : decode cX15_clear 32 = .ok (.iconst 0, 1) := dk_3 (dk_at dksX15_clear_1 8 rfl rfl)
theorem dX15_clear_33 : decode cX15_clear 33 = .ok (.iastore, 1) := dk_79 (dk_at dksX15_clear_1 9 rfl rfl)
theorem dX15_clear_34 : decode cX15_clear 34 = .ok (.return_, 1) := dk_177 (dk_at dksX15_clear_1 10 rfl rfl)
abbrev cX15_copy : ByteArray := prog_20_method_3_code
def yX15_copy : MethodName := ⟨RX15, "copy", "(LWasteHouse$HazardRules$Code;)V"⟩
def dkwX15_copy_9 : List UInt8 := [180, 0, 37, 3, 42, 180, 0, 37, 3, 8, 42, 180, 0, 53, 104, 184, 0, 56, 177]
abbrev dktX15_copy_9 : List UInt8 := dkwX15_copy_9 ++ []
def dkwX15_copy_8 : List UInt8 := [180, 0, 50, 184, 0, 56, 43, 180, 0, 40, 3, 42, 180, 0, 40, 3, 42, 180, 0, 50, 184, 0, 56, 43]
abbrev dktX15_copy_8 : List UInt8 := dkwX15_copy_8 ++ dktX15_copy_9
def dkwX15_copy_7 : List UInt8 := [180, 0, 31, 3, 42, 180, 0, 50, 184, 0, 56, 43, 180, 0, 34, 3, 42, 180, 0, 34, 3, 42]
abbrev dktX15_copy_7 : List UInt8 := dkwX15_copy_7 ++ dktX15_copy_8
def dkwX15_copy_6 : List UInt8 := [180, 0, 28, 3, 42, 180, 0, 28, 3, 42, 180, 0, 50, 184, 0, 56, 43, 180, 0, 31, 3, 42]
abbrev dktX15_copy_6 : List UInt8 := dkwX15_copy_6 ++ dktX15_copy_7
def dkwX15_copy_5 : List UInt8 := [180, 0, 47, 184, 0, 56, 43, 180, 0, 25, 3, 42, 180, 0, 25, 3, 42, 180, 0, 50, 184, 0, 56, 43]
abbrev dktX15_copy_5 : List UInt8 := dkwX15_copy_5 ++ dktX15_copy_6
def dkwX15_copy_4 : List UInt8 := [180, 0, 19, 3, 42, 180, 0, 47, 4, 96, 184, 0, 56, 43, 180, 0, 22, 3, 42, 180, 0, 22, 3, 42]
abbrev dktX15_copy_4 : List UInt8 := dkwX15_copy_4 ++ dktX15_copy_5
def dkwX15_copy_3 : List UInt8 := [180, 0, 16, 3, 42, 180, 0, 16, 3, 42, 180, 0, 47, 184, 0, 56, 43, 180, 0, 19, 3, 42]
abbrev dktX15_copy_3 : List UInt8 := dkwX15_copy_3 ++ dktX15_copy_4
def dkwX15_copy_2 : List UInt8 := [184, 0, 56, 43, 180, 0, 13, 3, 42, 180, 0, 13, 3, 42, 180, 0, 43, 4, 96, 184, 0, 56, 43]
abbrev dktX15_copy_2 : List UInt8 := dkwX15_copy_2 ++ dktX15_copy_3
def dkwX15_copy_1 : List UInt8 := [42, 43, 180, 0, 53, 181, 0, 53, 43, 180, 0, 7, 3, 42, 180, 0, 7, 3, 42, 180, 0, 43]
abbrev dktX15_copy_1 : List UInt8 := dkwX15_copy_1 ++ dktX15_copy_2
def dkwX15_copy_0 : List UInt8 := [42, 43, 180, 0, 43, 181, 0, 43, 42, 43, 180, 0, 47, 181, 0, 47, 42, 43, 180, 0, 50, 181, 0, 50]
abbrev dktX15_copy_0 : List UInt8 := dkwX15_copy_0 ++ dktX15_copy_1
theorem dksX15_copy_0 : cX15_copy.data.toList.drop 0 = dktX15_copy_0 := by decide +kernel
theorem dksX15_copy_1 : cX15_copy.data.toList.drop 24 = dktX15_copy_1 := dk_seg dksX15_copy_0 24 rfl rfl
theorem dksX15_copy_2 : cX15_copy.data.toList.drop 46 = dktX15_copy_2 := dk_seg dksX15_copy_1 22 rfl rfl
theorem dksX15_copy_3 : cX15_copy.data.toList.drop 69 = dktX15_copy_3 := dk_seg dksX15_copy_2 23 rfl rfl
theorem dksX15_copy_4 : cX15_copy.data.toList.drop 91 = dktX15_copy_4 := dk_seg dksX15_copy_3 22 rfl rfl
theorem dksX15_copy_5 : cX15_copy.data.toList.drop 115 = dktX15_copy_5 := dk_seg dksX15_copy_4 24 rfl rfl
theorem dksX15_copy_6 : cX15_copy.data.toList.drop 139 = dktX15_copy_6 := dk_seg dksX15_copy_5 24 rfl rfl
theorem dksX15_copy_7 : cX15_copy.data.toList.drop 161 = dktX15_copy_7 := dk_seg dksX15_copy_6 22 rfl rfl
theorem dksX15_copy_8 : cX15_copy.data.toList.drop 183 = dktX15_copy_8 := dk_seg dksX15_copy_7 22 rfl rfl
theorem dksX15_copy_9 : cX15_copy.data.toList.drop 207 = dktX15_copy_9 := dk_seg dksX15_copy_8 24 rfl rfl
theorem dX15_copy_0 : decode cX15_copy 0 = .ok (.aload_n 0, 1) := dk_42 (dk_at dksX15_copy_0 0 rfl rfl)
theorem dX15_copy_1 : decode cX15_copy 1 = .ok (.aload_n 1, 1) := dk_43 (dk_at dksX15_copy_0 1 rfl rfl)
theorem dX15_copy_2 : decode cX15_copy 2 = .ok (.getfield 43, 3) := dk_180 0 43 (dk_at dksX15_copy_0 2 rfl rfl)
theorem dX15_copy_5 : decode cX15_copy 5 = .ok (.putfield 43, 3) := dk_181 0 43 (dk_at dksX15_copy_0 5 rfl rfl)
theorem dX15_copy_8 : decode cX15_copy 8 = .ok (.aload_n 0, 1) := dk_42 (dk_at dksX15_copy_0 8 rfl rfl)
theorem dX15_copy_9 : decode cX15_copy 9 = .ok (.aload_n 1, 1) := dk_43 (dk_at dksX15_copy_0 9 rfl rfl)
theorem dX15_copy_10 : decode cX15_copy 10 = .ok (.getfield 47, 3) := dk_180 0 47 (dk_at dksX15_copy_0 10 rfl rfl)
theorem dX15_copy_13 : decode cX15_copy 13 = .ok (.putfield 47, 3) := dk_181 0 47 (dk_at dksX15_copy_0 13 rfl rfl)
theorem dX15_copy_16 : decode cX15_copy 16 = .ok (.aload_n 0, 1) := dk_42 (dk_at dksX15_copy_0 16 rfl rfl)
theorem dX15_copy_17 : decode cX15_copy 17 = .ok (.aload_n 1, 1) := dk_43 (dk_at dksX15_copy_0 17 rfl rfl)
theorem dX15_copy_18 : decode cX15_copy 18 = .ok (.getfield 50, 3) := dk_180 0 50 (dk_at dksX15_copy_0 18 rfl rfl)
theorem dX15_copy_21 : decode cX15_copy 21 = .ok (.putfield 50, 3) := dk_181 0 50 (dk_at dksX15_copy_0 21 rfl rfl)
theorem dX15_copy_24 : decode cX15_copy 24 = .ok (.aload_n 0, 1) := dk_42 (dk_at dksX15_copy_1 0 rfl rfl)
theorem dX15_copy_25 : decode cX15_copy 25 = .ok (.aload_n 1, 1) := dk_43 (dk_at dksX15_copy_1 1 rfl rfl)
theorem dX15_copy_26 : decode cX15_copy 26 = .ok (.getfield 53, 3) := dk_180 0 53 (dk_at dksX15_copy_1 2 rfl rfl)
theorem dX15_copy_29 : decode cX15_copy 29 = .ok (.putfield 53, 3) := dk_181 0 53 (dk_at dksX15_copy_1 5 rfl rfl)
theorem dX15_copy_32 : decode cX15_copy 32 = .ok (.aload_n 1, 1) := dk_43 (dk_at dksX15_copy_1 8 rfl rfl)
theorem dX15_copy_33 : decode cX15_copy 33 = .ok (.getfield 7, 3) := dk_180 0 7 (dk_at dksX15_copy_1 9 rfl rfl)
theorem dX15_copy_36 : decode cX15_copy 36 = .ok (.iconst 0, 1) := dk_3 (dk_at dksX15_copy_1 12 rfl rfl)
theorem dX15_copy_37 : decode cX15_copy 37 = .ok (.aload_n 0, 1) := dk_42 (dk_at dksX15_copy_1 13 rfl rfl)
theorem dX15_copy_38 : decode cX15_copy 38 = .ok (.getfield 7, 3) := dk_180 0 7 (dk_at dksX15_copy_1 14 rfl rfl)
theorem dX15_copy_41 : decode cX15_copy 41 = .ok (.iconst 0, 1) := dk_3 (dk_at dksX15_copy_1 17 rfl rfl)
theorem dX15_copy_42 : decode cX15_copy 42 = .ok (.aload_n 0, 1) := dk_42 (dk_at dksX15_copy_1 18 rfl rfl)
theorem dX15_copy_43 : decode cX15_copy 43 = .ok (.getfield 43, 3) := dk_180 0 43 (dk_at dksX15_copy_1 19 rfl rfl)
theorem dX15_copy_46 : decode cX15_copy 46 = .ok (.invokestatic 56, 3) := dk_184 0 56 (dk_at dksX15_copy_2 0 rfl rfl)
theorem dX15_copy_49 : decode cX15_copy 49 = .ok (.aload_n 1, 1) := dk_43 (dk_at dksX15_copy_2 3 rfl rfl)
theorem dX15_copy_50 : decode cX15_copy 50 = .ok (.getfield 13, 3) := dk_180 0 13 (dk_at dksX15_copy_2 4 rfl rfl)
theorem dX15_copy_53 : decode cX15_copy 53 = .ok (.iconst 0, 1) := dk_3 (dk_at dksX15_copy_2 7 rfl rfl)
theorem dX15_copy_54 : decode cX15_copy 54 = .ok (.aload_n 0, 1) := dk_42 (dk_at dksX15_copy_2 8 rfl rfl)
theorem dX15_copy_55 : decode cX15_copy 55 = .ok (.getfield 13, 3) := dk_180 0 13 (dk_at dksX15_copy_2 9 rfl rfl)
theorem dX15_copy_58 : decode cX15_copy 58 = .ok (.iconst 0, 1) := dk_3 (dk_at dksX15_copy_2 12 rfl rfl)
theorem dX15_copy_59 : decode cX15_copy 59 = .ok (.aload_n 0, 1) := dk_42 (dk_at dksX15_copy_2 13 rfl rfl)
theorem dX15_copy_60 : decode cX15_copy 60 = .ok (.getfield 43, 3) := dk_180 0 43 (dk_at dksX15_copy_2 14 rfl rfl)
theorem dX15_copy_63 : decode cX15_copy 63 = .ok (.iconst 1, 1) := dk_4 (dk_at dksX15_copy_2 17 rfl rfl)
theorem dX15_copy_64 : decode cX15_copy 64 = .ok (.iadd, 1) := dk_96 (dk_at dksX15_copy_2 18 rfl rfl)
theorem dX15_copy_65 : decode cX15_copy 65 = .ok (.invokestatic 56, 3) := dk_184 0 56 (dk_at dksX15_copy_2 19 rfl rfl)
theorem dX15_copy_68 : decode cX15_copy 68 = .ok (.aload_n 1, 1) := dk_43 (dk_at dksX15_copy_2 22 rfl rfl)
theorem dX15_copy_69 : decode cX15_copy 69 = .ok (.getfield 16, 3) := dk_180 0 16 (dk_at dksX15_copy_3 0 rfl rfl)
theorem dX15_copy_72 : decode cX15_copy 72 = .ok (.iconst 0, 1) := dk_3 (dk_at dksX15_copy_3 3 rfl rfl)
theorem dX15_copy_73 : decode cX15_copy 73 = .ok (.aload_n 0, 1) := dk_42 (dk_at dksX15_copy_3 4 rfl rfl)
theorem dX15_copy_74 : decode cX15_copy 74 = .ok (.getfield 16, 3) := dk_180 0 16 (dk_at dksX15_copy_3 5 rfl rfl)
theorem dX15_copy_77 : decode cX15_copy 77 = .ok (.iconst 0, 1) := dk_3 (dk_at dksX15_copy_3 8 rfl rfl)
theorem dX15_copy_78 : decode cX15_copy 78 = .ok (.aload_n 0, 1) := dk_42 (dk_at dksX15_copy_3 9 rfl rfl)
theorem dX15_copy_79 : decode cX15_copy 79 = .ok (.getfield 47, 3) := dk_180 0 47 (dk_at dksX15_copy_3 10 rfl rfl)
theorem dX15_copy_82 : decode cX15_copy 82 = .ok (.invokestatic 56, 3) := dk_184 0 56 (dk_at dksX15_copy_3 13 rfl rfl)
theorem dX15_copy_85 : decode cX15_copy 85 = .ok (.aload_n 1, 1) := dk_43 (dk_at dksX15_copy_3 16 rfl rfl)
theorem dX15_copy_86 : decode cX15_copy 86 = .ok (.getfield 19, 3) := dk_180 0 19 (dk_at dksX15_copy_3 17 rfl rfl)
theorem dX15_copy_89 : decode cX15_copy 89 = .ok (.iconst 0, 1) := dk_3 (dk_at dksX15_copy_3 20 rfl rfl)
theorem dX15_copy_90 : decode cX15_copy 90 = .ok (.aload_n 0, 1) := dk_42 (dk_at dksX15_copy_3 21 rfl rfl)
theorem dX15_copy_91 : decode cX15_copy 91 = .ok (.getfield 19, 3) := dk_180 0 19 (dk_at dksX15_copy_4 0 rfl rfl)
theorem dX15_copy_94 : decode cX15_copy 94 = .ok (.iconst 0, 1) := dk_3 (dk_at dksX15_copy_4 3 rfl rfl)
theorem dX15_copy_95 : decode cX15_copy 95 = .ok (.aload_n 0, 1) := dk_42 (dk_at dksX15_copy_4 4 rfl rfl)
theorem dX15_copy_96 : decode cX15_copy 96 = .ok (.getfield 47, 3) := dk_180 0 47 (dk_at dksX15_copy_4 5 rfl rfl)
theorem dX15_copy_99 : decode cX15_copy 99 = .ok (.iconst 1, 1) := dk_4 (dk_at dksX15_copy_4 8 rfl rfl)
theorem dX15_copy_100 : decode cX15_copy 100 = .ok (.iadd, 1) := dk_96 (dk_at dksX15_copy_4 9 rfl rfl)
theorem dX15_copy_101 : decode cX15_copy 101 = .ok (.invokestatic 56, 3) := dk_184 0 56 (dk_at dksX15_copy_4 10 rfl rfl)
theorem dX15_copy_104 : decode cX15_copy 104 = .ok (.aload_n 1, 1) := dk_43 (dk_at dksX15_copy_4 13 rfl rfl)
theorem dX15_copy_105 : decode cX15_copy 105 = .ok (.getfield 22, 3) := dk_180 0 22 (dk_at dksX15_copy_4 14 rfl rfl)
theorem dX15_copy_108 : decode cX15_copy 108 = .ok (.iconst 0, 1) := dk_3 (dk_at dksX15_copy_4 17 rfl rfl)
theorem dX15_copy_109 : decode cX15_copy 109 = .ok (.aload_n 0, 1) := dk_42 (dk_at dksX15_copy_4 18 rfl rfl)
theorem dX15_copy_110 : decode cX15_copy 110 = .ok (.getfield 22, 3) := dk_180 0 22 (dk_at dksX15_copy_4 19 rfl rfl)
theorem dX15_copy_113 : decode cX15_copy 113 = .ok (.iconst 0, 1) := dk_3 (dk_at dksX15_copy_4 22 rfl rfl)
theorem dX15_copy_114 : decode cX15_copy 114 = .ok (.aload_n 0, 1) := dk_42 (dk_at dksX15_copy_4 23 rfl rfl)
theorem dX15_copy_115 : decode cX15_copy 115 = .ok (.getfield 47, 3) := dk_180 0 47 (dk_at dksX15_copy_5 0 rfl rfl)
theorem dX15_copy_118 : decode cX15_copy 118 = .ok (.invokestatic 56, 3) := dk_184 0 56 (dk_at dksX15_copy_5 3 rfl rfl)
theorem dX15_copy_121 : decode cX15_copy 121 = .ok (.aload_n 1, 1) := dk_43 (dk_at dksX15_copy_5 6 rfl rfl)
theorem dX15_copy_122 : decode cX15_copy 122 = .ok (.getfield 25, 3) := dk_180 0 25 (dk_at dksX15_copy_5 7 rfl rfl)
theorem dX15_copy_125 : decode cX15_copy 125 = .ok (.iconst 0, 1) := dk_3 (dk_at dksX15_copy_5 10 rfl rfl)
theorem dX15_copy_126 : decode cX15_copy 126 = .ok (.aload_n 0, 1) := dk_42 (dk_at dksX15_copy_5 11 rfl rfl)
theorem dX15_copy_127 : decode cX15_copy 127 = .ok (.getfield 25, 3) := dk_180 0 25 (dk_at dksX15_copy_5 12 rfl rfl)
theorem dX15_copy_130 : decode cX15_copy 130 = .ok (.iconst 0, 1) := dk_3 (dk_at dksX15_copy_5 15 rfl rfl)
theorem dX15_copy_131 : decode cX15_copy 131 = .ok (.aload_n 0, 1) := dk_42 (dk_at dksX15_copy_5 16 rfl rfl)
theorem dX15_copy_132 : decode cX15_copy 132 = .ok (.getfield 50, 3) := dk_180 0 50 (dk_at dksX15_copy_5 17 rfl rfl)
theorem dX15_copy_135 : decode cX15_copy 135 = .ok (.invokestatic 56, 3) := dk_184 0 56 (dk_at dksX15_copy_5 20 rfl rfl)
theorem dX15_copy_138 : decode cX15_copy 138 = .ok (.aload_n 1, 1) := dk_43 (dk_at dksX15_copy_5 23 rfl rfl)
theorem dX15_copy_139 : decode cX15_copy 139 = .ok (.getfield 28, 3) := dk_180 0 28 (dk_at dksX15_copy_6 0 rfl rfl)
theorem dX15_copy_142 : decode cX15_copy 142 = .ok (.iconst 0, 1) := dk_3 (dk_at dksX15_copy_6 3 rfl rfl)
theorem dX15_copy_143 : decode cX15_copy 143 = .ok (.aload_n 0, 1) := dk_42 (dk_at dksX15_copy_6 4 rfl rfl)
theorem dX15_copy_144 : decode cX15_copy 144 = .ok (.getfield 28, 3) := dk_180 0 28 (dk_at dksX15_copy_6 5 rfl rfl)
theorem dX15_copy_147 : decode cX15_copy 147 = .ok (.iconst 0, 1) := dk_3 (dk_at dksX15_copy_6 8 rfl rfl)
theorem dX15_copy_148 : decode cX15_copy 148 = .ok (.aload_n 0, 1) := dk_42 (dk_at dksX15_copy_6 9 rfl rfl)
theorem dX15_copy_149 : decode cX15_copy 149 = .ok (.getfield 50, 3) := dk_180 0 50 (dk_at dksX15_copy_6 10 rfl rfl)
theorem dX15_copy_152 : decode cX15_copy 152 = .ok (.invokestatic 56, 3) := dk_184 0 56 (dk_at dksX15_copy_6 13 rfl rfl)
theorem dX15_copy_155 : decode cX15_copy 155 = .ok (.aload_n 1, 1) := dk_43 (dk_at dksX15_copy_6 16 rfl rfl)
theorem dX15_copy_156 : decode cX15_copy 156 = .ok (.getfield 31, 3) := dk_180 0 31 (dk_at dksX15_copy_6 17 rfl rfl)
theorem dX15_copy_159 : decode cX15_copy 159 = .ok (.iconst 0, 1) := dk_3 (dk_at dksX15_copy_6 20 rfl rfl)
theorem dX15_copy_160 : decode cX15_copy 160 = .ok (.aload_n 0, 1) := dk_42 (dk_at dksX15_copy_6 21 rfl rfl)
theorem dX15_copy_161 : decode cX15_copy 161 = .ok (.getfield 31, 3) := dk_180 0 31 (dk_at dksX15_copy_7 0 rfl rfl)
theorem dX15_copy_164 : decode cX15_copy 164 = .ok (.iconst 0, 1) := dk_3 (dk_at dksX15_copy_7 3 rfl rfl)
theorem dX15_copy_165 : decode cX15_copy 165 = .ok (.aload_n 0, 1) := dk_42 (dk_at dksX15_copy_7 4 rfl rfl)
theorem dX15_copy_166 : decode cX15_copy 166 = .ok (.getfield 50, 3) := dk_180 0 50 (dk_at dksX15_copy_7 5 rfl rfl)
theorem dX15_copy_169 : decode cX15_copy 169 = .ok (.invokestatic 56, 3) := dk_184 0 56 (dk_at dksX15_copy_7 8 rfl rfl)
theorem dX15_copy_172 : decode cX15_copy 172 = .ok (.aload_n 1, 1) := dk_43 (dk_at dksX15_copy_7 11 rfl rfl)
theorem dX15_copy_173 : decode cX15_copy 173 = .ok (.getfield 34, 3) := dk_180 0 34 (dk_at dksX15_copy_7 12 rfl rfl)
theorem dX15_copy_176 : decode cX15_copy 176 = .ok (.iconst 0, 1) := dk_3 (dk_at dksX15_copy_7 15 rfl rfl)
theorem dX15_copy_177 : decode cX15_copy 177 = .ok (.aload_n 0, 1) := dk_42 (dk_at dksX15_copy_7 16 rfl rfl)
theorem dX15_copy_178 : decode cX15_copy 178 = .ok (.getfield 34, 3) := dk_180 0 34 (dk_at dksX15_copy_7 17 rfl rfl)
theorem dX15_copy_181 : decode cX15_copy 181 = .ok (.iconst 0, 1) := dk_3 (dk_at dksX15_copy_7 20 rfl rfl)
theorem dX15_copy_182 : decode cX15_copy 182 = .ok (.aload_n 0, 1) := dk_42 (dk_at dksX15_copy_7 21 rfl rfl)
theorem dX15_copy_183 : decode cX15_copy 183 = .ok (.getfield 50, 3) := dk_180 0 50 (dk_at dksX15_copy_8 0 rfl rfl)
theorem dX15_copy_186 : decode cX15_copy 186 = .ok (.invokestatic 56, 3) := dk_184 0 56 (dk_at dksX15_copy_8 3 rfl rfl)
theorem dX15_copy_189 : decode cX15_copy 189 = .ok (.aload_n 1, 1) := dk_43 (dk_at dksX15_copy_8 6 rfl rfl)
theorem dX15_copy_190 : decode cX15_copy 190 = .ok (.getfield 40, 3) := dk_180 0 40 (dk_at dksX15_copy_8 7 rfl rfl)
theorem dX15_copy_193 : decode cX15_copy 193 = .ok (.iconst 0, 1) := dk_3 (dk_at dksX15_copy_8 10 rfl rfl)
theorem dX15_copy_194 : decode cX15_copy 194 = .ok (.aload_n 0, 1) := dk_42 (dk_at dksX15_copy_8 11 rfl rfl)
theorem dX15_copy_195 : decode cX15_copy 195 = .ok (.getfield 40, 3) := dk_180 0 40 (dk_at dksX15_copy_8 12 rfl rfl)
theorem dX15_copy_198 : decode cX15_copy 198 = .ok (.iconst 0, 1) := dk_3 (dk_at dksX15_copy_8 15 rfl rfl)
theorem dX15_copy_199 : decode cX15_copy 199 = .ok (.aload_n 0, 1) := dk_42 (dk_at dksX15_copy_8 16 rfl rfl)
theorem dX15_copy_200 : decode cX15_copy 200 = .ok (.getfield 50, 3) := dk_180 0 50 (dk_at dksX15_copy_8 17 rfl rfl)
theorem dX15_copy_203 : decode cX15_copy 203 = .ok (.invokestatic 56, 3) := dk_184 0 56 (dk_at dksX15_copy_8 20 rfl rfl)
theorem dX15_copy_206 : decode cX15_copy 206 = .ok (.aload_n 1, 1) := dk_43 (dk_at dksX15_copy_8 23 rfl rfl)
theorem dX15_copy_207 : decode cX15_copy 207 = .ok (.getfield 37, 3) := dk_180 0 37 (dk_at dksX15_copy_9 0 rfl rfl)
theorem dX15_copy_210 : decode cX15_copy 210 = .ok (.iconst 0, 1) := dk_3 (dk_at dksX15_copy_9 3 rfl rfl)
theorem dX15_copy_211 : decode cX15_copy 211 = .ok (.aload_n 0, 1) := dk_42 (dk_at dksX15_copy_9 4 rfl rfl)
theorem dX15_copy_212 : decode cX15_copy 212 = .ok (.getfield 37, 3) := dk_180 0 37 (dk_at dksX15_copy_9 5 rfl rfl)
theorem dX15_copy_215 : decode cX15_copy 215 = .ok (.iconst 0, 1) := dk_3 (dk_at dksX15_copy_9 8 rfl rfl)
theorem dX15_copy_216 : decode cX15_copy 216 = .ok (.iconst 5, 1) := dk_8 (dk_at dksX15_copy_9 9 rfl rfl)
theorem dX15_copy_217 : decode cX15_copy 217 = .ok (.aload_n 0, 1) := dk_42 (dk_at dksX15_copy_9 10 rfl rfl)
theorem dX15_copy_218 : decode cX15_copy 218 = .ok (.getfield 53, 3) := dk_180 0 53 (dk_at dksX15_copy_9 11 rfl rfl)
theorem dX15_copy_221 : decode cX15_copy 221 = .ok (.imul, 1) := dk_104 (dk_at dksX15_copy_9 14 rfl rfl)
theorem dX15_copy_222 : decode cX15_copy 222 = .ok (.invokestatic 56, 3) := dk_184 0 56 (dk_at dksX15_copy_9 15 rfl rfl)
theorem dX15_copy_225 : decode cX15_copy 225 = .ok (.return_, 1) := dk_177 (dk_at dksX15_copy_9 18 rfl rfl)
theorem q414 : (Jvm.Cond.initialized "WasteHouse$HazardRules$Code") ∈ lw_all := lw_g (lw_at lw_m1 22 rfl) rfl
theorem q976 : (Jvm.Cond.instantiable "WasteHouse$HazardRules$Code" (15 : Nat)) ∈ lw_all := lw_g (lw_at lw_m3 104 rfl) rfl
theorem q978 : (Jvm.Cond.instanceMethod ({ cls := "WasteHouse$HazardRules$Code", name := "<init>", desc := "()V" } : Jvm.MethodName)) ∈ lw_all := lw_g (lw_at lw_m3 106 rfl) rfl
theorem q979 : (Jvm.Cond.code ({ cls := "WasteHouse$HazardRules$Code", name := "<init>", desc := "()V" } : Jvm.MethodName) prog_20_method_1_code (1 : Nat) (Option.none : Option Jvm.ClassFile.FieldType)) ∈ lw_all := lw_g (lw_at lw_m3 107 rfl) rfl
theorem q980 : (Jvm.Cond.methodLink "WasteHouse$HazardRules$Code" (1 : Nat) ({ cls := "java/lang/Object", name := "<init>", desc := "()V" } : Jvm.MethodName)) ∈ lw_all := lw_g (lw_at lw_m3 108 rfl) rfl
theorem q981 : (Jvm.Cond.fieldLink "WasteHouse$HazardRules$Code" (43 : Nat) "WasteHouse$HazardRules$Code" "editions" "I") ∈ lw_all := lw_g (lw_at lw_m3 109 rfl) rfl
theorem q984 : (Jvm.Cond.fieldLink "WasteHouse$HazardRules$Code" (7 : Nat) "WasteHouse$HazardRules$Code" "days" "[I") ∈ lw_all := lw_g (lw_at lw_m3 112 rfl) rfl
theorem q987 : (Jvm.Cond.fieldLink "WasteHouse$HazardRules$Code" (13 : Nat) "WasteHouse$HazardRules$Code" "firsts" "[I") ∈ lw_all := lw_g (lw_at lw_m3 115 rfl) rfl
theorem q990 : (Jvm.Cond.fieldLink "WasteHouse$HazardRules$Code" (47 : Nat) "WasteHouse$HazardRules$Code" "rules" "I") ∈ lw_all := lw_g (lw_at lw_m3 118 rfl) rfl
theorem q993 : (Jvm.Cond.fieldLink "WasteHouse$HazardRules$Code" (16 : Nat) "WasteHouse$HazardRules$Code" "classes" "[I") ∈ lw_all := lw_g (lw_at lw_m3 121 rfl) rfl
theorem q996 : (Jvm.Cond.fieldLink "WasteHouse$HazardRules$Code" (19 : Nat) "WasteHouse$HazardRules$Code" "itemFroms" "[I") ∈ lw_all := lw_g (lw_at lw_m3 124 rfl) rfl
theorem q999 : (Jvm.Cond.fieldLink "WasteHouse$HazardRules$Code" (22 : Nat) "WasteHouse$HazardRules$Code" "wordFroms" "[I") ∈ lw_all := lw_g (lw_at lw_m3 127 rfl) rfl
theorem q1002 : (Jvm.Cond.fieldLink "WasteHouse$HazardRules$Code" (50 : Nat) "WasteHouse$HazardRules$Code" "items" "I") ∈ lw_all := lw_g (lw_at lw_m3 130 rfl) rfl
theorem q1004 : (Jvm.Cond.fieldLink "WasteHouse$HazardRules$Code" (25 : Nat) "WasteHouse$HazardRules$Code" "kinds" "[I") ∈ lw_all := lw_g (lw_at lw_m3 132 rfl) rfl
theorem q1007 : (Jvm.Cond.fieldLink "WasteHouse$HazardRules$Code" (28 : Nat) "WasteHouse$HazardRules$Code" "ones" "[I") ∈ lw_all := lw_g (lw_at lw_m3 135 rfl) rfl
theorem q1010 : (Jvm.Cond.fieldLink "WasteHouse$HazardRules$Code" (31 : Nat) "WasteHouse$HazardRules$Code" "twos" "[I") ∈ lw_all := lw_g (lw_at lw_m3 138 rfl) rfl
theorem q1013 : (Jvm.Cond.fieldLink "WasteHouse$HazardRules$Code" (34 : Nat) "WasteHouse$HazardRules$Code" "threes" "[I") ∈ lw_all := lw_g (lw_at lw_m3 141 rfl) rfl
theorem q1016 : (Jvm.Cond.fieldLink "WasteHouse$HazardRules$Code" (53 : Nat) "WasteHouse$HazardRules$Code" "terms" "I") ∈ lw_all := lw_g (lw_at lw_m3 144 rfl) rfl
theorem q1018 : (Jvm.Cond.fieldLink "WasteHouse$HazardRules$Code" (37 : Nat) "WasteHouse$HazardRules$Code" "parts" "[I") ∈ lw_all := lw_g (lw_at lw_m3 146 rfl) rfl
theorem q1021 : (Jvm.Cond.fieldLink "WasteHouse$HazardRules$Code" (40 : Nat) "WasteHouse$HazardRules$Code" "termEnds" "[I") ∈ lw_all := lw_g (lw_at lw_m3 149 rfl) rfl
theorem q1024 : (Jvm.Cond.lays "WasteHouse$HazardRules$Code" "WasteHouse$HazardRules$Code" "editions" "I") ∈ lw_all := lw_g (lw_at lw_m3 152 rfl) rfl
theorem q1025 : (Jvm.Cond.soleField "WasteHouse$HazardRules$Code" "editions") ∈ lw_all := lw_g (lw_at lw_m3 153 rfl) rfl
theorem q1026 : (Jvm.Cond.laysFinal "WasteHouse$HazardRules$Code" "WasteHouse$HazardRules$Code" "days" "[I") ∈ lw_all := lw_g (lw_at lw_m3 154 rfl) rfl
theorem q1027 : (Jvm.Cond.soleField "WasteHouse$HazardRules$Code" "days") ∈ lw_all := lw_g (lw_at lw_m3 155 rfl) rfl
theorem q1028 : (Jvm.Cond.laysFinal "WasteHouse$HazardRules$Code" "WasteHouse$HazardRules$Code" "firsts" "[I") ∈ lw_all := lw_g (lw_at lw_m3 156 rfl) rfl
theorem q1029 : (Jvm.Cond.soleField "WasteHouse$HazardRules$Code" "firsts") ∈ lw_all := lw_g (lw_at lw_m3 157 rfl) rfl
theorem q1030 : (Jvm.Cond.lays "WasteHouse$HazardRules$Code" "WasteHouse$HazardRules$Code" "rules" "I") ∈ lw_all := lw_g (lw_at lw_m3 158 rfl) rfl
theorem q1031 : (Jvm.Cond.soleField "WasteHouse$HazardRules$Code" "rules") ∈ lw_all := lw_g (lw_at lw_m3 159 rfl) rfl
theorem q1032 : (Jvm.Cond.laysFinal "WasteHouse$HazardRules$Code" "WasteHouse$HazardRules$Code" "classes" "[I") ∈ lw_all := lw_g (lw_at lw_m3 160 rfl) rfl
theorem q1033 : (Jvm.Cond.soleField "WasteHouse$HazardRules$Code" "classes") ∈ lw_all := lw_g (lw_at lw_m3 161 rfl) rfl
theorem q1034 : (Jvm.Cond.laysFinal "WasteHouse$HazardRules$Code" "WasteHouse$HazardRules$Code" "itemFroms" "[I") ∈ lw_all := lw_g (lw_at lw_m3 162 rfl) rfl
theorem q1035 : (Jvm.Cond.soleField "WasteHouse$HazardRules$Code" "itemFroms") ∈ lw_all := lw_g (lw_at lw_m3 163 rfl) rfl
theorem q1036 : (Jvm.Cond.laysFinal "WasteHouse$HazardRules$Code" "WasteHouse$HazardRules$Code" "wordFroms" "[I") ∈ lw_all := lw_g (lw_at lw_m3 164 rfl) rfl
theorem q1037 : (Jvm.Cond.soleField "WasteHouse$HazardRules$Code" "wordFroms") ∈ lw_all := lw_g (lw_at lw_m3 165 rfl) rfl
theorem q1038 : (Jvm.Cond.lays "WasteHouse$HazardRules$Code" "WasteHouse$HazardRules$Code" "items" "I") ∈ lw_all := lw_g (lw_at lw_m3 166 rfl) rfl
theorem q1039 : (Jvm.Cond.soleField "WasteHouse$HazardRules$Code" "items") ∈ lw_all := lw_g (lw_at lw_m3 167 rfl) rfl
theorem q1040 : (Jvm.Cond.laysFinal "WasteHouse$HazardRules$Code" "WasteHouse$HazardRules$Code" "kinds" "[I") ∈ lw_all := lw_g (lw_at lw_m3 168 rfl) rfl
theorem q1041 : (Jvm.Cond.soleField "WasteHouse$HazardRules$Code" "kinds") ∈ lw_all := lw_g (lw_at lw_m3 169 rfl) rfl
theorem q1042 : (Jvm.Cond.laysFinal "WasteHouse$HazardRules$Code" "WasteHouse$HazardRules$Code" "ones" "[I") ∈ lw_all := lw_g (lw_at lw_m3 170 rfl) rfl
theorem q1043 : (Jvm.Cond.soleField "WasteHouse$HazardRules$Code" "ones") ∈ lw_all := lw_g (lw_at lw_m3 171 rfl) rfl
theorem q1044 : (Jvm.Cond.laysFinal "WasteHouse$HazardRules$Code" "WasteHouse$HazardRules$Code" "twos" "[I") ∈ lw_all := lw_g (lw_at lw_m3 172 rfl) rfl
theorem q1045 : (Jvm.Cond.soleField "WasteHouse$HazardRules$Code" "twos") ∈ lw_all := lw_g (lw_at lw_m3 173 rfl) rfl
theorem q1046 : (Jvm.Cond.laysFinal "WasteHouse$HazardRules$Code" "WasteHouse$HazardRules$Code" "threes" "[I") ∈ lw_all := lw_g (lw_at lw_m3 174 rfl) rfl
theorem q1047 : (Jvm.Cond.soleField "WasteHouse$HazardRules$Code" "threes") ∈ lw_all := lw_g (lw_at lw_m3 175 rfl) rfl
theorem q1048 : (Jvm.Cond.lays "WasteHouse$HazardRules$Code" "WasteHouse$HazardRules$Code" "terms" "I") ∈ lw_all := lw_g (lw_at lw_m3 176 rfl) rfl
theorem q1049 : (Jvm.Cond.soleField "WasteHouse$HazardRules$Code" "terms") ∈ lw_all := lw_g (lw_at lw_m3 177 rfl) rfl
theorem q1050 : (Jvm.Cond.laysFinal "WasteHouse$HazardRules$Code" "WasteHouse$HazardRules$Code" "parts" "[I") ∈ lw_all := lw_g (lw_at lw_m3 178 rfl) rfl
theorem q1051 : (Jvm.Cond.soleField "WasteHouse$HazardRules$Code" "parts") ∈ lw_all := lw_g (lw_at lw_m3 179 rfl) rfl
theorem q1052 : (Jvm.Cond.laysFinal "WasteHouse$HazardRules$Code" "WasteHouse$HazardRules$Code" "termEnds" "[I") ∈ lw_all := lw_g (lw_at lw_m3 180 rfl) rfl
theorem q1053 : (Jvm.Cond.soleField "WasteHouse$HazardRules$Code" "termEnds") ∈ lw_all := lw_g (lw_at lw_m3 181 rfl) rfl
theorem q1054 : (Jvm.Cond.superclass "WasteHouse$HazardRules$Code" "java/lang/Object") ∈ lw_all := lw_g (lw_at lw_m3 182 rfl) rfl
theorem q1990 : (Jvm.Cond.selects "WasteHouse$HazardRules$Code" ({ cls := "java/lang/Object", name := "getClass", desc := "()Ljava/lang/Class;" } : Jvm.MethodName) ({ cls := "java/lang/Object", name := "getClass", desc := "()Ljava/lang/Class;" } : Jvm.MethodName)) ∈ lw_all := lw_g (lw_at lw_m7 158 rfl) rfl
theorem q3098 : (Jvm.Cond.selects "WasteHouse$HazardRules$Code" ({ cls := "java/lang/Object", name := "equals", desc := "(Ljava/lang/Object;)Z" } : Jvm.MethodName) ({ cls := "java/lang/Object", name := "equals", desc := "(Ljava/lang/Object;)Z" } : Jvm.MethodName)) ∈ lw_all := lw_g (lw_at lw_m12 66 rfl) rfl
theorem q3613 : (Jvm.Cond.selects "WasteHouse$HazardRules$Code" ({ cls := "java/lang/Object", name := "hashCode", desc := "()I" } : Jvm.MethodName) ({ cls := "java/lang/Object", name := "hashCode", desc := "()I" } : Jvm.MethodName)) ∈ lw_all := lw_g (lw_at lw_m14 101 rfl) rfl
theorem q4804 : (Jvm.Cond.instanceMethod ({ cls := "WasteHouse$HazardRules$Code", name := "clear", desc := "()V" } : Jvm.MethodName)) ∈ lw_all := lw_g (lw_at lw_m19 92 rfl) rfl
theorem q4805 : (Jvm.Cond.selects "WasteHouse$HazardRules$Code" ({ cls := "WasteHouse$HazardRules$Code", name := "clear", desc := "()V" } : Jvm.MethodName) ({ cls := "WasteHouse$HazardRules$Code", name := "clear", desc := "()V" } : Jvm.MethodName)) ∈ lw_all := lw_g (lw_at lw_m19 93 rfl) rfl
theorem q4806 : (Jvm.Cond.code ({ cls := "WasteHouse$HazardRules$Code", name := "clear", desc := "()V" } : Jvm.MethodName) prog_20_method_2_code (1 : Nat) (Option.none : Option Jvm.ClassFile.FieldType)) ∈ lw_all := lw_g (lw_at lw_m19 94 rfl) rfl
theorem q4882 : (Jvm.Cond.instanceMethod ({ cls := "WasteHouse$HazardRules$Code", name := "copy", desc := "(LWasteHouse$HazardRules$Code;)V" } : Jvm.MethodName)) ∈ lw_all := lw_g (lw_at lw_m19 170 rfl) rfl
theorem q4883 : (Jvm.Cond.selects "WasteHouse$HazardRules$Code" ({ cls := "WasteHouse$HazardRules$Code", name := "copy", desc := "(LWasteHouse$HazardRules$Code;)V" } : Jvm.MethodName) ({ cls := "WasteHouse$HazardRules$Code", name := "copy", desc := "(LWasteHouse$HazardRules$Code;)V" } : Jvm.MethodName)) ∈ lw_all := lw_g (lw_at lw_m19 171 rfl) rfl
theorem q4884 : (Jvm.Cond.code ({ cls := "WasteHouse$HazardRules$Code", name := "copy", desc := "(LWasteHouse$HazardRules$Code;)V" } : Jvm.MethodName) prog_20_method_3_code (2 : Nat) (Option.none : Option Jvm.ClassFile.FieldType)) ∈ lw_all := lw_g (lw_at lw_m19 172 rfl) rfl
theorem q4885 : (Jvm.Cond.methodLink "WasteHouse$HazardRules$Code" (56 : Nat) ({ cls := "java/lang/System", name := "arraycopy", desc := "(Ljava/lang/Object;ILjava/lang/Object;II)V" } : Jvm.MethodName)) ∈ lw_all := lw_g (lw_at lw_m19 173 rfl) rfl
theorem q9643 : (Jvm.Cond.castable "WasteHouse$HazardRules$Code" "java/lang/Object") ∈ lw_tbl := lw_at lw_m39 131 rfl
theorem in_X15 : ∀ w ∈ wsX150, w ∈ lw_all := lw_in wsX150 [1024, 1026, 1028, 1030, 1032, 1034, 1036, 1038, 1040, 1042, 1044, 1046, 1048, 1050, 1052] (by decide +kernel) (by decide +kernel)
