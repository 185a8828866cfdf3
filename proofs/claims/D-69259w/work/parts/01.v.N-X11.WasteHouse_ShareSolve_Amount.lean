/-! WasteHouse$ShareSolve$Amount -/
set_option maxRecDepth 100000
def RX11 : String := "WasteHouse$ShareSolve$Amount"
def TX11 : u_T := fun k => match k with
  | 0 => ("WasteHouse$ShareSolve$Amount", "reckoner", "LWasteHouse$ShareSolve$Reckoner;", true)
  | 1 => ("WasteHouse$ShareSolve$Amount", "above", "LWasteHouse$ShareSolve$Whole;", true)
  | 2 => ("WasteHouse$ShareSolve$Amount", "below", "LWasteHouse$ShareSolve$Whole;", true)
  | 3 => ("WasteHouse$ShareSolve$Amount", "rest", "LWasteHouse$ShareSolve$Whole;", true)
  | 4 => ("WasteHouse$ShareSolve$Amount", "quotient", "LWasteHouse$ShareSolve$Whole;", true)
  | 5 => ("WasteHouse$ShareSolve$Amount", "billion", "LWasteHouse$ShareSolve$Whole;", true)
  | _ => ("WasteHouse$ShareSolve$Amount", "x", "LWasteHouse$ShareSolve$Whole;", true)
def tyX11 : Nat → FieldType := fun k => match k with
  | 0 => .object "WasteHouse$ShareSolve$Reckoner"
  | 1 => .object "WasteHouse$ShareSolve$Whole"
  | 2 => .object "WasteHouse$ShareSolve$Whole"
  | 3 => .object "WasteHouse$ShareSolve$Whole"
  | 4 => .object "WasteHouse$ShareSolve$Whole"
  | 5 => .object "WasteHouse$ShareSolve$Whole"
  | _ => .object "WasteHouse$ShareSolve$Whole"
abbrev wsX110 : List Cond := u_ws RX11 TX11 7
theorem nmX11 : ∀ a, a < 7 → ∀ b, b < 7 → a ≠ b → (TX11 a).2.1 ≠ (TX11 b).2.1 := by decide +kernel
theorem tyX11_ok : ∀ k, k < 7 → parseFieldDescriptor (TX11 k).2.2.1 = some (tyX11 k) := by decide +kernel
abbrev cX11_init : ByteArray := prog_43_method_1_code
def yX11_init : MethodName := ⟨RX11, "<init>", "()V"⟩
def dkwX11_init_3 : List UInt8 := [181, 0, 34, 42, 187, 0, 18, 89, 183, 0, 20, 181, 0, 37, 42, 180, 0, 34, 18, 40, 182, 0, 41, 177]
abbrev dktX11_init_3 : List UInt8 := dkwX11_init_3 ++ []
def dkwX11_init_2 : List UInt8 := [181, 0, 28, 42, 187, 0, 18, 89, 183, 0, 20, 181, 0, 31, 42, 187, 0, 18, 89, 183, 0, 20]
abbrev dktX11_init_2 : List UInt8 := dkwX11_init_2 ++ dktX11_init_3
def dkwX11_init_1 : List UInt8 := [181, 0, 21, 42, 187, 0, 18, 89, 183, 0, 20, 181, 0, 25, 42, 187, 0, 18, 89, 183, 0, 20]
abbrev dktX11_init_1 : List UInt8 := dkwX11_init_1 ++ dktX11_init_2
def dkwX11_init_0 : List UInt8 := [42, 183, 0, 3, 42, 187, 0, 9, 89, 183, 0, 11, 181, 0, 12, 42, 187, 0, 18, 89, 183, 0, 20]
abbrev dktX11_init_0 : List UInt8 := dkwX11_init_0 ++ dktX11_init_1
theorem dksX11_init_0 : cX11_init.data.toList.drop 0 = dktX11_init_0 := by decide +kernel
theorem dksX11_init_1 : cX11_init.data.toList.drop 23 = dktX11_init_1 := dk_seg dksX11_init_0 23 rfl rfl
theorem dksX11_init_2 : cX11_init.data.toList.drop 45 = dktX11_init_2 := dk_seg dksX11_init_1 22 rfl rfl
theorem dksX11_init_3 : cX11_init.data.toList.drop 67 = dktX11_init_3 := dk_seg dksX11_init_2 22 rfl rfl
theorem dX11_init_0 : decode cX11_init 0 = .ok (.aload_n 0, 1) := dk_42 (dk_at dksX11_init_0 0 rfl rfl)
theorem dX11_init_1 : decode cX11_init 1 = .ok (.invokespecial 3, 3) := dk_183 0 3 (dk_at dksX11_init_0 1 rfl rfl)
theorem dX11_init_4 : decode cX11_init 4 = .ok (.aload_n 0, 1) := dk_42 (dk_at dksX11_init_0 4 rfl rfl)
theorem dX11_init_5 : decode cX11_init 5 = .ok (.new 9, 3) := dk_187 0 9 (dk_at dksX11_init_0 5 rfl rfl)
theorem dX11_init_8 : decode cX11_init 8 = .ok (.dup, 1) := dk_89 (dk_at dksX11_init_0 8 rfl rfl)
theorem dX11_init_9 : decode cX11_init 9 = .ok (.invokespecial 11, 3) := dk_183 0 11 (dk_at dksX11_init_0 9 rfl rfl)
theorem dX11_init_12 : decode cX11_init 12 = .ok (.putfield 12, 3) := dk_181 0 12 (dk_at dksX11_init_0 12 rfl rfl)
theorem dX11_init_15 : decode cX11_init 15 = .ok (.aload_n 0, 1) := dk_42 (dk_at dksX11_init_0 15 rfl rfl)
theorem dX11_init_16 : decode cX11_init 16 = .ok (.new 18, 3) := dk_187 0 18 (dk_at dksX11_init_0 16 rfl rfl)
theorem dX11_init_19 : decode cX11_init 19 = .ok (.dup, 1) := dk_89 (dk_at dksX11_init_0 19 rfl rfl)
theorem dX11_init_20 : decode cX11_init 20 = .ok (.invokespecial 20, 3) := dk_183 0 20 (dk_at dksX11_init_0 20 rfl rfl)
theorem dX11_init_23 : decode cX11_init 23 = .ok (.putfield 21, 3) := dk_181 0 21 (dk_at dksX11_init_1 0 rfl rfl)
theorem dX11_init_26 : decode cX11_init 26 = .ok (.aload_n 0, 1) := dk_42 (dk_at dksX11_init_1 3 rfl rfl)
theorem dX11_init_27 : decode cX11_init 27 = .ok (.new 18, 3) := dk_187 0 18 (dk_at dksX11_init_1 4 rfl rfl)
theorem dX11_init_30 : decode cX11_init 30 = .ok (.dup, 1) := dk_89 (dk_at dksX11_init_1 7 rfl rfl)
theorem dX11_init_31 : decode cX11_init 31 = .ok (.invokespecial 20, 3) := dk_183 0 20 (dk_at dksX11_init_1 8 rfl rfl)
theorem dX11_init_34 : decode cX11_init 34 = .ok (.putfield 25, 3) := dk_181 0 25 (dk_at dksX11_init_1 11 rfl rfl)
theorem dX11_init_37 : decode cX11_init 37 = .ok (.aload_n 0, 1) := dk_42 (dk_at dksX11_init_1 14 rfl rfl)
theorem dX11_init_38 : decode cX11_init 38 = .ok (.new 18, 3) := dk_187 0 18 (dk_at dksX11_init_1 15 rfl rfl)
theorem dX11_init_41 : decode cX11_init 41 = .ok (.dup, 1) := dk_89 (dk_at dksX11_init_1 18 rfl rfl)
theorem dX11_init_42 : decode cX11_init 42 = .ok (.invokespecial 20, 3) := dk_183 0 20 (dk_at dksX11_init_1 19 rfl rfl)
theorem dX11_init_45 : decode cX11_init 45 = .ok (.putfield 28, 3) := dk_181 0 28 (dk_at dksX11_init_2 0 rfl rfl)
theorem dX11_init_48 : decode cX11_init 48 = .ok (.aload_n 0, 1) := dk_42 (dk_at dksX11_init_2 3 rfl rfl)
theorem dX11_init_49 : decode cX11_init 49 = .ok (.new 18, 3) := dk_187 0 18 (dk_at dksX11_init_2 4 rfl rfl)
theorem dX11_init_52 : decode cX11_init 52 = .ok (.dup, 1) := dk_89 (dk_at dksX11_init_2 7 rfl rfl)
theorem dX11_init_53 : decode cX11_init 53 = .ok (.invokespecial 20, 3) := dk_183 0 20 (dk_at dksX11_init_2 8 rfl rfl)
theorem dX11_init_56 : decode cX11_init 56 = .ok (.putfield 31, 3) := dk_181 0 31 (dk_at dksX11_init_2 11 rfl rfl)
theorem dX11_init_59 : decode cX11_init 59 = .ok (.aload_n 0, 1) := dk_42 (dk_at dksX11_init_2 14 rfl rfl)
theorem dX11_init_60 : decode cX11_init 60 = .ok (.new 18, 3) := dk_187 0 18 (dk_at dksX11_init_2 15 rfl rfl)
theorem dX11_init_63 : decode cX11_init 63 = .ok (.dup, 1) := dk_89 (dk_at dksX11_init_2 18 rfl rfl)
theorem dX11_init_64 : decode cX11_init 64 = .ok (.invokespecial 20, 3) := dk_183 0 20 (dk_at dksX11_init_2 19 rfl rfl)
theorem dX11_init_67 : decode cX11_init 67 = .ok (.putfield 34, 3) := dk_181 0 34 (dk_at dksX11_init_3 0 rfl rfl)
theorem dX11_init_70 : decode cX11_init 70 = .ok (.aload_n 0, 1) := dk_42 (dk_at dksX11_init_3 3 rfl rfl)
theorem dX11_init_71 : decode cX11_init 71 = .ok (.new 18, 3) := dk_187 0 18 (dk_at dksX11_init_3 4 rfl rfl)
theorem dX11_init_74 : decode cX11_init 74 = .ok (.dup, 1) := dk_89 (dk_at dksX11_init_3 7 rfl rfl)
theorem dX11_init_75 : decode cX11_init 75 = .ok (.invokespecial 20, 3) := dk_183 0 20 (dk_at dksX11_init_3 8 rfl rfl)
theorem dX11_init_78 : decode cX11_init 78 = .ok (.putfield 37, 3) := dk_181 0 37 (dk_at dksX11_init_3 11 rfl rfl)
theorem dX11_init_81 : decode cX11_init 81 = .ok (.aload_n 0, 1) := dk_42 (dk_at dksX11_init_3 14 rfl rfl)
theorem dX11_init_82 : decode cX11_init 82 = .ok (.getfield 34, 3) := dk_180 0 34 (dk_at dksX11_init_3 15 rfl rfl)
theorem dX11_init_85 : decode cX11_init 85 = .ok (.ldc 40, 2) := dk_18 40 (dk_at dksX11_init_3 18 rfl rfl)
theorem dX11_init_87 : decode cX11_init 87 = .ok (.invokevirtual 41, 3) := dk_182 0 41 (dk_at dksX11_init_3 20 rfl rfl)
theorem dX11_init_90 : decode cX11_init 90 = .ok (.return_, 1) := dk_177 (dk_at dksX11_init_3 23 rfl rfl)
abbrev cX11_set : ByteArray := prog_43_method_2_code
def yX11_set : MethodName := ⟨RX11, "set", "(LWasteHouse$ShareSolve$Whole;LWasteHouse$ShareSolve$Whole;)V"⟩
def dkwX11_set_2 : List UInt8 := [154, 0, 17, 42, 180, 0, 21, 182, 0, 53, 154, 0, 7, 4, 167, 0, 4, 3, 181, 0, 49, 177]
abbrev dktX11_set_2 : List UInt8 := dkwX11_set_2 ++ []
def dkwX11_set_1 : List UInt8 := [153, 0, 43, 42, 180, 0, 25, 3, 181, 0, 49, 42, 180, 0, 21, 42, 180, 0, 21, 180, 0, 49]
abbrev dktX11_set_1 : List UInt8 := dkwX11_set_1 ++ dktX11_set_2
def dkwX11_set_0 : List UInt8 := [42, 180, 0, 21, 43, 182, 0, 45, 42, 180, 0, 25, 44, 182, 0, 45, 42, 180, 0, 25, 180, 0, 49]
abbrev dktX11_set_0 : List UInt8 := dkwX11_set_0 ++ dktX11_set_1
theorem dksX11_set_0 : cX11_set.data.toList.drop 0 = dktX11_set_0 := by decide +kernel
theorem dksX11_set_1 : cX11_set.data.toList.drop 23 = dktX11_set_1 := dk_seg dksX11_set_0 23 rfl rfl
theorem dksX11_set_2 : cX11_set.data.toList.drop 45 = dktX11_set_2 := dk_seg dksX11_set_1 22 rfl rfl
theorem dX11_set_0 : decode cX11_set 0 = .ok (.aload_n 0, 1) := dk_42 (dk_at dksX11_set_0 0 rfl rfl)
theorem dX11_set_1 : decode cX11_set 1 = .ok (.getfield 21, 3) := dk_180 0 21 (dk_at dksX11_set_0 1 rfl rfl)
theorem dX11_set_4 : decode cX11_set 4 = .ok (.aload_n 1, 1) := dk_43 (dk_at dksX11_set_0 4 rfl rfl)
theorem dX11_set_5 : decode cX11_set 5 = .ok (.invokevirtual 45, 3) := dk_182 0 45 (dk_at dksX11_set_0 5 rfl rfl)
theorem dX11_set_8 : decode cX11_set 8 = .ok (.aload_n 0, 1) := dk_42 (dk_at dksX11_set_0 8 rfl rfl)
theorem dX11_set_9 : decode cX11_set 9 = .ok (.getfield 25, 3) := dk_180 0 25 (dk_at dksX11_set_0 9 rfl rfl)
theorem dX11_set_12 : decode cX11_set 12 = .ok (.aload_n 2, 1) := dk_44 (dk_at dksX11_set_0 12 rfl rfl)
theorem dX11_set_13 : decode cX11_set 13 = .ok (.invokevirtual 45, 3) := dk_182 0 45 (dk_at dksX11_set_0 13 rfl rfl)
theorem dX11_set_16 : decode cX11_set 16 = .ok (.aload_n 0, 1) := dk_42 (dk_at dksX11_set_0 16 rfl rfl)
theorem dX11_set_17 : decode cX11_set 17 = .ok (.getfield 25, 3) := dk_180 0 25 (dk_at dksX11_set_0 17 rfl rfl)
theorem dX11_set_20 : decode cX11_set 20 = .ok (.getfield 49, 3) := dk_180 0 49 (dk_at dksX11_set_0 20 rfl rfl)
theorem dX11_set_23 : decode cX11_set 23 = .ok (.ifCond .eq 43, 3) := dk_153 0 43 (dk_at dksX11_set_1 0 rfl rfl)
theorem dX11_set_26 : decode cX11_set 26 = .ok (.aload_n 0, 1) := dk_42 (dk_at dksX11_set_1 3 rfl rfl)
theorem dX11_set_27 : decode cX11_set 27 = .ok (.getfield 25, 3) := dk_180 0 25 (dk_at dksX11_set_1 4 rfl rfl)
theorem dX11_set_30 : decode cX11_set 30 = .ok (.iconst 0, 1) := dk_3 (dk_at dksX11_set_1 7 rfl rfl)
theorem dX11_set_31 : decode cX11_set 31 = .ok (.putfield 49, 3) := dk_181 0 49 (dk_at dksX11_set_1 8 rfl rfl)
theorem dX11_set_34 : decode cX11_set 34 = .ok (.aload_n 0, 1) := dk_42 (dk_at dksX11_set_1 11 rfl rfl)
theorem dX11_set_35 : decode cX11_set 35 = .ok (.getfield 21, 3) := dk_180 0 21 (dk_at dksX11_set_1 12 rfl rfl)
theorem dX11_set_38 : decode cX11_set 38 = .ok (.aload_n 0, 1) := dk_42 (dk_at dksX11_set_1 15 rfl rfl)
theorem dX11_set_39 : decode cX11_set 39 = .ok (.getfield 21, 3) := dk_180 0 21 (dk_at dksX11_set_1 16 rfl rfl)
theorem dX11_set_42 : decode cX11_set 42 = .ok (.getfield 49, 3) := dk_180 0 49 (dk_at dksX11_set_1 19 rfl rfl)
theorem dX11_set_45 : decode cX11_set 45 = .ok (.ifCond .ne 17, 3) := dk_154 0 17 (dk_at dksX11_set_2 0 rfl rfl)
theorem dX11_set_48 : decode cX11_set 48 = .ok (.aload_n 0, 1) := dk_42 (dk_at dksX11_set_2 3 rfl rfl)
theorem dX11_set_49 : decode cX11_set 49 = .ok (.getfield 21, 3) := dk_180 0 21 (dk_at dksX11_set_2 4 rfl rfl)
theorem dX11_set_52 : decode cX11_set 52 = .ok (.invokevirtual 53, 3) := dk_182 0 53 (dk_at dksX11_set_2 7 rfl rfl)
theorem dX11_set_55 : decode cX11_set 55 = .ok (.ifCond .ne 7, 3) := dk_154 0 7 (dk_at dksX11_set_2 10 rfl rfl)
theorem dX11_set_58 : decode cX11_set 58 = .ok (.iconst 1, 1) := dk_4 (dk_at dksX11_set_2 13 rfl rfl)
theorem dX11_set_59 : decode cX11_set 59 = .ok (.goto 4, 3) := dk_167 0 4 (dk_at dksX11_set_2 14 rfl rfl)
theorem dX11_set_62 : decode cX11_set 62 = .ok (.iconst 0, 1) := dk_3 (dk_at dksX11_set_2 17 rfl rfl)
theorem dX11_set_63 : decode cX11_set 63 = .ok (.putfield 49, 3) := dk_181 0 49 (dk_at dksX11_set_2 18 rfl rfl)
theorem dX11_set_66 : decode cX11_set 66 = .ok (.return_, 1) := dk_177 (dk_at dksX11_set_2 21 rfl rfl)
abbrev cX11_part : ByteArray := prog_43_method_4_code
def yX11_part : MethodName := ⟨RX11, "part", "(I)J"⟩
def dkwX11_part_8 : List UInt8 := [184, 0, 65, 66, 132, 5, 1, 167, 255, 186, 33, 173]
abbrev dktX11_part_8 : List UInt8 := dkwX11_part_8 ++ []
def dkwX11_part_7 : List UInt8 := [180, 0, 12, 42, 180, 0, 28, 42, 180, 0, 25, 42, 180, 0, 31, 182, 0, 61, 42, 180, 0, 31]
abbrev dktX11_part_7 : List UInt8 := dkwX11_part_7 ++ dktX11_part_8
def dkwX11_part_6 : List UInt8 := [42, 180, 0, 34, 42, 180, 0, 37, 184, 0, 69, 42, 180, 0, 28, 42, 180, 0, 37, 182, 0, 45, 42]
abbrev dktX11_part_6 : List UInt8 := dkwX11_part_6 ++ dktX11_part_7
def dkwX11_part_5 : List UInt8 := [182, 0, 45, 3, 54, 5, 21, 5, 27, 162, 0, 70, 42, 180, 0, 28, 3, 181, 0, 49, 42, 180, 0, 28]
abbrev dktX11_part_5 : List UInt8 := dkwX11_part_5 ++ dktX11_part_6
def dkwX11_part_4 : List UInt8 := [3, 181, 0, 49, 42, 180, 0, 37, 42, 180, 0, 28, 184, 0, 57, 42, 180, 0, 28, 42, 180, 0, 37]
abbrev dktX11_part_4 : List UInt8 := dkwX11_part_4 ++ dktX11_part_5
def dkwX11_part_3 : List UInt8 := [180, 0, 28, 182, 0, 53, 154, 0, 44, 42, 180, 0, 37, 42, 180, 0, 25, 182, 0, 45, 42, 180, 0, 28]
abbrev dktX11_part_3 : List UInt8 := dkwX11_part_3 ++ dktX11_part_4
def dkwX11_part_2 : List UInt8 := [153, 0, 74, 42, 180, 0, 28, 182, 0, 53, 153, 0, 8, 33, 117, 167, 0, 7, 33, 117, 10, 101, 66, 42]
abbrev dktX11_part_2 : List UInt8 := dkwX11_part_2 ++ dktX11_part_3
def dkwX11_part_1 : List UInt8 := [180, 0, 28, 42, 180, 0, 25, 42, 180, 0, 31, 182, 0, 61, 42, 180, 0, 31, 184, 0, 65, 66, 28]
abbrev dktX11_part_1 : List UInt8 := dkwX11_part_1 ++ dktX11_part_2
def dkwX11_part_0 : List UInt8 := [42, 180, 0, 28, 42, 180, 0, 21, 182, 0, 45, 42, 180, 0, 28, 180, 0, 49, 61, 42, 180, 0, 12, 42]
abbrev dktX11_part_0 : List UInt8 := dkwX11_part_0 ++ dktX11_part_1
theorem dksX11_part_0 : cX11_part.data.toList.drop 0 = dktX11_part_0 := by decide +kernel
theorem dksX11_part_1 : cX11_part.data.toList.drop 24 = dktX11_part_1 := dk_seg dksX11_part_0 24 rfl rfl
theorem dksX11_part_2 : cX11_part.data.toList.drop 47 = dktX11_part_2 := dk_seg dksX11_part_1 23 rfl rfl
theorem dksX11_part_3 : cX11_part.data.toList.drop 71 = dktX11_part_3 := dk_seg dksX11_part_2 24 rfl rfl
theorem dksX11_part_4 : cX11_part.data.toList.drop 95 = dktX11_part_4 := dk_seg dksX11_part_3 24 rfl rfl
theorem dksX11_part_5 : cX11_part.data.toList.drop 118 = dktX11_part_5 := dk_seg dksX11_part_4 23 rfl rfl
theorem dksX11_part_6 : cX11_part.data.toList.drop 142 = dktX11_part_6 := dk_seg dksX11_part_5 24 rfl rfl
theorem dksX11_part_7 : cX11_part.data.toList.drop 165 = dktX11_part_7 := dk_seg dksX11_part_6 23 rfl rfl
theorem dksX11_part_8 : cX11_part.data.toList.drop 187 = dktX11_part_8 := dk_seg dksX11_part_7 22 rfl rfl
theorem dX11_part_0 : decode cX11_part 0 = .ok (.aload_n 0, 1) := dk_42 (dk_at dksX11_part_0 0 rfl rfl)
theorem dX11_part_1 : decode cX11_part 1 = .ok (.getfield 28, 3) := dk_180 0 28 (dk_at dksX11_part_0 1 rfl rfl)
theorem dX11_part_4 : decode cX11_part 4 = .ok (.aload_n 0, 1) := dk_42 (dk_at dksX11_part_0 4 rfl rfl)
theorem dX11_part_5 : decode cX11_part 5 = .ok (.getfield 21, 3) := dk_180 0 21 (dk_at dksX11_part_0 5 rfl rfl)
theorem dX11_part_8 : decode cX11_part 8 = .ok (.invokevirtual 45, 3) := dk_182 0 45 (dk_at dksX11_part_0 8 rfl rfl)
theorem dX11_part_11 : decode cX11_part 11 = .ok (.aload_n 0, 1) := dk_42 (dk_at dksX11_part_0 11 rfl rfl)
theorem dX11_part_12 : decode cX11_part 12 = .ok (.getfield 28, 3) := dk_180 0 28 (dk_at dksX11_part_0 12 rfl rfl)
theorem dX11_part_15 : decode cX11_part 15 = .ok (.getfield 49, 3) := dk_180 0 49 (dk_at dksX11_part_0 15 rfl rfl)
theorem dX11_part_18 : decode cX11_part 18 = .ok (.istore_n 2, 1) := dk_61 (dk_at dksX11_part_0 18 rfl rfl)
theorem dX11_part_19 : decode cX11_part 19 = .ok (.aload_n 0, 1) := dk_42 (dk_at dksX11_part_0 19 rfl rfl)
theorem dX11_part_20 : decode cX11_part 20 = .ok (.getfield 12, 3) := dk_180 0 12 (dk_at dksX11_part_0 20 rfl rfl)
theorem dX11_part_23 : decode cX11_part 23 = .ok (.aload_n 0, 1) := dk_42 (dk_at dksX11_part_0 23 rfl rfl)
theorem dX11_part_24 : decode cX11_part 24 = .ok (.getfield 28, 3) := dk_180 0 28 (dk_at dksX11_part_1 0 rfl rfl)
theorem dX11_part_27 : decode cX11_part 27 = .ok (.aload_n 0, 1) := dk_42 (dk_at dksX11_part_1 3 rfl rfl)
theorem dX11_part_28 : decode cX11_part 28 = .ok (.getfield 25, 3) := dk_180 0 25 (dk_at dksX11_part_1 4 rfl rfl)
theorem dX11_part_31 : decode cX11_part 31 = .ok (.aload_n 0, 1) := dk_42 (dk_at dksX11_part_1 7 rfl rfl)
theorem dX11_part_32 : decode cX11_part 32 = .ok (.getfield 31, 3) := dk_180 0 31 (dk_at dksX11_part_1 8 rfl rfl)
theorem dX11_part_35 : decode cX11_part 35 = .ok (.invokevirtual 61, 3) := dk_182 0 61 (dk_at dksX11_part_1 11 rfl rfl)
theorem dX11_part_38 : decode cX11_part 38 = .ok (.aload_n 0, 1) := dk_42 (dk_at dksX11_part_1 14 rfl rfl)
theorem dX11_part_39 : decode cX11_part 39 = .ok (.getfield 31, 3) := dk_180 0 31 (dk_at dksX11_part_1 15 rfl rfl)
theorem dX11_part_42 : decode cX11_part 42 = .ok (.invokestatic 65, 3) := dk_184 0 65 (dk_at dksX11_part_1 18 rfl rfl)
theorem dX11_part_45 : decode cX11_part 45 = .ok (.lstore_n 3, 1) := dk_66 (dk_at dksX11_part_1 21 rfl rfl)
theorem dX11_part_46 : decode cX11_part 46 = .ok (.iload_n 2, 1) := dk_28 (dk_at dksX11_part_1 22 rfl rfl)
theorem dX11_part_47 : decode cX11_part 47 = .ok (.ifCond .eq 74, 3) := dk_153 0 74 (dk_at dksX11_part_2 0 rfl rfl)
theorem dX11_part_50 : decode cX11_part 50 = .ok (.aload_n 0, 1) := dk_42 (dk_at dksX11_part_2 3 rfl rfl)
theorem dX11_part_51 : decode cX11_part 51 = .ok (.getfield 28, 3) := dk_180 0 28 (dk_at dksX11_part_2 4 rfl rfl)
theorem dX11_part_54 : decode cX11_part 54 = .ok (.invokevirtual 53, 3) := dk_182 0 53 (dk_at dksX11_part_2 7 rfl rfl)
theorem dX11_part_57 : decode cX11_part 57 = .ok (.ifCond .eq 8, 3) := dk_153 0 8 (dk_at dksX11_part_2 10 rfl rfl)
theorem dX11_part_60 : decode cX11_part 60 = .ok (.lload_n 3, 1) := dk_33 (dk_at dksX11_part_2 13 rfl rfl)
theorem dX11_part_61 : decode cX11_part 61 = .ok (.lneg, 1) := dk_117 (dk_at dksX11_part_2 14 rfl rfl)
theorem dX11_part_62 : decode cX11_part 62 = .ok (.goto 7, 3) := dk_167 0 7 (dk_at dksX11_part_2 15 rfl rfl)
theorem dX11_part_65 : decode cX11_part 65 = .ok (.lload_n 3, 1) := dk_33 (dk_at dksX11_part_2 18 rfl rfl)
theorem dX11_part_66 : decode cX11_part 66 = .ok (.lneg, 1) := dk_117 (dk_at dksX11_part_2 19 rfl rfl)
theorem dX11_part_67 : decode cX11_part 67 = .ok (.lconst 1, 1) := dk_10 (dk_at dksX11_part_2 20 rfl rfl)
theorem dX11_part_68 : decode cX11_part 68 = .ok (.lsub, 1) := dk_101 (dk_at dksX11_part_2 21 rfl rfl)
theorem dX11_part_69 : decode cX11_part 69 = .ok (.lstore_n 3, 1) := dk_66 (dk_at dksX11_part_2 22 rfl rfl)
theorem dX11_part_70 : decode cX11_part 70 = .ok (.aload_n 0, 1) := dk_42 (dk_at dksX11_part_2 23 rfl rfl)
theorem dX11_part_71 : decode cX11_part 71 = .ok (.getfield 28, 3) := dk_180 0 28 (dk_at dksX11_part_3 0 rfl rfl)
theorem dX11_part_74 : decode cX11_part 74 = .ok (.invokevirtual 53, 3) := dk_182 0 53 (dk_at dksX11_part_3 3 rfl rfl)
theorem dX11_part_77 : decode cX11_part 77 = .ok (.ifCond .ne 44, 3) := dk_154 0 44 (dk_at dksX11_part_3 6 rfl rfl)
theorem dX11_part_80 : decode cX11_part 80 = .ok (.aload_n 0, 1) := dk_42 (dk_at dksX11_part_3 9 rfl rfl)
theorem dX11_part_81 : decode cX11_part 81 = .ok (.getfield 37, 3) := dk_180 0 37 (dk_at dksX11_part_3 10 rfl rfl)
theorem dX11_part_84 : decode cX11_part 84 = .ok (.aload_n 0, 1) := dk_42 (dk_at dksX11_part_3 13 rfl rfl)
theorem dX11_part_85 : decode cX11_part 85 = .ok (.getfield 25, 3) := dk_180 0 25 (dk_at dksX11_part_3 14 rfl rfl)
theorem dX11_part_88 : decode cX11_part 88 = .ok (.invokevirtual 45, 3) := dk_182 0 45 (dk_at dksX11_part_3 17 rfl rfl)
theorem dX11_part_91 : decode cX11_part 91 = .ok (.aload_n 0, 1) := dk_42 (dk_at dksX11_part_3 20 rfl rfl)
theorem dX11_part_92 : decode cX11_part 92 = .ok (.getfield 28, 3) := dk_180 0 28 (dk_at dksX11_part_3 21 rfl rfl)
theorem dX11_part_95 : decode cX11_part 95 = .ok (.iconst 0, 1) := dk_3 (dk_at dksX11_part_4 0 rfl rfl)
theorem dX11_part_96 : decode cX11_part 96 = .ok (.putfield 49, 3) := dk_181 0 49 (dk_at dksX11_part_4 1 rfl rfl)
theorem dX11_part_99 : decode cX11_part 99 = .ok (.aload_n 0, 1) := dk_42 (dk_at dksX11_part_4 4 rfl rfl)
theorem dX11_part_100 : decode cX11_part 100 = .ok (.getfield 37, 3) := dk_180 0 37 (dk_at dksX11_part_4 5 rfl rfl)
theorem dX11_part_103 : decode cX11_part 103 = .ok (.aload_n 0, 1) := dk_42 (dk_at dksX11_part_4 8 rfl rfl)
theorem dX11_part_104 : decode cX11_part 104 = .ok (.getfield 28, 3) := dk_180 0 28 (dk_at dksX11_part_4 9 rfl rfl)
theorem dX11_part_107 : decode cX11_part 107 = .ok (.invokestatic 57, 3) := dk_184 0 57 (dk_at dksX11_part_4 12 rfl rfl)
theorem dX11_part_110 : decode cX11_part 110 = .ok (.aload_n 0, 1) := dk_42 (dk_at dksX11_part_4 15 rfl rfl)
theorem dX11_part_111 : decode cX11_part 111 = .ok (.getfield 28, 3) := dk_180 0 28 (dk_at dksX11_part_4 16 rfl rfl)
theorem dX11_part_114 : decode cX11_part 114 = .ok (.aload_n 0, 1) := dk_42 (dk_at dksX11_part_4 19 rfl rfl)
theorem dX11_part_115 : decode cX11_part 115 = .ok (.getfield 37, 3) := dk_180 0 37 (dk_at dksX11_part_4 20 rfl rfl)
theorem dX11_part_118 : decode cX11_part 118 = .ok (.invokevirtual 45, 3) := dk_182 0 45 (dk_at dksX11_part_5 0 rfl rfl)
theorem dX11_part_121 : decode cX11_part 121 = .ok (.iconst 0, 1) := dk_3 (dk_at dksX11_part_5 3 rfl rfl)
theorem dX11_part_122 : decode cX11_part 122 = .ok (.istore 5, 2) := dk_54 5 (dk_at dksX11_part_5 4 rfl rfl)
theorem dX11_part_124 : decode cX11_part 124 = .ok (.iload 5, 2) := dk_21 5 (dk_at dksX11_part_5 6 rfl rfl)
theorem dX11_part_126 : decode cX11_part 126 = .ok (.iload_n 1, 1) := dk_27 (dk_at dksX11_part_5 8 rfl rfl)
theorem dX11_part_127 : decode cX11_part 127 = .ok (.if_icmp .ge 70, 3) := dk_162 0 70 (dk_at dksX11_part_5 9 rfl rfl)
theorem dX11_part_130 : decode cX11_part 130 = .ok (.aload_n 0, 1) := dk_42 (dk_at dksX11_part_5 12 rfl rfl)
theorem dX11_part_131 : decode cX11_part 131 = .ok (.getfield 28, 3) := dk_180 0 28 (dk_at dksX11_part_5 13 rfl rfl)
theorem dX11_part_134 : decode cX11_part 134 = .ok (.iconst 0, 1) := dk_3 (dk_at dksX11_part_5 16 rfl rfl)
theorem dX11_part_135 : decode cX11_part 135 = .ok (.putfield 49, 3) := dk_181 0 49 (dk_at dksX11_part_5 17 rfl rfl)
theorem dX11_part_138 : decode cX11_part 138 = .ok (.aload_n 0, 1) := dk_42 (dk_at dksX11_part_5 20 rfl rfl)
theorem dX11_part_139 : decode cX11_part 139 = .ok (.getfield 28, 3) := dk_180 0 28 (dk_at dksX11_part_5 21 rfl rfl)
theorem dX11_part_142 : decode cX11_part 142 = .ok (.aload_n 0, 1) := dk_42 (dk_at dksX11_part_6 0 rfl rfl)
theorem dX11_part_143 : decode cX11_part 143 = .ok (.getfield 34, 3) := dk_180 0 34 (dk_at dksX11_part_6 1 rfl rfl)
theorem dX11_part_146 : decode cX11_part 146 = .ok (.aload_n 0, 1) := dk_42 (dk_at dksX11_part_6 4 rfl rfl)
theorem dX11_part_147 : decode cX11_part 147 = .ok (.getfield 37, 3) := dk_180 0 37 (dk_at dksX11_part_6 5 rfl rfl)
theorem dX11_part_150 : decode cX11_part 150 = .ok (.invokestatic 69, 3) := dk_184 0 69 (dk_at dksX11_part_6 8 rfl rfl)
theorem dX11_part_153 : decode cX11_part 153 = .ok (.aload_n 0, 1) := dk_42 (dk_at dksX11_part_6 11 rfl rfl)
theorem dX11_part_154 : decode cX11_part 154 = .ok (.getfield 28, 3) := dk_180 0 28 (dk_at dksX11_part_6 12 rfl rfl)
theorem dX11_part_157 : decode cX11_part 157 = .ok (.aload_n 0, 1) := dk_42 (dk_at dksX11_part_6 15 rfl rfl)
theorem dX11_part_158 : decode cX11_part 158 = .ok (.getfield 37, 3) := dk_180 0 37 (dk_at dksX11_part_6 16 rfl rfl)
theorem dX11_part_161 : decode cX11_part 161 = .ok (.invokevirtual 45, 3) := dk_182 0 45 (dk_at dksX11_part_6 19 rfl rfl)
theorem dX11_part_164 : decode cX11_part 164 = .ok (.aload_n 0, 1) := dk_42 (dk_at dksX11_part_6 22 rfl rfl)
theorem dX11_part_165 : decode cX11_part 165 = .ok (.getfield 12, 3) := dk_180 0 12 (dk_at dksX11_part_7 0 rfl rfl)
theorem dX11_part_168 : decode cX11_part 168 = .ok (.aload_n 0, 1) := dk_42 (dk_at dksX11_part_7 3 rfl rfl)
theorem dX11_part_169 : decode cX11_part 169 = .ok (.getfield 28, 3) := dk_180 0 28 (dk_at dksX11_part_7 4 rfl rfl)
theorem dX11_part_172 : decode cX11_part 172 = .ok (.aload_n 0, 1) := dk_42 (dk_at dksX11_part_7 7 rfl rfl)
theorem dX11_part_173 : decode cX11_part 173 = .ok (.getfield 25, 3) := dk_180 0 25 (dk_at dksX11_part_7 8 rfl rfl)
theorem dX11_part_176 : decode cX11_part 176 = .ok (.aload_n 0, 1) := dk_42 (dk_at dksX11_part_7 11 rfl rfl)
theorem dX11_part_177 : decode cX11_part 177 = .ok (.getfield 31, 3) := dk_180 0 31 (dk_at dksX11_part_7 12 rfl rfl)
theorem dX11_part_180 : decode cX11_part 180 = .ok (.invokevirtual 61, 3) := dk_182 0 61 (dk_at dksX11_part_7 15 rfl rfl)
theorem dX11_part_183 : decode cX11_part 183 = .ok (.aload_n 0, 1) := dk_42 (dk_at dksX11_part_7 18 rfl rfl)
theorem dX11_part_184 : decode cX11_part 184 = .ok (.getfield 31, 3) := dk_180 0 31 (dk_at dksX11_part_7 19 rfl rfl)
theorem dX11_part_187 : decode cX11_part 187 = .ok (.invokestatic 65, 3) := dk_184 0 65 (dk_at dksX11_part_8 0 rfl rfl)
theorem dX11_part_190 : decode cX11_part 190 = .ok (.lstore_n 3, 1) := dk_66 (dk_at dksX11_part_8 3 rfl rfl)
theorem dX11_part_191 : decode cX11_part 191 = .ok (.iinc 5 1, 3) := dk_132 5 1 (dk_at dksX11_part_8 4 rfl rfl)
theorem dX11_part_194 : decode cX11_part 194 = .ok (.goto (-70), 3) := dk_167 255 186 (dk_at dksX11_part_8 7 rfl rfl)
theorem dX11_part_197 : decode cX11_part 197 = .ok (.lload_n 3, 1) := dk_33 (dk_at dksX11_part_8 10 rfl rfl)
theorem dX11_part_198 : decode cX11_part 198 = .ok (.lreturn, 1) := dk_173 (dk_at dksX11_part_8 11 rfl rfl)
abbrev cX11_asLong : ByteArray := prog_43_method_5_code
def yX11_asLong : MethodName := ⟨RX11, "asLong", "(LWasteHouse$ShareSolve$Whole;)J"⟩
def dkwX11_asLong_1 : List UInt8 := [167, 255, 237, 31, 173]
abbrev dktX11_asLong_1 : List UInt8 := dkwX11_asLong_1 ++ []
def dkwX11_asLong_0 : List UInt8 := [9, 64, 6, 62, 29, 155, 0, 21, 31, 16, 16, 121, 42, 29, 182, 0, 72, 133, 129, 64, 132, 3, 255]
abbrev dktX11_asLong_0 : List UInt8 := dkwX11_asLong_0 ++ dktX11_asLong_1
theorem dksX11_asLong_0 : cX11_asLong.data.toList.drop 0 = dktX11_asLong_0 := by decide +kernel
theorem dksX11_asLong_1 : cX11_asLong.data.toList.drop 23 = dktX11_asLong_1 := dk_seg dksX11_asLong_0 23 rfl rfl
theorem dX11_asLong_0 : decode cX11_asLong 0 = .ok (.lconst 0, 1) := dk_9 (dk_at dksX11_asLong_0 0 rfl rfl)
theorem dX11_asLong_1 : decode cX11_asLong 1 = .ok (.lstore_n 1, 1) := dk_64 (dk_at dksX11_asLong_0 1 rfl rfl)
theorem dX11_asLong_2 : decode cX11_asLong 2 = .ok (.iconst 3, 1) := dk_6 (dk_at dksX11_asLong_0 2 rfl rfl)
theorem dX11_asLong_3 : decode cX11_asLong 3 = .ok (.istore_n 3, 1) := dk_62 (dk_at dksX11_asLong_0 3 rfl rfl)
theorem dX11_asLong_4 : decode cX11_asLong 4 = .ok (.iload_n 3, 1) := dk_29 (dk_at dksX11_asLong_0 4 rfl rfl)
theorem dX11_asLong_5 : decode cX11_asLong 5 = .ok (.ifCond .lt 21, 3) := dk_155 0 21 (dk_at dksX11_asLong_0 5 rfl rfl)
theorem dX11_asLong_8 : decode cX11_asLong 8 = .ok (.lload_n 1, 1) := dk_31 (dk_at dksX11_asLong_0 8 rfl rfl)
theorem dX11_asLong_9 : decode cX11_asLong 9 = .ok (.bipush 16, 2) := dk_16 16 (dk_at dksX11_asLong_0 9 rfl rfl)
theorem dX11_asLong_11 : decode cX11_asLong 11 = .ok (.lshl, 1) := dk_121 (dk_at dksX11_asLong_0 11 rfl rfl)
theorem dX11_asLong_12 : decode cX11_asLong 12 = .ok (.aload_n 0, 1) := dk_42 (dk_at dksX11_asLong_0 12 rfl rfl)
theorem dX11_asLong_13 : decode cX11_asLong 13 = .ok (.iload_n 3, 1) := dk_29 (dk_at dksX11_asLong_0 13 rfl rfl)
theorem dX11_asLong_14 : decode cX11_asLong 14 = .ok (.invokevirtual 72, 3) := dk_182 0 72 (dk_at dksX11_asLong_0 14 rfl rfl)
theorem dX11_asLong_17 : decode cX11_asLong 17 = .ok (.i2l, 1) := dk_133 (dk_at dksX11_asLong_0 17 rfl rfl)
theorem dX11_asLong_18 : decode cX11_asLong 18 = .ok (.lor, 1) := dk_129 (dk_at dksX11_asLong_0 18 rfl rfl)
theorem dX11_asLong_19 : decode cX11_asLong 19 = .ok (.lstore_n 1, 1) := dk_64 (dk_at dksX11_asLong_0 19 rfl rfl)
theorem dX11_asLong_20 : decode cX11_asLong 20 = .ok (.iinc 3 (-1), 3) := dk_132 3 255 (dk_at dksX11_asLong_0 20 rfl rfl)
theorem dX11_asLong_23 : decode cX11_asLong 23 = .ok (.goto (-19), 3) := dk_167 255 237 (dk_at dksX11_asLong_1 0 rfl rfl)
theorem dX11_asLong_26 : decode cX11_asLong 26 = .ok (.lload_n 1, 1) := dk_31 (dk_at dksX11_asLong_1 3 rfl rfl)
theorem dX11_asLong_27 : decode cX11_asLong 27 = .ok (.lreturn, 1) := dk_173 (dk_at dksX11_asLong_1 4 rfl rfl)
abbrev cX11_add : ByteArray := prog_43_method_3_code
def yX11_add : MethodName := ⟨RX11, "add", "(LWasteHouse$ShareSolve$Whole;Z)V"⟩
def dkwX11_add_2 : List UInt8 := [180, 0, 37, 184, 0, 57, 177]
abbrev dktX11_add_2 : List UInt8 := dkwX11_add_2 ++ []
def dkwX11_add_1 : List UInt8 := [180, 0, 37, 182, 0, 53, 154, 0, 7, 4, 167, 0, 4, 3, 181, 0, 49, 42, 180, 0, 21, 42]
abbrev dktX11_add_1 : List UInt8 := dkwX11_add_1 ++ dktX11_add_2
def dkwX11_add_0 : List UInt8 := [42, 180, 0, 37, 43, 182, 0, 45, 42, 180, 0, 37, 42, 180, 0, 37, 180, 0, 49, 28, 160, 0, 17, 42]
abbrev dktX11_add_0 : List UInt8 := dkwX11_add_0 ++ dktX11_add_1
theorem dksX11_add_0 : cX11_add.data.toList.drop 0 = dktX11_add_0 := by decide +kernel
theorem dksX11_add_1 : cX11_add.data.toList.drop 24 = dktX11_add_1 := dk_seg dksX11_add_0 24 rfl rfl
theorem dksX11_add_2 : cX11_add.data.toList.drop 46 = dktX11_add_2 := dk_seg dksX11_add_1 22 rfl rfl
theorem dX11_add_0 : decode cX11_add 0 = .ok (.aload_n 0, 1) := dk_42 (dk_at dksX11_add_0 0 rfl rfl)
theorem dX11_add_1 : decode cX11_add 1 = .ok (.getfield 37, 3) := dk_180 0 37 (dk_at dksX11_add_0 1 rfl rfl)
theorem dX11_add_4 : decode cX11_add 4 = .ok (.aload_n 1, 1) := dk_43 (dk_at dksX11_add_0 4 rfl rfl)
theorem dX11_add_5 : decode cX11_add 5 = .ok (.invokevirtual 45, 3) := dk_182 0 45 (dk_at dksX11_add_0 5 rfl rfl)
theorem dX11_add_8 : decode cX11_add 8 = .ok (.aload_n 0, 1) := dk_42 (dk_at dksX11_add_0 8 rfl rfl)
theorem dX11_add_9 : decode cX11_add 9 = .ok (.getfield 37, 3) := dk_180 0 37 (dk_at dksX11_add_0 9 rfl rfl)
theorem dX11_add_12 : decode cX11_add 12 = .ok (.aload_n 0, 1) := dk_42 (dk_at dksX11_add_0 12 rfl rfl)
theorem dX11_add_13 : decode cX11_add 13 = .ok (.getfield 37, 3) := dk_180 0 37 (dk_at dksX11_add_0 13 rfl rfl)
theorem dX11_add_16 : decode cX11_add 16 = .ok (.getfield 49, 3) := dk_180 0 49 (dk_at dksX11_add_0 16 rfl rfl)
theorem dX11_add_19 : decode cX11_add 19 = .ok (.iload_n 2, 1) := dk_28 (dk_at dksX11_add_0 19 rfl rfl)
theorem dX11_add_20 : decode cX11_add 20 = .ok (.if_icmp .ne 17, 3) := dk_160 0 17 (dk_at dksX11_add_0 20 rfl rfl)
theorem dX11_add_23 : decode cX11_add 23 = .ok (.aload_n 0, 1) := dk_42 (dk_at dksX11_add_0 23 rfl rfl)
theorem dX11_add_24 : decode cX11_add 24 = .ok (.getfield 37, 3) := dk_180 0 37 (dk_at dksX11_add_1 0 rfl rfl)
theorem dX11_add_27 : decode cX11_add 27 = .ok (.invokevirtual 53, 3) := dk_182 0 53 (dk_at dksX11_add_1 3 rfl rfl)
theorem dX11_add_30 : decode cX11_add 30 = .ok (.ifCond .ne 7, 3) := dk_154 0 7 (dk_at dksX11_add_1 6 rfl rfl)
theorem dX11_add_33 : decode cX11_add 33 = .ok (.iconst 1, 1) := dk_4 (dk_at dksX11_add_1 9 rfl rfl)
theorem dX11_add_34 : decode cX11_add 34 = .ok (.goto 4, 3) := dk_167 0 4 (dk_at dksX11_add_1 10 rfl rfl)
theorem dX11_add_37 : decode cX11_add 37 = .ok (.iconst 0, 1) := dk_3 (dk_at dksX11_add_1 13 rfl rfl)
theorem dX11_add_38 : decode cX11_add 38 = .ok (.putfield 49, 3) := dk_181 0 49 (dk_at dksX11_add_1 14 rfl rfl)
theorem dX11_add_41 : decode cX11_add 41 = .ok (.aload_n 0, 1) := dk_42 (dk_at dksX11_add_1 17 rfl rfl)
theorem dX11_add_42 : decode cX11_add 42 = .ok (.getfield 21, 3) := dk_180 0 21 (dk_at dksX11_add_1 18 rfl rfl)
theorem dX11_add_45 : decode cX11_add 45 = .ok (.aload_n 0, 1) := dk_42 (dk_at dksX11_add_1 21 rfl rfl)
theorem dX11_add_46 : decode cX11_add 46 = .ok (.getfield 37, 3) := dk_180 0 37 (dk_at dksX11_add_2 0 rfl rfl)
theorem dX11_add_49 : decode cX11_add 49 = .ok (.invokestatic 57, 3) := dk_184 0 57 (dk_at dksX11_add_2 3 rfl rfl)
theorem dX11_add_52 : decode cX11_add 52 = .ok (.return_, 1) := dk_177 (dk_at dksX11_add_2 6 rfl rfl)
abbrev cX11_compare : ByteArray := prog_43_method_6_code
def yX11_compare : MethodName := ⟨RX11, "compare", "(I)I"⟩
def dkwX11_compare_2 : List UInt8 := [172]
abbrev dktX11_compare_2 : List UInt8 := dkwX11_compare_2 ++ []
def dkwX11_compare_1 : List UInt8 := [180, 0, 21, 180, 0, 49, 153, 0, 7, 2, 167, 0, 14, 42, 180, 0, 21, 42, 180, 0, 31, 182, 0, 76]
abbrev dktX11_compare_1 : List UInt8 := dkwX11_compare_1 ++ dktX11_compare_2
def dkwX11_compare_0 : List UInt8 := [42, 180, 0, 37, 27, 182, 0, 41, 42, 180, 0, 37, 42, 180, 0, 25, 42, 180, 0, 31, 184, 0, 69, 42]
abbrev dktX11_compare_0 : List UInt8 := dkwX11_compare_0 ++ dktX11_compare_1
theorem dksX11_compare_0 : cX11_compare.data.toList.drop 0 = dktX11_compare_0 := by decide +kernel
theorem dksX11_compare_1 : cX11_compare.data.toList.drop 24 = dktX11_compare_1 := dk_seg dksX11_compare_0 24 rfl rfl
theorem dksX11_compare_2 : cX11_compare.data.toList.drop 48 = dktX11_compare_2 := dk_seg dksX11_compare_1 24 rfl rfl
theorem dX11_compare_0 : decode cX11_compare 0 = .ok (.aload_n 0, 1) := dk_42 (dk_at dksX11_compare_0 0 rfl rfl)
theorem dX11_compare_1 : decode cX11_compare 1 = .ok (.getfield 37, 3) := dk_180 0 37 (dk_at dksX11_compare_0 1 rfl rfl)
theorem dX11_compare_4 : decode cX11_compare 4 = .ok (.iload_n 1, 1) := dk_27 (dk_at dksX11_compare_0 4 rfl rfl)
theorem dX11_compare_5 : decode cX11_compare 5 = .ok (.invokevirtual 41, 3) := dk_182 0 41 (dk_at dksX11_compare_0 5 rfl rfl)
theorem dX11_compare_8 : decode cX11_compare 8 = .ok (.aload_n 0, 1) := dk_42 (dk_at dksX11_compare_0 8 rfl rfl)
theorem dX11_compare_9 : decode cX11_compare 9 = .ok (.getfield 37, 3) := dk_180 0 37 (dk_at dksX11_compare_0 9 rfl rfl)
theorem dX11_compare_12 : decode cX11_compare 12 = .ok (.aload_n 0, 1) := dk_42 (dk_at dksX11_compare_0 12 rfl rfl)
theorem dX11_compare_13 : decode cX11_compare 13 = .ok (.getfield 25, 3) := dk_180 0 25 (dk_at dksX11_compare_0 13 rfl rfl)
theorem dX11_compare_16 : decode cX11_compare 16 = .ok (.aload_n 0, 1) := dk_42 (dk_at dksX11_compare_0 16 rfl rfl)
theorem dX11_compare_17 : decode cX11_compare 17 = .ok (.getfield 31, 3) := dk_180 0 31 (dk_at dksX11_compare_0 17 rfl rfl)
theorem dX11_compare_20 : decode cX11_compare 20 = .ok (.invokestatic 69, 3) := dk_184 0 69 (dk_at dksX11_compare_0 20 rfl rfl)
theorem dX11_compare_23 : decode cX11_compare 23 = .ok (.aload_n 0, 1) := dk_42 (dk_at dksX11_compare_0 23 rfl rfl)
theorem dX11_compare_24 : decode cX11_compare 24 = .ok (.getfield 21, 3) := dk_180 0 21 (dk_at dksX11_compare_1 0 rfl rfl)
theorem dX11_compare_27 : decode cX11_compare 27 = .ok (.getfield 49, 3) := dk_180 0 49 (dk_at dksX11_compare_1 3 rfl rfl)
theorem dX11_compare_30 : decode cX11_compare 30 = .ok (.ifCond .eq 7, 3) := dk_153 0 7 (dk_at dksX11_compare_1 6 rfl rfl)
theorem dX11_compare_33 : decode cX11_compare 33 = .ok (.iconst (-1), 1) := dk_2 (dk_at dksX11_compare_1 9 rfl rfl)
theorem dX11_compare_34 : decode cX11_compare 34 = .ok (.goto 14, 3) := dk_167 0 14 (dk_at dksX11_compare_1 10 rfl rfl)
theorem dX11_compare_37 : decode cX11_compare 37 = .ok (.aload_n 0, 1) := dk_42 (dk_at dksX11_compare_1 13 rfl rfl)
theorem dX11_compare_38 : decode cX11_compare 38 = .ok (.getfield 21, 3) := dk_180 0 21 (dk_at dksX11_compare_1 14 rfl rfl)
theorem dX11_compare_41 : decode cX11_compare 41 = .ok (.aload_n 0, 1) := dk_42 (dk_at dksX11_compare_1 17 rfl rfl)
theorem dX11_compare_42 : decode cX11_compare 42 = .ok (.getfield 31, 3) := dk_180 0 31 (dk_at dksX11_compare_1 18 rfl rfl)
theorem dX11_compare_45 : decode cX11_compare 45 = .ok (.invokevirtual 76, 3) := dk_182 0 76 (dk_at dksX11_compare_1 21 rfl rfl)
theorem dX11_compare_48 : decode cX11_compare 48 = .ok (.ireturn, 1) := dk_172 (dk_at dksX11_compare_2 0 rfl rfl)
theorem q408 : (Jvm.Cond.initialized "WasteHouse$ShareSolve$Amount") ∈ lw_all := lw_g (lw_at lw_m1 16 rfl) rfl
theorem q732 : (Jvm.Cond.fieldLink "WasteHouse$ShareSolve$Amount" (49 : Nat) "WasteHouse$ShareSolve$Whole" "negative" "Z") ∈ lw_all := lw_g (lw_at lw_m2 100 rfl) rfl
theorem q785 : (Jvm.Cond.instantiable "WasteHouse$ShareSolve$Amount" (7 : Nat)) ∈ lw_all := lw_g (lw_at lw_m2 153 rfl) rfl
theorem q787 : (Jvm.Cond.instanceMethod ({ cls := "WasteHouse$ShareSolve$Amount", name := "<init>", desc := "()V" } : Jvm.MethodName)) ∈ lw_all := lw_g (lw_at lw_m2 155 rfl) rfl
theorem q788 : (Jvm.Cond.code ({ cls := "WasteHouse$ShareSolve$Amount", name := "<init>", desc := "()V" } : Jvm.MethodName) prog_43_method_1_code (1 : Nat) (Option.none : Option Jvm.ClassFile.FieldType)) ∈ lw_all := lw_g (lw_at lw_m2 156 rfl) rfl
theorem q789 : (Jvm.Cond.methodLink "WasteHouse$ShareSolve$Amount" (3 : Nat) ({ cls := "java/lang/Object", name := "<init>", desc := "()V" } : Jvm.MethodName)) ∈ lw_all := lw_g (lw_at lw_m2 157 rfl) rfl
theorem q790 : (Jvm.Cond.classLink "WasteHouse$ShareSolve$Amount" (9 : Nat) "WasteHouse$ShareSolve$Reckoner") ∈ lw_all := lw_g (lw_at lw_m2 158 rfl) rfl
theorem q791 : (Jvm.Cond.methodLinkNest "WasteHouse$ShareSolve$Amount" (11 : Nat) ({ cls := "WasteHouse$ShareSolve$Reckoner", name := "<init>", desc := "()V" } : Jvm.MethodName) "WasteHouse") ∈ lw_tbl := lw_at lw_m2 159 rfl
theorem q792 : (Jvm.Cond.classLink "WasteHouse$ShareSolve$Amount" (18 : Nat) "WasteHouse$ShareSolve$Whole") ∈ lw_all := lw_g (lw_at lw_m2 160 rfl) rfl
theorem q793 : (Jvm.Cond.methodLinkNest "WasteHouse$ShareSolve$Amount" (20 : Nat) ({ cls := "WasteHouse$ShareSolve$Whole", name := "<init>", desc := "()V" } : Jvm.MethodName) "WasteHouse") ∈ lw_tbl := lw_at lw_m2 161 rfl
theorem q794 : (Jvm.Cond.constant "WasteHouse$ShareSolve$Amount" (40 : Nat) (1000000000 : Int32)) ∈ lw_all := lw_g (lw_at lw_m2 162 rfl) rfl
theorem q795 : (Jvm.Cond.methodLink "WasteHouse$ShareSolve$Amount" (41 : Nat) ({ cls := "WasteHouse$ShareSolve$Whole", name := "set", desc := "(I)V" } : Jvm.MethodName)) ∈ lw_all := lw_g (lw_at lw_m2 163 rfl) rfl
theorem q803 : (Jvm.Cond.fieldLink "WasteHouse$ShareSolve$Amount" (12 : Nat) "WasteHouse$ShareSolve$Amount" "reckoner" "LWasteHouse$ShareSolve$Reckoner;") ∈ lw_all := lw_g (lw_at lw_m2 171 rfl) rfl
theorem q804 : (Jvm.Cond.fieldLink "WasteHouse$ShareSolve$Amount" (21 : Nat) "WasteHouse$ShareSolve$Amount" "above" "LWasteHouse$ShareSolve$Whole;") ∈ lw_all := lw_g (lw_at lw_m2 172 rfl) rfl
theorem q806 : (Jvm.Cond.fieldLink "WasteHouse$ShareSolve$Amount" (25 : Nat) "WasteHouse$ShareSolve$Amount" "below" "LWasteHouse$ShareSolve$Whole;") ∈ lw_all := lw_g (lw_at lw_m2 174 rfl) rfl
theorem q808 : (Jvm.Cond.fieldLink "WasteHouse$ShareSolve$Amount" (28 : Nat) "WasteHouse$ShareSolve$Amount" "rest" "LWasteHouse$ShareSolve$Whole;") ∈ lw_all := lw_g (lw_at lw_m2 176 rfl) rfl
theorem q809 : (Jvm.Cond.fieldLink "WasteHouse$ShareSolve$Amount" (31 : Nat) "WasteHouse$ShareSolve$Amount" "quotient" "LWasteHouse$ShareSolve$Whole;") ∈ lw_all := lw_g (lw_at lw_m2 177 rfl) rfl
theorem q810 : (Jvm.Cond.fieldLink "WasteHouse$ShareSolve$Amount" (34 : Nat) "WasteHouse$ShareSolve$Amount" "billion" "LWasteHouse$ShareSolve$Whole;") ∈ lw_all := lw_g (lw_at lw_m2 178 rfl) rfl
theorem q811 : (Jvm.Cond.fieldLink "WasteHouse$ShareSolve$Amount" (37 : Nat) "WasteHouse$ShareSolve$Amount" "x" "LWasteHouse$ShareSolve$Whole;") ∈ lw_all := lw_g (lw_at lw_m2 179 rfl) rfl
theorem q812 : (Jvm.Cond.laysFinal "WasteHouse$ShareSolve$Amount" "WasteHouse$ShareSolve$Amount" "reckoner" "LWasteHouse$ShareSolve$Reckoner;") ∈ lw_all := lw_g (lw_at lw_m2 180 rfl) rfl
theorem q813 : (Jvm.Cond.soleField "WasteHouse$ShareSolve$Amount" "reckoner") ∈ lw_all := lw_g (lw_at lw_m2 181 rfl) rfl
theorem q814 : (Jvm.Cond.laysFinal "WasteHouse$ShareSolve$Amount" "WasteHouse$ShareSolve$Amount" "above" "LWasteHouse$ShareSolve$Whole;") ∈ lw_all := lw_g (lw_at lw_m2 182 rfl) rfl
theorem q815 : (Jvm.Cond.soleField "WasteHouse$ShareSolve$Amount" "above") ∈ lw_all := lw_g (lw_at lw_m2 183 rfl) rfl
theorem q816 : (Jvm.Cond.laysFinal "WasteHouse$ShareSolve$Amount" "WasteHouse$ShareSolve$Amount" "below" "LWasteHouse$ShareSolve$Whole;") ∈ lw_all := lw_g (lw_at lw_m2 184 rfl) rfl
theorem q817 : (Jvm.Cond.soleField "WasteHouse$ShareSolve$Amount" "below") ∈ lw_all := lw_g (lw_at lw_m2 185 rfl) rfl
theorem q818 : (Jvm.Cond.laysFinal "WasteHouse$ShareSolve$Amount" "WasteHouse$ShareSolve$Amount" "rest" "LWasteHouse$ShareSolve$Whole;") ∈ lw_all := lw_g (lw_at lw_m2 186 rfl) rfl
theorem q819 : (Jvm.Cond.soleField "WasteHouse$ShareSolve$Amount" "rest") ∈ lw_all := lw_g (lw_at lw_m2 187 rfl) rfl
theorem q820 : (Jvm.Cond.laysFinal "WasteHouse$ShareSolve$Amount" "WasteHouse$ShareSolve$Amount" "quotient" "LWasteHouse$ShareSolve$Whole;") ∈ lw_all := lw_g (lw_at lw_m2 188 rfl) rfl
theorem q821 : (Jvm.Cond.soleField "WasteHouse$ShareSolve$Amount" "quotient") ∈ lw_all := lw_g (lw_at lw_m2 189 rfl) rfl
theorem q822 : (Jvm.Cond.laysFinal "WasteHouse$ShareSolve$Amount" "WasteHouse$ShareSolve$Amount" "billion" "LWasteHouse$ShareSolve$Whole;") ∈ lw_all := lw_g (lw_at lw_m2 190 rfl) rfl
theorem q823 : (Jvm.Cond.soleField "WasteHouse$ShareSolve$Amount" "billion") ∈ lw_all := lw_g (lw_at lw_m2 191 rfl) rfl
theorem q824 : (Jvm.Cond.laysFinal "WasteHouse$ShareSolve$Amount" "WasteHouse$ShareSolve$Amount" "x" "LWasteHouse$ShareSolve$Whole;") ∈ lw_all := lw_g (lw_at lw_m2 192 rfl) rfl
theorem q825 : (Jvm.Cond.soleField "WasteHouse$ShareSolve$Amount" "x") ∈ lw_all := lw_g (lw_at lw_m2 193 rfl) rfl
theorem q826 : (Jvm.Cond.superclass "WasteHouse$ShareSolve$Amount" "java/lang/Object") ∈ lw_all := lw_g (lw_at lw_m2 194 rfl) rfl
theorem q2012 : (Jvm.Cond.selects "WasteHouse$ShareSolve$Amount" ({ cls := "java/lang/Object", name := "getClass", desc := "()Ljava/lang/Class;" } : Jvm.MethodName) ({ cls := "java/lang/Object", name := "getClass", desc := "()Ljava/lang/Class;" } : Jvm.MethodName)) ∈ lw_all := lw_g (lw_at lw_m7 180 rfl) rfl
theorem q3122 : (Jvm.Cond.selects "WasteHouse$ShareSolve$Amount" ({ cls := "java/lang/Object", name := "equals", desc := "(Ljava/lang/Object;)Z" } : Jvm.MethodName) ({ cls := "java/lang/Object", name := "equals", desc := "(Ljava/lang/Object;)Z" } : Jvm.MethodName)) ∈ lw_all := lw_g (lw_at lw_m12 90 rfl) rfl
theorem q3640 : (Jvm.Cond.selects "WasteHouse$ShareSolve$Amount" ({ cls := "java/lang/Object", name := "hashCode", desc := "()I" } : Jvm.MethodName) ({ cls := "java/lang/Object", name := "hashCode", desc := "()I" } : Jvm.MethodName)) ∈ lw_all := lw_g (lw_at lw_m14 128 rfl) rfl
theorem q5364 : (Jvm.Cond.instanceMethod ({ cls := "WasteHouse$ShareSolve$Amount", name := "set", desc := "(LWasteHouse$ShareSolve$Whole;LWasteHouse$ShareSolve$Whole;)V" } : Jvm.MethodName)) ∈ lw_all := lw_g (lw_at lw_m21 172 rfl) rfl
theorem q5365 : (Jvm.Cond.selects "WasteHouse$ShareSolve$Amount" ({ cls := "WasteHouse$ShareSolve$Amount", name := "set", desc := "(LWasteHouse$ShareSolve$Whole;LWasteHouse$ShareSolve$Whole;)V" } : Jvm.MethodName) ({ cls := "WasteHouse$ShareSolve$Amount", name := "set", desc := "(LWasteHouse$ShareSolve$Whole;LWasteHouse$ShareSolve$Whole;)V" } : Jvm.MethodName)) ∈ lw_all := lw_g (lw_at lw_m21 173 rfl) rfl
theorem q5366 : (Jvm.Cond.code ({ cls := "WasteHouse$ShareSolve$Amount", name := "set", desc := "(LWasteHouse$ShareSolve$Whole;LWasteHouse$ShareSolve$Whole;)V" } : Jvm.MethodName) prog_43_method_2_code (3 : Nat) (Option.none : Option Jvm.ClassFile.FieldType)) ∈ lw_all := lw_g (lw_at lw_m21 174 rfl) rfl
theorem q5367 : (Jvm.Cond.methodLink "WasteHouse$ShareSolve$Amount" (45 : Nat) ({ cls := "WasteHouse$ShareSolve$Whole", name := "copy", desc := "(LWasteHouse$ShareSolve$Whole;)V" } : Jvm.MethodName)) ∈ lw_all := lw_g (lw_at lw_m21 175 rfl) rfl
theorem q5368 : (Jvm.Cond.methodLink "WasteHouse$ShareSolve$Amount" (53 : Nat) ({ cls := "WasteHouse$ShareSolve$Whole", name := "isZero", desc := "()Z" } : Jvm.MethodName)) ∈ lw_all := lw_g (lw_at lw_m21 176 rfl) rfl
theorem q5387 : (Jvm.Cond.instanceMethod ({ cls := "WasteHouse$ShareSolve$Amount", name := "part", desc := "(I)J" } : Jvm.MethodName)) ∈ lw_all := lw_g (lw_at lw_m21 195 rfl) rfl
theorem q5388 : (Jvm.Cond.selects "WasteHouse$ShareSolve$Amount" ({ cls := "WasteHouse$ShareSolve$Amount", name := "part", desc := "(I)J" } : Jvm.MethodName) ({ cls := "WasteHouse$ShareSolve$Amount", name := "part", desc := "(I)J" } : Jvm.MethodName)) ∈ lw_all := lw_g (lw_at lw_m21 196 rfl) rfl
theorem q5389 : (Jvm.Cond.code ({ cls := "WasteHouse$ShareSolve$Amount", name := "part", desc := "(I)J" } : Jvm.MethodName) prog_43_method_4_code (6 : Nat) (Option.some Jvm.ClassFile.FieldType.long)) ∈ lw_all := lw_g (lw_at lw_m21 197 rfl) rfl
theorem q5390 : (Jvm.Cond.methodLink "WasteHouse$ShareSolve$Amount" (61 : Nat) ({ cls := "WasteHouse$ShareSolve$Reckoner", name := "divide", desc := "(LWasteHouse$ShareSolve$Whole;LWasteHouse$ShareSolve$Whole;LWasteHouse$ShareSolve$Whole;)V" } : Jvm.MethodName)) ∈ lw_all := lw_g (lw_at lw_m21 198 rfl) rfl
theorem q5391 : (Jvm.Cond.methodLink "WasteHouse$ShareSolve$Amount" (65 : Nat) ({ cls := "WasteHouse$ShareSolve$Amount", name := "asLong", desc := "(LWasteHouse$ShareSolve$Whole;)J" } : Jvm.MethodName)) ∈ lw_all := lw_g (lw_at lw_m21 199 rfl) rfl
theorem q5392 : (Jvm.Cond.static ({ cls := "WasteHouse$ShareSolve$Amount", name := "asLong", desc := "(LWasteHouse$ShareSolve$Whole;)J" } : Jvm.MethodName)) ∈ lw_all := lw_g (lw_at lw_m21 200 rfl) rfl
theorem q5393 : (Jvm.Cond.code ({ cls := "WasteHouse$ShareSolve$Amount", name := "asLong", desc := "(LWasteHouse$ShareSolve$Whole;)J" } : Jvm.MethodName) prog_43_method_5_code (4 : Nat) (Option.some Jvm.ClassFile.FieldType.long)) ∈ lw_all := lw_g (lw_at lw_m21 201 rfl) rfl
theorem q5394 : (Jvm.Cond.methodLink "WasteHouse$ShareSolve$Amount" (72 : Nat) ({ cls := "WasteHouse$ShareSolve$Whole", name := "at", desc := "(I)I" } : Jvm.MethodName)) ∈ lw_all := lw_g (lw_at lw_m21 202 rfl) rfl
theorem q5395 : (Jvm.Cond.methodLink "WasteHouse$ShareSolve$Amount" (57 : Nat) ({ cls := "WasteHouse$ShareSolve$Reckoner", name := "subtract", desc := "(LWasteHouse$ShareSolve$Whole;LWasteHouse$ShareSolve$Whole;)V" } : Jvm.MethodName)) ∈ lw_all := lw_g (lw_at lw_m21 203 rfl) rfl
theorem q5396 : (Jvm.Cond.methodLink "WasteHouse$ShareSolve$Amount" (69 : Nat) ({ cls := "WasteHouse$ShareSolve$Reckoner", name := "multiply", desc := "(LWasteHouse$ShareSolve$Whole;LWasteHouse$ShareSolve$Whole;LWasteHouse$ShareSolve$Whole;)V" } : Jvm.MethodName)) ∈ lw_all := lw_g (lw_at lw_m21 204 rfl) rfl
theorem q5720 : (Jvm.Cond.instanceMethod ({ cls := "WasteHouse$ShareSolve$Amount", name := "add", desc := "(LWasteHouse$ShareSolve$Whole;Z)V" } : Jvm.MethodName)) ∈ lw_all := lw_g (lw_at lw_m23 48 rfl) rfl
theorem q5721 : (Jvm.Cond.selects "WasteHouse$ShareSolve$Amount" ({ cls := "WasteHouse$ShareSolve$Amount", name := "add", desc := "(LWasteHouse$ShareSolve$Whole;Z)V" } : Jvm.MethodName) ({ cls := "WasteHouse$ShareSolve$Amount", name := "add", desc := "(LWasteHouse$ShareSolve$Whole;Z)V" } : Jvm.MethodName)) ∈ lw_all := lw_g (lw_at lw_m23 49 rfl) rfl
theorem q5722 : (Jvm.Cond.code ({ cls := "WasteHouse$ShareSolve$Amount", name := "add", desc := "(LWasteHouse$ShareSolve$Whole;Z)V" } : Jvm.MethodName) prog_43_method_3_code (3 : Nat) (Option.none : Option Jvm.ClassFile.FieldType)) ∈ lw_all := lw_g (lw_at lw_m23 50 rfl) rfl
theorem q5733 : (Jvm.Cond.instanceMethod ({ cls := "WasteHouse$ShareSolve$Amount", name := "compare", desc := "(I)I" } : Jvm.MethodName)) ∈ lw_all := lw_g (lw_at lw_m23 61 rfl) rfl
theorem q5734 : (Jvm.Cond.selects "WasteHouse$ShareSolve$Amount" ({ cls := "WasteHouse$ShareSolve$Amount", name := "compare", desc := "(I)I" } : Jvm.MethodName) ({ cls := "WasteHouse$ShareSolve$Amount", name := "compare", desc := "(I)I" } : Jvm.MethodName)) ∈ lw_all := lw_g (lw_at lw_m23 62 rfl) rfl
theorem q5735 : (Jvm.Cond.code ({ cls := "WasteHouse$ShareSolve$Amount", name := "compare", desc := "(I)I" } : Jvm.MethodName) prog_43_method_6_code (2 : Nat) (Option.some Jvm.ClassFile.FieldType.int)) ∈ lw_all := lw_g (lw_at lw_m23 63 rfl) rfl
theorem q5736 : (Jvm.Cond.methodLink "WasteHouse$ShareSolve$Amount" (76 : Nat) ({ cls := "WasteHouse$ShareSolve$Whole", name := "compareSize", desc := "(LWasteHouse$ShareSolve$Whole;)I" } : Jvm.MethodName)) ∈ lw_all := lw_g (lw_at lw_m23 64 rfl) rfl
theorem q9619 : (Jvm.Cond.castable "WasteHouse$ShareSolve$Amount" "java/lang/Object") ∈ lw_tbl := lw_at lw_m39 107 rfl
theorem in_X11 : ∀ w ∈ wsX110, w ∈ lw_all := lw_in wsX110 [812, 814, 816, 818, 820, 822, 824] (by decide +kernel) (by decide +kernel)
