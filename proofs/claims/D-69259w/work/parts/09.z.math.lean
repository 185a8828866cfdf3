/-! Math: max, min, abs are run by the kit's own rows (the class is one of those that natives stand over) -/
set_option maxRecDepth 100000
theorem aw_lt_o64 {x y : Int} (hx : R64 x) (hy : R64 y) : Int64.ofInt x < Int64.ofInt y ↔ x < y := by
  rw [Int64.lt_iff_toInt_lt, Int64.toInt_ofInt_of_le hx.1 (by have := hx.2; omega), Int64.toInt_ofInt_of_le hy.1 (by have := hy.2; omega)]
section AP
variable {G : aw_G} {own : String} {cc : ByteArray} {ret : Option FieldType} {nL d : Nat} {ini : Bool} {M0 M : aw_M} {Q : Option aw_V → aw_M → Prop} {X : String → aw_M → Prop} {c sl pc : Nat} {ls : List (Nat × aw_V)} {st : List aw_V}
theorem x_mmax {x y z : Int} {index : Nat} (hd : decode cc pc = .ok (.invokestatic index, 3)) (h1 : Cond.methodLink own index Lib.Math.max.name ∈ lw_all) (h2 : Cond.static Lib.Math.max.name ∈ lw_all) (h3 : Cond.initialized "java/lang/Math" ∈ lw_all) (h4 : Cond.code Lib.Math.max.name Lib.Math.max.code 2 (some .int) ∈ lw_all) (hdd : 1 ≤ d) (hw : aw_cw st ≤ 8) (hz : aw_max x y = z)
    (k : aw_W G own cc ret nL d ini M0 Q X c sl (pc + 3) ls ((0, z) :: st) M) : aw_W G own cc ret nL d ini M0 Q X c sl pc ls ((0, y) :: (0, x) :: st) M := by
  subst hz
  intro p l e R s m args below meth cd H locs cells slots C hr he ho hz hc hs lsA hlv hlo hso
  have hts := C.2.2.2.2.2.2.1
  have hy : R32 y := aw_h hso
  have hx : R32 x := aw_h (aw_t hso)
  have g1 : R.frames = d := C.2.2.2.2.2.2.2.2.1
  have g2 : R.locals = d * 600 := C.2.2.2.2.2.2.2.2.2.1
  have e3 : (if Int32.ofInt x < Int32.ofInt y then Int32.ofInt y else Int32.ofInt x) = Int32.ofInt (aw_max x y) := by
    unfold aw_max
    by_cases h : x < y
    · rw [if_pos h, if_pos ((aw_lt_o hx hy).mpr h)]
    · rw [if_neg h, if_neg (fun q => h ((aw_lt_o hx hy).mp q))]
  have hok : R32 (aw_max x y) := by
    unfold aw_max
    split <;> first | exact hx | exact hy | exact aw_w32_r _
  have key := @k p l e R s m args below meth cd H locs cells slots C hr he ho hz hc hs lsA hlv hlo (aw_c1 hok (aw_t (aw_t hso)))
  rw [List.map_cons] at key
  have e4 : aw_val (aw_ad G) (0, aw_max x y) = Value.int ((if Int32.ofInt x < Int32.ofInt y then Int32.ofInt y else Int32.ofInt x)) := congrArg Value.int e3.symm
  rw [e4] at key
  exact va_mmax C.1 C.2.1 (by rw [C.2.2.2.2.1]; exact hlv.1.symm) C.2.2.2.2.2.1 (hts _ h1) (hts _ h2) (hts _ h3) (hts _ h4) (by omega) (by rw [aw_cw_map, g2]; omega) (by omega) (by omega) hd key
theorem x_mmin {x y z : Int} {index : Nat} (hd : decode cc pc = .ok (.invokestatic index, 3)) (h1 : Cond.methodLink own index Lib.Math.min.name ∈ lw_all) (h2 : Cond.static Lib.Math.min.name ∈ lw_all) (h3 : Cond.initialized "java/lang/Math" ∈ lw_all) (h4 : Cond.code Lib.Math.min.name Lib.Math.min.code 2 (some .int) ∈ lw_all) (hdd : 1 ≤ d) (hw : aw_cw st ≤ 8) (hz : aw_min x y = z)
    (k : aw_W G own cc ret nL d ini M0 Q X c sl (pc + 3) ls ((0, z) :: st) M) : aw_W G own cc ret nL d ini M0 Q X c sl pc ls ((0, y) :: (0, x) :: st) M := by
  subst hz
  intro p l e R s m args below meth cd H locs cells slots C hr he ho hz hc hs lsA hlv hlo hso
  have hts := C.2.2.2.2.2.2.1
  have hy : R32 y := aw_h hso
  have hx : R32 x := aw_h (aw_t hso)
  have g1 : R.frames = d := C.2.2.2.2.2.2.2.2.1
  have g2 : R.locals = d * 600 := C.2.2.2.2.2.2.2.2.2.1
  have e3 : (if Int32.ofInt y < Int32.ofInt x then Int32.ofInt y else Int32.ofInt x) = Int32.ofInt (aw_min x y) := by
    unfold aw_min
    by_cases h : y < x
    · rw [if_pos h, if_pos ((aw_lt_o hy hx).mpr h)]
    · rw [if_neg h, if_neg (fun q => h ((aw_lt_o hy hx).mp q))]
  have hok : R32 (aw_min x y) := by
    unfold aw_min
    split <;> first | exact hx | exact hy | exact aw_w32_r _
  have key := @k p l e R s m args below meth cd H locs cells slots C hr he ho hz hc hs lsA hlv hlo (aw_c1 hok (aw_t (aw_t hso)))
  rw [List.map_cons] at key
  have e4 : aw_val (aw_ad G) (0, aw_min x y) = Value.int ((if Int32.ofInt y < Int32.ofInt x then Int32.ofInt y else Int32.ofInt x)) := congrArg Value.int e3.symm
  rw [e4] at key
  exact va_mmin C.1 C.2.1 (by rw [C.2.2.2.2.1]; exact hlv.1.symm) C.2.2.2.2.2.1 (hts _ h1) (hts _ h2) (hts _ h3) (hts _ h4) (by omega) (by rw [aw_cw_map, g2]; omega) (by omega) (by omega) hd key
theorem x_mabs {x z : Int} {index : Nat} (hd : decode cc pc = .ok (.invokestatic index, 3)) (h1 : Cond.methodLink own index Lib.Math.abs.name ∈ lw_all) (h2 : Cond.static Lib.Math.abs.name ∈ lw_all) (h3 : Cond.initialized "java/lang/Math" ∈ lw_all) (h4 : Cond.code Lib.Math.abs.name Lib.Math.abs.code 1 (some .int) ∈ lw_all) (hdd : 1 ≤ d) (hw : aw_cw st ≤ 8) (hz : aw_abs32 x = z)
    (k : aw_W G own cc ret nL d ini M0 Q X c sl (pc + 3) ls ((0, z) :: st) M) : aw_W G own cc ret nL d ini M0 Q X c sl pc ls ((0, x) :: st) M := by
  subst hz
  intro p l e R s m args below meth cd H locs cells slots C hr he ho hz hc hs lsA hlv hlo hso
  have hts := C.2.2.2.2.2.2.1
  have hx : R32 x := aw_h hso
  have g1 : R.frames = d := C.2.2.2.2.2.2.2.2.1
  have g2 : R.locals = d * 600 := C.2.2.2.2.2.2.2.2.2.1
  have e3 : (if 0 ≤ Int32.ofInt x then Int32.ofInt x else 0 - Int32.ofInt x) = Int32.ofInt (aw_abs32 x) := by
    unfold aw_abs32
    have h0 : (0 : Int32) ≤ Int32.ofInt x ↔ 0 ≤ x := aw_le_o (by decide : R32 0) hx
    by_cases h : 0 ≤ x
    · rw [if_pos h, if_pos (h0.mpr h)]
    · rw [if_neg h, if_neg (fun q => h (h0.mp q)), aw_w32_o, Int32.ofInt_sub]; rfl
  have hok : R32 (aw_abs32 x) := by
    unfold aw_abs32
    split <;> first | exact hx | exact aw_w32_r _
  have key := @k p l e R s m args below meth cd H locs cells slots C hr he ho hz hc hs lsA hlv hlo (aw_c1 hok (aw_t hso))
  rw [List.map_cons] at key
  have e4 : aw_val (aw_ad G) (0, aw_abs32 x) = Value.int ((if 0 ≤ Int32.ofInt x then Int32.ofInt x else 0 - Int32.ofInt x)) := congrArg Value.int e3.symm
  rw [e4] at key
  exact va_mabs C.1 C.2.1 (by rw [C.2.2.2.2.1]; exact hlv.1.symm) C.2.2.2.2.2.1 (hts _ h1) (hts _ h2) (hts _ h3) (hts _ h4) (by omega) (by rw [aw_cw_map, g2]; omega) (by omega) (by omega) hd key
theorem x_mmaxl {x y z : Int} {index : Nat} (hd : decode cc pc = .ok (.invokestatic index, 3)) (h1 : Cond.methodLink own index Lib.MathLoose.max_long.x ∈ lw_all) (h2 : Cond.static Lib.MathLoose.max_long.x ∈ lw_all) (h3 : Cond.initialized "java/lang/Math" ∈ lw_all) (h4 : Cond.code Lib.MathLoose.max_long.x Lib.MathLoose.max_long.code 4 (some .long) ∈ lw_all) (hdd : 1 ≤ d) (hw : aw_cw st ≤ 8) (hz : aw_max x y = z)
    (k : aw_W G own cc ret nL d ini M0 Q X c sl (pc + 3) ls ((1, z) :: st) M) : aw_W G own cc ret nL d ini M0 Q X c sl pc ls ((1, y) :: (1, x) :: st) M := by
  subst hz
  intro p l e R s m args below meth cd H locs cells slots C hr he ho hz hc hs lsA hlv hlo hso
  have hts := C.2.2.2.2.2.2.1
  have hy : R64 y := aw_h hso
  have hx : R64 x := aw_h (aw_t hso)
  have g1 : R.frames = d := C.2.2.2.2.2.2.2.2.1
  have g2 : R.locals = d * 600 := C.2.2.2.2.2.2.2.2.2.1
  have e3 : (if Int64.ofInt y < Int64.ofInt x then Int64.ofInt x else Int64.ofInt y) = Int64.ofInt (aw_max x y) := by
    unfold aw_max
    by_cases h : x < y
    · rw [if_pos h, if_neg (fun q => by have := (aw_lt_o64 hy hx).mp q; omega)]
    · rw [if_neg h]
      by_cases h2 : y < x
      · rw [if_pos ((aw_lt_o64 hy hx).mpr h2)]
      · rw [if_neg (fun q => h2 ((aw_lt_o64 hy hx).mp q)), show x = y by omega]
  have hok : R64 (aw_max x y) := by
    unfold aw_max
    split <;> first | exact hx | exact hy | exact aw_w64_r _
  have key := @k p l e R s m args below meth cd H locs cells slots C hr he ho hz hc hs lsA hlv hlo (aw_c1 hok (aw_t (aw_t hso)))
  rw [List.map_cons] at key
  have e4 : aw_val (aw_ad G) (1, aw_max x y) = Value.long ((if Int64.ofInt y < Int64.ofInt x then Int64.ofInt x else Int64.ofInt y)) := congrArg Value.long e3.symm
  rw [e4] at key
  exact va_mmax_long C.1 C.2.1 (by rw [C.2.2.2.2.1]; exact hlv.1.symm) C.2.2.2.2.2.1 (hts _ h1) (hts _ h2) (hts _ h3) (hts _ h4) (by omega) (by rw [aw_cw_map, g2]; omega) (by omega) (by omega) hd key
theorem x_mminl {x y z : Int} {index : Nat} (hd : decode cc pc = .ok (.invokestatic index, 3)) (h1 : Cond.methodLink own index Lib.MathLoose.min_long.x ∈ lw_all) (h2 : Cond.static Lib.MathLoose.min_long.x ∈ lw_all) (h3 : Cond.initialized "java/lang/Math" ∈ lw_all) (h4 : Cond.code Lib.MathLoose.min_long.x Lib.MathLoose.min_long.code 4 (some .long) ∈ lw_all) (hdd : 1 ≤ d) (hw : aw_cw st ≤ 8) (hz : aw_min x y = z)
    (k : aw_W G own cc ret nL d ini M0 Q X c sl (pc + 3) ls ((1, z) :: st) M) : aw_W G own cc ret nL d ini M0 Q X c sl pc ls ((1, y) :: (1, x) :: st) M := by
  subst hz
  intro p l e R s m args below meth cd H locs cells slots C hr he ho hz hc hs lsA hlv hlo hso
  have hts := C.2.2.2.2.2.2.1
  have hy : R64 y := aw_h hso
  have hx : R64 x := aw_h (aw_t hso)
  have g1 : R.frames = d := C.2.2.2.2.2.2.2.2.1
  have g2 : R.locals = d * 600 := C.2.2.2.2.2.2.2.2.2.1
  have e3 : (if Int64.ofInt y < Int64.ofInt x then Int64.ofInt y else Int64.ofInt x) = Int64.ofInt (aw_min x y) := by
    unfold aw_min
    by_cases h : y < x
    · rw [if_pos h, if_pos ((aw_lt_o64 hy hx).mpr h)]
    · rw [if_neg h, if_neg (fun q => h ((aw_lt_o64 hy hx).mp q))]
  have hok : R64 (aw_min x y) := by
    unfold aw_min
    split <;> first | exact hx | exact hy | exact aw_w64_r _
  have key := @k p l e R s m args below meth cd H locs cells slots C hr he ho hz hc hs lsA hlv hlo (aw_c1 hok (aw_t (aw_t hso)))
  rw [List.map_cons] at key
  have e4 : aw_val (aw_ad G) (1, aw_min x y) = Value.long ((if Int64.ofInt y < Int64.ofInt x then Int64.ofInt y else Int64.ofInt x)) := congrArg Value.long e3.symm
  rw [e4] at key
  exact va_mmin_long C.1 C.2.1 (by rw [C.2.2.2.2.1]; exact hlv.1.symm) C.2.2.2.2.2.1 (hts _ h1) (hts _ h2) (hts _ h3) (hts _ h4) (by omega) (by rw [aw_cw_map, g2]; omega) (by omega) (by omega) hd key
theorem x_mabsl {x z : Int} {index : Nat} (hd : decode cc pc = .ok (.invokestatic index, 3)) (h1 : Cond.methodLink own index Lib.MathLoose.abs_long.x ∈ lw_all) (h2 : Cond.static Lib.MathLoose.abs_long.x ∈ lw_all) (h3 : Cond.initialized "java/lang/Math" ∈ lw_all) (h4 : Cond.code Lib.MathLoose.abs_long.x Lib.MathLoose.abs_long.code 2 (some .long) ∈ lw_all) (hdd : 1 ≤ d) (hw : aw_cw st ≤ 8) (hz : aw_abs64 x = z)
    (k : aw_W G own cc ret nL d ini M0 Q X c sl (pc + 3) ls ((1, z) :: st) M) : aw_W G own cc ret nL d ini M0 Q X c sl pc ls ((1, x) :: st) M := by
  subst hz
  intro p l e R s m args below meth cd H locs cells slots C hr he ho hz hc hs lsA hlv hlo hso
  have hts := C.2.2.2.2.2.2.1
  have hx : R64 x := aw_h hso
  have g1 : R.frames = d := C.2.2.2.2.2.2.2.2.1
  have g2 : R.locals = d * 600 := C.2.2.2.2.2.2.2.2.2.1
  have e3 : (if 0 < Int64.ofInt x then Int64.ofInt x else -Int64.ofInt x) = Int64.ofInt (aw_abs64 x) := by
    unfold aw_abs64
    have h0 : (0 : Int64) < Int64.ofInt x ↔ 0 < x := aw_lt_o64 (by decide : R64 0) hx
    by_cases h : 0 < x
    · rw [if_pos h, if_pos (h0.mpr h)]
    · rw [if_neg h, if_neg (fun q => h (h0.mp q)), aw_w64_o, Int64.ofInt_neg]
  have hok : R64 (aw_abs64 x) := by
    unfold aw_abs64
    split <;> first | exact hx | exact aw_w64_r _
  have key := @k p l e R s m args below meth cd H locs cells slots C hr he ho hz hc hs lsA hlv hlo (aw_c1 hok (aw_t hso))
  rw [List.map_cons] at key
  have e4 : aw_val (aw_ad G) (1, aw_abs64 x) = Value.long ((if 0 < Int64.ofInt x then Int64.ofInt x else -Int64.ofInt x)) := congrArg Value.long e3.symm
  rw [e4] at key
  exact va_mabs_long C.1 C.2.1 (by rw [C.2.2.2.2.1]; exact hlv.1.symm) C.2.2.2.2.2.1 (hts _ h1) (hts _ h2) (hts _ h3) (hts _ h4) (by omega) (by rw [aw_cw_map, g2]; omega) (by omega) (by omega) hd key
end AP
