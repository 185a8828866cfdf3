/-! the pure side: memory, arithmetic, the language of printed functions -/
set_option maxRecDepth 100000
abbrev aw_V : Type := Nat × Int
/-- the memory: where new cells go on, the kind of each (a class's number and 0; 1000 + an array type's number and the length; 9999: no cell), what each holds -/
abbrev aw_M : Type := Int × (Int → Nat × Int) × (Int → Int → Int)
def aw_n (M : aw_M) : Int := M.1
def aw_k (M : aw_M) (k : Int) : Nat × Int := M.2.1 k
def aw_d (M : aw_M) (k j : Int) : Int := M.2.2 k j
def aw_set (M : aw_M) (k j v : Int) : aw_M := (M.1, M.2.1, fun a b => if a = k ∧ b = j then v else M.2.2 a b)
def aw_new (M : aw_M) (q : Nat × Int) : aw_M := (M.1 + 1, fun a => if a = M.1 then q else M.2.1 a, fun a b => if a = M.1 then 0 else M.2.2 a b)
abbrev R32 (z : Int) : Prop := -2147483648 ≤ z ∧ z < 2147483648
abbrev R64 (z : Int) : Prop := -9223372036854775808 ≤ z ∧ z < 9223372036854775808
def aw_w32 (z : Int) : Int := (Int32.ofInt z).toInt
def aw_w64 (z : Int) : Int := (Int64.ofInt z).toInt
theorem aw_w32_r (z : Int) : R32 (aw_w32 z) := ⟨Int32.le_toInt _, Int32.toInt_lt _⟩
theorem aw_w64_r (z : Int) : R64 (aw_w64 z) := ⟨Int64.le_toInt _, Int64.toInt_lt _⟩
theorem aw_w32_o (z : Int) : Int32.ofInt (aw_w32 z) = Int32.ofInt z := Int32.ofInt_toInt _
theorem aw_w64_o (z : Int) : Int64.ofInt (aw_w64 z) = Int64.ofInt z := Int64.ofInt_toInt _
theorem w32_id {z : Int} (h : R32 z) : aw_w32 z = z := Int32.toInt_ofInt_of_le (by omega) (by omega)
theorem w64_id {z : Int} (h : R64 z) : aw_w64 z = z := Int64.toInt_ofInt_of_le (by omega) (by omega)
theorem aw_t32 {z : Int} (h : R32 z) : (Int32.ofInt z).toInt = z := w32_id h
theorem aw_t64 {z : Int} (h : R64 z) : (Int64.ofInt z).toInt = z := w64_id h
def aw_and (x y : Int) : Int := (Int32.ofInt x &&& Int32.ofInt y).toInt
def aw_or (x y : Int) : Int := (Int32.ofInt x ||| Int32.ofInt y).toInt
def aw_xor (x y : Int) : Int := (Int32.ofInt x ^^^ Int32.ofInt y).toInt
def aw_shl (x y : Int) : Int := (Int32.ofInt x <<< (Int32.ofInt y &&& 31)).toInt
def aw_shr (x y : Int) : Int := (Int32.ofInt x >>> (Int32.ofInt y &&& 31)).toInt
def aw_ushr (x y : Int) : Int := ((Int32.ofInt x).toUInt32 >>> ((Int32.ofInt y).toUInt32 &&& Int32.toUInt32 31)).toInt32.toInt
def aw_land (x y : Int) : Int := (Int64.ofInt x &&& Int64.ofInt y).toInt
def aw_lor (x y : Int) : Int := (Int64.ofInt x ||| Int64.ofInt y).toInt
def aw_lxor (x y : Int) : Int := (Int64.ofInt x ^^^ Int64.ofInt y).toInt
def aw_lshl (x y : Int) : Int := (Int64.ofInt x <<< ((Int32.ofInt y).toInt64 &&& 63)).toInt
def aw_lshr (x y : Int) : Int := (Int64.ofInt x >>> ((Int32.ofInt y).toInt64 &&& 63)).toInt
def aw_lushr (x y : Int) : Int := ((Int64.ofInt x).toUInt64 >>> ((Int32.ofInt y).toInt64.toUInt64 &&& Int64.toUInt64 63)).toInt64.toInt
def aw_i2b (x : Int) : Int := (Int32.ofInt x).toInt8.toInt32.toInt
def aw_i2s (x : Int) : Int := (Int32.ofInt x).toInt16.toInt32.toInt
def aw_i2c (x : Int) : Int := ((Int32.ofInt x).toUInt32 % 65536).toInt32.toInt
def aw_cmp (x y : Int) : Int := if x < y then -1 else if x = y then 0 else 1
abbrev aw_F : Type := Option (Int × aw_M × Nat × Nat)
def aw_ck (p : Prop) [Decidable p] (k : aw_F) : aw_F := if p then k else none
def aw_let {α : Type} (a : α) (k : α → aw_F) : aw_F := k a
/-- cells and slots taken on the way are added -/
def aw_add (c s : Nat) (k : aw_F) : aw_F := match k with
  | none => none
  | some q => some (q.1, q.2.1, q.2.2.1 + c, q.2.2.2 + s)
def aw_bind (f : aw_F) (k : Int → aw_M → aw_F) : aw_F := match f with
  | none => none
  | some q => aw_add q.2.2.1 q.2.2.2 (k q.1 q.2.1)
def aw_nw (n : Nat) (k : aw_F) : aw_F := aw_add 1 n k
def aw_fu : Nat := 1000000000
theorem aw_ck_some {p : Prop} [Decidable p] {k : aw_F} {q : Int × aw_M × Nat × Nat} (h : aw_ck p k = some q) : p ∧ k = some q := by
  unfold aw_ck at h
  by_cases hp : p
  · rw [if_pos hp] at h; exact ⟨hp, h⟩
  · rw [if_neg hp] at h; cases h
theorem aw_let_some {α : Type} {a : α} {k : α → aw_F} {q : Int × aw_M × Nat × Nat} (h : aw_let a k = some q) : ∃ v : α, v = a ∧ k v = some q := ⟨a, rfl, h⟩
theorem aw_add_some {c0 s0 : Nat} {k : aw_F} {r : Int} {M' : aw_M} {c s : Nat} (h : aw_add c0 s0 k = some (r, M', c, s)) : ∃ c2 s2 : Nat, k = some (r, M', c2, s2) ∧ c2 + c0 = c ∧ s2 + s0 = s := by
  cases k with
  | none => cases h
  | some p => cases h; exact ⟨p.2.2.1, p.2.2.2, rfl, rfl, rfl⟩
theorem aw_nw_some {n : Nat} {k : aw_F} {r : Int} {M' : aw_M} {c s : Nat} (h : aw_nw n k = some (r, M', c, s)) : ∃ c2 s2 : Nat, k = some (r, M', c2, s2) ∧ c2 + 1 = c ∧ s2 + n = s := aw_add_some h
theorem aw_bind_some {f : aw_F} {k : Int → aw_M → aw_F} {r : Int} {M' : aw_M} {c s : Nat} (h : aw_bind f k = some (r, M', c, s)) : ∃ (r1 : Int) (M1 : aw_M) (c1 s1 c2 s2 : Nat), f = some (r1, M1, c1, s1) ∧ k r1 M1 = some (r, M', c2, s2) ∧ c2 + c1 = c ∧ s2 + s1 = s := by
  cases f with
  | none => cases h
  | some p =>
    obtain ⟨c2, s2, h1, h2, h3⟩ := aw_add_some h
    exact ⟨p.1, p.2.1, p.2.2.1, p.2.2.2, c2, s2, rfl, h1, h2, h3⟩
theorem aw_end {a b : Int} {M M' : aw_M} {c s : Nat} (h : (some (a, M, 0, 0) : aw_F) = some (b, M', c, s)) : a = b ∧ M = M' := by
  cases h
  exact ⟨rfl, rfl⟩
def aw_max (x y : Int) : Int := if x < y then y else x
def aw_min (x y : Int) : Int := if y < x then y else x
def aw_abs32 (x : Int) : Int := if 0 ≤ x then x else aw_w32 (0 - x)
def aw_abs64 (x : Int) : Int := if 0 < x then x else aw_w64 (-x)
def aw_cp (M : aw_M) (x sp y dp n : Int) : aw_M := (M.1, M.2.1, fun a b => if a = y ∧ dp ≤ b ∧ b < dp + n then M.2.2 x (sp + (b - dp)) else M.2.2 a b)
/-! static mode: contents alone -/
abbrev ga_D : Type := Int → Int → Int
def ga_set (D : ga_D) (a j v : Int) : ga_D := fun x y => if x = a ∧ y = j then v else D x y
def ga_cp (D : ga_D) (x sp y dp n : Int) : ga_D := fun a b => if a = y ∧ dp ≤ b ∧ b < dp + n then D x (sp + (b - dp)) else D a b
abbrev ga_S : Type := Option (Int × ga_D)
def ga_ck (p : Prop) [Decidable p] (k : ga_S) : ga_S := if p then k else none
def ga_let {α : Type} (a : α) (k : α → ga_S) : ga_S := k a
def ga_bind (f : ga_S) (k : Int → ga_D → ga_S) : ga_S := match f with
  | none => none
  | some q => k q.1 q.2
theorem ga_ck_some {p : Prop} [Decidable p] {k : ga_S} {q : Int × ga_D} (h : ga_ck p k = some q) : p ∧ k = some q := by
  unfold ga_ck at h
  by_cases hp : p
  · rw [if_pos hp] at h; exact ⟨hp, h⟩
  · rw [if_neg hp] at h; cases h
theorem ga_let_some {α : Type} {a : α} {k : α → ga_S} {q : Int × ga_D} (h : ga_let a k = some q) : ∃ v : α, v = a ∧ k v = some q := ⟨a, rfl, h⟩
theorem ga_bind_some {f : ga_S} {k : Int → ga_D → ga_S} {q : Int × ga_D} (h : ga_bind f k = some q) : ∃ (r1 : Int) (D1 : ga_D), f = some (r1, D1) ∧ k r1 D1 = some q := by
  cases f with
  | none => cases h
  | some p => exact ⟨p.1, p.2, rfl, h⟩
theorem ga_end {a b : Int} {D D' : ga_D} (h : (some (a, D) : ga_S) = some (b, D')) : a = b ∧ D = D' := by
  cases h
  exact ⟨rfl, rfl⟩
