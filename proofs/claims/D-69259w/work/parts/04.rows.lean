theorem aw_r8 {n : Int} (h : -128 ≤ n ∧ n < 128) : (Int8.ofInt n).toInt32 = Int32.ofInt n := by
  apply Int32.toInt_inj.mp
  rw [Int8.toInt_toInt32, Int8.toInt_ofInt_of_le (by omega) (by omega), Int32.toInt_ofInt_of_le (by omega) (by omega)]
theorem aw_r16 {n : Int} (h : -32768 ≤ n ∧ n < 32768) : (Int16.ofInt n).toInt32 = Int32.ofInt n := by
  apply Int32.toInt_inj.mp
  rw [Int16.toInt_toInt32, Int16.toInt_ofInt_of_le (by omega) (by omega), Int32.toInt_ofInt_of_le (by omega) (by omega)]
theorem aw_o32 (a : Int32) : Int32.ofInt a.toInt = a := Int32.ofInt_toInt a
theorem aw_o64 (a : Int64) : Int64.ofInt a.toInt = a := Int64.ofInt_toInt a
theorem aw_rt32 (a : Int32) : R32 a.toInt := ⟨Int32.le_toInt _, Int32.toInt_lt _⟩
theorem aw_rt64 (a : Int64) : R64 a.toInt := ⟨Int64.le_toInt _, Int64.toInt_lt _⟩
theorem aw_nz {y : Int} (h : R32 y) (hne : y ≠ 0) : ¬ Int32.ofInt y = 0 := fun q => hne (by
  have h1 := congrArg Int32.toInt q
  rw [aw_t32 h] at h1
  exact h1)
theorem aw_nz64 {y : Int} (h : R64 y) (hne : y ≠ 0) : ¬ Int64.ofInt y = 0 := fun q => hne (by
  have h1 := congrArg Int64.toInt q
  rw [aw_t64 h] at h1
  exact h1)
theorem aw_div {x y : Int} (hx : R32 x) (hy : R32 y) : Int32.ofInt x / Int32.ofInt y = Int32.ofInt (aw_w32 (x.tdiv y)) := by
  apply Int32.toInt_inj.mp
  rw [aw_w32_o, Int32.toInt_div, aw_t32 hx, aw_t32 hy, Int32.toInt_ofInt]
theorem aw_div64 {x y : Int} (hx : R64 x) (hy : R64 y) : Int64.ofInt x / Int64.ofInt y = Int64.ofInt (aw_w64 (x.tdiv y)) := by
  apply Int64.toInt_inj.mp
  rw [aw_w64_o, Int64.toInt_div, aw_t64 hx, aw_t64 hy, Int64.toInt_ofInt]
theorem aw_rem {x y : Int} (hx : R32 x) (hy : R32 y) : Int32.ofInt x - Int32.ofInt x / Int32.ofInt y * Int32.ofInt y = Int32.ofInt (x.tmod y) := by
  rw [aw_div hx hy, aw_w32_o, ← Int32.ofInt_mul, ← Int32.ofInt_sub, Int.tmod_def, Int.mul_comm]
theorem aw_rem64 {x y : Int} (hx : R64 x) (hy : R64 y) : Int64.ofInt x - Int64.ofInt x / Int64.ofInt y * Int64.ofInt y = Int64.ofInt (x.tmod y) := by
  rw [aw_div64 hx hy, aw_w64_o, ← Int64.ofInt_mul, ← Int64.ofInt_sub, Int.tmod_def, Int.mul_comm]
theorem aw_tml {x : Int} (y : Int) (h : 0 ≤ x) : x.tmod y ≤ x := by
  obtain ⟨m, rfl⟩ := Int.eq_ofNat_of_zero_le h
  cases y with
  | ofNat n => exact Int.ofNat_le.mpr (Nat.mod_le m n)
  | negSucc n => exact Int.ofNat_le.mpr (Nat.mod_le m (n + 1))
theorem aw_tmr {x y lo hi : Int} (h : lo ≤ x ∧ x < hi) (h0 : lo ≤ 0) (h1 : 0 < hi) : lo ≤ x.tmod y ∧ x.tmod y < hi := by
  rcases Int.le_total 0 x with h2 | h2
  · have h3 := Int.tmod_nonneg y h2
    have h4 := aw_tml y h2
    omega
  · have h3 : 0 ≤ (-x).tmod y := Int.tmod_nonneg y (by omega)
    have h4 : (-x).tmod y ≤ -x := aw_tml y (by omega)
    rw [Int.neg_tmod] at h3 h4
    omega
theorem aw_cmp_o {x y : Int} (hx : R64 x) (hy : R64 y) : lg_cmp (Int64.ofInt x) (Int64.ofInt y) = Int32.ofInt (aw_cmp x y) := by
  unfold lg_cmp aw_cmp
  simp only [gt_iff_lt, Int64.lt_iff_toInt_lt, ← Int64.toInt_inj, aw_t64 hx, aw_t64 hy]
  rcases Int.lt_trichotomy x y with h | h | h
  · rw [if_neg (by omega), if_neg (by omega), if_pos h]; rfl
  · rw [if_neg (by omega), if_pos h, if_neg (by omega), if_pos h]; rfl
  · rw [if_pos h, if_neg (by omega), if_neg (by omega)]; rfl
theorem aw_cmp_r (x y : Int) : R32 (aw_cmp x y) := by
  unfold aw_cmp
  by_cases h : x < y
  · rw [if_pos h]; decide
  · by_cases h2 : x = y
    · rw [if_neg h, if_pos h2]; decide
    · rw [if_neg h, if_neg h2]; decide
theorem aw_i2l_o {x : Int} (hx : R32 x) : (Int32.ofInt x).toInt64 = Int64.ofInt x := by
  apply Int64.toInt_inj.mp
  rw [Int32.toInt_toInt64, aw_t32 hx, aw_t64 ⟨by omega, by omega⟩]
theorem aw_l2i_o {x : Int} (hx : R64 x) : (Int64.ofInt x).toInt32 = Int32.ofInt (aw_w32 x) := by
  apply Int32.toInt_inj.mp
  rw [aw_w32_o, Int64.toInt_toInt32, aw_t64 hx, Int32.toInt_ofInt]
  try rfl
theorem aw_lt_o {x y : Int} (hx : R32 x) (hy : R32 y) : Int32.ofInt x < Int32.ofInt y ↔ x < y := by
  rw [Int32.lt_iff_toInt_lt, aw_t32 hx, aw_t32 hy]
theorem aw_le_o {x y : Int} (hx : R32 x) (hy : R32 y) : Int32.ofInt x ≤ Int32.ofInt y ↔ x ≤ y := by
  rw [Int32.le_iff_toInt_le, aw_t32 hx, aw_t32 hy]
theorem aw_eq_o {x y : Int} (hx : R32 x) (hy : R32 y) : Int32.ofInt x = Int32.ofInt y ↔ x = y := by
  rw [← Int32.toInt_inj, aw_t32 hx, aw_t32 hy]
theorem aw_hi {K : Int → Nat × Int} {x : Int} {st : List aw_V} (h : ∀ w ∈ (0, x) :: st, aw_ok K w) : R32 x := h (0, x) List.mem_cons_self
theorem aw_hj {K : Int → Nat × Int} {x : Int} {st : List aw_V} (h : ∀ w ∈ (1, x) :: st, aw_ok K w) : R64 x := h (1, x) List.mem_cons_self
def aw_c2 (v : aw_V) : Bool := v.1 == 1 || decide (4 ≤ v.1)
theorem aw_cat (ad : Nat → Nat) (v : aw_V) : (aw_val ad v).category = if aw_c2 v = true then 2 else 1 := by
  obtain ⟨t, z⟩ := v
  match t with
  | 0 => rfl
  | 1 => rfl
  | 2 =>
    show (aw_val ad (2, z)).category = 1
    by_cases h : z ≤ 0
    · rw [show aw_val ad (2, z) = .null from if_pos h]; rfl
    · rw [show aw_val ad (2, z) = .ref (ad z.toNat) from if_neg h]; rfl
  | 3 =>
    show (aw_val ad (3, z)).category = 1
    by_cases h : z < 0
    · rw [show aw_val ad (3, z) = .ref (-z - 1).toNat from if_pos h]; rfl
    · rw [show aw_val ad (3, z) = .float (UInt32.ofNat z.toNat) from if_neg h]; rfl
  | n + 4 =>
    rw [show aw_c2 (n + 4, z) = true by simp [aw_c2]]
    rfl
theorem aw_cat1 {ad : Nat → Nat} {v : aw_V} (h : aw_c2 v = false) : (aw_val ad v).category = 1 := by rw [aw_cat, h]; rfl
theorem aw_cat2 {ad : Nat → Nat} {v : aw_V} (h : aw_c2 v = true) : (aw_val ad v).category = 2 := by rw [aw_cat, h]; rfl
def aw_lk (ls : List (Nat × aw_V)) (i : Nat) : Option aw_V := (ls.find? (fun q => q.1 == i)).map (fun q => q.2)
theorem aw_lk_mem {ls : List (Nat × aw_V)} {i : Nat} {v : aw_V} (h : aw_lk ls i = some v) : (i, v) ∈ ls := by
  unfold aw_lk at h
  cases hf : ls.find? (fun q => q.1 == i) with
  | none => rw [hf] at h; cases h
  | some q =>
    rw [hf] at h
    have h1 := List.find?_some hf
    have h2 := List.mem_of_find?_eq_some hf
    obtain ⟨a, b⟩ := q
    have e1 : a = i := by simpa using h1
    have e2 : b = v := by simpa using h
    rw [← e1, ← e2]
    exact h2
theorem aw_lat {ad : Nat → Nat} {lsA : Array Slot} {nL : Nat} {ls : List (Nat × aw_V)} (h : lv_has lsA nL (ls.map fun q => (q.1, aw_val ad q.2))) {i : Nat} {v : aw_V} (hl : aw_lk ls i = some v) : lsA[i]? = some (.val (aw_val ad v)) :=
  h.2.2 (i, aw_val ad v) (List.mem_map.mpr ⟨(i, v), aw_lk_mem hl, rfl⟩)
def aw_st1 (ls : List (Nat × aw_V)) (i : Nat) (v : aw_V) : List (Nat × aw_V) := (i, v) :: ls.filter (fun q => !(q.1 == i) && !(q.1 + 1 == i && aw_c2 q.2))
def aw_st2 (ls : List (Nat × aw_V)) (i : Nat) (v : aw_V) : List (Nat × aw_V) := (i, v) :: ls.filter (fun q => !(q.1 == i) && (!(q.1 == i + 1) && !(q.1 + 1 == i && aw_c2 q.2)))
theorem aw_cb (ad : Nat → Nat) (v : aw_V) : ((aw_val ad v).category == 2) = aw_c2 v := by
  rw [aw_cat]
  cases aw_c2 v <;> rfl
theorem aw_st1_map (ad : Nat → Nat) (ls : List (Nat × aw_V)) (i : Nat) (v : aw_V) : (i, aw_val ad v) :: (ls.map fun q => (q.1, aw_val ad q.2)).filter (fun q => !(q.1 == i) && !(q.1 + 1 == i && q.2.category == 2)) = (aw_st1 ls i v).map fun q => (q.1, aw_val ad q.2) := by
  unfold aw_st1
  rw [List.map_cons, List.filter_map]
  congr 2
  apply List.filter_congr
  intro q _
  simp only [Function.comp, aw_cb]
theorem aw_st2_map (ad : Nat → Nat) (ls : List (Nat × aw_V)) (i : Nat) (v : aw_V) : (i, aw_val ad v) :: (ls.map fun q => (q.1, aw_val ad q.2)).filter (fun q => !(q.1 == i) && (!(q.1 == i + 1) && !(q.1 + 1 == i && q.2.category == 2))) = (aw_st2 ls i v).map fun q => (q.1, aw_val ad q.2) := by
  unfold aw_st2
  rw [List.map_cons, List.filter_map]
  congr 2
  apply List.filter_congr
  intro q _
  simp only [Function.comp, aw_cb]
theorem aw_st1_ok {K : Int → Nat × Int} {ls : List (Nat × aw_V)} {i : Nat} {v : aw_V} (h : ∀ q ∈ ls, aw_ok K q.2) (hv : aw_ok K v) : ∀ q ∈ aw_st1 ls i v, aw_ok K q.2 :=
  List.forall_mem_cons.mpr ⟨hv, fun q hq => h q (List.mem_filter.mp hq).1⟩
theorem aw_st2_ok {K : Int → Nat × Int} {ls : List (Nat × aw_V)} {i : Nat} {v : aw_V} (h : ∀ q ∈ ls, aw_ok K q.2) (hv : aw_ok K v) : ∀ q ∈ aw_st2 ls i v, aw_ok K q.2 :=
  List.forall_mem_cons.mpr ⟨hv, fun q hq => h q (List.mem_filter.mp hq).1⟩
section AR
variable {G : aw_G} {own : String} {cc : ByteArray} {ret : Option FieldType} {nL d : Nat} {ini : Bool} {M0 M : aw_M} {Q : Option aw_V → aw_M → Prop} {X : String → aw_M → Prop} {c sl pc : Nat} {ls : List (Nat × aw_V)} {st : List aw_V}
theorem x_iconst {n : Int} (hd : decode cc pc = .ok (.iconst n, 1)) (hn : R32 n) (k : aw_W G own cc ret nL d ini M0 Q X c sl (pc + 1) ls ((0, n) :: st) M) : aw_W G own cc ret nL d ini M0 Q X c sl (pc) ls (st) M :=
  aw_st (st' := (0, n) :: st) (fun hx hb _ _ _ hso _ => ⟨aw_c1 hn hso, fun w => lv_iconst hx hb hd rfl w⟩) k
theorem x_bipush {n : Int} (hd : decode cc pc = .ok (.bipush n, 2)) (hn : -128 ≤ n ∧ n < 128) (k : aw_W G own cc ret nL d ini M0 Q X c sl (pc + 2) ls ((0, n) :: st) M) : aw_W G own cc ret nL d ini M0 Q X c sl (pc) ls (st) M :=
  aw_st (st' := (0, n) :: st) (fun hx hb _ _ _ hso _ => ⟨aw_c1 (show R32 n from ⟨by omega, by omega⟩) hso, fun w => lv_bipush hx hb hd (aw_r8 hn) w⟩) k
theorem x_sipush {n : Int} (hd : decode cc pc = .ok (.sipush n, 3)) (hn : -32768 ≤ n ∧ n < 32768) (k : aw_W G own cc ret nL d ini M0 Q X c sl (pc + 3) ls ((0, n) :: st) M) : aw_W G own cc ret nL d ini M0 Q X c sl (pc) ls (st) M :=
  aw_st (st' := (0, n) :: st) (fun hx hb _ _ _ hso _ => ⟨aw_c1 (show R32 n from ⟨by omega, by omega⟩) hso, fun w => lv_sipush hx hb hd (aw_r16 hn) w⟩) k
theorem x_lconst {n : Fin 2} {v : Int} (hd : decode cc pc = .ok (.lconst n, 1)) (hv : ((n : Nat) : Int) = v) (k : aw_W G own cc ret nL d ini M0 Q X c sl (pc + 1) ls ((1, v) :: st) M) : aw_W G own cc ret nL d ini M0 Q X c sl (pc) ls (st) M :=
  aw_st (st' := (1, v) :: st) (fun hx hb _ _ _ hso _ => ⟨aw_c1 (show R64 v from by have := n.isLt; constructor <;> omega) hso, fun w => lv_lconst hx hb hd (by subst hv; rfl) w⟩) k
theorem x_null (hd : decode cc pc = .ok (.aconst_null, 1)) (k : aw_W G own cc ret nL d ini M0 Q X c sl (pc + 1) ls ((2, 0) :: st) M) : aw_W G own cc ret nL d ini M0 Q X c sl (pc) ls (st) M :=
  aw_st (st' := (2, 0) :: st) (fun hx hb _ _ _ hso _ => ⟨aw_c1 (v := (2, 0)) aw_va0 hso, fun w => lv_null hx hb hd w⟩) k
theorem x_iload_n {n : Fin 4} {x : Int} (hd : decode cc pc = .ok (.iload_n n, 1)) (hl : aw_lk ls n.val = some (0, x)) (k : aw_W G own cc ret nL d ini M0 Q X c sl (pc + 1) ls ((0, x) :: st) M) : aw_W G own cc ret nL d ini M0 Q X c sl (pc) ls (st) M :=
  aw_st (st' := (0, x) :: st) (fun hx hb _ _ hlv hso hlo => ⟨aw_c1 (hlo _ (aw_lk_mem hl)) hso, fun w => lv_iload_n hx hb hd rfl (aw_lat hlv hl) w⟩) k
theorem x_iload {n : Nat} {x : Int} (hd : decode cc pc = .ok (.iload n, 2)) (hl : aw_lk ls n = some (0, x)) (k : aw_W G own cc ret nL d ini M0 Q X c sl (pc + 2) ls ((0, x) :: st) M) : aw_W G own cc ret nL d ini M0 Q X c sl (pc) ls (st) M :=
  aw_st (st' := (0, x) :: st) (fun hx hb _ _ hlv hso hlo => ⟨aw_c1 (hlo _ (aw_lk_mem hl)) hso, fun w => lv_iload hx hb hd (aw_lat hlv hl) w⟩) k
theorem x_lload_n {n : Fin 4} {x : Int} (hd : decode cc pc = .ok (.lload_n n, 1)) (hl : aw_lk ls n.val = some (1, x)) (k : aw_W G own cc ret nL d ini M0 Q X c sl (pc + 1) ls ((1, x) :: st) M) : aw_W G own cc ret nL d ini M0 Q X c sl (pc) ls (st) M :=
  aw_st (st' := (1, x) :: st) (fun hx hb _ _ hlv hso hlo => ⟨aw_c1 (hlo _ (aw_lk_mem hl)) hso, fun w => lv_lload_n hx hb hd rfl (aw_lat hlv hl) w⟩) k
theorem x_lload {n : Nat} {x : Int} (hd : decode cc pc = .ok (.lload n, 2)) (hl : aw_lk ls n = some (1, x)) (k : aw_W G own cc ret nL d ini M0 Q X c sl (pc + 2) ls ((1, x) :: st) M) : aw_W G own cc ret nL d ini M0 Q X c sl (pc) ls (st) M :=
  aw_st (st' := (1, x) :: st) (fun hx hb _ _ hlv hso hlo => ⟨aw_c1 (hlo _ (aw_lk_mem hl)) hso, fun w => lv_lload hx hb hd (aw_lat hlv hl) w⟩) k
theorem x_dload_n {n : Fin 4} {x : Int} (hd : decode cc pc = .ok (.dload_n n, 1)) (hl : aw_lk ls n.val = some (4, x)) (k : aw_W G own cc ret nL d ini M0 Q X c sl (pc + 1) ls ((4, x) :: st) M) : aw_W G own cc ret nL d ini M0 Q X c sl (pc) ls (st) M :=
  aw_st (st' := (4, x) :: st) (fun hx hb _ _ hlv hso hlo => ⟨aw_c1 (hlo _ (aw_lk_mem hl)) hso, fun w => lv_dload_n hx hb hd rfl (aw_lat hlv hl) w⟩) k
theorem x_dload {n : Nat} {x : Int} (hd : decode cc pc = .ok (.dload n, 2)) (hl : aw_lk ls n = some (4, x)) (k : aw_W G own cc ret nL d ini M0 Q X c sl (pc + 2) ls ((4, x) :: st) M) : aw_W G own cc ret nL d ini M0 Q X c sl (pc) ls (st) M :=
  aw_st (st' := (4, x) :: st) (fun hx hb _ _ hlv hso hlo => ⟨aw_c1 (hlo _ (aw_lk_mem hl)) hso, fun w => lv_dload hx hb hd (aw_lat hlv hl) w⟩) k
theorem x_aload_n {n : Fin 4} {x : Int} (hd : decode cc pc = .ok (.aload_n n, 1)) (hl : aw_lk ls n.val = some (2, x)) (k : aw_W G own cc ret nL d ini M0 Q X c sl (pc + 1) ls ((2, x) :: st) M) : aw_W G own cc ret nL d ini M0 Q X c sl (pc) ls (st) M := by
  refine aw_st (fun hx hb _ _ hlv hso hlo => ⟨aw_c1 (hlo _ (aw_lk_mem hl)) hso, fun w => ?_⟩) k
  have h1 := aw_lat hlv hl
  have w := w
  rw [List.map_cons] at w
  by_cases h : x ≤ 0
  · rw [show aw_val (aw_ad G) (2, x) = .null from if_pos h] at h1 w
    exact lv_aload_nN hx hb hd rfl h1 w
  · rw [show aw_val (aw_ad G) (2, x) = .ref (aw_ad G x.toNat) from if_neg h] at h1 w
    exact lv_aload_n hx hb hd rfl h1 w
theorem x_aload {n : Nat} {x : Int} (hd : decode cc pc = .ok (.aload n, 2)) (hl : aw_lk ls n = some (2, x)) (k : aw_W G own cc ret nL d ini M0 Q X c sl (pc + 2) ls ((2, x) :: st) M) : aw_W G own cc ret nL d ini M0 Q X c sl (pc) ls (st) M := by
  refine aw_st (fun hx hb _ _ hlv hso hlo => ⟨aw_c1 (hlo _ (aw_lk_mem hl)) hso, fun w => ?_⟩) k
  have h1 := aw_lat hlv hl
  have w := w
  rw [List.map_cons] at w
  by_cases h : x ≤ 0
  · rw [show aw_val (aw_ad G) (2, x) = .null from if_pos h] at h1 w
    exact lv_aloadN hx hb hd h1 w
  · rw [show aw_val (aw_ad G) (2, x) = .ref (aw_ad G x.toNat) from if_neg h] at h1 w
    exact lv_aload hx hb hd h1 w
theorem x_istore_n {n : Fin 4} {x : Int} {ls' : List (Nat × aw_V)} (hd : decode cc pc = .ok (.istore_n n, 1)) (hn : n.val < nL) (hl : aw_st1 ls n.val (0, x) = ls') (k : aw_W G own cc ret nL d ini M0 Q X c sl (pc + 1) ls' st M) : aw_W G own cc ret nL d ini M0 Q X c sl (pc) ls ((0, x) :: st) M := by
  subst hl
  intro p l e R s m args below meth cd H locs cells slots C hr he ho hz hc hs lsA hlv hlo hso
  refine lv_istore_n C.1 C.2.1 hd rfl hlv hn (aw_st1_map (aw_ad G) ls n.val (0, x)) fun lsB hB => ?_
  exact k _ C hr he ho hz hc hs lsB hB (aw_st1_ok hlo (aw_h hso)) (aw_t hso)
theorem x_istore {n : Nat} {x : Int} {ls' : List (Nat × aw_V)} (hd : decode cc pc = .ok (.istore n, 2)) (hn : n < nL) (hl : aw_st1 ls n (0, x) = ls') (k : aw_W G own cc ret nL d ini M0 Q X c sl (pc + 2) ls' st M) : aw_W G own cc ret nL d ini M0 Q X c sl (pc) ls ((0, x) :: st) M := by
  subst hl
  intro p l e R s m args below meth cd H locs cells slots C hr he ho hz hc hs lsA hlv hlo hso
  refine lv_istore C.1 C.2.1 hd  hlv hn (aw_st1_map (aw_ad G) ls n (0, x)) fun lsB hB => ?_
  exact k _ C hr he ho hz hc hs lsB hB (aw_st1_ok hlo (aw_h hso)) (aw_t hso)
theorem x_lstore_n {n : Fin 4} {x : Int} {ls' : List (Nat × aw_V)} (hd : decode cc pc = .ok (.lstore_n n, 1)) (hn : n.val + 1 < nL) (hl : aw_st2 ls n.val (1, x) = ls') (k : aw_W G own cc ret nL d ini M0 Q X c sl (pc + 1) ls' st M) : aw_W G own cc ret nL d ini M0 Q X c sl (pc) ls ((1, x) :: st) M := by
  subst hl
  intro p l e R s m args below meth cd H locs cells slots C hr he ho hz hc hs lsA hlv hlo hso
  refine lv_lstore_n C.1 C.2.1 hd rfl hlv hn (aw_st2_map (aw_ad G) ls n.val (1, x)) fun lsB hB => ?_
  exact k _ C hr he ho hz hc hs lsB hB (aw_st2_ok hlo (aw_h hso)) (aw_t hso)
theorem x_lstore {n : Nat} {x : Int} {ls' : List (Nat × aw_V)} (hd : decode cc pc = .ok (.lstore n, 2)) (hn : n + 1 < nL) (hl : aw_st2 ls n (1, x) = ls') (k : aw_W G own cc ret nL d ini M0 Q X c sl (pc + 2) ls' st M) : aw_W G own cc ret nL d ini M0 Q X c sl (pc) ls ((1, x) :: st) M := by
  subst hl
  intro p l e R s m args below meth cd H locs cells slots C hr he ho hz hc hs lsA hlv hlo hso
  refine lv_lstore C.1 C.2.1 hd  hlv hn (aw_st2_map (aw_ad G) ls n (1, x)) fun lsB hB => ?_
  exact k _ C hr he ho hz hc hs lsB hB (aw_st2_ok hlo (aw_h hso)) (aw_t hso)
theorem x_dstore_n {n : Fin 4} {x : Int} {ls' : List (Nat × aw_V)} (hd : decode cc pc = .ok (.dstore_n n, 1)) (hn : n.val + 1 < nL) (hl : aw_st2 ls n.val (4, x) = ls') (k : aw_W G own cc ret nL d ini M0 Q X c sl (pc + 1) ls' st M) : aw_W G own cc ret nL d ini M0 Q X c sl (pc) ls ((4, x) :: st) M := by
  subst hl
  intro p l e R s m args below meth cd H locs cells slots C hr he ho hz hc hs lsA hlv hlo hso
  refine lv_dstore_n C.1 C.2.1 hd rfl hlv hn (aw_st2_map (aw_ad G) ls n.val (4, x)) fun lsB hB => ?_
  exact k _ C hr he ho hz hc hs lsB hB (aw_st2_ok hlo (aw_h hso)) (aw_t hso)
theorem x_dstore {n : Nat} {x : Int} {ls' : List (Nat × aw_V)} (hd : decode cc pc = .ok (.dstore n, 2)) (hn : n + 1 < nL) (hl : aw_st2 ls n (4, x) = ls') (k : aw_W G own cc ret nL d ini M0 Q X c sl (pc + 2) ls' st M) : aw_W G own cc ret nL d ini M0 Q X c sl (pc) ls ((4, x) :: st) M := by
  subst hl
  intro p l e R s m args below meth cd H locs cells slots C hr he ho hz hc hs lsA hlv hlo hso
  refine lv_dstore C.1 C.2.1 hd  hlv hn (aw_st2_map (aw_ad G) ls n (4, x)) fun lsB hB => ?_
  exact k _ C hr he ho hz hc hs lsB hB (aw_st2_ok hlo (aw_h hso)) (aw_t hso)
theorem x_astore_n {n : Fin 4} {x : Int} {ls' : List (Nat × aw_V)} (hd : decode cc pc = .ok (.astore_n n, 1)) (hn : n.val < nL) (hl : aw_st1 ls n.val (2, x) = ls') (k : aw_W G own cc ret nL d ini M0 Q X c sl (pc + 1) ls' st M) : aw_W G own cc ret nL d ini M0 Q X c sl (pc) ls ((2, x) :: st) M := by
  subst hl
  intro p l e R s m args below meth cd H locs cells slots C hr he ho hz hc hs lsA hlv hlo hso
  have key := fun (lsB : Array Slot) (hB : lv_has lsB nL ((aw_st1 ls n.val (2, x)).map fun q => (q.1, aw_val (aw_ad G) q.2))) => k _ (e := e) (below := below) C hr he ho hz hc hs lsB hB (aw_st1_ok hlo (aw_h hso)) (aw_t hso)
  have hm := aw_st1_map (aw_ad G) ls n.val (2, x)
  rw [List.map_cons]
  by_cases h : x ≤ 0
  · rw [show aw_val (aw_ad G) (2, x) = .null from if_pos h] at hm ⊢
    exact lv_astore_nN C.1 C.2.1 hd rfl hlv hn hm key
  · rw [show aw_val (aw_ad G) (2, x) = .ref (aw_ad G x.toNat) from if_neg h] at hm ⊢
    exact lv_astore_n C.1 C.2.1 hd rfl hlv hn hm key
theorem x_astore {n : Nat} {x : Int} {ls' : List (Nat × aw_V)} (hd : decode cc pc = .ok (.astore n, 2)) (hn : n < nL) (hl : aw_st1 ls n (2, x) = ls') (k : aw_W G own cc ret nL d ini M0 Q X c sl (pc + 2) ls' st M) : aw_W G own cc ret nL d ini M0 Q X c sl (pc) ls ((2, x) :: st) M := by
  subst hl
  intro p l e R s m args below meth cd H locs cells slots C hr he ho hz hc hs lsA hlv hlo hso
  have key := fun (lsB : Array Slot) (hB : lv_has lsB nL ((aw_st1 ls n (2, x)).map fun q => (q.1, aw_val (aw_ad G) q.2))) => k _ (e := e) (below := below) C hr he ho hz hc hs lsB hB (aw_st1_ok hlo (aw_h hso)) (aw_t hso)
  have hm := aw_st1_map (aw_ad G) ls n (2, x)
  rw [List.map_cons]
  by_cases h : x ≤ 0
  · rw [show aw_val (aw_ad G) (2, x) = .null from if_pos h] at hm ⊢
    exact lv_astoreN C.1 C.2.1 hd  hlv hn hm key
  · rw [show aw_val (aw_ad G) (2, x) = .ref (aw_ad G x.toNat) from if_neg h] at hm ⊢
    exact lv_astore C.1 C.2.1 hd  hlv hn hm key
theorem x_iinc {i : Nat} {n x z : Int} {ls' : List (Nat × aw_V)} (hd : decode cc pc = .ok (.iinc i n, 3)) (hx : aw_lk ls i = some (0, x)) (hz : aw_w32 (x + n) = z) (hn : i < nL) (hl : aw_st1 ls i (0, z) = ls') (k : aw_W G own cc ret nL d ini M0 Q X c sl (pc + 3) ls' st M) : aw_W G own cc ret nL d ini M0 Q X c sl (pc) ls (st) M := by
  subst hl
  subst hz
  intro p l e R s m args below meth cd H locs cells slots C hr he ho hz hc hs lsA hlv hlo hso
  obtain ⟨j, hj⟩ := List.getElem?_of_mem (List.mem_map.mpr ⟨(i, (0, x)), aw_lk_mem hx, rfl⟩ : (i, aw_val (aw_ad G) (0, x)) ∈ ls.map fun q => (q.1, aw_val (aw_ad G) q.2))
  refine lv_iinc (k := j) (v := Int32.ofInt (aw_w32 (x + n))) C.1 C.2.1 hd hlv hj (by rw [aw_w32_o, Int32.ofInt_add]) hn (aw_st1_map (aw_ad G) ls i (0, aw_w32 (x + n))) fun lsB hB => ?_
  exact k _ C hr he ho hz hc hs lsB hB (aw_st1_ok hlo (aw_w32_r _)) hso
theorem x_iadd {x y z : Int} (hd : decode cc pc = .ok (.iadd, 1)) (hz : aw_w32 (x + y) = z) (k : aw_W G own cc ret nL d ini M0 Q X c sl (pc + 1) ls ((0, z) :: st) M) : aw_W G own cc ret nL d ini M0 Q X c sl (pc) ls ((0, y) :: (0, x) :: st) M := by
  subst hz
  exact aw_st (st' := (0, aw_w32 (x + y)) :: st) (fun hx hb _ _ _ hso _ => ⟨aw_c1 (v := (0, aw_w32 (x + y))) (aw_w32_r _) (aw_t (aw_t hso)), fun w => lv_iadd hx hb hd (by rw [← Int32.ofInt_add, ← aw_w32_o]; exact w)⟩) k
theorem x_isub {x y z : Int} (hd : decode cc pc = .ok (.isub, 1)) (hz : aw_w32 (x - y) = z) (k : aw_W G own cc ret nL d ini M0 Q X c sl (pc + 1) ls ((0, z) :: st) M) : aw_W G own cc ret nL d ini M0 Q X c sl (pc) ls ((0, y) :: (0, x) :: st) M := by
  subst hz
  exact aw_st (st' := (0, aw_w32 (x - y)) :: st) (fun hx hb _ _ _ hso _ => ⟨aw_c1 (v := (0, aw_w32 (x - y))) (aw_w32_r _) (aw_t (aw_t hso)), fun w => lv_isub hx hb hd (by rw [← Int32.ofInt_sub, ← aw_w32_o]; exact w)⟩) k
theorem x_imul {x y z : Int} (hd : decode cc pc = .ok (.imul, 1)) (hz : aw_w32 (x * y) = z) (k : aw_W G own cc ret nL d ini M0 Q X c sl (pc + 1) ls ((0, z) :: st) M) : aw_W G own cc ret nL d ini M0 Q X c sl (pc) ls ((0, y) :: (0, x) :: st) M := by
  subst hz
  exact aw_st (st' := (0, aw_w32 (x * y)) :: st) (fun hx hb _ _ _ hso _ => ⟨aw_c1 (v := (0, aw_w32 (x * y))) (aw_w32_r _) (aw_t (aw_t hso)), fun w => lv_imul hx hb hd (by rw [← Int32.ofInt_mul, ← aw_w32_o]; exact w)⟩) k
theorem x_iand {x y z : Int} (hd : decode cc pc = .ok (.iand, 1)) (hz : aw_and x y = z) (k : aw_W G own cc ret nL d ini M0 Q X c sl (pc + 1) ls ((0, z) :: st) M) : aw_W G own cc ret nL d ini M0 Q X c sl (pc) ls ((0, y) :: (0, x) :: st) M := by
  subst hz
  exact aw_st (st' := (0, aw_and x y) :: st) (fun hx hb _ _ _ hso _ => ⟨aw_c1 (v := (0, aw_and x y)) (aw_rt32 _) (aw_t (aw_t hso)), fun w => lv_iand hx hb hd (by rw [← aw_o32 (Int32.ofInt x &&& Int32.ofInt y)]; exact w)⟩) k
theorem x_ior {x y z : Int} (hd : decode cc pc = .ok (.ior, 1)) (hz : aw_or x y = z) (k : aw_W G own cc ret nL d ini M0 Q X c sl (pc + 1) ls ((0, z) :: st) M) : aw_W G own cc ret nL d ini M0 Q X c sl (pc) ls ((0, y) :: (0, x) :: st) M := by
  subst hz
  exact aw_st (st' := (0, aw_or x y) :: st) (fun hx hb _ _ _ hso _ => ⟨aw_c1 (v := (0, aw_or x y)) (aw_rt32 _) (aw_t (aw_t hso)), fun w => lv_ior hx hb hd (by rw [← aw_o32 (Int32.ofInt x ||| Int32.ofInt y)]; exact w)⟩) k
theorem x_ixor {x y z : Int} (hd : decode cc pc = .ok (.ixor, 1)) (hz : aw_xor x y = z) (k : aw_W G own cc ret nL d ini M0 Q X c sl (pc + 1) ls ((0, z) :: st) M) : aw_W G own cc ret nL d ini M0 Q X c sl (pc) ls ((0, y) :: (0, x) :: st) M := by
  subst hz
  exact aw_st (st' := (0, aw_xor x y) :: st) (fun hx hb _ _ _ hso _ => ⟨aw_c1 (v := (0, aw_xor x y)) (aw_rt32 _) (aw_t (aw_t hso)), fun w => lv_ixor hx hb hd (by rw [← aw_o32 (Int32.ofInt x ^^^ Int32.ofInt y)]; exact w)⟩) k
theorem x_ishl {x y z : Int} (hd : decode cc pc = .ok (.ishl, 1)) (hz : aw_shl x y = z) (k : aw_W G own cc ret nL d ini M0 Q X c sl (pc + 1) ls ((0, z) :: st) M) : aw_W G own cc ret nL d ini M0 Q X c sl (pc) ls ((0, y) :: (0, x) :: st) M := by
  subst hz
  exact aw_st (st' := (0, aw_shl x y) :: st) (fun hx hb _ _ _ hso _ => ⟨aw_c1 (v := (0, aw_shl x y)) (aw_rt32 _) (aw_t (aw_t hso)), fun w => lv_ishl hx hb hd (by rw [← aw_o32 (Int32.ofInt x <<< (Int32.ofInt y &&& 31))]; exact w)⟩) k
theorem x_ishr {x y z : Int} (hd : decode cc pc = .ok (.ishr, 1)) (hz : aw_shr x y = z) (k : aw_W G own cc ret nL d ini M0 Q X c sl (pc + 1) ls ((0, z) :: st) M) : aw_W G own cc ret nL d ini M0 Q X c sl (pc) ls ((0, y) :: (0, x) :: st) M := by
  subst hz
  exact aw_st (st' := (0, aw_shr x y) :: st) (fun hx hb _ _ _ hso _ => ⟨aw_c1 (v := (0, aw_shr x y)) (aw_rt32 _) (aw_t (aw_t hso)), fun w => lv_ishr hx hb hd (by rw [← aw_o32 (Int32.ofInt x >>> (Int32.ofInt y &&& 31))]; exact w)⟩) k
theorem x_iushr {x y z : Int} (hd : decode cc pc = .ok (.iushr, 1)) (hz : aw_ushr x y = z) (k : aw_W G own cc ret nL d ini M0 Q X c sl (pc + 1) ls ((0, z) :: st) M) : aw_W G own cc ret nL d ini M0 Q X c sl (pc) ls ((0, y) :: (0, x) :: st) M := by
  subst hz
  exact aw_st (st' := (0, aw_ushr x y) :: st) (fun hx hb _ _ _ hso _ => ⟨aw_c1 (v := (0, aw_ushr x y)) (aw_rt32 _) (aw_t (aw_t hso)), fun w => lv_iushr hx hb hd (aw_o32 _).symm w⟩) k
theorem x_idiv {x y z : Int} (hd : decode cc pc = .ok (.idiv, 1)) (hne : y ≠ 0) (hz : aw_w32 (x.tdiv y) = z) (k : aw_W G own cc ret nL d ini M0 Q X c sl (pc + 1) ls ((0, z) :: st) M) : aw_W G own cc ret nL d ini M0 Q X c sl (pc) ls ((0, y) :: (0, x) :: st) M := by
  subst hz
  exact aw_st (st' := (0, aw_w32 (x.tdiv y)) :: st) (fun hx hb _ _ _ hso _ => ⟨aw_c1 (v := (0, aw_w32 (x.tdiv y))) (aw_w32_r _) (aw_t (aw_t hso)), fun w => lv_idiv hx hb hd (aw_nz (aw_hi hso) hne) (by rw [aw_div (aw_hi (aw_t hso)) (aw_hi hso)]; exact w)⟩) k
theorem x_irem {x y z : Int} (hd : decode cc pc = .ok (.irem, 1)) (hne : y ≠ 0) (hz : x.tmod y = z) (k : aw_W G own cc ret nL d ini M0 Q X c sl (pc + 1) ls ((0, z) :: st) M) : aw_W G own cc ret nL d ini M0 Q X c sl (pc) ls ((0, y) :: (0, x) :: st) M := by
  subst hz
  exact aw_st (st' := (0, x.tmod y) :: st) (fun hx hb _ _ _ hso _ => ⟨aw_c1 (v := (0, x.tmod y)) (aw_tmr (lo := -2147483648) (hi := 2147483648) (aw_hi (aw_t hso)) (by decide) (by decide)) (aw_t (aw_t hso)), fun w => lv_irem hx hb hd (aw_nz (aw_hi hso) hne) (by rw [aw_rem (aw_hi (aw_t hso)) (aw_hi hso)]; exact w)⟩) k
theorem x_ineg {x z : Int} (hd : decode cc pc = .ok (.ineg, 1)) (hz : aw_w32 (-x) = z) (k : aw_W G own cc ret nL d ini M0 Q X c sl (pc + 1) ls ((0, z) :: st) M) : aw_W G own cc ret nL d ini M0 Q X c sl (pc) ls ((0, x) :: st) M := by
  subst hz
  exact aw_st (st' := (0, aw_w32 (-x)) :: st) (fun hx hb _ _ _ hso _ => ⟨aw_c1 (v := (0, aw_w32 (-x))) (aw_w32_r _) (aw_t hso), fun w => lv_ineg hx hb hd (by rw [← Int32.ofInt_neg, ← aw_w32_o]; exact w)⟩) k
theorem x_lneg {x z : Int} (hd : decode cc pc = .ok (.lneg, 1)) (hz : aw_w64 (-x) = z) (k : aw_W G own cc ret nL d ini M0 Q X c sl (pc + 1) ls ((1, z) :: st) M) : aw_W G own cc ret nL d ini M0 Q X c sl (pc) ls ((1, x) :: st) M := by
  subst hz
  exact aw_st (st' := (1, aw_w64 (-x)) :: st) (fun hx hb _ _ _ hso _ => ⟨aw_c1 (v := (1, aw_w64 (-x))) (aw_w64_r _) (aw_t hso), fun w => lv_lneg hx hb hd (by rw [← Int64.ofInt_neg, ← aw_w64_o]; exact w)⟩) k
theorem x_i2l {x z : Int} (hd : decode cc pc = .ok (.i2l, 1)) (hz : x = z) (k : aw_W G own cc ret nL d ini M0 Q X c sl (pc + 1) ls ((1, z) :: st) M) : aw_W G own cc ret nL d ini M0 Q X c sl (pc) ls ((0, x) :: st) M := by
  subst hz
  exact aw_st (st' := (1, x) :: st) (fun hx hb _ _ _ hso _ => ⟨aw_c1 (v := (1, x)) (show R64 x from by have h : R32 x := aw_h hso; constructor <;> omega) (aw_t hso), fun w => lv_i2l hx hb hd (aw_i2l_o (aw_hi hso)) w⟩) k
theorem x_l2i {x z : Int} (hd : decode cc pc = .ok (.l2i, 1)) (hz : aw_w32 x = z) (k : aw_W G own cc ret nL d ini M0 Q X c sl (pc + 1) ls ((0, z) :: st) M) : aw_W G own cc ret nL d ini M0 Q X c sl (pc) ls ((1, x) :: st) M := by
  subst hz
  exact aw_st (st' := (0, aw_w32 x) :: st) (fun hx hb _ _ _ hso _ => ⟨aw_c1 (v := (0, aw_w32 x)) (aw_w32_r _) (aw_t hso), fun w => lv_l2i hx hb hd (aw_l2i_o (aw_hj hso)) w⟩) k
theorem x_i2b {x z : Int} (hd : decode cc pc = .ok (.i2b, 1)) (hz : aw_i2b x = z) (k : aw_W G own cc ret nL d ini M0 Q X c sl (pc + 1) ls ((0, z) :: st) M) : aw_W G own cc ret nL d ini M0 Q X c sl (pc) ls ((0, x) :: st) M := by
  subst hz
  exact aw_st (st' := (0, aw_i2b x) :: st) (fun hx hb _ _ _ hso _ => ⟨aw_c1 (v := (0, aw_i2b x)) (aw_rt32 _) (aw_t hso), fun w => lv_i2b hx hb hd (aw_o32 _).symm w⟩) k
theorem x_i2s {x z : Int} (hd : decode cc pc = .ok (.i2s, 1)) (hz : aw_i2s x = z) (k : aw_W G own cc ret nL d ini M0 Q X c sl (pc + 1) ls ((0, z) :: st) M) : aw_W G own cc ret nL d ini M0 Q X c sl (pc) ls ((0, x) :: st) M := by
  subst hz
  exact aw_st (st' := (0, aw_i2s x) :: st) (fun hx hb _ _ _ hso _ => ⟨aw_c1 (v := (0, aw_i2s x)) (aw_rt32 _) (aw_t hso), fun w => lv_i2s hx hb hd (aw_o32 _).symm w⟩) k
theorem x_i2c {x z : Int} (hd : decode cc pc = .ok (.i2c, 1)) (hz : aw_i2c x = z) (k : aw_W G own cc ret nL d ini M0 Q X c sl (pc + 1) ls ((0, z) :: st) M) : aw_W G own cc ret nL d ini M0 Q X c sl (pc) ls ((0, x) :: st) M := by
  subst hz
  exact aw_st (st' := (0, aw_i2c x) :: st) (fun hx hb _ _ _ hso _ => ⟨aw_c1 (v := (0, aw_i2c x)) (aw_rt32 _) (aw_t hso), fun w => lv_i2c hx hb hd (aw_o32 _).symm w⟩) k
theorem x_ladd {x y z : Int} (hd : decode cc pc = .ok (.ladd, 1)) (hz : aw_w64 (x + y) = z) (k : aw_W G own cc ret nL d ini M0 Q X c sl (pc + 1) ls ((1, z) :: st) M) : aw_W G own cc ret nL d ini M0 Q X c sl (pc) ls ((1, y) :: (1, x) :: st) M := by
  subst hz
  exact aw_st (st' := (1, aw_w64 (x + y)) :: st) (fun hx hb _ _ _ hso _ => ⟨aw_c1 (v := (1, aw_w64 (x + y))) (aw_w64_r _) (aw_t (aw_t hso)), fun w => lv_ladd hx hb hd (by rw [← Int64.ofInt_add, ← aw_w64_o]; exact w)⟩) k
theorem x_lsub {x y z : Int} (hd : decode cc pc = .ok (.lsub, 1)) (hz : aw_w64 (x - y) = z) (k : aw_W G own cc ret nL d ini M0 Q X c sl (pc + 1) ls ((1, z) :: st) M) : aw_W G own cc ret nL d ini M0 Q X c sl (pc) ls ((1, y) :: (1, x) :: st) M := by
  subst hz
  exact aw_st (st' := (1, aw_w64 (x - y)) :: st) (fun hx hb _ _ _ hso _ => ⟨aw_c1 (v := (1, aw_w64 (x - y))) (aw_w64_r _) (aw_t (aw_t hso)), fun w => lv_lsub hx hb hd (by rw [← Int64.ofInt_sub, ← aw_w64_o]; exact w)⟩) k
theorem x_lmul {x y z : Int} (hd : decode cc pc = .ok (.lmul, 1)) (hz : aw_w64 (x * y) = z) (k : aw_W G own cc ret nL d ini M0 Q X c sl (pc + 1) ls ((1, z) :: st) M) : aw_W G own cc ret nL d ini M0 Q X c sl (pc) ls ((1, y) :: (1, x) :: st) M := by
  subst hz
  exact aw_st (st' := (1, aw_w64 (x * y)) :: st) (fun hx hb _ _ _ hso _ => ⟨aw_c1 (v := (1, aw_w64 (x * y))) (aw_w64_r _) (aw_t (aw_t hso)), fun w => lv_lmul hx hb hd (by rw [← Int64.ofInt_mul, ← aw_w64_o]; exact w)⟩) k
theorem x_land {x y z : Int} (hd : decode cc pc = .ok (.land, 1)) (hz : aw_land x y = z) (k : aw_W G own cc ret nL d ini M0 Q X c sl (pc + 1) ls ((1, z) :: st) M) : aw_W G own cc ret nL d ini M0 Q X c sl (pc) ls ((1, y) :: (1, x) :: st) M := by
  subst hz
  exact aw_st (st' := (1, aw_land x y) :: st) (fun hx hb _ _ _ hso _ => ⟨aw_c1 (v := (1, aw_land x y)) (aw_rt64 _) (aw_t (aw_t hso)), fun w => lv_land hx hb hd (by rw [← aw_o64 (Int64.ofInt x &&& Int64.ofInt y)]; exact w)⟩) k
theorem x_lor {x y z : Int} (hd : decode cc pc = .ok (.lor, 1)) (hz : aw_lor x y = z) (k : aw_W G own cc ret nL d ini M0 Q X c sl (pc + 1) ls ((1, z) :: st) M) : aw_W G own cc ret nL d ini M0 Q X c sl (pc) ls ((1, y) :: (1, x) :: st) M := by
  subst hz
  exact aw_st (st' := (1, aw_lor x y) :: st) (fun hx hb _ _ _ hso _ => ⟨aw_c1 (v := (1, aw_lor x y)) (aw_rt64 _) (aw_t (aw_t hso)), fun w => lv_lor hx hb hd (by rw [← aw_o64 (Int64.ofInt x ||| Int64.ofInt y)]; exact w)⟩) k
theorem x_lxor {x y z : Int} (hd : decode cc pc = .ok (.lxor, 1)) (hz : aw_lxor x y = z) (k : aw_W G own cc ret nL d ini M0 Q X c sl (pc + 1) ls ((1, z) :: st) M) : aw_W G own cc ret nL d ini M0 Q X c sl (pc) ls ((1, y) :: (1, x) :: st) M := by
  subst hz
  exact aw_st (st' := (1, aw_lxor x y) :: st) (fun hx hb _ _ _ hso _ => ⟨aw_c1 (v := (1, aw_lxor x y)) (aw_rt64 _) (aw_t (aw_t hso)), fun w => lv_lxor hx hb hd (by rw [← aw_o64 (Int64.ofInt x ^^^ Int64.ofInt y)]; exact w)⟩) k
theorem x_lshl {x y z : Int} (hd : decode cc pc = .ok (.lshl, 1)) (hz : aw_lshl x y = z) (k : aw_W G own cc ret nL d ini M0 Q X c sl (pc + 1) ls ((1, z) :: st) M) : aw_W G own cc ret nL d ini M0 Q X c sl (pc) ls ((0, y) :: (1, x) :: st) M := by
  subst hz
  exact aw_st (st' := (1, aw_lshl x y) :: st) (fun hx hb _ _ _ hso _ => ⟨aw_c1 (v := (1, aw_lshl x y)) (aw_rt64 _) (aw_t (aw_t hso)), fun w => lv_lshl hx hb hd (aw_o64 _).symm w⟩) k
theorem x_lshr {x y z : Int} (hd : decode cc pc = .ok (.lshr, 1)) (hz : aw_lshr x y = z) (k : aw_W G own cc ret nL d ini M0 Q X c sl (pc + 1) ls ((1, z) :: st) M) : aw_W G own cc ret nL d ini M0 Q X c sl (pc) ls ((0, y) :: (1, x) :: st) M := by
  subst hz
  exact aw_st (st' := (1, aw_lshr x y) :: st) (fun hx hb _ _ _ hso _ => ⟨aw_c1 (v := (1, aw_lshr x y)) (aw_rt64 _) (aw_t (aw_t hso)), fun w => lv_lshr hx hb hd (aw_o64 _).symm w⟩) k
theorem x_lushr {x y z : Int} (hd : decode cc pc = .ok (.lushr, 1)) (hz : aw_lushr x y = z) (k : aw_W G own cc ret nL d ini M0 Q X c sl (pc + 1) ls ((1, z) :: st) M) : aw_W G own cc ret nL d ini M0 Q X c sl (pc) ls ((0, y) :: (1, x) :: st) M := by
  subst hz
  exact aw_st (st' := (1, aw_lushr x y) :: st) (fun hx hb _ _ _ hso _ => ⟨aw_c1 (v := (1, aw_lushr x y)) (aw_rt64 _) (aw_t (aw_t hso)), fun w => lv_lushr hx hb hd (aw_o64 _).symm w⟩) k
theorem x_ldiv {x y z : Int} (hd : decode cc pc = .ok (.ldiv, 1)) (hne : y ≠ 0) (hz : aw_w64 (x.tdiv y) = z) (k : aw_W G own cc ret nL d ini M0 Q X c sl (pc + 1) ls ((1, z) :: st) M) : aw_W G own cc ret nL d ini M0 Q X c sl (pc) ls ((1, y) :: (1, x) :: st) M := by
  subst hz
  exact aw_st (st' := (1, aw_w64 (x.tdiv y)) :: st) (fun hx hb _ _ _ hso _ => ⟨aw_c1 (v := (1, aw_w64 (x.tdiv y))) (aw_w64_r _) (aw_t (aw_t hso)), fun w => lv_ldiv hx hb hd (aw_nz64 (aw_hj hso) hne) (by rw [aw_div64 (aw_hj (aw_t hso)) (aw_hj hso)]; exact w)⟩) k
theorem x_lrem {x y z : Int} (hd : decode cc pc = .ok (.lrem, 1)) (hne : y ≠ 0) (hz : x.tmod y = z) (k : aw_W G own cc ret nL d ini M0 Q X c sl (pc + 1) ls ((1, z) :: st) M) : aw_W G own cc ret nL d ini M0 Q X c sl (pc) ls ((1, y) :: (1, x) :: st) M := by
  subst hz
  exact aw_st (st' := (1, x.tmod y) :: st) (fun hx hb _ _ _ hso _ => ⟨aw_c1 (v := (1, x.tmod y)) (aw_tmr (lo := -9223372036854775808) (hi := 9223372036854775808) (aw_hj (aw_t hso)) (by decide) (by decide)) (aw_t (aw_t hso)), fun w => lv_lrem hx hb hd (aw_nz64 (aw_hj hso) hne) (by rw [aw_rem64 (aw_hj (aw_t hso)) (aw_hj hso)]; exact w)⟩) k
theorem x_lcmp {x y z : Int} (hd : decode cc pc = .ok (.lcmp, 1)) (hz : aw_cmp x y = z) (k : aw_W G own cc ret nL d ini M0 Q X c sl (pc + 1) ls ((0, z) :: st) M) : aw_W G own cc ret nL d ini M0 Q X c sl (pc) ls ((1, y) :: (1, x) :: st) M := by
  subst hz
  exact aw_st (st' := (0, aw_cmp x y) :: st) (fun hx hb _ _ _ hso _ => ⟨aw_c1 (v := (0, aw_cmp x y)) (aw_cmp_r x y) (aw_t (aw_t hso)), fun w => W.lcmp hx hb hd (by rw [aw_cmp_o (aw_hj (aw_t hso)) (aw_hj hso)]; exact w)⟩) k
theorem x_dup {a : aw_V} (hd : decode cc pc = .ok (.dup, 1)) (ha : aw_c2 a = false) (k : aw_W G own cc ret nL d ini M0 Q X c sl (pc + 1) ls (a :: a :: st) M) : aw_W G own cc ret nL d ini M0 Q X c sl (pc) ls (a :: st) M :=
  aw_st (fun hx hb _ _ _ hso _ => ⟨aw_c1 (aw_h hso) hso, fun w => lv_dup hx hb hd (aw_cat1 ha) w⟩) k
theorem x_pop {a : aw_V} (hd : decode cc pc = .ok (.pop, 1)) (ha : aw_c2 a = false) (k : aw_W G own cc ret nL d ini M0 Q X c sl (pc + 1) ls (st) M) : aw_W G own cc ret nL d ini M0 Q X c sl (pc) ls (a :: st) M :=
  aw_st (fun hx hb _ _ _ hso _ => ⟨aw_t hso, fun w => lv_pop hx hb hd (aw_cat1 ha) w⟩) k
theorem x_dup_x1 {a b : aw_V} (hd : decode cc pc = .ok (.dup_x1, 1)) (ha : aw_c2 a = false) (hb' : aw_c2 b = false) (k : aw_W G own cc ret nL d ini M0 Q X c sl (pc + 1) ls (a :: b :: a :: st) M) : aw_W G own cc ret nL d ini M0 Q X c sl (pc) ls (a :: b :: st) M :=
  aw_st (fun hx hb _ _ _ hso _ => ⟨aw_c1 (aw_h hso) (aw_c1 (aw_h (aw_t hso)) (aw_c1 (aw_h hso) (aw_t (aw_t hso)))), fun w => lv_dup_x1 hx hb hd (aw_cat1 ha) (aw_cat1 hb') w⟩) k
theorem x_dup_x2 {a b f : aw_V} (hd : decode cc pc = .ok (.dup_x2, 1)) (ha : aw_c2 a = false) (hb' : aw_c2 b = false) (hf : aw_c2 f = false) (k : aw_W G own cc ret nL d ini M0 Q X c sl (pc + 1) ls (a :: b :: f :: a :: st) M) : aw_W G own cc ret nL d ini M0 Q X c sl (pc) ls (a :: b :: f :: st) M :=
  aw_st (fun hx hb _ _ _ hso _ => ⟨aw_c1 (aw_h hso) (aw_c1 (aw_h (aw_t hso)) (aw_c1 (aw_h (aw_t (aw_t hso))) (aw_c1 (aw_h hso) (aw_t (aw_t (aw_t hso)))))), fun w => lv_dup_x2 hx hb hd (aw_cat1 ha) (aw_cat1 hb') (aw_cat1 hf) w⟩) k
theorem x_dup2 {a b : aw_V} (hd : decode cc pc = .ok (.dup2, 1)) (ha : aw_c2 a = false) (hb' : aw_c2 b = false) (k : aw_W G own cc ret nL d ini M0 Q X c sl (pc + 1) ls (a :: b :: a :: b :: st) M) : aw_W G own cc ret nL d ini M0 Q X c sl (pc) ls (a :: b :: st) M :=
  aw_st (fun hx hb _ _ _ hso _ => ⟨aw_c1 (aw_h hso) (aw_c1 (aw_h (aw_t hso)) hso), fun w => lv_dup2_11 hx hb hd (aw_cat1 ha) (aw_cat1 hb') w⟩) k
theorem x_dup2l {a : aw_V} (hd : decode cc pc = .ok (.dup2, 1)) (ha : aw_c2 a = true) (k : aw_W G own cc ret nL d ini M0 Q X c sl (pc + 1) ls (a :: a :: st) M) : aw_W G own cc ret nL d ini M0 Q X c sl (pc) ls (a :: st) M :=
  aw_st (fun hx hb _ _ _ hso _ => ⟨aw_c1 (aw_h hso) hso, fun w => lv_dup2_2 hx hb hd (aw_cat2 ha) w⟩) k
theorem x_if_lt {x off : Int} {tgt : Nat} (hd : decode cc pc = .ok (.ifCond .lt off, 3)) (ht : (pc : Int) + off = (tgt : Int)) (kt : x < 0 → aw_W G own cc ret nL d ini M0 Q X c sl (tgt) ls (st) M) (kf : ¬ x < 0 → aw_W G own cc ret nL d ini M0 Q X c sl (pc + 3) ls (st) M) : aw_W G own cc ret nL d ini M0 Q X c sl (pc) ls ((0, x) :: st) M := by
  intro p l e R s m args below meth cd H locs cells slots C hr he ho hz hc hs lsA hlv hlo hso
  exact lv_if_lt C.1 C.2.1 hd ht (fun q => kt ((aw_lt_o (aw_hi hso) (by decide : R32 0)).mp q) _ C hr he ho hz hc hs lsA hlv hlo (aw_t hso)) (fun q => kf (fun z => q ((aw_lt_o (aw_hi hso) (by decide : R32 0)).mpr z)) _ C hr he ho hz hc hs lsA hlv hlo (aw_t hso))
theorem x_if_ge {x off : Int} {tgt : Nat} (hd : decode cc pc = .ok (.ifCond .ge off, 3)) (ht : (pc : Int) + off = (tgt : Int)) (kt : 0 ≤ x → aw_W G own cc ret nL d ini M0 Q X c sl (tgt) ls (st) M) (kf : ¬ 0 ≤ x → aw_W G own cc ret nL d ini M0 Q X c sl (pc + 3) ls (st) M) : aw_W G own cc ret nL d ini M0 Q X c sl (pc) ls ((0, x) :: st) M := by
  intro p l e R s m args below meth cd H locs cells slots C hr he ho hz hc hs lsA hlv hlo hso
  exact lv_if_ge C.1 C.2.1 hd ht (fun q => kt ((aw_le_o (by decide : R32 0) (aw_hi hso)).mp q) _ C hr he ho hz hc hs lsA hlv hlo (aw_t hso)) (fun q => kf (fun z => q ((aw_le_o (by decide : R32 0) (aw_hi hso)).mpr z)) _ C hr he ho hz hc hs lsA hlv hlo (aw_t hso))
theorem x_if_gt {x off : Int} {tgt : Nat} (hd : decode cc pc = .ok (.ifCond .gt off, 3)) (ht : (pc : Int) + off = (tgt : Int)) (kt : 0 < x → aw_W G own cc ret nL d ini M0 Q X c sl (tgt) ls (st) M) (kf : ¬ 0 < x → aw_W G own cc ret nL d ini M0 Q X c sl (pc + 3) ls (st) M) : aw_W G own cc ret nL d ini M0 Q X c sl (pc) ls ((0, x) :: st) M := by
  intro p l e R s m args below meth cd H locs cells slots C hr he ho hz hc hs lsA hlv hlo hso
  exact lv_if_gt C.1 C.2.1 hd ht (fun q => kt ((aw_lt_o (by decide : R32 0) (aw_hi hso)).mp q) _ C hr he ho hz hc hs lsA hlv hlo (aw_t hso)) (fun q => kf (fun z => q ((aw_lt_o (by decide : R32 0) (aw_hi hso)).mpr z)) _ C hr he ho hz hc hs lsA hlv hlo (aw_t hso))
theorem x_if_le {x off : Int} {tgt : Nat} (hd : decode cc pc = .ok (.ifCond .le off, 3)) (ht : (pc : Int) + off = (tgt : Int)) (kt : x ≤ 0 → aw_W G own cc ret nL d ini M0 Q X c sl (tgt) ls (st) M) (kf : ¬ x ≤ 0 → aw_W G own cc ret nL d ini M0 Q X c sl (pc + 3) ls (st) M) : aw_W G own cc ret nL d ini M0 Q X c sl (pc) ls ((0, x) :: st) M := by
  intro p l e R s m args below meth cd H locs cells slots C hr he ho hz hc hs lsA hlv hlo hso
  exact lv_if_le C.1 C.2.1 hd ht (fun q => kt ((aw_le_o (aw_hi hso) (by decide : R32 0)).mp q) _ C hr he ho hz hc hs lsA hlv hlo (aw_t hso)) (fun q => kf (fun z => q ((aw_le_o (aw_hi hso) (by decide : R32 0)).mpr z)) _ C hr he ho hz hc hs lsA hlv hlo (aw_t hso))
theorem x_if_eq {x off : Int} {tgt : Nat} (hd : decode cc pc = .ok (.ifCond .eq off, 3)) (ht : (pc : Int) + off = (tgt : Int)) (kt : x = 0 → aw_W G own cc ret nL d ini M0 Q X c sl (tgt) ls (st) M) (kf : ¬ x = 0 → aw_W G own cc ret nL d ini M0 Q X c sl (pc + 3) ls (st) M) : aw_W G own cc ret nL d ini M0 Q X c sl (pc) ls ((0, x) :: st) M := by
  intro p l e R s m args below meth cd H locs cells slots C hr he ho hz hc hs lsA hlv hlo hso
  exact lv_if_eq C.1 C.2.1 hd ht (fun q => kt ((aw_eq_o (aw_hi hso) (by decide : R32 0)).mp q) _ C hr he ho hz hc hs lsA hlv hlo (aw_t hso)) (fun q => kf (fun z => q ((aw_eq_o (aw_hi hso) (by decide : R32 0)).mpr z)) _ C hr he ho hz hc hs lsA hlv hlo (aw_t hso))
theorem x_if_ne {x off : Int} {tgt : Nat} (hd : decode cc pc = .ok (.ifCond .ne off, 3)) (ht : (pc : Int) + off = (tgt : Int)) (kt : x ≠ 0 → aw_W G own cc ret nL d ini M0 Q X c sl (tgt) ls (st) M) (kf : ¬ x ≠ 0 → aw_W G own cc ret nL d ini M0 Q X c sl (pc + 3) ls (st) M) : aw_W G own cc ret nL d ini M0 Q X c sl (pc) ls ((0, x) :: st) M := by
  intro p l e R s m args below meth cd H locs cells slots C hr he ho hz hc hs lsA hlv hlo hso
  exact lv_if_ne C.1 C.2.1 hd ht (fun q => kt (fun z => q ((aw_eq_o (aw_hi hso) (by decide : R32 0)).mpr z)) _ C hr he ho hz hc hs lsA hlv hlo (aw_t hso)) (fun q => kf (fun z => z ((aw_eq_o (aw_hi hso) (by decide : R32 0)).mp q)) _ C hr he ho hz hc hs lsA hlv hlo (aw_t hso))
theorem x_icmp_lt {x y off : Int} {tgt : Nat} (hd : decode cc pc = .ok (.if_icmp .lt off, 3)) (ht : (pc : Int) + off = (tgt : Int)) (kt : x < y → aw_W G own cc ret nL d ini M0 Q X c sl (tgt) ls (st) M) (kf : ¬ x < y → aw_W G own cc ret nL d ini M0 Q X c sl (pc + 3) ls (st) M) : aw_W G own cc ret nL d ini M0 Q X c sl (pc) ls ((0, y) :: (0, x) :: st) M := by
  intro p l e R s m args below meth cd H locs cells slots C hr he ho hz hc hs lsA hlv hlo hso
  exact lv_icmp_lt C.1 C.2.1 hd ht (fun q => kt ((aw_lt_o (aw_hi (aw_t hso)) (aw_hi hso)).mp q) _ C hr he ho hz hc hs lsA hlv hlo (aw_t (aw_t hso))) (fun q => kf (fun z => q ((aw_lt_o (aw_hi (aw_t hso)) (aw_hi hso)).mpr z)) _ C hr he ho hz hc hs lsA hlv hlo (aw_t (aw_t hso)))
theorem x_icmp_ge {x y off : Int} {tgt : Nat} (hd : decode cc pc = .ok (.if_icmp .ge off, 3)) (ht : (pc : Int) + off = (tgt : Int)) (kt : y ≤ x → aw_W G own cc ret nL d ini M0 Q X c sl (tgt) ls (st) M) (kf : ¬ y ≤ x → aw_W G own cc ret nL d ini M0 Q X c sl (pc + 3) ls (st) M) : aw_W G own cc ret nL d ini M0 Q X c sl (pc) ls ((0, y) :: (0, x) :: st) M := by
  intro p l e R s m args below meth cd H locs cells slots C hr he ho hz hc hs lsA hlv hlo hso
  exact lv_icmp_ge C.1 C.2.1 hd ht (fun q => kt ((aw_le_o (aw_hi hso) (aw_hi (aw_t hso))).mp q) _ C hr he ho hz hc hs lsA hlv hlo (aw_t (aw_t hso))) (fun q => kf (fun z => q ((aw_le_o (aw_hi hso) (aw_hi (aw_t hso))).mpr z)) _ C hr he ho hz hc hs lsA hlv hlo (aw_t (aw_t hso)))
theorem x_icmp_gt {x y off : Int} {tgt : Nat} (hd : decode cc pc = .ok (.if_icmp .gt off, 3)) (ht : (pc : Int) + off = (tgt : Int)) (kt : y < x → aw_W G own cc ret nL d ini M0 Q X c sl (tgt) ls (st) M) (kf : ¬ y < x → aw_W G own cc ret nL d ini M0 Q X c sl (pc + 3) ls (st) M) : aw_W G own cc ret nL d ini M0 Q X c sl (pc) ls ((0, y) :: (0, x) :: st) M := by
  intro p l e R s m args below meth cd H locs cells slots C hr he ho hz hc hs lsA hlv hlo hso
  exact lv_icmp_gt C.1 C.2.1 hd ht (fun q => kt ((aw_lt_o (aw_hi hso) (aw_hi (aw_t hso))).mp q) _ C hr he ho hz hc hs lsA hlv hlo (aw_t (aw_t hso))) (fun q => kf (fun z => q ((aw_lt_o (aw_hi hso) (aw_hi (aw_t hso))).mpr z)) _ C hr he ho hz hc hs lsA hlv hlo (aw_t (aw_t hso)))
theorem x_icmp_le {x y off : Int} {tgt : Nat} (hd : decode cc pc = .ok (.if_icmp .le off, 3)) (ht : (pc : Int) + off = (tgt : Int)) (kt : x ≤ y → aw_W G own cc ret nL d ini M0 Q X c sl (tgt) ls (st) M) (kf : ¬ x ≤ y → aw_W G own cc ret nL d ini M0 Q X c sl (pc + 3) ls (st) M) : aw_W G own cc ret nL d ini M0 Q X c sl (pc) ls ((0, y) :: (0, x) :: st) M := by
  intro p l e R s m args below meth cd H locs cells slots C hr he ho hz hc hs lsA hlv hlo hso
  exact lv_icmp_le C.1 C.2.1 hd ht (fun q => kt ((aw_le_o (aw_hi (aw_t hso)) (aw_hi hso)).mp q) _ C hr he ho hz hc hs lsA hlv hlo (aw_t (aw_t hso))) (fun q => kf (fun z => q ((aw_le_o (aw_hi (aw_t hso)) (aw_hi hso)).mpr z)) _ C hr he ho hz hc hs lsA hlv hlo (aw_t (aw_t hso)))
theorem x_icmp_eq {x y off : Int} {tgt : Nat} (hd : decode cc pc = .ok (.if_icmp .eq off, 3)) (ht : (pc : Int) + off = (tgt : Int)) (kt : x = y → aw_W G own cc ret nL d ini M0 Q X c sl (tgt) ls (st) M) (kf : ¬ x = y → aw_W G own cc ret nL d ini M0 Q X c sl (pc + 3) ls (st) M) : aw_W G own cc ret nL d ini M0 Q X c sl (pc) ls ((0, y) :: (0, x) :: st) M := by
  intro p l e R s m args below meth cd H locs cells slots C hr he ho hz hc hs lsA hlv hlo hso
  exact lv_icmp_eq C.1 C.2.1 hd ht (fun q => kt ((aw_eq_o (aw_hi (aw_t hso)) (aw_hi hso)).mp q) _ C hr he ho hz hc hs lsA hlv hlo (aw_t (aw_t hso))) (fun q => kf (fun z => q ((aw_eq_o (aw_hi (aw_t hso)) (aw_hi hso)).mpr z)) _ C hr he ho hz hc hs lsA hlv hlo (aw_t (aw_t hso)))
theorem x_icmp_ne {x y off : Int} {tgt : Nat} (hd : decode cc pc = .ok (.if_icmp .ne off, 3)) (ht : (pc : Int) + off = (tgt : Int)) (kt : x ≠ y → aw_W G own cc ret nL d ini M0 Q X c sl (tgt) ls (st) M) (kf : ¬ x ≠ y → aw_W G own cc ret nL d ini M0 Q X c sl (pc + 3) ls (st) M) : aw_W G own cc ret nL d ini M0 Q X c sl (pc) ls ((0, y) :: (0, x) :: st) M := by
  intro p l e R s m args below meth cd H locs cells slots C hr he ho hz hc hs lsA hlv hlo hso
  exact lv_icmp_ne C.1 C.2.1 hd ht (fun q => kt (fun z => q ((aw_eq_o (aw_hi (aw_t hso)) (aw_hi hso)).mpr z)) _ C hr he ho hz hc hs lsA hlv hlo (aw_t (aw_t hso))) (fun q => kf (fun z => z ((aw_eq_o (aw_hi (aw_t hso)) (aw_hi hso)).mp q)) _ C hr he ho hz hc hs lsA hlv hlo (aw_t (aw_t hso)))
theorem x_goto {off : Int} {tgt : Nat} (hd : decode cc pc = .ok (.goto off, 3)) (ht : (pc : Int) + off = (tgt : Int)) (k : aw_W G own cc ret nL d ini M0 Q X c sl (tgt) ls (st) M) : aw_W G own cc ret nL d ini M0 Q X c sl (pc) ls (st) M :=
  aw_st (fun hx hb _ _ _ hso _ => ⟨hso, fun w => lv_goto hx hb hd ht w⟩) k
theorem x_ifnull {x off : Int} {tgt : Nat} (hd : decode cc pc = .ok (.ifnull off, 3)) (ht : (pc : Int) + off = (tgt : Int)) (kt : x = 0 → aw_W G own cc ret nL d ini M0 Q X c sl (tgt) ls (st) M) (kf : ¬ x = 0 → aw_W G own cc ret nL d ini M0 Q X c sl (pc + 3) ls (st) M) : aw_W G own cc ret nL d ini M0 Q X c sl (pc) ls ((2, x) :: st) M := by
  intro p l e R s m args below meth cd H locs cells slots C hr he ho hz hc hs lsA hlv hlo hso
  have h0 : 0 ≤ x := (aw_h hso : aw_va _ x).1
  rw [List.map_cons]
  by_cases h : x ≤ 0
  · rw [show aw_val (aw_ad G) (2, x) = .null from if_pos h]
    exact lv_ifnullN C.1 C.2.1 hd ht (kt (by omega) _ C hr he ho hz hc hs lsA hlv hlo (aw_t hso))
  · rw [show aw_val (aw_ad G) (2, x) = .ref (aw_ad G x.toNat) from if_neg h]
    exact lv_ifnull C.1 C.2.1 hd (kf (by omega) _ C hr he ho hz hc hs lsA hlv hlo (aw_t hso))
theorem x_ifnonnull {x off : Int} {tgt : Nat} (hd : decode cc pc = .ok (.ifnonnull off, 3)) (ht : (pc : Int) + off = (tgt : Int)) (kt : x ≠ 0 → aw_W G own cc ret nL d ini M0 Q X c sl (tgt) ls (st) M) (kf : ¬ x ≠ 0 → aw_W G own cc ret nL d ini M0 Q X c sl (pc + 3) ls (st) M) : aw_W G own cc ret nL d ini M0 Q X c sl (pc) ls ((2, x) :: st) M := by
  intro p l e R s m args below meth cd H locs cells slots C hr he ho hz hc hs lsA hlv hlo hso
  have h0 : 0 ≤ x := (aw_h hso : aw_va _ x).1
  rw [List.map_cons]
  by_cases h : x ≤ 0
  · rw [show aw_val (aw_ad G) (2, x) = .null from if_pos h]
    exact lv_ifnonnullN C.1 C.2.1 hd (kf (by omega) _ C hr he ho hz hc hs lsA hlv hlo (aw_t hso))
  · rw [show aw_val (aw_ad G) (2, x) = .ref (aw_ad G x.toNat) from if_neg h]
    exact lv_ifnonnull C.1 C.2.1 hd ht (kt (by omega) _ C hr he ho hz hc hs lsA hlv hlo (aw_t hso))
theorem x_tin {dflt lo hi : Int} {offs : Array Int} {len : Nat} {x off : Int} {tgt : Nat} (hd : decode cc pc = .ok (.tableswitch dflt lo hi offs, len)) (h1 : lo ≤ x) (h2 : x ≤ hi) (hof : offs[(x - lo).toNat]? = some off) (ht : (pc : Int) + off = (tgt : Int)) (k : aw_W G own cc ret nL d ini M0 Q X c sl (tgt) ls (st) M) : aw_W G own cc ret nL d ini M0 Q X c sl (pc) ls ((0, x) :: st) M :=
  aw_st (fun hx hb _ _ _ hso _ => ⟨aw_t hso, fun w => lv_tableIn hx hb hd (by rw [aw_t32 (aw_h hso)]; omega) (by rw [aw_t32 (aw_h hso)]; omega) (by rw [aw_t32 (aw_h hso)]; exact hof) ht w⟩) k
theorem x_tout {dflt lo hi : Int} {offs : Array Int} {len : Nat} {x : Int} {tgt : Nat} (hd : decode cc pc = .ok (.tableswitch dflt lo hi offs, len)) (h : x < lo ∨ hi < x) (ht : (pc : Int) + dflt = (tgt : Int)) (k : aw_W G own cc ret nL d ini M0 Q X c sl (tgt) ls (st) M) : aw_W G own cc ret nL d ini M0 Q X c sl (pc) ls ((0, x) :: st) M :=
  aw_st (fun hx hb _ _ _ hso _ => ⟨aw_t hso, fun w => lv_tableOut hx hb hd (by rw [aw_t32 (aw_h hso)]; exact h) ht w⟩) k
theorem x_lookup {dflt : Int} {ps : Array (Int × Int)} {len : Nat} {x off : Int} {tgt : Nat} (hd : decode cc pc = .ok (.lookupswitch dflt ps, len)) (hp : (ps.toList.zip (ps.toList.drop 1)).all (fun (a, next) => a.1 < next.1) = true) (hof : Op.lookupswitch.offset ps.toList dflt x = off) (ht : (pc : Int) + off = (tgt : Int)) (k : aw_W G own cc ret nL d ini M0 Q X c sl (tgt) ls (st) M) : aw_W G own cc ret nL d ini M0 Q X c sl (pc) ls ((0, x) :: st) M :=
  aw_st (fun hx hb _ _ _ hso _ => ⟨aw_t hso, fun w => lv_lookup hx hb hd hp (by rw [aw_t32 (aw_h hso)]; exact hof) ht w⟩) k
theorem x_ldc2 {index : Nat} {v : Int64} {z : Int} (hd : decode cc pc = .ok (.ldc2_w index, 3)) (hw : Cond.constantLong own index v ∈ lw_all) (hz : v.toInt = z) (k : aw_W G own cc ret nL d ini M0 Q X c sl (pc + 3) ls ((1, z) :: st) M) : aw_W G own cc ret nL d ini M0 Q X c sl (pc) ls (st) M := by
  subst hz
  exact aw_st (st' := (1, v.toInt) :: st) (fun hx hb hown hts _ hso _ => ⟨aw_c1 (v := (1, v.toInt)) (aw_rt64 _) hso, fun w => W.ldc2 hx hb hown (hts _ hw) rfl hd (by rw [List.map_cons, show aw_val (aw_ad G) (1, v.toInt) = .long v from congrArg Value.long (aw_o64 v)] at w; exact w)⟩) k
theorem x_ldc {index : Nat} {v : Int32} {z : Int} (hd : decode cc pc = .ok (.ldc index, 2)) (hw : Cond.constant own index v ∈ lw_all) (hz : v.toInt = z) (k : aw_W G own cc ret nL d ini M0 Q X c sl (pc + 2) ls ((0, z) :: st) M) : aw_W G own cc ret nL d ini M0 Q X c sl (pc) ls (st) M := by
  subst hz
  exact aw_st (st' := (0, v.toInt) :: st) (fun hx hb hown hts _ hso _ => ⟨aw_c1 (v := (0, v.toInt)) (aw_rt32 _) hso, fun w => W.ldc hx hb hown (hts _ hw) rfl hd (by rw [List.map_cons, show aw_val (aw_ad G) (0, v.toInt) = .int v from congrArg Value.int (aw_o32 v)] at w; exact w)⟩) k
theorem x_ldcw {index : Nat} {v : Int32} {z : Int} (hd : decode cc pc = .ok (.ldc_w index, 3)) (hw : Cond.constant own index v ∈ lw_all) (hz : v.toInt = z) (k : aw_W G own cc ret nL d ini M0 Q X c sl (pc + 3) ls ((0, z) :: st) M) : aw_W G own cc ret nL d ini M0 Q X c sl (pc) ls (st) M := by
  subst hz
  exact aw_st (st' := (0, v.toInt) :: st) (fun hx hb hown hts _ hso _ => ⟨aw_c1 (v := (0, v.toInt)) (aw_rt32 _) hso, fun w => lv_ldcw hx hb hown (hts _ hw) hd (by rw [List.map_cons, show aw_val (aw_ad G) (0, v.toInt) = .int v from congrArg Value.int (aw_o32 v)] at w; exact w)⟩) k
end AR
