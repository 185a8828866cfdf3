/-! arrays, new cells, ends, calls -/
set_option maxRecDepth 100000
theorem aw_clamp {i : Int} (h : R32 i) : (Int32.ofInt i).toNatClampNeg = i.toNat := by
  show (Int32.ofInt i).toInt.toNat = _
  rw [aw_t32 h]
section AI
variable {G : aw_G} {own : String} {cc : ByteArray} {ret : Option FieldType} {nL d : Nat} {ini : Bool} {M0 M : aw_M} {Q : Option aw_V → aw_M → Prop} {X : String → aw_M → Prop} {c sl pc : Nat} {ls : List (Nat × aw_V)} {st : List aw_V}
theorem aw_arr {H : Heap} (hr : aw_rep G M H) {x n : Int} {t : Nat} {ty : FieldType} (hk : aw_k M x = (1000 + t, n)) (ht : aw_ats[t]? = some ty) (hx : 4096 ≤ x) :
    ∃ k : Nat, x = (k : Int) ∧ 0 < k ∧ (k : Int) < aw_n M ∧ 0 ≤ n ∧ n < 2147483648 ∧ H[aw_ad G k]? = some (arrV (G.2.2.1 t) n.toNat (fun j => aw_val (aw_ad G) (aw_tg ty, aw_d M x j))) ∧ ∀ j : Int, 0 ≤ j → j < n → aw_okT (aw_k M) ty (aw_d M x j) := by
  have h9 : 1000 + t ≠ 9999 := by
    have h1 : t < aw_ats.length := (List.getElem?_eq_some_iff.mp ht).1
    have h2 : aw_ats.length ≤ 200 := by decide
    omega
  obtain ⟨k, rfl, h0, h1⟩ := aw_cel hr (aw_kc hk h9)
  obtain ⟨a, b, c1, e1⟩ := (hr.2.2.2.1 k (by show 4096 ≤ k; omega) h1).2 t n ty hk ht
  exact ⟨k, rfl, h0, h1, a, b, c1, e1⟩
/-- any array, a constant too -/
theorem aw_arrW {p : Program} {l : Launch} {R : Room} {s : State} {m : MethodId} {args : Array Value} {meth : Method} {cd : Code} {H : Heap} (C : aw_Cx G own cc ret nL d ini p l R s m args meth cd) (ho : aw_old G s.heap H) (hr : aw_rep G M H) {x n : Int} {t : Nat} {ty : FieldType} (hk : aw_k M x = (1000 + t, n)) (ht : aw_ats[t]? = some ty) :
    ∃ k : Nat, x = (k : Int) ∧ 0 < k ∧ (k : Int) < aw_n M ∧ 0 ≤ n ∧ n < 2147483648 ∧ (∃ cell : Cell, H[aw_ad G k]? = some cell ∧ (s.isArrayOf cell ty ∧ cell.cls = G.2.2.1 t) ∧ cell.vm ≠ .unknown ∧ n.toNat ≤ cell.slots.size ∧ cell.slots.size.toInt32 = Int32.ofInt n ∧ ∀ j : Nat, (j : Int) < n → cell.slots[j]? = some (aw_val (aw_ad G) (aw_tg ty, aw_d M x j))) ∧ ∀ j : Int, 0 ≤ j → j < n → aw_okT (aw_k M) ty (aw_d M x j) := by
  have hK := C.2.2.2.2.2.2.2.1
  have hZ := C.2.2.2.2.2.2.2.2.2.2.2.2.2.2
  have h9 : 1000 + t ≠ 9999 := by
    have h1 : t < aw_ats.length := (List.getElem?_eq_some_iff.mp ht).1
    have h2 : aw_ats.length ≤ 200 := by decide
    omega
  obtain ⟨k, rfl, h0, h1⟩ := aw_cel hr (aw_kc hk h9)
  rcases Nat.lt_or_ge k aw_NC with hlt | hge
  · obtain ⟨c1, c2⟩ := hr.2.2.1.2 k hlt
    have hk2 : ga_K (k : Int) = (1000 + t, n) := by rw [← c1]; exact hk
    obtain ⟨b1, b2, f, b3, b4, cell2, b5, b6, b7⟩ := hZ.1.2.1 k t n ty hlt hk2 ht
    have hqq : ∀ a : Nat, a < s.heap.size → ¬ aw_A G a → H[a]? = s.heap[a]? := fun a _ ha => ho a (Nat.lt_of_not_le ha)
    obtain ⟨cell, g1, g2, g3, g4, g5, g6, -⟩ := b4.kept hqq
    have hcc : cell2 = cell := Option.some.inj (b5.symm.trans ((hqq _ (Array.getElem?_eq_some_iff.mp b5).1 b7).symm.trans g1))
    refine ⟨k, rfl, h0, h1, b1, b2, ⟨cell, g1, ⟨g2, hcc ▸ b6⟩, g3, g4, ?_, fun j hj => ?_⟩, fun j hj0 hj => ?_⟩
    · rw [g5, ← Int32.ofInt_eq_ofNat, show ((n.toNat : Nat) : Int) = n by omega]
    · rw [g6 j (by omega), c2 j (f j) (b3 j hj).1]
    · obtain ⟨i, rfl⟩ := Int.eq_ofNat_of_zero_le hj0
      rw [c2 i (f i) (b3 i hj).1]
      exact aw_okT_mono (aw_cnK hr.2.2.1.2) (b3 i hj).2
  · obtain ⟨a, b, c1, e1⟩ := (hr.2.2.2.1 k hge h1).2 t n ty hk ht
    refine ⟨k, rfl, h0, h1, a, b, ⟨_, c1, ⟨(hK.2.1 t ty ht).1 _ _, rfl⟩, (fun q => by cases q), by rw [arrV_size]; exact Nat.le_refl _, ?_, fun j hj => arrV_read _ _ (by omega)⟩, e1⟩
    rw [arrV_size]
    show Int32.ofNat n.toNat = _
    rw [← Int32.ofInt_eq_ofNat, show ((n.toNat : Nat) : Int) = n by omega]
theorem aw_ibW {i n : Int} {cell : Cell} (h : R32 i) (h0 : 0 ≤ i) (h1 : i < n) (hs : n.toNat ≤ cell.slots.size) : ¬ (Int32.ofInt i < 0 ∨ cell.slots.size ≤ (Int32.ofInt i).toNatClampNeg) := by
  rw [aw_clamp h]
  rintro (h2 | h2)
  · have h3 := (aw_lt_o h (by decide : R32 0)).mp h2
    omega
  · omega
theorem aw_ib {i n : Int} {cA : ClassId} {f : Nat → Value} (h : R32 i) (h0 : 0 ≤ i) (h1 : i < n) : ¬ (Int32.ofInt i < 0 ∨ (arrV cA n.toNat f).slots.size ≤ (Int32.ofInt i).toNatClampNeg) := by
  rw [arrV_size, aw_clamp h]
  rintro (h2 | h2)
  · have h3 := (aw_lt_o h (by decide : R32 0)).mp h2
    omega
  · omega
theorem x_alen {x n : Int} {t : Nat} {ty : FieldType} (hd : decode cc pc = .ok (.arraylength, 1)) (hk : aw_k M x = (1000 + t, n)) (ht : aw_ats[t]? = some ty)
    (k : aw_W G own cc ret nL d ini M0 Q X c sl (pc + 1) ls ((0, n) :: st) M) : aw_W G own cc ret nL d ini M0 Q X c sl pc ls ((2, x) :: st) M := by
  intro p l e R s m args below meth cd H locs cells slots C hr he ho hz hc hs lsA hlv hlo hso
  obtain ⟨k0, rfl, h0, h1, hn0, hn1, ⟨cell, hcell, ⟨hao, -⟩, hun, hsz, hsi, hsl⟩, hok⟩ := aw_arrW C ho hr hk ht
  rw [List.map_cons, aw_vref h0]
  exact W.alen (n := Int32.ofInt n) C.1 C.2.1 hcell hao hsi rfl rfl hd (k _ C hr he ho hz hc hs lsA hlv hlo (aw_c1 (show R32 n from ⟨by omega, by omega⟩) (aw_t hso)))
theorem aw_aok {x n : Int} {t : Nat} {ty : FieldType} (hk : aw_k M x = (1000 + t, n)) (ht : aw_ats[t]? = some ty)
    (k : (∀ j : Int, 0 ≤ j → j < n → aw_okT (aw_k M) ty (aw_d M x j)) → 0 ≤ n ∧ n < 2147483648 → aw_W G own cc ret nL d ini M0 Q X c sl pc ls st M) : aw_W G own cc ret nL d ini M0 Q X c sl pc ls st M := by
  intro p l e R s m args below meth cd H locs cells slots C hr he ho hz hc hs lsA hlv hlo hso
  obtain ⟨k0, rfl, h0, h1, hn0, hn1, hcell, hok⟩ := aw_arrW C ho hr hk ht
  exact k hok ⟨hn0, hn1⟩ _ C hr he ho hz hc hs lsA hlv hlo hso
theorem aw_fok {x : Int} {cN : Nat} {q : aw_Q} (hk : aw_k M x = (cN, 0)) (hq : aw_cls[cN]? = some q)
    (k : (∀ j : Nat, j < q.2.length → aw_okT (aw_k M) (aw_ty cN j) (aw_d M x j)) → aw_W G own cc ret nL d ini M0 Q X c sl pc ls st M) : aw_W G own cc ret nL d ini M0 Q X c sl pc ls st M := by
  intro p l e R s m args below meth cd H locs cells slots C hr he ho hz hc hs lsA hlv hlo hso
  obtain ⟨k0, rfl, h0, h1, hcell, hok⟩ := aw_objW C ho hr hk hq
  exact k hok _ C hr he ho hz hc hs lsA hlv hlo hso
theorem aw_sok (k : (∀ v ∈ st, aw_ok (aw_k M) v) → (∀ q ∈ ls, aw_ok (aw_k M) q.2) → aw_W G own cc ret nL d ini M0 Q X c sl pc ls st M) : aw_W G own cc ret nL d ini M0 Q X c sl pc ls st M := by
  intro p l e R s m args below meth cd H locs cells slots C hr he ho hz hc hs lsA hlv hlo hso
  exact k hso hlo _ C hr he ho hz hc hs lsA hlv hlo hso
theorem aw_mok (k : 4096 ≤ aw_n M → (∀ x : Int, x ≤ 0 ∨ aw_n M ≤ x → aw_k M x = (9999, 0)) → aw_ext M0 M → aw_W G own cc ret nL d ini M0 Q X c sl pc ls st M) : aw_W G own cc ret nL d ini M0 Q X c sl pc ls st M := by
  intro p l e R s m args below meth cd H locs cells slots C hr he ho hz hc hs lsA hlv hlo hso
  exact k hr.1 hr.2.2.2.2 he _ C hr he ho hz hc hs lsA hlv hlo hso
theorem x_iald {x i n v : Int} (hd : decode cc pc = .ok (.iaload, 1)) (hk : aw_k M x = (1000, n)) (h0 : 0 ≤ i) (h1 : i < n) (hv : aw_d M x i = v)
    (k : aw_W G own cc ret nL d ini M0 Q X c sl (pc + 1) ls ((0, v) :: st) M) : aw_W G own cc ret nL d ini M0 Q X c sl pc ls ((0, i) :: (2, x) :: st) M := by
  subst hv
  intro p l e R s m args below meth cd H locs cells slots C hr he ho hz hc hs lsA hlv hlo hso
  obtain ⟨k0, rfl, g0, g1, hn0, hn1, ⟨cell, hcell, ⟨hao, -⟩, hun, hsz, hsi, hsl⟩, hok⟩ := aw_arrW (t := 0) (ty := .int) C ho hr hk rfl
  rw [List.map_cons, List.map_cons, aw_vref g0]
  refine W.iald (v := aw_val (aw_ad G) (0, aw_d M (k0 : Int) i)) C.1 C.2.1 hcell hao hun (aw_ibW (aw_h hso) h0 h1 hsz) ?_ rfl rfl hd (k _ C hr he ho hz hc hs lsA hlv hlo (aw_c1 (aw_okT_ok (hok i h0 h1)) (aw_t (aw_t hso))))
  rw [aw_clamp (aw_h hso), hsl i.toNat (by omega), show ((i.toNat : Nat) : Int) = i by omega]
  rfl
theorem x_lald {x i n v : Int} (hd : decode cc pc = .ok (.laload, 1)) (hk : aw_k M x = (1001, n)) (h0 : 0 ≤ i) (h1 : i < n) (hv : aw_d M x i = v)
    (k : aw_W G own cc ret nL d ini M0 Q X c sl (pc + 1) ls ((1, v) :: st) M) : aw_W G own cc ret nL d ini M0 Q X c sl pc ls ((0, i) :: (2, x) :: st) M := by
  subst hv
  intro p l e R s m args below meth cd H locs cells slots C hr he ho hz hc hs lsA hlv hlo hso
  obtain ⟨k0, rfl, g0, g1, hn0, hn1, ⟨cell, hcell, ⟨hao, -⟩, hun, hsz, hsi, hsl⟩, hok⟩ := aw_arrW (t := 1) (ty := .long) C ho hr hk rfl
  rw [List.map_cons, List.map_cons, aw_vref g0]
  refine W.lald (v := aw_val (aw_ad G) (1, aw_d M (k0 : Int) i)) C.1 C.2.1 hcell hao hun (aw_ibW (aw_h hso) h0 h1 hsz) ?_ rfl rfl hd (k _ C hr he ho hz hc hs lsA hlv hlo (aw_c1 (aw_okT_ok (hok i h0 h1)) (aw_t (aw_t hso))))
  rw [aw_clamp (aw_h hso), hsl i.toNat (by omega), show ((i.toNat : Nat) : Int) = i by omega]
  rfl
theorem x_bald {x i n v : Int} (hd : decode cc pc = .ok (.baload, 1)) (hk : aw_k M x = (1002, n)) (h0 : 0 ≤ i) (h1 : i < n) (hv : aw_d M x i = v)
    (k : aw_W G own cc ret nL d ini M0 Q X c sl (pc + 1) ls ((0, v) :: st) M) : aw_W G own cc ret nL d ini M0 Q X c sl pc ls ((0, i) :: (2, x) :: st) M := by
  subst hv
  intro p l e R s m args below meth cd H locs cells slots C hr he ho hz hc hs lsA hlv hlo hso
  obtain ⟨k0, rfl, g0, g1, hn0, hn1, ⟨cell, hcell, ⟨hao, -⟩, hun, hsz, hsi, hsl⟩, hok⟩ := aw_arrW (t := 2) (ty := .byte) C ho hr hk rfl
  rw [List.map_cons, List.map_cons, aw_vref g0]
  refine W.bald (v := aw_val (aw_ad G) (0, aw_d M (k0 : Int) i)) C.1 C.2.1 hcell hao hun (aw_ibW (aw_h hso) h0 h1 hsz) ?_ rfl rfl hd (k _ C hr he ho hz hc hs lsA hlv hlo (aw_c1 (aw_okT_ok (hok i h0 h1)) (aw_t (aw_t hso))))
  rw [aw_clamp (aw_h hso), hsl i.toNat (by omega), show ((i.toNat : Nat) : Int) = i by omega]
  rfl
theorem x_zald {x i n v : Int} (hd : decode cc pc = .ok (.baload, 1)) (hk : aw_k M x = (1003, n)) (h0 : 0 ≤ i) (h1 : i < n) (hv : aw_d M x i = v)
    (k : aw_W G own cc ret nL d ini M0 Q X c sl (pc + 1) ls ((0, v) :: st) M) : aw_W G own cc ret nL d ini M0 Q X c sl pc ls ((0, i) :: (2, x) :: st) M := by
  subst hv
  intro p l e R s m args below meth cd H locs cells slots C hr he ho hz hc hs lsA hlv hlo hso
  obtain ⟨k0, rfl, g0, g1, hn0, hn1, ⟨cell, hcell, ⟨hao, -⟩, hun, hsz, hsi, hsl⟩, hok⟩ := aw_arrW (t := 3) (ty := .boolean) C ho hr hk rfl
  rw [List.map_cons, List.map_cons, aw_vref g0]
  refine W.zald (v := aw_val (aw_ad G) (0, aw_d M (k0 : Int) i)) C.1 C.2.1 hcell hao hun (aw_ibW (aw_h hso) h0 h1 hsz) ?_ rfl rfl hd (k _ C hr he ho hz hc hs lsA hlv hlo (aw_c1 (aw_okT_ok (hok i h0 h1)) (aw_t (aw_t hso))))
  rw [aw_clamp (aw_h hso), hsl i.toNat (by omega), show ((i.toNat : Nat) : Int) = i by omega]
  rfl
theorem x_sald {x i n v : Int} (hd : decode cc pc = .ok (.saload, 1)) (hk : aw_k M x = (1004, n)) (h0 : 0 ≤ i) (h1 : i < n) (hv : aw_d M x i = v)
    (k : aw_W G own cc ret nL d ini M0 Q X c sl (pc + 1) ls ((0, v) :: st) M) : aw_W G own cc ret nL d ini M0 Q X c sl pc ls ((0, i) :: (2, x) :: st) M := by
  subst hv
  intro p l e R s m args below meth cd H locs cells slots C hr he ho hz hc hs lsA hlv hlo hso
  obtain ⟨k0, rfl, g0, g1, hn0, hn1, ⟨cell, hcell, ⟨hao, -⟩, hun, hsz, hsi, hsl⟩, hok⟩ := aw_arrW (t := 4) (ty := .short) C ho hr hk rfl
  rw [List.map_cons, List.map_cons, aw_vref g0]
  refine W.sald (v := aw_val (aw_ad G) (0, aw_d M (k0 : Int) i)) C.1 C.2.1 hcell hao hun (aw_ibW (aw_h hso) h0 h1 hsz) ?_ rfl rfl hd (k _ C hr he ho hz hc hs lsA hlv hlo (aw_c1 (aw_okT_ok (hok i h0 h1)) (aw_t (aw_t hso))))
  rw [aw_clamp (aw_h hso), hsl i.toNat (by omega), show ((i.toNat : Nat) : Int) = i by omega]
  rfl
theorem x_cald {x i n v : Int} (hd : decode cc pc = .ok (.caload, 1)) (hk : aw_k M x = (1005, n)) (h0 : 0 ≤ i) (h1 : i < n) (hv : aw_d M x i = v)
    (k : aw_W G own cc ret nL d ini M0 Q X c sl (pc + 1) ls ((0, v) :: st) M) : aw_W G own cc ret nL d ini M0 Q X c sl pc ls ((0, i) :: (2, x) :: st) M := by
  subst hv
  intro p l e R s m args below meth cd H locs cells slots C hr he ho hz hc hs lsA hlv hlo hso
  obtain ⟨k0, rfl, g0, g1, hn0, hn1, ⟨cell, hcell, ⟨hao, -⟩, hun, hsz, hsi, hsl⟩, hok⟩ := aw_arrW (t := 5) (ty := .char) C ho hr hk rfl
  rw [List.map_cons, List.map_cons, aw_vref g0]
  refine W.cald (v := aw_val (aw_ad G) (0, aw_d M (k0 : Int) i)) C.1 C.2.1 hcell hao hun (aw_ibW (aw_h hso) h0 h1 hsz) ?_ rfl rfl hd (k _ C hr he ho hz hc hs lsA hlv hlo (aw_c1 (aw_okT_ok (hok i h0 h1)) (aw_t (aw_t hso))))
  rw [aw_clamp (aw_h hso), hsl i.toNat (by omega), show ((i.toNat : Nat) : Int) = i by omega]
  rfl
theorem x_aald {x i n v : Int} {t : Nat} {ty : FieldType} (hd : decode cc pc = .ok (.aaload, 1)) (hk : aw_k M x = (1000 + t, n)) (ht : aw_ats[t]? = some ty) (hty : ty.isReference = true) (h0 : 0 ≤ i) (h1 : i < n) (hv : aw_d M x i = v)
    (k : aw_W G own cc ret nL d ini M0 Q X c sl (pc + 1) ls ((2, v) :: st) M) : aw_W G own cc ret nL d ini M0 Q X c sl pc ls ((0, i) :: (2, x) :: st) M := by
  subst hv
  intro p l e R s m args below meth cd H locs cells slots C hr he ho hz hc hs lsA hlv hlo hso
  obtain ⟨k0, rfl, g0, g1, hn0, hn1, ⟨cell, hcell, ⟨hao, -⟩, hun, hsz, hsi, hsl⟩, hok⟩ := aw_arrW C ho hr hk ht
  have htg : aw_tg ty = 2 := by cases ty <;> first | rfl | (simp [FieldType.isReference] at hty)
  rw [List.map_cons, List.map_cons, aw_vref g0]
  refine W.aald (ty := ty) (v := aw_val (aw_ad G) (2, aw_d M (k0 : Int) i)) C.1 C.2.1 hcell hao hty hun (aw_ibW (aw_h hso) h0 h1 hsz) ?_ rfl rfl hd (k _ C hr he ho hz hc hs lsA hlv hlo (aw_c1 (by have h2 := aw_okT_ok (hok i h0 h1); rw [htg] at h2; exact h2) (aw_t (aw_t hso))))
  rw [aw_clamp (aw_h hso), hsl i.toNat (by omega), show ((i.toNat : Nat) : Int) = i by omega, htg]
theorem aw_stcell {H' : Heap} {k t : Nat} {i n v : Int} {ty : FieldType} {val : Value} (hk : aw_k M k = (1000 + t, n)) (ht : aw_ats[t]? = some ty) (hn : 0 ≤ n ∧ n < 2147483648) (h0 : 0 ≤ i) (hok : aw_okT (aw_k M) ty v) (hval : val = aw_val (aw_ad G) (aw_tg ty, v))
    (e1 : H'[aw_ad G k]? = some ((arrV (G.2.2.1 t) n.toNat (fun j => aw_val (aw_ad G) (aw_tg ty, aw_d M k j))).setSlot i.toNat val)) (hall : ∀ j : Int, 0 ≤ j → j < n → aw_okT (aw_k M) ty (aw_d M k j)) : aw_cell G (aw_set M k i v) H' k := by
  subst hval
  refine ⟨fun c2 q e2 e3 => ?_, fun t2 n2 ty2 e2 e3 => ?_⟩
  · have e4 : c2 = 1000 + t := congrArg Prod.fst (e2.symm.trans hk)
    have h1 : c2 < aw_cls.length := (List.getElem?_eq_some_iff.mp e3).1
    have h2 : aw_cls.length ≤ 200 := by decide
    omega
  · have e4 : 1000 + t2 = 1000 + t := congrArg Prod.fst (e2.symm.trans hk)
    have e5 : t2 = t := by omega
    have e6 : n2 = n := congrArg Prod.snd (e2.symm.trans hk)
    subst e5; subst e6
    cases ht.symm.trans e3
    refine ⟨hn.1, hn.2, ?_, fun j h2 h3 => ?_⟩
    · rw [e1, arrV_store]
      congr 2
      funext j
      show (if j = i.toNat then _ else _) = aw_val _ (_, if (k : Int) = k ∧ (j : Int) = i then v else M.2.2 k j)
      by_cases e : j = i.toNat
      · rw [if_pos e, if_pos ⟨rfl, by omega⟩]
      · rw [if_neg e, if_neg (by omega)]
        rfl
    · show aw_okT (aw_k M) ty (if (k : Int) = k ∧ j = i then v else M.2.2 k j)
      by_cases e : j = i
      · rw [if_pos ⟨rfl, e⟩]; exact hok
      · rw [if_neg (fun q => e q.2)]; exact hall j h2 h3
theorem x_iast {x i n v : Int} (hd : decode cc pc = .ok (.iastore, 1)) (hk : aw_k M x = (1000, n)) (hx : 4096 ≤ x) (h0 : 0 ≤ i) (h1 : i < n) 
    (k : aw_W G own cc ret nL d ini M0 Q X c sl (pc + 1) ls st (aw_set M x i v)) : aw_W G own cc ret nL d ini M0 Q X c sl pc ls ((0, v) :: (0, i) :: (2, x) :: st) M := by
  intro p l e R s m args below meth cd H locs cells slots C hr he ho hz hc hs lsA hlv hlo hso
  obtain ⟨k0, rfl, g0, g1, hn0, hn1, hcell, hall⟩ := aw_arr (t := 0) (ty := .int) hr hk rfl hx
  have hk0 : aw_NC ≤ k0 := by show 4096 ≤ k0; omega
  have hi : R32 i := aw_h (aw_t hso)
  rw [List.map_cons, List.map_cons, List.map_cons, aw_vref g0]
  refine W.iast C.1 C.2.1 hcell ((C.2.2.2.2.2.2.2.1.2.1 0 .int rfl).1 _ _) (fun q => by cases q) (aw_ib hi h0 h1) rfl rfl hd fun H' e1 e2 e3 => ?_
  rw [aw_clamp hi] at e1 ⊢
  exact k _ C (aw_rep_set hr hk0 e2 e3 (aw_stcell (ty := .int) hk rfl ⟨hn0, hn1⟩ h0 (aw_h hso) rfl e1 hall)) he (aw_old_set hk0 ho e3) (aw_loc hk0 hz) hc hs lsA hlv hlo (aw_t (aw_t (aw_t hso)))
theorem x_last {x i n v : Int} (hd : decode cc pc = .ok (.lastore, 1)) (hk : aw_k M x = (1001, n)) (hx : 4096 ≤ x) (h0 : 0 ≤ i) (h1 : i < n) 
    (k : aw_W G own cc ret nL d ini M0 Q X c sl (pc + 1) ls st (aw_set M x i v)) : aw_W G own cc ret nL d ini M0 Q X c sl pc ls ((1, v) :: (0, i) :: (2, x) :: st) M := by
  intro p l e R s m args below meth cd H locs cells slots C hr he ho hz hc hs lsA hlv hlo hso
  obtain ⟨k0, rfl, g0, g1, hn0, hn1, hcell, hall⟩ := aw_arr (t := 1) (ty := .long) hr hk rfl hx
  have hk0 : aw_NC ≤ k0 := by show 4096 ≤ k0; omega
  have hi : R32 i := aw_h (aw_t hso)
  rw [List.map_cons, List.map_cons, List.map_cons, aw_vref g0]
  refine W.last C.1 C.2.1 hcell ((C.2.2.2.2.2.2.2.1.2.1 1 .long rfl).1 _ _) (fun q => by cases q) (aw_ib hi h0 h1) rfl rfl hd fun H' e1 e2 e3 => ?_
  rw [aw_clamp hi] at e1 ⊢
  exact k _ C (aw_rep_set hr hk0 e2 e3 (aw_stcell (ty := .long) hk rfl ⟨hn0, hn1⟩ h0 (aw_h hso) rfl e1 hall)) he (aw_old_set hk0 ho e3) (aw_loc hk0 hz) hc hs lsA hlv hlo (aw_t (aw_t (aw_t hso)))
theorem x_bast {x i n v : Int} (hd : decode cc pc = .ok (.bastore, 1)) (hk : aw_k M x = (1002, n)) (hx : 4096 ≤ x) (h0 : 0 ≤ i) (h1 : i < n) (hok : -128 ≤ v ∧ v < 128) 
    (k : aw_W G own cc ret nL d ini M0 Q X c sl (pc + 1) ls st (aw_set M x i v)) : aw_W G own cc ret nL d ini M0 Q X c sl pc ls ((0, v) :: (0, i) :: (2, x) :: st) M := by
  intro p l e R s m args below meth cd H locs cells slots C hr he ho hz hc hs lsA hlv hlo hso
  obtain ⟨k0, rfl, g0, g1, hn0, hn1, hcell, hall⟩ := aw_arr (t := 2) (ty := .byte) hr hk rfl hx
  have hk0 : aw_NC ≤ k0 := by show 4096 ≤ k0; omega
  have hi : R32 i := aw_h (aw_t hso)
  rw [List.map_cons, List.map_cons, List.map_cons, aw_vref g0]
  refine W.bast C.1 C.2.1 hcell ((C.2.2.2.2.2.2.2.1.2.1 2 .byte rfl).1 _ _) (fun q => by cases q) (aw_ib hi h0 h1) rfl rfl hd fun H' e1 e2 e3 => ?_
  rw [aw_clamp hi] at e1 ⊢
  exact k _ C (aw_rep_set hr hk0 e2 e3 (aw_stcell (ty := .byte) hk rfl ⟨hn0, hn1⟩ h0 hok (aw_ty_fits (K := aw_k M) (ty := .byte) hok).1 e1 hall)) he (aw_old_set hk0 ho e3) (aw_loc hk0 hz) hc hs lsA hlv hlo (aw_t (aw_t (aw_t hso)))
theorem x_zast {x i n v : Int} (hd : decode cc pc = .ok (.bastore, 1)) (hk : aw_k M x = (1003, n)) (hx : 4096 ≤ x) (h0 : 0 ≤ i) (h1 : i < n) (hok : 0 ≤ v ∧ v < 2) 
    (k : aw_W G own cc ret nL d ini M0 Q X c sl (pc + 1) ls st (aw_set M x i v)) : aw_W G own cc ret nL d ini M0 Q X c sl pc ls ((0, v) :: (0, i) :: (2, x) :: st) M := by
  intro p l e R s m args below meth cd H locs cells slots C hr he ho hz hc hs lsA hlv hlo hso
  obtain ⟨k0, rfl, g0, g1, hn0, hn1, hcell, hall⟩ := aw_arr (t := 3) (ty := .boolean) hr hk rfl hx
  have hk0 : aw_NC ≤ k0 := by show 4096 ≤ k0; omega
  have hi : R32 i := aw_h (aw_t hso)
  rw [List.map_cons, List.map_cons, List.map_cons, aw_vref g0]
  refine W.zast C.1 C.2.1 hcell ((C.2.2.2.2.2.2.2.1.2.1 3 .boolean rfl).1 _ _) (fun q => by cases q) (aw_ib hi h0 h1) rfl rfl hd fun H' e1 e2 e3 => ?_
  rw [aw_clamp hi] at e1 ⊢
  exact k _ C (aw_rep_set hr hk0 e2 e3 (aw_stcell (ty := .boolean) hk rfl ⟨hn0, hn1⟩ h0 hok (aw_ty_fits (K := aw_k M) (ty := .boolean) hok).1 e1 hall)) he (aw_old_set hk0 ho e3) (aw_loc hk0 hz) hc hs lsA hlv hlo (aw_t (aw_t (aw_t hso)))
theorem x_sast {x i n v : Int} (hd : decode cc pc = .ok (.sastore, 1)) (hk : aw_k M x = (1004, n)) (hx : 4096 ≤ x) (h0 : 0 ≤ i) (h1 : i < n) (hok : -32768 ≤ v ∧ v < 32768) 
    (k : aw_W G own cc ret nL d ini M0 Q X c sl (pc + 1) ls st (aw_set M x i v)) : aw_W G own cc ret nL d ini M0 Q X c sl pc ls ((0, v) :: (0, i) :: (2, x) :: st) M := by
  intro p l e R s m args below meth cd H locs cells slots C hr he ho hz hc hs lsA hlv hlo hso
  obtain ⟨k0, rfl, g0, g1, hn0, hn1, hcell, hall⟩ := aw_arr (t := 4) (ty := .short) hr hk rfl hx
  have hk0 : aw_NC ≤ k0 := by show 4096 ≤ k0; omega
  have hi : R32 i := aw_h (aw_t hso)
  rw [List.map_cons, List.map_cons, List.map_cons, aw_vref g0]
  refine W.sast C.1 C.2.1 hcell ((C.2.2.2.2.2.2.2.1.2.1 4 .short rfl).1 _ _) (fun q => by cases q) (aw_ib hi h0 h1) rfl rfl hd fun H' e1 e2 e3 => ?_
  rw [aw_clamp hi] at e1 ⊢
  exact k _ C (aw_rep_set hr hk0 e2 e3 (aw_stcell (ty := .short) hk rfl ⟨hn0, hn1⟩ h0 hok (aw_ty_fits (K := aw_k M) (ty := .short) hok).1 e1 hall)) he (aw_old_set hk0 ho e3) (aw_loc hk0 hz) hc hs lsA hlv hlo (aw_t (aw_t (aw_t hso)))
theorem aw_rep_new {H : Heap} {cell : Cell} (hr : aw_rep G M H) {kd : Nat × Int} (hc : ∀ k : Nat, (k : Int) = aw_n M → aw_ad G k = H.size → aw_cell G (aw_new M kd) (H.push cell) k) : aw_rep G (aw_new M kd) (H.push cell) := by
  have hn := hr.1
  have hz := hr.2.1
  have hbs : aw_b G ≤ H.size := by
    have h1 : (4096 : Int) ≤ aw_n M := hn
    have h2 : (H.size : Int) = aw_b G + (aw_n M - 4096) := hz
    omega
  have h4 : (H.size : Int) = aw_b G + (aw_n M - 4096) := hz
  have h5 : (4096 : Int) ≤ aw_n M := hn
  have hnn : aw_n (aw_new M kd) = aw_n M + 1 := rfl
  have hkk : ∀ x : Int, x ≠ aw_n M → aw_k (aw_new M kd) x = aw_k M x := fun x h => if_neg h
  have hup : ∀ x, aw_k M x ≠ (9999, 0) → aw_k (aw_new M kd) x = aw_k M x := fun x h => hkk x (fun e => h (hr.2.2.2.2 x (Or.inr (by omega))))
  have hdd : ∀ (x b : Int), x ≠ aw_n M → aw_d (aw_new M kd) x b = aw_d M x b := fun x b h => if_neg h
  refine ⟨by rw [hnn]; omega, by rw [hnn, Array.size_push]; omega, ⟨hr.2.2.1.1, fun a ha => ?_⟩, fun k hge hk => ?_, fun x hx => ?_⟩
  · have ha2 : a < 4096 := ha
    have hne : (a : Int) ≠ aw_n M := by omega
    exact ⟨(hkk _ hne).trans (hr.2.2.1.2 a ha).1, fun b z hb => (hdd _ b hne).trans ((hr.2.2.1.2 a ha).2 b z hb)⟩
  · rw [hnn] at hk
    by_cases e : (k : Int) = aw_n M
    · refine hc k e ?_
      rw [aw_ad_new (by show 4096 ≤ k; omega)]
      show aw_b G + (k - 4096) = _
      omega
    · have h1 := hr.2.2.2.1 k hge (by omega)
      have hlt : aw_ad G k < H.size := by
        rcases Nat.lt_or_ge k aw_NC with h | h
        · exact Nat.lt_of_lt_of_le (hr.2.2.1.1 k h) hbs
        · rw [aw_ad_new h]
          have h6 : 4096 ≤ k := h
          show aw_b G + (k - 4096) < _
          omega
      have hH : (H.push cell)[aw_ad G k]? = H[aw_ad G k]? := by rw [Array.getElem?_push_lt hlt, Array.getElem?_eq_getElem hlt]
      refine ⟨fun cN q e1 e2 => ?_, fun t n ty e1 e2 => ?_⟩
      · rw [hkk _ e] at e1
        obtain ⟨g1, g2⟩ := h1.1 cN q e1 e2
        exact ⟨(g1.kept hH).to (fun i _ => by show aw_val _ (_, _) = aw_val _ (_, _); rw [hdd _ _ e]), fun i hi => by rw [hdd _ _ e]; exact aw_okT_mono hup (g2 i hi)⟩
      · rw [hkk _ e] at e1
        obtain ⟨g1, g2, g3, g4⟩ := h1.2 t n ty e1 e2
        refine ⟨g1, g2, ?_, fun i h2 h3 => by rw [hdd _ _ e]; exact aw_okT_mono hup (g4 i h2 h3)⟩
        rw [hH, g3]
        congr 2
        funext i
        rw [hdd _ _ e]
  · rw [hnn] at hx
    rw [hkk x (by omega)]
    exact hr.2.2.2.2 x (by omega)
theorem aw_ext_new {H : Heap} {kd : Nat × Int} (hr : aw_rep G M H) (h : aw_ext M0 M) : aw_ext M0 (aw_new M kd) := by
  refine ⟨by show aw_n M0 ≤ aw_n M + 1; have := h.1; omega, fun k hk => ?_⟩
  have h1 := h.2 k hk
  have h2 : ¬ k = aw_n M := fun q => hk (by rw [← h1]; exact hr.2.2.2.2 k (Or.inr (by omega)))
  rw [show aw_k (aw_new M kd) k = aw_k M k from if_neg h2]
  exact h1
theorem aw_old_push {H0 H : Heap} {cell : Cell} (hr : aw_rep G M H) (ho : aw_old G H0 H) : aw_old G H0 (H.push cell) := fun q hq => by
  have h1 : (4096 : Int) ≤ aw_n M := hr.1
  have h2 : (H.size : Int) = aw_b G + (aw_n M - 4096) := hr.2.1
  have hlt : q < H.size := by omega
  rw [Array.getElem?_push_lt hlt, ← Array.getElem?_eq_getElem hlt]
  exact ho q hq
theorem aw_size {H : Heap} (hr : aw_rep G M H) : ∃ k : Nat, aw_n M = (k : Int) ∧ 0 < k ∧ aw_ad G k = H.size := by
  have h1 : (4096 : Int) ≤ aw_n M := hr.1
  have h2 : (H.size : Int) = aw_b G + (aw_n M - 4096) := hr.2.1
  refine ⟨(aw_n M).toNat, by omega, by omega, ?_⟩
  rw [aw_ad_new (by show 4096 ≤ (aw_n M).toNat; omega)]
  show aw_b G + ((aw_n M).toNat - 4096) = _
  omega
theorem aw_def0 {ad : Nat → Nat} (ty : FieldType) : aw_val ad (aw_tg ty, 0) = defaultValue ty := by cases ty <;> first | rfl | exact congrArg Value.double (show aw_dv 0 = 0 from by decide +kernel)
theorem aw_ok0 {K : Int → Nat × Int} (ty : FieldType) : aw_okT K ty 0 := by cases ty <;> first | exact aw_va0 | exact ⟨by decide, by decide⟩
theorem aw_up {H : Heap} (hr : aw_rep G M H) {kd : Nat × Int} : ∀ x, aw_k M x ≠ (9999, 0) → aw_k (aw_new M kd) x = aw_k M x := fun x h => if_neg (fun e => h (hr.2.2.2.2 x (Or.inr (by have e2 : x = aw_n M := e; omega))))
theorem aw_vnew {H : Heap} (hr : aw_rep G M H) {kd : Nat × Int} (h : aw_real (aw_n M) kd) : aw_va (aw_k (aw_new M kd)) (aw_n M) := by
  have h1 : (4096 : Int) ≤ aw_n M := hr.1
  refine ⟨by omega, Or.inr ?_⟩
  rw [show aw_k (aw_new M kd) (aw_n M) = kd from if_pos rfl]
  exact h
theorem x_new {index cN nS : Nat} {C : String} {q : aw_Q} {z : Int} (hd : decode cc pc = .ok (.new index, 3)) (hq : aw_cls[cN]? = some q) (hC : q.1 = C) (h1 : Cond.classLink own index C ∈ lw_all) (h2 : Cond.instantiable C nS ∈ lw_all) (h3 : Cond.initialized C ∈ lw_all) (hz0 : aw_n M = z) (hc1 : 1 ≤ c) (hs1 : nS ≤ sl)
    (k : aw_W G own cc ret nL d ini M0 Q X (c - 1) (sl - nS) (pc + 3) ls ((2, z) :: st) (aw_new M (cN, 0))) : aw_W G own cc ret nL d ini M0 Q X c sl pc ls st M := by
  subst hC
  subst hz0
  intro p l e R s m args below meth cd H locs cells slots C hr he ho hz hc hs lsA hlv hlo hso
  have hts := C.2.2.2.2.2.2.1
  obtain ⟨n0, en, hn0, hsz⟩ := aw_size hr
  refine W.newc C.1 C.2.1 C.2.2.2.2.2.1 (hts _ h1) (hts _ h2) (hts _ h3) rfl hd (by omega) (by omega) fun cC kC e1 e2 e3 e4 => ?_
  have hKn := C.2.2.2.2.2.2.2.1.1 cN q hq
  have ecC : cC = G.1 cN := Option.some.inj (e1.symm.trans hKn.2.1)
  subst ecC
  have hrep : aw_rep G (aw_new M (cN, 0)) (H.push { cls := G.1 cN, slots := kC.instanceTypes.map defaultValue, vm := .none }) := aw_rep_new hr fun kk ek ea => by
    refine ⟨fun c2 q2 g1 g2 => ?_, fun t n ty g1 g2 => ?_⟩
    · have g3 : aw_k (aw_new M (cN, 0)) kk = (cN, 0) := if_pos ek
      have g4 : c2 = cN := congrArg Prod.fst (g1.symm.trans g3)
      subst g4
      cases hq.symm.trans g2
      have hd0 : ∀ b : Int, aw_d (aw_new M (c2, 0)) kk b = 0 := fun b => if_pos ek
      have hb := u_born (o := aw_ad G kk) (H := H.push { cls := G.1 c2, slots := kC.instanceTypes.map defaultValue, vm := .none }) (aw_ty c2) hts (aw_in' hq) hKn e2 (by rw [ea]; exact Array.getElem?_push_size) (fun i hi => aw_tyok c2 q hq i hi)
      exact ⟨hb.to fun i _ => by show defaultValue (aw_ty c2 i) = aw_val (aw_ad G) (aw_tg (aw_ty c2 i), aw_d (aw_new M (c2, 0)) kk i); rw [hd0, aw_def0], fun i _ => by rw [hd0]; exact aw_ok0 _⟩
    · have g3 : aw_k (aw_new M (cN, 0)) kk = (cN, 0) := if_pos ek
      have g4 : 1000 + t = cN := congrArg Prod.fst (g1.symm.trans g3)
      have g5 : cN < aw_cls.length := (List.getElem?_eq_some_iff.mp hq).1
      have g6 : aw_cls.length ≤ 200 := by decide
      omega
  have := k _ (e := e) (below := below) C hrep (aw_ext_new hr he) (aw_old_push hr ho) hz (cells := cells + 1) (slots := slots + nS) (by omega) (by omega) lsA hlv (fun q hq => aw_ok_mono (aw_up hr) (hlo q hq)) (aw_c1 (v := (2, aw_n M)) (aw_vnew hr (Or.inl ⟨(List.getElem?_eq_some_iff.mp hq).1, rfl⟩)) (fun v hv => aw_ok_mono (aw_up hr) (hso v hv)))
  rw [List.map_cons, en, aw_vref hn0, hsz] at this
  exact this
theorem aw_newarr {H : Heap} {t : Nat} {n : Int} {ty : FieldType} {cA : ClassId} (hr : aw_rep G M H) (ht : aw_ats[t]? = some ty) (h0 : 0 ≤ n) (h1 : n < 2147483648) (hcA : cA = G.2.2.1 t) : aw_rep G (aw_new M (1000 + t, n)) (H.push { cls := cA, slots := Array.replicate n.toNat (defaultValue ty), vm := .none }) := by
  subst hcA
  refine aw_rep_new hr fun k ek ea => ?_
  have g3 : aw_k (aw_new M (1000 + t, n)) k = (1000 + t, n) := if_pos ek
  have hd0 : ∀ b : Int, aw_d (aw_new M (1000 + t, n)) k b = 0 := fun b => if_pos ek
  refine ⟨fun c2 q2 g1 g2 => ?_, fun t2 n2 ty2 g1 g2 => ?_⟩
  · have g4 : c2 = 1000 + t := congrArg Prod.fst (g1.symm.trans g3)
    have g5 : c2 < aw_cls.length := (List.getElem?_eq_some_iff.mp g2).1
    have g6 : aw_cls.length ≤ 200 := by decide
    omega
  · have g4 : 1000 + t2 = 1000 + t := congrArg Prod.fst (g1.symm.trans g3)
    have g5 : t2 = t := by omega
    have g6 : n2 = n := congrArg Prod.snd (g1.symm.trans g3)
    subst g5; subst g6
    cases ht.symm.trans g2
    refine ⟨h0, h1, ?_, fun j _ _ => by rw [hd0]; exact aw_ok0 _⟩
    rw [ea, Array.getElem?_push_size]
    congr 1
    unfold arrV
    congr 1
    apply Array.ext
    · simp
    · intro j g7 g8
      simp [hd0, aw_def0]
theorem x_newa {t : Nat} {n z : Int} {atype : ArrayType} (hd : decode cc pc = .ok (.newarray atype, 2)) (ht : aw_ats[t]? = some (newarray.typeOf atype)) (ht6 : t < 5) (hw : Cond.arrayClass (newarray.typeOf atype) ∈ lw_all) (h0 : 0 ≤ n) (hb : n ≤ 60000000) (hsl : n ≤ sl) (hz0 : aw_n M = z) (hc1 : 1 ≤ c)
    (k : aw_W G own cc ret nL d ini M0 Q X (c - 1) (sl - n.toNat) (pc + 2) ls ((2, z) :: st) (aw_new M (1000 + t, n))) : aw_W G own cc ret nL d ini M0 Q X c sl pc ls ((0, n) :: st) M := by
  subst hz0
  intro p l e R s m args below meth cd H locs cells slots C hr he ho hz hc hs lsA hlv hlo hso
  have hts := C.2.2.2.2.2.2.1
  have hn : R32 n := aw_h hso
  obtain ⟨n0, en, hn0, hsz⟩ := aw_size hr
  refine W.newa C.1 C.2.1 (hts _ hw) rfl hd (n := Int32.ofInt n) rfl (fun q => by have := (aw_lt_o hn (by decide : R32 0)).mp q; omega) ?_ (by omega) (by rw [aw_clamp hn]; omega) fun cA kA comp e1 e2 e3 => ?_
  · rw [aw_clamp hn]
    have h5 : componentBytes (newarray.typeOf atype) ≤ 8 := by cases atype <;> decide
    have h6 : n.toNat * componentBytes (newarray.typeOf atype) ≤ n.toNat * 8 := Nat.mul_le_mul_left _ h5
    omega
  · have hcA : cA = G.2.2.1 t := by
      have h6 := (C.2.2.2.2.2.2.2.1.2.1 t _ ht).2
      have h7 : s.vm.findClass ("[" ++ (newarray.typeOf atype).toString) = some (G.2.2.1 t) := by
        cases atype <;> exact h6
      exact Option.some.inj (e1.symm.trans h7)
    rw [aw_clamp hn]
    have := k _ (e := e) (below := below) C (aw_newarr hr ht h0 (by omega) hcA) (aw_ext_new hr he) (aw_old_push hr ho) hz (cells := cells + 1) (slots := slots + n.toNat) (by omega) (by omega) lsA hlv (fun q hq => aw_ok_mono (aw_up hr) (hlo q hq)) (aw_c1 (v := (2, aw_n M)) (aw_vnew hr (Or.inr (Or.inl ⟨(by show 1000 ≤ 1000 + t; omega), (by have := (List.getElem?_eq_some_iff.mp ht).1; show 1000 + t < 1000 + aw_ats.length; omega), (by show 1000 + t ≠ 1005; omega)⟩))) (fun v hv => aw_ok_mono (aw_up hr) (aw_t hso v hv)))
    rw [List.map_cons, en, aw_vref hn0, hsz] at this
    exact this
theorem x_anew {t index : Nat} {n z : Int} {C : String} (hd : decode cc pc = .ok (.anewarray index, 3)) (ht : aw_ats[t]? = some (.object C)) (hC : C ∈ aw_aos) (hw : Cond.classLink own index C ∈ lw_all) (h0 : 0 ≤ n) (hb : n ≤ 60000000) (hsl : n ≤ sl) (hz0 : aw_n M = z) (hc1 : 1 ≤ c)
    (k : aw_W G own cc ret nL d ini M0 Q X (c - 1) (sl - n.toNat) (pc + 3) ls ((2, z) :: st) (aw_new M (1000 + t, n))) : aw_W G own cc ret nL d ini M0 Q X c sl pc ls ((0, n) :: st) M := by
  subst hz0
  intro p l e R s m args below meth cd H locs cells slots C0 hr he ho hz hc hs lsA hlv hlo hso
  have hts := C0.2.2.2.2.2.2.1
  have hn : R32 n := aw_h hso
  obtain ⟨n0, en, hn0, hsz⟩ := aw_size hr
  refine W.anew C0.1 C0.2.1 C0.2.2.2.2.2.1 (hts _ hw) ((C0.2.2.2.2.2.2.2.1.2.2.2.1 C hC).use) rfl hd (n := Int32.ofInt n) rfl (fun q => by have := (aw_lt_o hn (by decide : R32 0)).mp q; omega) ?_ (by omega) (by rw [aw_clamp hn]; omega) fun cA kA comp e1 e2 e3 e4 => ?_
  · rw [aw_clamp hn]
    omega
  · have hcA : cA = G.2.2.1 t := by
      obtain ⟨kA2, comp2, -, -, -, h7⟩ := (C0.2.2.2.2.2.2.2.1.2.1 t _ ht).2
      exact Option.some.inj (e1.symm.trans h7)
    rw [aw_clamp hn]
    have := k _ (e := e) (below := below) C0 (aw_newarr hr ht h0 (by omega) hcA) (aw_ext_new hr he) (aw_old_push hr ho) hz (cells := cells + 1) (slots := slots + n.toNat) (by omega) (by omega) lsA hlv (fun q hq => aw_ok_mono (aw_up hr) (hlo q hq)) (aw_c1 (v := (2, aw_n M)) (aw_vnew hr (Or.inr (Or.inl ⟨(by show 1000 ≤ 1000 + t; omega), (by have := (List.getElem?_eq_some_iff.mp ht).1; show 1000 + t < 1000 + aw_ats.length; omega), (by show 1000 + t ≠ 1005; intro h9; have h8 : t = 5 := (by omega); subst h8; cases ht)⟩))) (fun v hv => aw_ok_mono (aw_up hr) (aw_t hso v hv)))
    rw [List.map_cons, en, aw_vref hn0, hsz] at this
    exact this
theorem aw_fin {s t : State} {args : Array Value} {H : Heap} {r : Option aw_V} (hr : aw_rep G M H) (he : aw_ext M0 M) (ho : aw_old G s.heap H) (ht : t.heap = H) (hok : ∀ v, r = some v → aw_ok (aw_k M) v) (hq : Q r M) : aw_QC G M0 Q args s (.returned (r.map (aw_val (aw_ad G)))) t :=
  ⟨r, M, rfl, hok, hq, he, by rw [ht]; exact hr, by rw [ht]; exact ho⟩
theorem x_iret {ty : FieldType} {v : Int} (hd : decode cc pc = .ok (.ireturn, 1)) (hty : ret = some ty) (htg : aw_tg ty = 0) (hok : aw_okS ty v) (hq : Q (some (0, v)) M) : aw_W G own cc ret nL d ini M0 Q X c sl pc ls [(0, v)] M := by
  intro p l e R s m args below meth cd H locs cells slots C hr he ho hz hc hs lsA hlv hlo hso
  have hn := (aw_ty_fits (K := aw_k M) (ad := aw_ad G) (aw_okS_T hok (by rw [htg]; exact aw_h hso))).1
  rw [htg] at hn
  refine W.widen (k := R.cells) (n := R.slots) (by omega) (by omega) (vx_ret ?_)
  exact W.zret C.1 C.2.1 (C.2.2.1.trans hty) hn (fun t ht hW => aw_fin (r := some (0, v)) hr he ho ht (fun w hw => by cases hw; exact aw_h hso) hq) hz hd C.2.2.2.1
theorem x_lret {v : Int} (hd : decode cc pc = .ok (.lreturn, 1)) (hty : ret = some .long) (hq : Q (some (1, v)) M) : aw_W G own cc ret nL d ini M0 Q X c sl pc ls [(1, v)] M := by
  intro p l e R s m args below meth cd H locs cells slots C hr he ho hz hc hs lsA hlv hlo hso
  refine W.widen (k := R.cells) (n := R.slots) (by omega) (by omega) (vx_ret ?_)
  exact W.lret C.1 C.2.1 (C.2.2.1.trans hty) (fun t ht hW => aw_fin (r := some (1, v)) hr he ho ht (fun w hw => by cases hw; exact aw_h hso) hq) hz hd C.2.2.2.1
theorem x_aret {rt : FieldType} {v : Int} (hd : decode cc pc = .ok (.areturn, 1)) (hty : ret = some rt) (hrt : (∃ n, rt = .object n) ∨ ∃ t, rt = .array t) (hq : Q (some (2, v)) M) : aw_W G own cc ret nL d ini M0 Q X c sl pc ls [(2, v)] M := by
  intro p l e R s m args below meth cd H locs cells slots C hr he ho hz hc hs lsA hlv hlo hso
  refine W.widen (k := R.cells) (n := R.slots) (by omega) (by omega) (vx_ret ?_)
  refine W.aret C.1 C.2.1 (C.2.2.1.trans hty) hrt ?_ (fun t ht hW => aw_fin (r := some (2, v)) hr he ho ht (fun w hw => by cases hw; exact aw_h hso) hq) hz hd C.2.2.2.1
  by_cases h : v ≤ 0
  · exact Or.inl (if_pos h)
  · exact Or.inr ⟨_, if_neg h⟩
theorem x_vret (hd : decode cc pc = .ok (.return_, 1)) (hty : ret = none) (hq : Q none M) : aw_W G own cc ret nL d ini M0 Q X c sl pc ls [] M := by
  intro p l e R s m args below meth cd H locs cells slots C hr he ho hz hc hs lsA hlv hlo hso
  refine W.widen (k := R.cells) (n := R.slots) (by omega) (by omega) (vx_ret ?_)
  exact W.vret C.1 C.2.1 (C.2.2.1.trans hty) (fun t ht hW => aw_fin (r := none) hr he ho ht (fun w hw => by cases hw) hq) hz hd C.2.2.2.1
end AI
