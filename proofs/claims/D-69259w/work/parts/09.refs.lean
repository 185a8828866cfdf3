/-! references: arrays of them, casts, comparing -/
set_option maxRecDepth 100000
theorem aw_null {ad : Nat → Nat} {x : Int} (h : x ≤ 0) : aw_val ad (2, x) = .null := if_pos h
theorem aw_kcl {vm : Vm} {E : String} {comp : ClassId} (h : vm.findClass E = some comp) : ∃ k, vm.classes[comp]? = some k := by
  unfold Vm.findClass at h
  obtain ⟨h1, -, -⟩ := Array.findIdx?_eq_some_iff_getElem.mp h
  exact ⟨vm.classes[comp], Array.getElem?_eq_getElem h1⟩
section AL
variable {G : aw_G} {own : String} {cc : ByteArray} {ret : Option FieldType} {nL d : Nat} {ini : Bool} {M0 M : aw_M} {Q : Option aw_V → aw_M → Prop} {X : String → aw_M → Prop} {c sl pc : Nat} {ls : List (Nat × aw_V)} {st : List aw_V}
theorem x_aastN {x i n v : Int} {t : Nat} {E : String} (hd : decode cc pc = .ok (.aastore, 1)) (hk : aw_k M x = (1000 + t, n)) (ht : aw_ats[t]? = some (.object E)) (hx : 4096 ≤ x) (h0 : 0 ≤ i) (h1 : i < n) (hv : v = 0)
    (k : aw_W G own cc ret nL d ini M0 Q X c sl (pc + 1) ls st (aw_set M x i v)) : aw_W G own cc ret nL d ini M0 Q X c sl pc ls ((2, v) :: (0, i) :: (2, x) :: st) M := by
  subst hv
  intro p l e R s m args below meth cd H locs cells slots C hr he ho hz hc hs lsA hlv hlo hso
  obtain ⟨k0, rfl, g0, g1, hn0, hn1, hcell, hall⟩ := aw_arr hr hk ht hx
  have hk0 : aw_NC ≤ k0 := by show 4096 ≤ k0; omega
  have hi : R32 i := aw_h (aw_t hso)
  rw [List.map_cons, List.map_cons, List.map_cons, aw_vref g0, aw_null (Int.le_refl 0)]
  refine va_WaastN (C := E) C.1 C.2.1 hcell ((C.2.2.2.2.2.2.2.1.2.1 t _ ht).1 _ _) (fun q => by cases q) (aw_ib hi h0 h1) rfl rfl hd fun H' e1 e2 e3 => ?_
  rw [aw_clamp hi] at e1 ⊢
  exact k _ C (aw_rep_set hr hk0 e2 e3 (aw_stcell (ty := .object E) hk ht ⟨hn0, hn1⟩ h0 aw_va0 (aw_null (Int.le_refl 0)).symm e1 hall)) he (aw_old_set hk0 ho e3) (aw_loc hk0 hz) hc hs lsA hlv hlo (aw_t (aw_t (aw_t hso)))
/-- a reference to an object of class C (by its number) goes into an array of E: the same, or one that C's can be cast to -/
theorem x_aast {x i n v : Int} {t cN : Nat} {E : String} {q : aw_Q} (hd : decode cc pc = .ok (.aastore, 1)) (hk : aw_k M x = (1000 + t, n)) (ht : aw_ats[t]? = some (.object E)) (hx : 4096 ≤ x) (h0 : 0 ≤ i) (h1 : i < n) (hkv : aw_k M v = (cN, 0)) (hq : aw_cls[cN]? = some q) (hE : q.1 = E ∨ Cond.castable q.1 E ∈ lw_tbl)
    (k : aw_W G own cc ret nL d ini M0 Q X c sl (pc + 1) ls st (aw_set M x i v)) : aw_W G own cc ret nL d ini M0 Q X c sl pc ls ((2, v) :: (0, i) :: (2, x) :: st) M := by
  intro p l e R s m args below meth cd H locs cells slots C hr he ho hz hc hs lsA hlv hlo hso
  have hts := C.2.2.2.2.2.2.1
  have hK := C.2.2.2.2.2.2.2.1
  obtain ⟨k0, rfl, g0, g1, hn0, hn1, hcell, hall⟩ := aw_arr hr hk ht hx
  obtain ⟨k1, rfl, f0, cellB, f1, f2, f3⟩ := aw_recv C ho hr hkv hq rfl
  have hk0 : aw_NC ≤ k0 := by show 4096 ≤ k0; omega
  have hi : R32 i := aw_h (aw_t hso)
  obtain ⟨kA, comp, a1, a2, a3, -⟩ := (hK.2.1 t _ ht).2
  obtain ⟨hSlot, hfc, kC, hkC, hkind⟩ := hK.1 cN q hq
  have hcB : cellB.cls = G.1 cN := Option.some.inj (f3.symm.trans hfc)
  have hasg : s.vm.assignable cellB.cls comp = true := by
    rcases hE with h | h
    · exact vb_asgS (C := q.1) comp cellB.cls (by rw [h]; exact a3) f3
    · exact vb_asgC (hK.2.2.1 _ h rfl) comp cellB.cls a3 f3
  have hst : ∀ z, cellB.vm ≠ .statics z := fun z h => by rw [h] at f2; cases f2
  obtain ⟨kcomp, hkcomp⟩ : ∃ kcomp, s.vm.classes[comp]? = some kcomp := by
    rcases hE with h | h
    · have h4 : comp = G.1 cN := Option.some.inj (a3.symm.trans (by rw [← h]; exact hfc))
      exact ⟨kC, by rw [h4]; exact hkC⟩
    · exact aw_kcl a3
  rw [List.map_cons, List.map_cons, List.map_cons, aw_vref g0, aw_vref f0]
  refine W.aast C.1 C.2.1 hcell (fun q h => by cases h) (fun h => by cases h) a1 a2 rfl hkcomp ⟨fun h => ?_, ?_⟩ f1 hst (by rw [hcB]; exact hkC) hasg rfl rfl hd fun H' e1 e2 e3 => ?_
  · have h3 := (aw_lt_o hi (by decide : R32 0)).mp h
    omega
  · show _ < (arrV _ _ _).slots.size
    rw [arrV_size, aw_clamp hi]
    omega
  · rw [aw_clamp hi] at e1 ⊢
    exact k _ C (aw_rep_set hr hk0 e2 e3 (aw_stcell (ty := .object E) hk ht ⟨hn0, hn1⟩ h0 (aw_h hso) (aw_vref f0).symm e1 hall)) he (aw_old_set hk0 ho e3) (aw_loc hk0 hz) hc hs lsA hlv hlo (aw_t (aw_t (aw_t hso)))
theorem x_cast {v : Int} {index cN : Nat} {nm : String} {q : aw_Q} (hd : decode cc pc = .ok (.checkcast index, 3)) (hw : Cond.classLink own index nm ∈ lw_all) (hkv : v = 0 ∨ aw_k M v = (cN, 0)) (hq : aw_cls[cN]? = some q) (hE : q.1 = nm ∨ Cond.castable q.1 nm ∈ lw_tbl)
    (k : aw_W G own cc ret nL d ini M0 Q X c sl (pc + 3) ls ((2, v) :: st) M) : aw_W G own cc ret nL d ini M0 Q X c sl pc ls ((2, v) :: st) M := by
  intro p l e R s m args below meth cd H locs cells slots C hr he ho hz hc hs lsA hlv hlo hso
  have hts := C.2.2.2.2.2.2.1
  have hK := C.2.2.2.2.2.2.2.1
  have key := @k p l e R s m args below meth cd H locs cells slots C hr he ho hz hc hs lsA hlv hlo hso
  rw [List.map_cons] at key ⊢
  rcases hkv with rfl | hkv
  · rw [aw_null (Int.le_refl 0)] at key ⊢
    exact lv_castN C.1 C.2.1 hd key
  · obtain ⟨k1, rfl, f0, hB⟩ := aw_recv C ho hr hkv hq rfl
    rw [aw_vref f0] at key ⊢
    rcases hE with h | h
    · exact va_castS C.1 C.2.1 C.2.2.2.2.2.1 (hts _ hw) (by rw [← h]; exact (hK.1 cN q hq).2) (by rw [← h]; exact hB) hd key
    · exact va_castY C.1 C.2.1 C.2.2.2.2.2.1 (hts _ hw) (hK.2.2.1 _ h rfl) hB hd key
def aw_sub (E : String) (L : List Nat) : Prop := ∀ c ∈ L, ∃ q : aw_Q, aw_cls[c]? = some q ∧ (q.1 = E ∨ Cond.castable q.1 E ∈ lw_tbl)
theorem aw_sub0 {E : String} : aw_sub E [] := fun _ h => absurd h List.not_mem_nil
theorem aw_subC {E : String} {c : Nat} {L : List Nat} (q : aw_Q) (h : aw_cls[c]? = some q) (hE : q.1 = E ∨ Cond.castable q.1 E ∈ lw_tbl) (hL : aw_sub E L) : aw_sub E (c :: L) := List.forall_mem_cons.mpr ⟨⟨q, h, hE⟩, hL⟩
theorem y_aast {x i n v : Int} {t : Nat} {E : String} {L : List Nat} (hd : decode cc pc = .ok (.aastore, 1)) (hk : aw_k M x = (1000 + t, n)) (ht : aw_ats[t]? = some (.object E)) (hx : 4096 ≤ x) (h0 : 0 ≤ i) (h1 : i < n) (hL : aw_sub E L) (hv : v = 0 ∨ (aw_k M v).1 ∈ L ∧ (aw_k M v).2 = 0)
    (k : aw_W G own cc ret nL d ini M0 Q X c sl (pc + 1) ls st (aw_set M x i v)) : aw_W G own cc ret nL d ini M0 Q X c sl pc ls ((2, v) :: (0, i) :: (2, x) :: st) M := by
  rcases hv with hv | ⟨hv, h2⟩
  · exact x_aastN hd hk ht hx h0 h1 hv k
  · obtain ⟨q, hq, hE⟩ := hL _ hv
    exact x_aast hd hk ht hx h0 h1 (Prod.ext rfl h2) hq hE k
theorem y_cast {v : Int} {index : Nat} {nm : String} {L : List Nat} (hd : decode cc pc = .ok (.checkcast index, 3)) (hw : Cond.classLink own index nm ∈ lw_all) (hL : aw_sub nm L) (hv : v = 0 ∨ (aw_k M v).1 ∈ L ∧ (aw_k M v).2 = 0)
    (k : aw_W G own cc ret nL d ini M0 Q X c sl (pc + 3) ls ((2, v) :: st) M) : aw_W G own cc ret nL d ini M0 Q X c sl pc ls ((2, v) :: st) M := by
  rcases hv with hv | ⟨hv, h2⟩
  · subst hv
    intro p l e R s m args below meth cd H locs cells slots C hr he ho hz hc hs lsA hlv hlo hso
    have key := @k p l e R s m args below meth cd H locs cells slots C hr he ho hz hc hs lsA hlv hlo hso
    rw [List.map_cons, aw_null (Int.le_refl 0)] at key ⊢
    exact lv_castN C.1 C.2.1 hd key
  · obtain ⟨q, hq, hE⟩ := hL _ hv
    exact x_cast hd hw (Or.inr (Prod.ext rfl h2)) hq hE k
theorem aw_rf {ad : Nat → Nat} (x : Int) : aw_val ad (2, x) = va_rf (if x ≤ 0 then none else some (ad x.toNat)) := by
  by_cases h : x ≤ 0
  · rw [aw_null h, if_pos h]; rfl
  · rw [if_neg h, show aw_val ad (2, x) = .ref (ad x.toNat) from if_neg h]; rfl
theorem aw_rfe {H : Heap} (hr : aw_rep G M H) {x y : Int} (hx : 0 ≤ x) (hy : 0 ≤ y) (h : x = 0 ∨ 4096 ≤ x ∨ y = 0 ∨ 4096 ≤ y ∨ x = y) : (if x ≤ 0 then none else some (aw_ad G x.toNat)) = (if y ≤ 0 then none else some (aw_ad G y.toNat)) ↔ x = y := by
  constructor
  · intro q
    by_cases h1 : x ≤ 0 <;> by_cases h2 : y ≤ 0
    · omega
    · rw [if_pos h1, if_neg h2] at q; cases q
    · rw [if_neg h1, if_pos h2] at q; cases q
    · rw [if_neg h1, if_neg h2] at q
      have q := Option.some.inj q
      by_cases e : x.toNat = y.toNat
      · omega
      · by_cases h3 : 4096 ≤ x
        · exact absurd q.symm (aw_ad_ne hr (show aw_NC ≤ x.toNat by show 4096 ≤ x.toNat; omega) (Ne.symm e))
        · by_cases h4 : 4096 ≤ y
          · exact absurd q (aw_ad_ne hr (show aw_NC ≤ y.toNat by show 4096 ≤ y.toNat; omega) e)
          · omega
  · intro q
    rw [q]
theorem x_acmp_eq {x y off : Int} {tgt : Nat} (hd : decode cc pc = .ok (.if_acmp .eq off, 3)) (ht : (pc : Int) + off = (tgt : Int)) (hn : x = 0 ∨ 4096 ≤ x ∨ y = 0 ∨ 4096 ≤ y ∨ x = y) (kt : x = y → aw_W G own cc ret nL d ini M0 Q X c sl tgt ls st M) (kf : ¬ x = y → aw_W G own cc ret nL d ini M0 Q X c sl (pc + 3) ls st M) : aw_W G own cc ret nL d ini M0 Q X c sl pc ls ((2, y) :: (2, x) :: st) M := by
  intro p l e R s m args below meth cd H locs cells slots C hr he ho hz hc hs lsA hlv hlo hso
  have hE := aw_rfe (G := G) hr (aw_h (aw_t hso) : aw_va _ x).1 (aw_h hso : aw_va _ y).1 hn
  rw [List.map_cons, List.map_cons, aw_rf x, aw_rf y]
  exact lv_acmp_eq C.1 C.2.1 hd ht (fun q => kt (hE.mp q) _ C hr he ho hz hc hs lsA hlv hlo (aw_t (aw_t hso))) (fun q => kf (fun z => q (hE.mpr z)) _ C hr he ho hz hc hs lsA hlv hlo (aw_t (aw_t hso)))
theorem x_acmp_ne {x y off : Int} {tgt : Nat} (hd : decode cc pc = .ok (.if_acmp .ne off, 3)) (ht : (pc : Int) + off = (tgt : Int)) (hn : x = 0 ∨ 4096 ≤ x ∨ y = 0 ∨ 4096 ≤ y ∨ x = y) (kt : x ≠ y → aw_W G own cc ret nL d ini M0 Q X c sl tgt ls st M) (kf : ¬ x ≠ y → aw_W G own cc ret nL d ini M0 Q X c sl (pc + 3) ls st M) : aw_W G own cc ret nL d ini M0 Q X c sl pc ls ((2, y) :: (2, x) :: st) M := by
  intro p l e R s m args below meth cd H locs cells slots C hr he ho hz hc hs lsA hlv hlo hso
  have hE := aw_rfe (G := G) hr (aw_h (aw_t hso) : aw_va _ x).1 (aw_h hso : aw_va _ y).1 hn
  rw [List.map_cons, List.map_cons, aw_rf x, aw_rf y]
  exact lv_acmp_ne C.1 C.2.1 hd ht (fun q => kt (fun z => q (hE.mpr z)) _ C hr he ho hz hc hs lsA hlv hlo (aw_t (aw_t hso))) (fun q => kf (fun z => z (hE.mp q)) _ C hr he ho hz hc hs lsA hlv hlo (aw_t (aw_t hso)))
end AL
