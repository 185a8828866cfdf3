/-! any reference that can stand goes into an array of Object; arrays are cast by their own class -/
set_option maxRecDepth 100000
theorem aw_co : ∀ q ∈ aw_cls, Cond.castable q.1 "java/lang/Object" ∈ lw_tbl := List.forall_mem_cons.mpr ⟨(lw_at lw_m39 118 rfl), List.forall_mem_cons.mpr ⟨(lw_at lw_m39 119 rfl), List.forall_mem_cons.mpr ⟨(lw_at lw_m39 120 rfl), List.forall_mem_cons.mpr ⟨(lw_at lw_m39 121 rfl), List.forall_mem_cons.mpr ⟨(lw_at lw_m39 122 rfl), List.forall_mem_cons.mpr ⟨(lw_at lw_m39 123 rfl), List.forall_mem_cons.mpr ⟨(lw_at lw_m39 126 rfl), List.forall_mem_cons.mpr ⟨(lw_at lw_m39 127 rfl), List.forall_mem_cons.mpr ⟨(lw_at lw_m39 128 rfl), List.forall_mem_cons.mpr ⟨(lw_at lw_m39 106 rfl), List.forall_mem_cons.mpr ⟨(lw_at lw_m39 107 rfl), List.forall_mem_cons.mpr ⟨(lw_at lw_m39 129 rfl), List.forall_mem_cons.mpr ⟨(lw_at lw_m39 130 rfl), List.forall_mem_cons.mpr ⟨(lw_at lw_m39 131 rfl), List.forall_mem_cons.mpr ⟨(lw_at lw_m39 132 rfl), List.forall_mem_cons.mpr ⟨(lw_at lw_m39 133 rfl), List.forall_mem_cons.mpr ⟨(lw_at lw_m39 134 rfl), List.forall_mem_cons.mpr ⟨(lw_at lw_m39 135 rfl), List.forall_mem_cons.mpr ⟨(lw_at lw_m39 136 rfl), List.forall_mem_cons.mpr ⟨(lw_at lw_m39 137 rfl), List.forall_mem_cons.mpr ⟨(lw_at lw_m39 109 rfl), List.forall_mem_cons.mpr ⟨(lw_at lw_m39 110 rfl), List.forall_mem_cons.mpr ⟨(lw_at lw_m39 138 rfl), List.forall_mem_cons.mpr ⟨(lw_at lw_m39 139 rfl), List.forall_mem_cons.mpr ⟨(lw_at lw_m39 111 rfl), List.forall_mem_cons.mpr ⟨(lw_at lw_m39 140 rfl), List.forall_mem_cons.mpr ⟨(lw_at lw_m39 141 rfl), List.forall_mem_cons.mpr ⟨(lw_at lw_m39 113 rfl), List.forall_mem_cons.mpr ⟨(lw_at lw_m39 142 rfl), List.forall_mem_cons.mpr ⟨(lw_at lw_m39 115 rfl), List.forall_mem_cons.mpr ⟨(lw_at lw_m39 114 rfl), List.forall_mem_cons.mpr ⟨(lw_at lw_m39 143 rfl), List.forall_mem_cons.mpr ⟨(lw_at lw_m39 144 rfl), List.forall_mem_cons.mpr ⟨(lw_at lw_m39 148 rfl), List.forall_mem_cons.mpr ⟨(lw_at lw_m39 149 rfl), List.forall_mem_cons.mpr ⟨(lw_at lw_m39 150 rfl), List.forall_mem_cons.mpr ⟨(lw_at lw_m39 151 rfl), List.forall_mem_cons.mpr ⟨(lw_at lw_m39 152 rfl), List.forall_mem_cons.mpr ⟨(lw_at lw_m39 153 rfl), List.forall_mem_cons.mpr ⟨(lw_at lw_m39 154 rfl), List.forall_mem_cons.mpr ⟨(lw_at lw_m39 155 rfl), List.forall_mem_cons.mpr ⟨(lw_at lw_m39 156 rfl), List.forall_mem_cons.mpr ⟨(lw_at lw_m39 157 rfl), List.forall_mem_cons.mpr ⟨(lw_at lw_m39 158 rfl), List.forall_mem_cons.mpr ⟨(lw_at lw_m39 159 rfl), List.forall_mem_cons.mpr ⟨(lw_at lw_m39 160 rfl), List.forall_mem_cons.mpr ⟨(lw_at lw_m39 161 rfl), List.forall_mem_cons.mpr ⟨(lw_at lw_m39 162 rfl), List.forall_mem_cons.mpr ⟨(lw_at lw_m39 163 rfl), List.forall_mem_cons.mpr ⟨(lw_at lw_m39 164 rfl), List.forall_mem_cons.mpr ⟨(lw_at lw_m39 165 rfl), List.forall_mem_cons.mpr ⟨(lw_at lw_m39 166 rfl), List.forall_mem_cons.mpr ⟨(lw_at lw_m39 167 rfl), List.forall_mem_cons.mpr ⟨(lw_at lw_m39 168 rfl), List.forall_mem_cons.mpr ⟨(lw_at lw_m39 175 rfl), List.forall_mem_cons.mpr ⟨(lw_at lw_m39 176 rfl), List.forall_mem_cons.mpr ⟨(lw_at lw_m39 116 rfl), List.forall_mem_cons.mpr ⟨(lw_at lw_m39 187 rfl), List.forall_mem_cons.mpr ⟨(lw_at lw_m39 191 rfl), List.forall_mem_cons.mpr ⟨(lw_at lw_m39 192 rfl), List.forall_mem_cons.mpr ⟨(lw_at lw_m39 124 rfl), List.forall_mem_cons.mpr ⟨(lw_at lw_m39 125 rfl), List.forall_mem_cons.mpr ⟨(lw_at lw_m39 145 rfl), List.forall_mem_cons.mpr ⟨(lw_at lw_m39 146 rfl), List.forall_mem_cons.mpr ⟨(lw_at lw_m39 147 rfl), List.forall_mem_cons.mpr ⟨(lw_at lw_m39 193 rfl), List.forall_mem_cons.mpr ⟨(lw_at lw_m39 169 rfl), List.forall_mem_cons.mpr ⟨(lw_at lw_m39 170 rfl), List.forall_mem_cons.mpr ⟨(lw_at lw_m39 171 rfl), List.forall_mem_cons.mpr ⟨(lw_at lw_m39 172 rfl), List.forall_mem_cons.mpr ⟨(lw_at lw_m39 177 rfl), List.forall_mem_cons.mpr ⟨(lw_at lw_m39 173 rfl), List.forall_mem_cons.mpr ⟨(lw_at lw_m39 174 rfl), List.forall_mem_cons.mpr ⟨(lw_at lw_m39 181 rfl), List.forall_mem_cons.mpr ⟨(lw_at lw_m39 117 rfl), List.forall_mem_cons.mpr ⟨(lw_at lw_m39 180 rfl), List.forall_mem_cons.mpr ⟨(lw_at lw_m39 182 rfl), List.forall_mem_cons.mpr ⟨(lw_at lw_m39 183 rfl), List.forall_mem_cons.mpr ⟨(lw_at lw_m39 185 rfl), List.forall_mem_cons.mpr ⟨(lw_at lw_m39 184 rfl), List.forall_mem_cons.mpr ⟨(lw_at lw_m39 186 rfl), List.forall_mem_cons.mpr ⟨(lw_at lw_m39 188 rfl), List.forall_mem_cons.mpr ⟨(lw_at lw_m39 189 rfl), List.forall_mem_cons.mpr ⟨(lw_at lw_m39 190 rfl), fun _ h => absurd h List.not_mem_nil⟩⟩⟩⟩⟩⟩⟩⟩⟩⟩⟩⟩⟩⟩⟩⟩⟩⟩⟩⟩⟩⟩⟩⟩⟩⟩⟩⟩⟩⟩⟩⟩⟩⟩⟩⟩⟩⟩⟩⟩⟩⟩⟩⟩⟩⟩⟩⟩⟩⟩⟩⟩⟩⟩⟩⟩⟩⟩⟩⟩⟩⟩⟩⟩⟩⟩⟩⟩⟩⟩⟩⟩⟩⟩⟩⟩⟩⟩⟩⟩⟩⟩⟩⟩
def aw_an (ty : FieldType) : String := "[" ++ ty.toString
theorem aw_ca : ∀ t : Nat, t < aw_ats.length → t ≠ 5 → ∃ (ty : FieldType) (nm : String), aw_ats[t]? = some ty ∧ aw_an ty = nm ∧ Cond.castable nm "java/lang/Object" ∈ lw_tbl := by
  intro t h h5
  match t, h, h5 with
  | 0, _, _ => exact ⟨_, "[I", rfl, by decide +kernel, (lw_at lw_m39 198 rfl)⟩
  | 1, _, _ => exact ⟨_, "[J", rfl, by decide +kernel, (lw_at lw_m39 204 rfl)⟩
  | 2, _, _ => exact ⟨_, "[B", rfl, by decide +kernel, (lw_at lw_m39 199 rfl)⟩
  | 3, _, _ => exact ⟨_, "[Z", rfl, by decide +kernel, (lw_at lw_m39 200 rfl)⟩
  | 4, _, _ => exact ⟨_, "[S", rfl, by decide +kernel, (lw_at lw_m39 207 rfl)⟩
  | 5, _, h5 => exact absurd rfl h5
  | 6, _, _ => exact ⟨_, "[LWasteHouse$ShareSolve$Whole;", rfl, by decide +kernel, (lw_at lw_m39 201 rfl)⟩
  | 7, _, _ => exact ⟨_, "[LWasteHouse$ShareSolve$Amount;", rfl, by decide +kernel, (lw_at lw_m39 202 rfl)⟩
  | 8, _, _ => exact ⟨_, "[LWasteHouse$HazardRules$Word;", rfl, by decide +kernel, (lw_at lw_m39 203 rfl)⟩
  | 9, _, _ => exact ⟨_, "[LWasteHouse$BarredStores$Place;", rfl, by decide +kernel, (lw_at lw_m39 205 rfl)⟩
  | 10, _, _ => exact ⟨_, "[LWasteHouse$BarredStores$Load;", rfl, by decide +kernel, (lw_at lw_m39 206 rfl)⟩
  | 11, _, _ => exact ⟨_, "[LWasteHouse$PartGraphs$Part;", rfl, by decide +kernel, (lw_at lw_m39 208 rfl)⟩
  | 12, _, _ => exact ⟨_, "[LWasteHouse$PartGraphs$Sentence;", rfl, by decide +kernel, (lw_at lw_m39 209 rfl)⟩
  | 13, _, _ => exact ⟨_, "[LWasteHouse$ApartCost$Act;", rfl, by decide +kernel, (lw_at lw_m39 210 rfl)⟩
  | 14, _, _ => exact ⟨_, "[LWasteHouse$PurityOdds$Lot;", rfl, by decide +kernel, (lw_at lw_m39 211 rfl)⟩
  | 15, _, _ => exact ⟨_, "[LWasteHouse$PurityOdds$Ratio;", rfl, by decide +kernel, (lw_at lw_m39 212 rfl)⟩
  | 16, _, _ => exact ⟨_, "[LWasteHouse$DepositCodes$Span;", rfl, by decide +kernel, (lw_at lw_m39 213 rfl)⟩
  | 17, _, _ => exact ⟨_, "[Ljava/lang/Object;", rfl, by decide +kernel, (lw_at lw_m39 214 rfl)⟩
  | 18, _, _ => exact ⟨_, "[Ljava/util/HashMap$Node;", rfl, by decide +kernel, (lw_at lw_m39 215 rfl)⟩
  | n + 19, h, _ => exact absurd h (by show ¬ n + 19 < 19; omega)
theorem aw_nst {vm : VmData} (h : ∀ k, vm ≠ .statics k) : vm.isStatics = false := by
  cases h2 : vm with
  | statics k => exact absurd h2 (h k)
  | _ => rfl
theorem aw_fa {G : aw_G} {s : State} (hK : aw_K G s) {t : Nat} {ty : FieldType} (ht : aw_ats[t]? = some ty) : s.vm.findClass (aw_an ty) = some (G.2.2.1 t) := by
  have h := (hK.2.1 t ty ht).2
  cases ty with
  | object C => obtain ⟨kA, comp, h1, h2, h3, h4⟩ := h; exact h4
  | _ => exact h
section AQO
variable {G : aw_G} {own : String} {cc : ByteArray} {ret : Option FieldType} {nL d : Nat} {ini : Bool} {M0 M : aw_M} {Q : Option aw_V → aw_M → Prop} {X : String → aw_M → Prop} {c sl pc : Nat} {ls : List (Nat × aw_V)} {st : List aw_V}
theorem aw_any {p : Program} {l : Launch} {R : Room} {s : State} {m : MethodId} {args : Array Value} {meth : Method} {cd : Code} {H : Heap} (C : aw_Cx G own cc ret nL d ini p l R s m args meth cd) (ho : aw_old G s.heap H) (hr : aw_rep G M H) {v : Int} (hv : aw_va (aw_k M) v) (h0 : v ≠ 0) :
    ∃ k : Nat, v = (k : Int) ∧ 0 < k ∧ ∃ cellV : Cell, H[aw_ad G k]? = some cellV ∧ (∀ z, cellV.vm ≠ .statics z) ∧ (∃ kC : Class, s.vm.classes[cellV.cls]? = some kC) ∧ ∀ comp : ClassId, s.vm.findClass "java/lang/Object" = some comp → s.vm.assignable cellV.cls comp = true := by
  have hK := C.2.2.2.2.2.2.2.1
  have hZ := C.2.2.2.2.2.2.2.2.2.2.2.2.2.2
  have nst : ∀ {cell : Cell}, cell.vm.isStatics = false → ∀ z, cell.vm ≠ .statics z := fun h z q => by rw [q] at h; cases h
  rcases hv.2.resolve_left h0 with h | h | h
  · have hq : aw_cls[(aw_k M v).1]? = some (aw_cls[(aw_k M v).1]'h.1) := List.getElem?_eq_getElem h.1
    obtain ⟨k0, e0, p0, cell, g1, g2, g3⟩ := aw_recv C ho hr (Prod.ext rfl h.2 : aw_k M v = ((aw_k M v).1, 0)) hq rfl
    obtain ⟨kC, hkC⟩ := aw_kcl g3
    exact ⟨k0, e0, p0, cell, g1, nst g2, ⟨kC, hkC⟩, fun comp h9 => vb_asgC (hK.2.2.1 _ (aw_co _ (List.mem_of_getElem? hq)) rfl) comp cell.cls h9 g3⟩
  · obtain ⟨ty, nm, ht, hnm, hca⟩ := aw_ca ((aw_k M v).1 - 1000) (by omega) (by omega)
    obtain ⟨k0, e0, p0, -, -, -, ⟨cell, g1, ⟨g2, g3⟩, -⟩, -⟩ := aw_arrW C ho hr (n := (aw_k M v).2) (Prod.ext (by show (aw_k M v).1 = 1000 + ((aw_k M v).1 - 1000); omega) rfl) ht
    have hf : s.vm.findClass nm = some cell.cls := by rw [← hnm, g3]; exact aw_fa hK ht
    obtain ⟨kC, hkC⟩ := aw_kcl hf
    exact ⟨k0, e0, p0, cell, g1, g2.1, ⟨kC, hkC⟩, fun comp h9 => vb_asgC (hK.2.2.1 _ hca rfl) comp cell.cls h9 hf⟩
  · obtain ⟨h1, h2⟩ := h
    have hv0 := hv.1
    obtain ⟨k0, rfl⟩ := Int.eq_ofNat_of_zero_le hv0
    have hlt : k0 < aw_NC := by show k0 < 4096; omega
    have hc := (hr.2.2.1.2 k0 hlt).1
    rw [hc] at h2
    have fin : ∀ {E : String}, (Cond.castable E "java/lang/Object" ∈ lw_tbl ∨ E = "java/lang/Object") → va_O E (aw_ad G k0) (aw_A G) s s.heap → ∃ cellV : Cell, H[aw_ad G k0]? = some cellV ∧ (∀ z, cellV.vm ≠ .statics z) ∧ (∃ kC : Class, s.vm.classes[cellV.cls]? = some kC) ∧ ∀ comp : ClassId, s.vm.findClass "java/lang/Object" = some comp → s.vm.assignable cellV.cls comp = true := by
      intro E hE hO
      obtain ⟨cell, g1, g2, g3, -⟩ := hO.kept (aw_qq ho)
      obtain ⟨kC, hkC⟩ := aw_kcl g3
      refine ⟨cell, g1, nst g2, ⟨kC, hkC⟩, fun comp h9 => ?_⟩
      rcases hE with hE | hE
      · exact vb_asgC (hK.2.2.1 _ hE rfl) comp cell.cls h9 g3
      · rw [hE] at g3
        exact vb_asgS (C := "java/lang/Object") comp cell.cls h9 g3
    refine ⟨k0, rfl, by omega, ?_⟩
    rcases h2 with h2 | h2 | h2
    · exact fin (Or.inl (lw_at lw_m39 108 rfl)) (hZ.1.2.2 k0 900 hlt h2 (Or.inl rfl)).1
    · exact fin (Or.inl (lw_at lw_m39 112 rfl)) (hZ.1.2.2 k0 901 hlt h2 (Or.inr rfl)).1
    · have e158 : k0 = 158 := by
        have hall : ∀ i : Nat, (!(decide ((ly_row i).1 = (997, 0))) || decide (i = 158)) = true := ly_all (fun i r => !(decide (r.1 = (997, 0))) || decide (i = 158)) (fun _ => rfl) (by decide +kernel)
        have h3 := hall k0
        have h4 : decide ((ly_row k0).1 = (997, 0)) = true := decide_eq_true h2
        rw [h4] at h3
        exact of_decide_eq_true (by simpa using h3)
      subst e158
      exact fin (Or.inr rfl) hZ.2.1.2.2.2.1.1
theorem x_aastO {x i n v : Int} {t : Nat} (hd : decode cc pc = .ok (.aastore, 1)) (hk : aw_k M x = (1000 + t, n)) (ht : aw_ats[t]? = some (.object "java/lang/Object")) (hx : 4096 ≤ x) (h0 : 0 ≤ i) (h1 : i < n)
    (k : aw_W G own cc ret nL d ini M0 Q X c sl (pc + 1) ls st (aw_set M x i v)) : aw_W G own cc ret nL d ini M0 Q X c sl pc ls ((2, v) :: (0, i) :: (2, x) :: st) M := by
  by_cases hv0 : v = 0
  · exact x_aastN hd hk ht hx h0 h1 hv0 k
  · intro p l e R s m args below meth cd H locs cells slots C hr he ho hz hc hs lsA hlv hlo hso
    have hts := C.2.2.2.2.2.2.1
    have hK := C.2.2.2.2.2.2.2.1
    obtain ⟨k0, rfl, g0, g1, hn0, hn1, hcell, hall⟩ := aw_arr hr hk ht hx
    obtain ⟨k1, rfl, f0, cellB, f1, f2, ⟨kB, f3⟩, f4⟩ := aw_any C ho hr (aw_h hso : aw_va (aw_k M) v) hv0
    have hk0 : aw_NC ≤ k0 := by show 4096 ≤ k0; omega
    have hi : R32 i := aw_h (aw_t hso)
    obtain ⟨kA, comp, a1, a2, a3, -⟩ := (hK.2.1 t _ ht).2
    obtain ⟨kcomp, hkcomp⟩ := aw_kcl a3
    rw [List.map_cons, List.map_cons, List.map_cons, aw_vref g0, aw_vref f0]
    refine W.aast C.1 C.2.1 hcell (fun q h => by cases h) (fun h => by cases h) a1 a2 rfl hkcomp ⟨fun h => ?_, ?_⟩ f1 f2 f3 (f4 comp a3) rfl rfl hd fun H' e1 e2 e3 => ?_
    · have h3 := (aw_lt_o hi (by decide : R32 0)).mp h
      omega
    · show _ < (arrV _ _ _).slots.size
      rw [arrV_size, aw_clamp hi]
      omega
    · rw [aw_clamp hi] at e1 ⊢
      exact k _ C (aw_rep_set hr hk0 e2 e3 (aw_stcell (ty := .object "java/lang/Object") hk ht ⟨hn0, hn1⟩ h0 (aw_h hso) (aw_vref f0).symm e1 hall)) he (aw_old_set hk0 ho e3) (aw_loc hk0 hz) hc hs lsA hlv hlo (aw_t (aw_t (aw_t hso)))
theorem x_castA {v : Int} {index t : Nat} {nm : String} {ty : FieldType} {n : Int} (hd : decode cc pc = .ok (.checkcast index, 3)) (hw : Cond.classLink own index nm ∈ lw_all) (ht : aw_ats[t]? = some ty) (hnm : aw_an ty = nm) (hv : v = 0 ∨ aw_k M v = (1000 + t, n))
    (k : aw_W G own cc ret nL d ini M0 Q X c sl (pc + 3) ls ((2, v) :: st) M) : aw_W G own cc ret nL d ini M0 Q X c sl pc ls ((2, v) :: st) M := by
  rcases hv with rfl | hv
  · exact x_castN hd k
  · intro p l e R s m args below meth cd H locs cells slots C hr he ho hz hc hs lsA hlv hlo hso
    have hts := C.2.2.2.2.2.2.1
    have key := @k p l e R s m args below meth cd H locs cells slots C hr he ho hz hc hs lsA hlv hlo hso
    obtain ⟨k0, rfl, p0, -, -, -, ⟨cell, g1, ⟨g2, g3⟩, -⟩, -⟩ := aw_arrW C ho hr hv ht
    rw [List.map_cons, aw_vref p0] at key ⊢
    exact va_castE C.1 C.2.1 C.2.2.2.2.2.1 (hts _ hw) ⟨cell, g1, aw_nst g2.1, by rw [← hnm, g3]; exact aw_fa C.2.2.2.2.2.2.2.1 ht⟩ hd key
end AQO
