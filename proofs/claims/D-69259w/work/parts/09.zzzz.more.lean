/-! more calls (inherited, overriding, through interfaces, super), casts, instanceof, references into arrays of Object, copies of references -/
set_option maxRecDepth 100000
section AO
variable {G : aw_G} {own : String} {cc : ByteArray} {ret : Option FieldType} {nL d : Nat} {ini : Bool} {M0 M : aw_M} {Q : Option aw_V → aw_M → Prop} {X : String → aw_M → Prop} {c sl pc : Nat} {ls : List (Nat × aw_V)} {st : List aw_V}
theorem x_callUR {x : Int} {index d' nL' mc ms : Nat} {xm y : MethodName} {cc' : ByteArray} {ret' : Option FieldType} {C owner : String} {as rest : List aw_V} {Qc : Option aw_V → aw_M → Prop} {Xc : String → aw_M → Prop} (hd : decode cc pc = .ok (.invokevirtual index, 3)) (hR : aw_Runs y cc' nL' ret' d' mc ms G ((2, x) :: as) M Qc Xc)
    (hT : Cond.code y cc' nL' ret' ∈ lw_all) (h1 : Cond.methodLink own index xm ∈ lw_all) (h2 : Cond.sameMethod xm.cls owner xm.name xm.desc ∈ lw_all) (h3 : (∃ b m0 r, Cond.code ⟨owner, xm.name, xm.desc⟩ b m0 r ∈ lw_all ∧ Cond.instanceMethod ⟨owner, xm.name, xm.desc⟩ ∈ lw_all) ∨ Cond.declares ⟨owner, xm.name, xm.desc⟩ ∈ lw_tbl) (h4 : Cond.selects C xm y ∈ lw_all) (h5 : Cond.instanceMethod y ∈ lw_all) (h6 : Cond.initialized y.cls ∈ lw_all)
    (hrv : ∀ {p : Program} {l : Launch} {R : Room} {s : State} {m : MethodId} {args : Array Value} {meth : Method} {cd : Code} {H : Heap}, aw_Cx G own cc ret nL d ini p l R s m args meth cd → aw_old G s.heap H → aw_rep G M H → ∃ k : Nat, x = (k : Int) ∧ 0 < k ∧ ∃ cellB : Cell, H[aw_ad G k]? = some cellB ∧ cellB.vm.isStatics = false ∧ s.vm.findClass C = some cellB.cls) (hy : owner ≠ "java/lang/invoke/MethodHandle" ∧ owner ≠ "java/lang/invoke/VarHandle" ∧ (parseMethodDescriptor xm.desc).map (fun d => d.parameters.length) = some as.length) (hdd : d' + 1 ≤ d) (hn : nL' ≤ 500)
    (hst : as.reverse ++ (2, x) :: rest = st) (hw : aw_cw rest ≤ 8)
    (k : ∀ (r : Option aw_V) (M' : aw_M), Qc r M' → aw_ext M M' → aw_W G own cc ret nL d ini M0 Q X c sl (pc + 3) ls (r.toList ++ rest) M')
    (kx : ∀ (E : String) (M' : aw_M), Xc E M' → aw_ext M M' → X E M' ∧ ¬ aw_hs cc) : aw_W G own cc ret nL d ini M0 Q X (c + mc) (sl + ms) pc ls st M := by
  exact aw_go (rest := rest) (Qc := Qc) (Xc := Xc) (fun {p l e R s m args below meth cd H locs cells slots lsA} C0 ho hr hso hsz hc hs => by
    obtain ⟨k0, rfl, h0, hB⟩ := hrv C0 ho hr
    have hts := C0.2.2.2.2.2.2.1
    have hav : Value.ref (aw_ad G k0) :: as.map (aw_val (aw_ad G)) = ((2, (k0 : Int)) :: as).map (aw_val (aw_ad G)) := by rw [List.map_cons, aw_vref h0]
    have hst2 : st.map (aw_val (aw_ad G)) = (as.map (aw_val (aw_ad G))).reverse ++ .ref (aw_ad G k0) :: rest.map (aw_val (aw_ad G)) := by rw [aw_rev hst, List.map_cons, aw_vref h0]
    have hpre := aw_pre (G := G) (M := M) (s := s) (H := H) (as := (2, (k0 : Int)) :: as) C0.2.2.2.2.2.2.2.2.2.2.2.2.2.2 ho C0.2.2.2.2.2.2.2.1 hr (fun v hv => hso v (by rw [← hst]; rcases List.mem_cons.mp hv with h | h; exact List.mem_append_right _ (by rw [h]; exact List.mem_cons_self); exact List.mem_append_left _ (List.mem_reverse.mpr h))) hav
    have hdecl : va_Decl s ⟨owner, xm.name, xm.desc⟩ := by
      rcases h3 with ⟨b, m0, r, g1, g2⟩ | g
      · exact va_Decl.of (hts _ g2) (hts _ g1)
      · obtain ⟨r0, r, g1, g2, g3, g4⟩ := Cond.declares_spec (args := args) (va_any (A := #[]) (A' := args) rfl (C0.2.2.2.2.2.2.2.1.2.2.1 _ g rfl))
        exact ⟨r0, r, g1, g2, g3, g4⟩
    have hG := lw_meth hT
    have hroom := aw_room (mc := mc) (ms := ms) hdd hn C0
    have hCU : va_CU R s args own C owner index xm y cc' nL' ret' (ws_ y cc' nL' ret') (aw_rm d' mc ms) mc ms as.length := by
      refine ⟨⟨rfl, rfl, hroom.1, hroom.2, pay_in hts hG, List.mem_cons_self⟩, hts _ hT, hts _ h6, ⟨hy.1, hy.2.1⟩, fun sig h => ?_, hts _ h1, hts _ h2, hdecl, hts _ h4, hts _ h5⟩
      have h9 := hy.2.2
      rw [h] at h9
      exact (Option.some.inj h9).symm
    refine ⟨(Value.ref (aw_ad G k0) :: as.map (aw_val (aw_ad G))).toArray, ?_⟩
    refine vx_runU (C := C) (owner := owner) (b := aw_ad G k0) (As := as.map (aw_val (aw_ad G))) (rest := rest.map (aw_val (aw_ad G))) ⟨C0.1, C0.2.1, C0.2.2.2.2.1, C0.2.2.2.2.2.1, C0.2.2.2.2.2.2.1⟩ (hR l C0.2.2.2.2.2.2.2.2.2.2.2.1) hCU ⟨hpre.1, hB, hpre.2⟩ rfl (List.length_map _) hsz hst2 (lv_room ?_) hd ⟨hc, hs⟩
    rw [aw_cw_map]
    exact hw) (fun v hv => by rw [← hst]; exact List.mem_append_right _ (List.mem_cons_of_mem _ hv)) k kx
theorem x_callU {x : Int} {index cN d' nL' mc ms : Nat} {q : aw_Q} {xm y : MethodName} {cc' : ByteArray} {ret' : Option FieldType} {C owner : String} {as rest : List aw_V} {Qc : Option aw_V → aw_M → Prop} {Xc : String → aw_M → Prop} (hd : decode cc pc = .ok (.invokevirtual index, 3)) (hR : aw_Runs y cc' nL' ret' d' mc ms G ((2, x) :: as) M Qc Xc)
    (hT : Cond.code y cc' nL' ret' ∈ lw_all) (h1 : Cond.methodLink own index xm ∈ lw_all) (h2 : Cond.sameMethod xm.cls owner xm.name xm.desc ∈ lw_all) (h3 : (∃ b m0 r, Cond.code ⟨owner, xm.name, xm.desc⟩ b m0 r ∈ lw_all ∧ Cond.instanceMethod ⟨owner, xm.name, xm.desc⟩ ∈ lw_all) ∨ Cond.declares ⟨owner, xm.name, xm.desc⟩ ∈ lw_tbl) (h4 : Cond.selects C xm y ∈ lw_all) (h5 : Cond.instanceMethod y ∈ lw_all) (h6 : Cond.initialized y.cls ∈ lw_all)
    (hk : aw_k M x = (cN, 0)) (hq : aw_cls[cN]? = some q) (hC : q.1 = C) (hy : owner ≠ "java/lang/invoke/MethodHandle" ∧ owner ≠ "java/lang/invoke/VarHandle" ∧ (parseMethodDescriptor xm.desc).map (fun d => d.parameters.length) = some as.length) (hdd : d' + 1 ≤ d) (hn : nL' ≤ 500)
    (hst : as.reverse ++ (2, x) :: rest = st) (hw : aw_cw rest ≤ 8)
    (k : ∀ (r : Option aw_V) (M' : aw_M), Qc r M' → aw_ext M M' → aw_W G own cc ret nL d ini M0 Q X c sl (pc + 3) ls (r.toList ++ rest) M')
    (kx : ∀ (E : String) (M' : aw_M), Xc E M' → aw_ext M M' → X E M' ∧ ¬ aw_hs cc) : aw_W G own cc ret nL d ini M0 Q X (c + mc) (sl + ms) pc ls st M :=
  x_callUR hd hR hT h1 h2 h3 h4 h5 h6 (fun C0 ho hr => aw_recv C0 ho hr hk hq hC) hy hdd hn hst hw k kx
theorem aw_go5 {mc ms : Nat} {rest : List aw_V} {Qc : Option aw_V → aw_M → Prop} {Xc : String → aw_M → Prop}
    (hrun : ∀ {p : Program} {l : Launch} {e : Env} {R : Room} {s : State} {m : MethodId} {args : Array Value} {below : List Frame} {meth : Method} {cd : Code} {H : Heap} {locs : List Loc} {cells slots : Nat} {lsA : Array Slot}, aw_Cx G own cc ret nL d ini p l R s m args meth cd → aw_old G s.heap H → aw_rep G M H → (∀ v ∈ st, aw_ok (aw_k M) v) → lsA.size = nL → cells + mc ≤ R.cells → slots + ms ≤ R.slots →
      ∃ a : Array Value, vx_Run5 p l e R s m args below meth cd H locs cells slots mc ms (F0 m pc lsA (st.map (aw_val (aw_ad G)))) (rest.map (aw_val (aw_ad G))) (aw_QC G M Qc a) (aw_XC G M Xc) (fun q => aw_b G ≤ q))
    (hrest : ∀ v ∈ rest, v ∈ st)
    (k : ∀ (r : Option aw_V) (M' : aw_M), Qc r M' → aw_ext M M' → aw_W G own cc ret nL d ini M0 Q X c sl (pc + 5) ls (r.toList ++ rest) M')
    (kx : ∀ (E : String) (M' : aw_M), Xc E M' → aw_ext M M' → X E M' ∧ ¬ aw_hs cc) : aw_W G own cc ret nL d ini M0 Q X (c + mc) (sl + ms) pc ls st M := by
  intro p l e R s m args below meth cd H locs cells slots C hr he ho hz hc hs lsA hlv hlo hso T hT Xs
  obtain ⟨a, hru⟩ := hrun (e := e) (below := below) (locs := locs) (cells := cells) (slots := slots) (lsA := lsA) C ho hr hso hlv.1 (by omega) (by omega)
  have hz' : ∀ L : List Loc, (∀ q ∈ L, aw_b G ≤ q.base) → ∀ z ∈ locs ++ L, aw_b G ≤ z.base := fun L hL z h => (List.mem_append.mp h).elim (hz z) (hL z)
  rcases hru T hT Xs with ⟨v, st₀, t, T', L, h0, X', hL, e1, e2, hq, hst⟩ | ⟨q, st₀, t, T', L, E, ce, h0, X', hL, e1, e2, hx, hcell, hvm, hcl, hst⟩
  · obtain ⟨r, M', hv, hok, hQ, hext, hrep, hold⟩ := hq
    have hv' : v = r.map (aw_val (aw_ad G)) := Outcome.returned.inj hv
    subst hv'
    obtain ⟨t2, a1, b1⟩ := k r M' hQ hext _ C (H := T'.heap) (by rw [e1]; exact hrep) (he.tr hext) (fun q hq => by rw [e1, hold q hq, h0]; exact ho q hq) (hz' L hL) (cells := cells + mc) (slots := slots + ms) (by omega) (by omega) lsA hlv (fun q hq => aw_ok_mono hext.2 (hlo q hq))
      (fun w hw => (List.mem_append.mp hw).elim (fun h => hok w (by cases r with | none => exact absurd h List.not_mem_nil | some x => exact congrArg some (List.mem_singleton.mp h).symm)) (fun h => aw_ok_mono hext.2 (hso w (hrest w h)))) T' rfl X'
    refine ⟨t2, hst t2 ?_, b1⟩
    have e3 : (r.toList ++ rest).map (aw_val (aw_ad G)) = (r.map (aw_val (aw_ad G))).toList ++ rest.map (aw_val (aw_ad G)) := by cases r <;> rfl
    rw [e3] at a1
    exact a1
  · obtain ⟨M', hX, hext, hrep, hold⟩ := hx
    obtain ⟨t2, a1, b1⟩ := vx_out (pc := pc) (ls := lsA) (rest := rest.map (aw_val (aw_ad G))) (H := T'.heap) (locs := locs ++ L) (cells := cells + mc) (slots := slots + ms) (mc := R.cells) (ms := R.slots) (Qc := aw_QC G M0 Q) (XC := aw_XC G M0 X) (free := fun q => aw_b G ≤ q)
      (fun x hx => ((kx E M' hX hext).2 (C.2.2.2.2.2.2.2.2.2.2.2.2.1.1 x hx)).elim) C.2.2.2.1 (by rw [e1]; exact hcell) hvm hcl
      (fun t' ht' _ => ⟨M', (kx E M' hX hext).1, he.tr hext, by rw [ht', e1]; exact hrep, fun q hq => by rw [ht', e1, hold q hq, h0]; exact ho q hq⟩) (hz' L hL) (by omega) (by omega) T' rfl X'
    exact ⟨t2, Steps.trans hst a1, b1⟩
theorem x_callF {x : Int} {index count cN d' nL' mc ms : Nat} {q : aw_Q} {xm y : MethodName} {cc' : ByteArray} {ret' : Option FieldType} {C : String} {as rest : List aw_V} {Qc : Option aw_V → aw_M → Prop} {Xc : String → aw_M → Prop} (hd : decode cc pc = .ok (.invokeinterface index count, 5)) (hR : aw_Runs y cc' nL' ret' d' mc ms G ((2, x) :: as) M Qc Xc)
    (hT : Cond.code y cc' nL' ret' ∈ lw_all) (h1 : Cond.methodLink own index xm ∈ lw_all) (h2 : List.elem xm aw_ims = true) (h3 : Cond.selects C xm y ∈ lw_all) (h4 : Cond.instanceMethod y ∈ lw_all) (h5 : Cond.initialized y.cls ∈ lw_all) (h6 : Cond.publicMethod y ∈ lw_tbl) (h7 : Cond.unhidden C xm.name xm.desc ∈ lw_tbl) (h8 : Cond.castable C xm.cls ∈ lw_tbl)
    (hk : aw_k M x = (cN, 0)) (hq : aw_cls[cN]? = some q) (hC : q.1 = C) (hy : (parseMethodDescriptor xm.desc).map (fun d => d.parameters.length) = some as.length) (hdd : d' + 1 ≤ d) (hn : nL' ≤ 500)
    (hst : as.reverse ++ (2, x) :: rest = st) (hw : aw_cw rest ≤ 8)
    (k : ∀ (r : Option aw_V) (M' : aw_M), Qc r M' → aw_ext M M' → aw_W G own cc ret nL d ini M0 Q X c sl (pc + 5) ls (r.toList ++ rest) M')
    (kx : ∀ (E : String) (M' : aw_M), Xc E M' → aw_ext M M' → X E M' ∧ ¬ aw_hs cc) : aw_W G own cc ret nL d ini M0 Q X (c + mc) (sl + ms) pc ls st M := by
  exact aw_go5 (rest := rest) (Qc := Qc) (Xc := Xc) (fun {p l e R s m args below meth cd H locs cells slots lsA} C0 ho hr hso hsz hc hs => by
    obtain ⟨k0, rfl, h0, hB⟩ := aw_recv C0 ho hr hk hq hC
    have hts := C0.2.2.2.2.2.2.1
    have hK := C0.2.2.2.2.2.2.2.1
    have hm : xm ∈ aw_ims := List.elem_iff.mp h2
    have hav : Value.ref (aw_ad G k0) :: as.map (aw_val (aw_ad G)) = ((2, (k0 : Int)) :: as).map (aw_val (aw_ad G)) := by rw [List.map_cons, aw_vref h0]
    have hst2 : st.map (aw_val (aw_ad G)) = (as.map (aw_val (aw_ad G))).reverse ++ .ref (aw_ad G k0) :: rest.map (aw_val (aw_ad G)) := by rw [aw_rev hst, List.map_cons, aw_vref h0]
    have hpre := aw_pre (G := G) (M := M) (s := s) (H := H) (as := (2, (k0 : Int)) :: as) C0.2.2.2.2.2.2.2.2.2.2.2.2.2.2 ho C0.2.2.2.2.2.2.2.1 hr (fun v hv => hso v (by rw [← hst]; rcases List.mem_cons.mp hv with h | h; exact List.mem_append_right _ (by rw [h]; exact List.mem_cons_self); exact List.mem_append_left _ (List.mem_reverse.mpr h))) hav
    have hG := lw_meth hT
    have hroom := aw_room (mc := mc) (ms := ms) hdd hn C0
    have nw : ∀ {w : Cond}, w ∈ lw_tbl → aw_nk w = true → w.before args s = true := fun hw hk => va_any (A := #[]) (A' := args) (aw_nk_t hk) (hK.2.2.1 _ hw hk)
    have hCI : va_CI R s args own C index xm y cc' nL' ret' (ws_ y cc' nL' ret') (aw_rm d' mc ms) mc ms as.length := by
      refine ⟨⟨rfl, rfl, hroom.1, hroom.2, pay_in hts hG, List.mem_cons_self⟩, hts _ h1, nw (aw_imd xm hm).1 rfl, va_any (A := #[]) (A' := args) rfl (hK.2.2.2.2 xm hm), hts _ h3, hts _ h4, nw h6 rfl, nw h7 rfl, nw h8 rfl, hts _ h5, hts _ hT, (aw_imd xm hm).2, fun sig h => ?_⟩
      rw [h] at hy
      exact (Option.some.inj hy).symm
    obtain ⟨-, hfc, kC, hkC, hkind⟩ := hK.1 cN q hq
    refine ⟨(Value.ref (aw_ad G k0) :: as.map (aw_val (aw_ad G))).toArray, ?_⟩
    refine vx_runF (C := C) (cC := G.1 cN) (b := aw_ad G k0) (As := as.map (aw_val (aw_ad G))) (rest := rest.map (aw_val (aw_ad G))) (by rw [← hC]; exact (hK.1 cN q hq).2) ⟨C0.1, C0.2.1, C0.2.2.2.2.1, C0.2.2.2.2.2.1, C0.2.2.2.2.2.2.1⟩ (hR l C0.2.2.2.2.2.2.2.2.2.2.2.1) hCI ⟨hpre.1, hB, hpre.2⟩ rfl (List.length_map _) hsz hst2 (lv_room ?_) hd ⟨hc, hs⟩
    rw [aw_cw_map]
    exact hw) (fun v hv => by rw [← hst]; exact List.mem_append_right _ (List.mem_cons_of_mem _ hv)) k kx
theorem x_ldcf {index : Nat} {v : UInt32} {z : Int} (hd : decode cc pc = .ok (.ldc index, 2)) (hw : Cond.constantFloat own index v ∈ lw_all) (hz : UInt32.ofNat z.toNat = v) (hr32 : 0 ≤ z ∧ z < 4294967296) (k : aw_W G own cc ret nL d ini M0 Q X c sl (pc + 2) ls ((3, z) :: st) M) : aw_W G own cc ret nL d ini M0 Q X c sl pc ls st M := by
  subst hz
  exact aw_st (st' := (3, z) :: st) (fun hx hb hown hts _ hso _ => ⟨aw_c1 (v := (3, z)) hr32.2 hso, fun w => lv_ldcf hx hb hown (hts _ hw) hd (by rw [List.map_cons, show aw_val (aw_ad G) (3, z) = .float (UInt32.ofNat z.toNat) from if_neg (show ¬ z < 0 by omega)] at w; exact w)⟩) k
/-- instanceof: yes, by the class itself or a cast that is known -/
theorem x_instY {x : Int} {index cN : Nat} {q : aw_Q} {nm : String} (hd : decode cc pc = .ok (.instanceof index, 3)) (hw : Cond.classLink own index nm ∈ lw_all) (hk : aw_k M x = (cN, 0)) (hq : aw_cls[cN]? = some q) (hE : q.1 = nm ∨ Cond.castable q.1 nm ∈ lw_tbl)
    (k : aw_W G own cc ret nL d ini M0 Q X c sl (pc + 3) ls ((0, 1) :: st) M) : aw_W G own cc ret nL d ini M0 Q X c sl pc ls ((2, x) :: st) M := by
  intro p l e R s m args below meth cd H locs cells slots C hr he ho hz hc hs lsA hlv hlo hso
  have hts := C.2.2.2.2.2.2.1
  have hK := C.2.2.2.2.2.2.2.1
  obtain ⟨k0, rfl, h0, hB⟩ := aw_recv C ho hr hk hq rfl
  have key := k _ (e := e) (below := below) C hr he ho hz hc hs lsA hlv hlo (aw_c1 (v := (0, 1)) (show R32 1 by decide) (aw_t hso))
  rw [List.map_cons, aw_vref h0]
  rcases hE with h | h
  · exact va_instS C.1 C.2.1 C.2.2.2.2.2.1 (hts _ hw) (by rw [← h]; exact (hK.1 cN q hq).2) (by rw [← h]; exact hB) hd key
  · exact va_instY C.1 C.2.1 C.2.2.2.2.2.1 (hts _ hw) (hK.2.2.1 _ h rfl) hB hd key
end AO
