/-! exceptions caught: WasteHouse.answer (aw_hrU, aw_goC follow x_callUR, aw_go) -/
set_option maxRecDepth 100000
section AC18
variable {G : aw_G} {own : String} {cc : ByteArray} {ret : Option FieldType} {nL d : Nat} {ini : Bool} {M0 M : aw_M} {Q : Option aw_V → aw_M → Prop} {X : String → aw_M → Prop} {c sl pc : Nat} {ls : List (Nat × aw_V)} {st : List aw_V}
theorem aw_hrU {x : Int} {index d' nL' mc ms : Nat} {xm y : MethodName} {cc' : ByteArray} {ret' : Option FieldType} {C owner : String} {as rest : List aw_V} {Qc : Option aw_V → aw_M → Prop} {Xc : String → aw_M → Prop} (hd : decode cc pc = .ok (.invokevirtual index, 3)) (hR : aw_Runs y cc' nL' ret' d' mc ms G ((2, x) :: as) M Qc Xc)
    (hT : Cond.code y cc' nL' ret' ∈ lw_all) (h1 : Cond.methodLink own index xm ∈ lw_all) (h2 : Cond.sameMethod xm.cls owner xm.name xm.desc ∈ lw_all) (h3 : (∃ b m0 r, Cond.code ⟨owner, xm.name, xm.desc⟩ b m0 r ∈ lw_all ∧ Cond.instanceMethod ⟨owner, xm.name, xm.desc⟩ ∈ lw_all) ∨ Cond.declares ⟨owner, xm.name, xm.desc⟩ ∈ lw_tbl) (h4 : Cond.selects C xm y ∈ lw_all) (h5 : Cond.instanceMethod y ∈ lw_all) (h6 : Cond.initialized y.cls ∈ lw_all)
    (hrv : ∀ {p : Program} {l : Launch} {R : Room} {s : State} {m : MethodId} {args : Array Value} {meth : Method} {cd : Code} {H : Heap}, aw_Cx G own cc ret nL d ini p l R s m args meth cd → aw_old G s.heap H → aw_rep G M H → ∃ k : Nat, x = (k : Int) ∧ 0 < k ∧ ∃ cellB : Cell, H[aw_ad G k]? = some cellB ∧ cellB.vm.isStatics = false ∧ s.vm.findClass C = some cellB.cls) (hy : owner ≠ "java/lang/invoke/MethodHandle" ∧ owner ≠ "java/lang/invoke/VarHandle" ∧ (parseMethodDescriptor xm.desc).map (fun d => d.parameters.length) = some as.length) (hdd : d' + 1 ≤ d) (hn : nL' ≤ 500)
    (hst : as.reverse ++ (2, x) :: rest = st) (hw : aw_cw rest ≤ 8) :
    ∀ {p : Program} {l : Launch} {e : Env} {R : Room} {s : State} {m : MethodId} {args : Array Value} {below : List Frame} {meth : Method} {cd : Code} {H : Heap} {locs : List Loc} {cells slots : Nat} {lsA : Array Slot}, aw_Cx G own cc ret nL d ini p l R s m args meth cd → aw_old G s.heap H → aw_rep G M H → (∀ v ∈ st, aw_ok (aw_k M) v) → lsA.size = nL → cells + mc ≤ R.cells → slots + ms ≤ R.slots →
      ∃ a : Array Value, vx_Run p l e R s m args below meth cd H locs cells slots mc ms (F0 m pc lsA (st.map (aw_val (aw_ad G)))) (rest.map (aw_val (aw_ad G))) (aw_QC G M Qc a) (aw_XC G M Xc) (fun q => aw_b G ≤ q) := fun {p l e R s m args below meth cd H locs cells slots lsA} C0 ho hr hso hsz hc hs => by
    obtain ⟨k0, rfl, h0, hB⟩ := hrv C0 ho hr
    have hts := C0.2.2.2.2.2.2.1
    have hav : Value.ref (aw_ad G k0) :: as.map (aw_val (aw_ad G)) = ((2, (k0 : Int)) :: as).map (aw_val (aw_ad G)) := by rw [List.map_cons, aw_vref h0]
    have hst2 : st.map (aw_val (aw_ad G)) = (as.map (aw_val (aw_ad G))).reverse ++ .ref (aw_ad G k0) :: rest.map (aw_val (aw_ad G)) := by rw [aw_rev hst, List.map_cons, aw_vref h0]
    have hpre := aw_pre (G := G) (M := M) (s := s) (H := H) (as := (2, (k0 : Int)) :: as) C0.2.2.2.2.2.2.2.2.2.2.2.2.2.2 ho C0.2.2.2.2.2.2.2.1 hr (fun v hv => hso v (by rw [← hst]; rcases List.mem_cons.mp hv with h | h; exact List.mem_append_right _ (by rw [h]; exact List.mem_cons_self); exact List.mem_append_left _ (List.mem_reverse.mpr h))) hav
    have hdecl : va_Decl s ⟨owner, xm.name, xm.desc⟩ := by
      rcases h3 with ⟨b, m0, r, g1, g2⟩ | g
      · exact va_Decl.of (hts _ g2) (hts _ g1)
      · obtain ⟨r0, r, g1, g2, g3, g4⟩ := Cond.declares_spec (args := args) (va_any (A := #[]) (A' := args) rfl (C0.2.2.2.2.2.2.2.1.2.2.1 _ g rfl))
        exact ⟨r0, r, g1, g2, g3, g4⟩
    have hG := lw_meth hT
    have hroom := aw_room (mc := mc) (ms := ms) hdd hn C0
    have hCU : va_CU R s args own C owner index xm y cc' nL' ret' (ws_ y cc' nL' ret') (aw_rm d' mc ms) mc ms as.length := by
      refine ⟨⟨rfl, rfl, hroom.1, hroom.2, pay_in hts hG, List.mem_cons_self⟩, hts _ hT, hts _ h6, ⟨hy.1, hy.2.1⟩, fun sig h => ?_, hts _ h1, hts _ h2, hdecl, hts _ h4, hts _ h5⟩
      have h9 := hy.2.2
      rw [h] at h9
      exact (Option.some.inj h9).symm
    refine ⟨(Value.ref (aw_ad G k0) :: as.map (aw_val (aw_ad G))).toArray, ?_⟩
    refine vx_runU (C := C) (owner := owner) (b := aw_ad G k0) (As := as.map (aw_val (aw_ad G))) (rest := rest.map (aw_val (aw_ad G))) ⟨C0.1, C0.2.1, C0.2.2.2.2.1, C0.2.2.2.2.2.1, C0.2.2.2.2.2.2.1⟩ (hR l C0.2.2.2.2.2.2.2.2.2.2.2.1) hCU ⟨hpre.1, hB, hpre.2⟩ rfl (List.length_map _) hsz hst2 (lv_room ?_) hd ⟨hc, hs⟩
    rw [aw_cw_map]
    exact hw
theorem aw_goC {mc ms : Nat} {rest : List aw_V} {Qc : Option aw_V → aw_M → Prop} {Xc : String → aw_M → Prop}
    (hrun :∀ {p : Program} {l : Launch} {e : Env} {R : Room} {s : State} {m : MethodId} {args : Array Value} {below : List Frame} {meth : Method} {cd : Code} {H : Heap} {locs : List Loc} {cells slots : Nat} {lsA : Array Slot}, aw_Cx G own cc ret nL d ini p l R s m args meth cd → aw_old G s.heap H → aw_rep G M H → (∀ v ∈ st, aw_ok (aw_k M) v) → lsA.size = nL → cells + mc ≤ R.cells → slots + ms ≤ R.slots →
      ∃ a : Array Value, vx_Run p l e R s m args below meth cd H locs cells slots mc ms (F0 m pc lsA (st.map (aw_val (aw_ad G)))) (rest.map (aw_val (aw_ad G))) (aw_QC G M Qc a) (aw_XC G M Xc) (fun q => aw_b G ≤ q))
    (hrest : ∀ v ∈ rest, v ∈ st) (hcc : cc = cX1_answer) (hpc : pc = 13) (hown : own = "WasteHouse")
    (k : ∀ (r : Option aw_V) (M' : aw_M), Qc r M' → aw_ext M M' → aw_W G own cc ret nL d ini M0 Q X c sl (pc + 3) ls (r.toList ++ rest) M')
    (kc : ∀ (E : String) (M' : aw_M), Xc E M' → aw_ext M M' → (E = "java/lang/ArrayIndexOutOfBoundsException" ∧ ∀ q : Nat, aw_W G own cc ret nL d ini M0 Q X c sl 20 ls [(3, aw_op q)] M') ∨ (E = "java/lang/IllegalStateException" ∧ ∀ q : Nat, aw_W G own cc ret nL d ini M0 Q X c sl 28 ls [(3, aw_op q)] M')) : aw_W G own cc ret nL d ini M0 Q X (c + mc) (sl + ms) pc ls st M := by
  intro p l e R s m args below meth cd H locs cells slots C hr he ho hz hc hs lsA hlv hlo hso T hT Xs
  have hts := C.2.2.2.2.2.2.1
  have hK := C.2.2.2.2.2.2.2.1
  have hZ := C.2.2.2.2.2.2.2.2.2.2.2.2.2.2
  obtain ⟨a, hru⟩ := hrun (e := e) (below := below) (locs := locs) (cells := cells) (slots := slots) (lsA := lsA) C ho hr hso hlv.1 (by omega) (by omega)
  have hz' : ∀ L : List Loc, (∀ q ∈ L, aw_b G ≤ q.base) → ∀ z ∈ locs ++ L, aw_b G ≤ z.base := fun L hL z h => (List.mem_append.mp h).elim (hz z) (hL z)
  rcases hru T hT Xs with ⟨v, st₀, t, T', L, h0, X', hL, e1, e2, hq, hst⟩ | ⟨q, st₀, t, T', L, E, ce, h0, X', hL, e1, e2, hx, hcell, hvm, hcl, hst⟩
  · obtain ⟨r, M', hv, hok, hQ, hext, hrep, hold⟩ := hq
    have hv' : v = r.map (aw_val (aw_ad G)) := Outcome.returned.inj hv
    subst hv'
    obtain ⟨t2, a1, b1⟩ := k r M' hQ hext _ C (H := T'.heap) (by rw [e1]; exact hrep) (he.tr hext) (fun q hq => by rw [e1, hold q hq, h0]; exact ho q hq) (hz' L hL) (cells := cells + mc) (slots := slots + ms) (by omega) (by omega) lsA hlv (fun q hq => aw_ok_mono hext.2 (hlo q hq))
      (fun w hw => (List.mem_append.mp hw).elim (fun h => hok w (by cases r with | none => exact absurd h List.not_mem_nil | some x => exact congrArg some (List.mem_singleton.mp h).symm)) (fun h => aw_ok_mono hext.2 (hso w (hrest w h)))) T' rfl X'
    refine ⟨t2, hst t2 ?_, b1⟩
    have e3 : (r.toList ++ rest).map (aw_val (aw_ad G)) = (r.map (aw_val (aw_ad G))).toList ++ rest.map (aw_val (aw_ad G)) := by cases r <;> rfl
    rw [e3] at a1
    exact a1
  · obtain ⟨M', hX, hext, hrep, hold⟩ := hx
    have htb : cd.exceptionTable.toList = [⟨7, 17, 20, 293⟩, ⟨7, 17, 28, 170⟩] := by
      rw [C.2.2.2.2.2.2.2.2.2.2.2.2.1.2 (Or.inl hcc)]
      unfold aw_hh
      rw [if_pos hcc]
      rfl
    have hcast : ∀ E9 : String, Cond.castable E9 E9 ∈ lw_tbl → (Cond.castable E9 E9).before args s = true := fun E9 h => va_any (A := #[]) (A' := args) rfl (hK.2.2.1 _ h rfl)
    have key : ∀ hp : Nat, (∀ q : Nat, aw_W G own cc ret nL d ini M0 Q X c sl hp ls [(3, aw_op q)] M') → W p l e R s m args below meth cd T'.heap (locs ++ L) (cells + mc) (slots + ms) (vx_MQ below (aw_QC G M0 Q) (aw_XC G M0 X) args s R.cells R.slots (fun q => aw_b G ≤ q)) (F0 m hp lsA [.ref q]) := fun hp kk => by
      have h9 := kk q _ (e := e) (below := below) C (H := T'.heap) (by rw [e1]; exact hrep) (he.tr hext) (fun q hq => by rw [e1, hold q hq, h0]; exact ho q hq) (hz' L hL) (cells := cells + mc) (slots := slots + ms) (by omega) (by omega) lsA hlv (fun q hq => aw_ok_mono hext.2 (hlo q hq)) (aw_c1 (v := (3, aw_op q)) aw_okop (fun v hv => absurd hv List.not_mem_nil))
      rw [List.map_cons, aw_vop] at h9
      exact h9
    have hw0 : s.vm.findClass "WasteHouse" = some m.cls := by rw [← hown]; exact C.2.2.2.2.2.1
    rcases kc E M' hX hext with ⟨rfl, kk⟩ | ⟨rfl, kk⟩
    · obtain ⟨t2, a1, b1⟩ := vx_catch (pc := pc) (own := "WasteHouse") (name := "java/lang/ArrayIndexOutOfBoundsException") (ls := lsA) (rest := rest.map (aw_val (aw_ad G))) hw0 [] ⟨7, 17, 20, 293⟩ [⟨7, 17, 28, 170⟩] htb (fun z hz => absurd hz List.not_mem_nil) (by rw [hpc]; decide) (by decide) (hts _ q3239) (hcast _ q3254) (by rw [e1]; exact hcell) hvm hcl (key 20 kk) T' rfl X'
      exact ⟨t2, Steps.trans hst a1, b1⟩
    · obtain ⟨t2, a1, b1⟩ := vx_catch (pc := pc) (own := "WasteHouse") (name := "java/lang/IllegalStateException") (ls := lsA) (rest := rest.map (aw_val (aw_ad G))) hw0 [⟨7, 17, 20, 293⟩] ⟨7, 17, 28, 170⟩ [] htb (fun z hz => by rw [List.mem_singleton.mp hz]; exact Or.inr ⟨by decide, _, hts _ q3239, hZ.2.1.2.2.2.2.1 _ (List.mem_cons_self)⟩) (by rw [hpc]; decide) (by decide) (hts _ q3258) (hcast _ q4345) (by rw [e1]; exact hcell) hvm hcl (key 28 kk) T' rfl X'
      exact ⟨t2, Steps.trans hst a1, b1⟩
theorem x_callUC {x : Int} {index cN d' nL' mc ms : Nat} {q : aw_Q} {xm y : MethodName} {cc' : ByteArray} {ret' : Option FieldType} {C owner : String} {as rest : List aw_V} {Qc : Option aw_V → aw_M → Prop} {Xc : String → aw_M → Prop} (hd : decode cc pc = .ok (.invokevirtual index, 3)) (hR : aw_Runs y cc' nL' ret' d' mc ms G ((2, x) :: as) M Qc Xc)
    (hT : Cond.code y cc' nL' ret' ∈ lw_all) (h1 : Cond.methodLink own index xm ∈ lw_all) (h2 : Cond.sameMethod xm.cls owner xm.name xm.desc ∈ lw_all) (h3 : (∃ b m0 r, Cond.code ⟨owner, xm.name, xm.desc⟩ b m0 r ∈ lw_all ∧ Cond.instanceMethod ⟨owner, xm.name, xm.desc⟩ ∈ lw_all) ∨ Cond.declares ⟨owner, xm.name, xm.desc⟩ ∈ lw_tbl) (h4 : Cond.selects C xm y ∈ lw_all) (h5 : Cond.instanceMethod y ∈ lw_all) (h6 : Cond.initialized y.cls ∈ lw_all)
    (hk : aw_k M x = (cN, 0)) (hq : aw_cls[cN]? = some q) (hC : q.1 = C) (hy : owner ≠ "java/lang/invoke/MethodHandle" ∧ owner ≠ "java/lang/invoke/VarHandle" ∧ (parseMethodDescriptor xm.desc).map (fun d => d.parameters.length) = some as.length) (hdd : d' + 1 ≤ d) (hn : nL' ≤ 500)
    (hst : as.reverse ++ (2, x) :: rest = st) (hw : aw_cw rest ≤ 8)
    (hcc : cc = cX1_answer) (hpc : pc = 13) (hown : own = "WasteHouse")
    (k : ∀ (r : Option aw_V) (M' : aw_M), Qc r M' → aw_ext M M' → aw_W G own cc ret nL d ini M0 Q X c sl (pc + 3) ls (r.toList ++ rest) M')
    (kc : ∀ (E : String) (M' : aw_M), Xc E M' → aw_ext M M' → (E = "java/lang/ArrayIndexOutOfBoundsException" ∧ ∀ q : Nat, aw_W G own cc ret nL d ini M0 Q X c sl 20 ls [(3, aw_op q)] M') ∨ (E = "java/lang/IllegalStateException" ∧ ∀ q : Nat, aw_W G own cc ret nL d ini M0 Q X c sl 28 ls [(3, aw_op q)] M')) : aw_W G own cc ret nL d ini M0 Q X (c + mc) (sl + ms) pc ls st M :=
  aw_goC (rest := rest) (aw_hrU hd hR hT h1 h2 h3 h4 h5 h6 (fun C0 ho hr => aw_recv C0 ho hr hk hq hC) hy hdd hn hst hw) (fun v hv => by rw [← hst]; exact List.mem_append_right _ (List.mem_cons_of_mem _ hv)) hcc hpc hown k kc
theorem x_astoreQ {n : Nat} {a : Nat} {ls' : List (Nat × aw_V)} (hd : decode cc pc = .ok (.astore n, 2)) (hn : n < nL) (hl : aw_st1 ls n (3, aw_op a) = ls') (k : aw_W G own cc ret nL d ini M0 Q X c sl (pc + 2) ls' st M) : aw_W G own cc ret nL d ini M0 Q X c sl (pc) ls ((3, aw_op a) :: st) M := by
  subst hl
  intro p l e R s m args below meth cd H locs cells slots C hr he ho hz hc hs lsA hlv hlo hso
  have key := fun (lsB : Array Slot) (hB : lv_has lsB nL ((aw_st1 ls n (3, aw_op a)).map fun q => (q.1, aw_val (aw_ad G) q.2))) => k _ (e := e) (below := below) C hr he ho hz hc hs lsB hB (aw_st1_ok hlo (aw_h hso)) (aw_t hso)
  have hm := aw_st1_map (aw_ad G) ls n (3, aw_op a)
  rw [List.map_cons, aw_vop]
  rw [aw_vop] at hm
  exact lv_astore C.1 C.2.1 hd hlv hn hm key
theorem x_callPH {x : Int} {index cN cN2 d' nL' mc ms nS : Nat} {q : aw_Q} {m0 y : MethodName} {cc' : ByteArray} {ret' : Option FieldType} {hh : List (Nat × Nat × Nat × Nat)} {C : String} {as rest : List aw_V} {Qc : Option aw_V → aw_M → Prop} {Xc : String → aw_M → Prop} (hd : decode cc pc = .ok (.invokevirtual index, 3)) (hR : aw_RunsH y cc' nL' ret' hh d' mc ms G ((2, x) :: as) M Qc Xc)
    (hT : Cond.codeWith y cc' nL' ret' hh ∈ lw_all) (h1 : Cond.methodLink own index y ∈ lw_all) (hp : Cond.privateMethod y ∈ lw_tbl) (hi : Cond.instantiable C nS ∈ lw_all) (hs0 : Cond.selects C m0 m0 ∈ lw_all) (hm0 : m0.cls = y.cls) (h5 : Cond.instanceMethod y ∈ lw_all) (h6 : Cond.initialized y.cls ∈ lw_all)
    (hk : aw_k M x = (cN, 0)) (hq : aw_cls[cN]? = some q) (hC : q.1 = C) (hy : y.cls ≠ "java/lang/invoke/MethodHandle" ∧ y.cls ≠ "java/lang/invoke/VarHandle" ∧ (parseMethodDescriptor y.desc).map (fun d => d.parameters.length) = some as.length) (hdd : d' + 1 ≤ d) (hn : nL' ≤ 500)
    (hst : as.reverse ++ (2, x) :: rest = st) (hw : aw_cw rest ≤ 8)
    (k : ∀ (r : Option aw_V) (M' : aw_M), Qc r M' → aw_ext M M' → aw_W G own cc ret nL d ini M0 Q X c sl (pc + 3) ls (r.toList ++ rest) M')
    (kx : ∀ (E : String) (M' : aw_M), Xc E M' → aw_ext M M' → X E M' ∧ ¬ aw_hs cc) : aw_W G own cc ret nL d ini M0 Q X (c + mc) (sl + ms) pc ls st M := by
  exact aw_go (rest := rest) (Qc := Qc) (Xc := Xc) (fun {p l e R s m args below meth cd H locs cells slots lsA} C0 ho hr hso hsz hc hs => by
    obtain ⟨k0, rfl, h0, hB⟩ := aw_recv C0 ho hr hk hq hC
    have hts := C0.2.2.2.2.2.2.1
    have hK := C0.2.2.2.2.2.2.2.1
    have hav : Value.ref (aw_ad G k0) :: as.map (aw_val (aw_ad G)) = ((2, (k0 : Int)) :: as).map (aw_val (aw_ad G)) := by rw [List.map_cons, aw_vref h0]
    have hst2 : st.map (aw_val (aw_ad G)) = (as.map (aw_val (aw_ad G))).reverse ++ .ref (aw_ad G k0) :: rest.map (aw_val (aw_ad G)) := by rw [aw_rev hst, List.map_cons, aw_vref h0]
    have hpre := aw_pre (G := G) (M := M) (s := s) (H := H) (as := (2, (k0 : Int)) :: as) C0.2.2.2.2.2.2.2.2.2.2.2.2.2.2 ho C0.2.2.2.2.2.2.2.1 hr (fun v hv => hso v (by rw [← hst]; rcases List.mem_cons.mp hv with h | h; exact List.mem_append_right _ (by rw [h]; exact List.mem_cons_self); exact List.mem_append_left _ (List.mem_reverse.mpr h))) hav
    have hroom := aw_room (mc := mc) (ms := ms) hdd hn C0
    have hpr : (Cond.privateMethod y).before args s = true := va_any (A := #[]) (A' := args) rfl (hK.2.2.1 _ hp rfl)
    have hcl2 : ∃ (c2 : ClassId) (k2 : Class), s.vm.findClass y.cls = some c2 ∧ s.vm.classes[c2]? = some k2 ∧ k2.isInterface = false := by
      obtain ⟨c2, r2, m2, q1, q2, q3, q4, kP, hkP, hkPi⟩ := Cond.selects_spec (hts _ hs0)
      exact ⟨m2.cls, kP, by rw [← hm0]; exact findClass_of_methodNamed q3, hkP, hkPi⟩
    have hsel : (Cond.selects C y y).before args s = true := aw_selp ⟨hy.1, hy.2.1⟩ (hts _ hi) hpr (hts _ h5) hcl2
    have hG : GoodIn lw_all (wsW_ y cc' nL' ret' hh) := lw_methW hT
    have hCU : vx_CVW R s args own C index y cc' nL' ret' hh (wsW_ y cc' nL' ret' hh) (aw_rm d' mc ms) mc ms as.length := by
      refine ⟨⟨rfl, rfl, hroom.1, hroom.2, pay_in hts hG, List.mem_cons_self⟩, hts _ hT, hts _ h6, ⟨hy.1, hy.2.1⟩, fun sig h => ?_, hts _ h1, hts _ h5, hsel⟩
      have h9 := hy.2.2
      rw [h] at h9
      exact (Option.some.inj h9).symm
    refine ⟨(Value.ref (aw_ad G k0) :: as.map (aw_val (aw_ad G))).toArray, ?_⟩
    refine vx_runVX (C := C) (hh := hh) (b := aw_ad G k0) (As := as.map (aw_val (aw_ad G))) (rest := rest.map (aw_val (aw_ad G))) ⟨C0.1, C0.2.1, C0.2.2.2.2.1, C0.2.2.2.2.2.1, C0.2.2.2.2.2.2.1⟩ (hR l C0.2.2.2.2.2.2.2.2.2.2.2.1) hCU ⟨hpre.1, hB, hpre.2⟩ rfl (List.length_map _) hsz hst2 (lv_room ?_) hd ⟨hc, hs⟩
    rw [aw_cw_map]
    exact hw) (fun v hv => by rw [← hst]; exact List.mem_append_right _ (List.mem_cons_of_mem _ hv)) k kx
end AC18
def ga_hd (f : ga_S) (k hdl : Int → ga_D → ga_S) : ga_S := match f with
  | none => none
  | some p => if 1180591620717411303424 ≤ p.1 then hdl p.1 p.2 else k p.1 p.2
theorem ga_hd_some {f : ga_S} {k hdl : Int → ga_D → ga_S} {r : Int} {D' : ga_D} (h : ga_hd f k hdl = some (r, D')) : (∃ (r1 : Int) (D1 : ga_D), f = some (r1, D1) ∧ r1 < 1180591620717411303424 ∧ k r1 D1 = some (r, D')) ∨ ∃ (r1 : Int) (D1 : ga_D), f = some (r1, D1) ∧ 1180591620717411303424 ≤ r1 ∧ hdl r1 D1 = some (r, D') := by
  cases f with
  | none => cases h
  | some p =>
    have h1 : (if 1180591620717411303424 ≤ p.1 then hdl p.1 p.2 else k p.1 p.2) = some (r, D') := h
    by_cases e : 1180591620717411303424 ≤ p.1
    · rw [if_pos e] at h1
      exact Or.inr ⟨p.1, p.2, rfl, e, h1⟩
    · rw [if_neg e] at h1
      exact Or.inl ⟨p.1, p.2, rfl, by omega, h1⟩
/-- a method with handlers, in heap mode -/
def aw_HRH (y : MethodName) (cc : ByteArray) (nL : Nat) (ret : Option FieldType) (hh : List (Nat × Nat × Nat × Nat)) (d : Nat) (G : aw_G) (as : List aw_V) (D : ga_D) (v : Option aw_V) (D' : ga_D) : Prop :=
  h_P D' ∧ h_E D D' ∧ ∃ (c sl : Nat) (Qc : Option aw_V → aw_M → Prop), hn D + c = hn D' ∧ hsl D + sl = hsl D' ∧ (∀ w M, Qc w M → v = w ∧ M = hM D') ∧ aw_RunsH y cc nL ret hh d c sl G as (hM D) Qc aw_no
theorem hw_bodyH {y : MethodName} {own : String} {cc : ByteArray} {nL d : Nat} {ret : Option FieldType} {ini : Bool} {G : aw_G} {as : List aw_V} {D D' : ga_D} {v : Option aw_V} {ls : List (Nat × aw_V)} {hh : List (Nat × Nat × Nat × Nat)}
    (hy : plainName y.cls = true) (hown : y.cls = own) (hini : ini = true → y.name = "<init>") (hlen : aw_cw as ≤ nL) (hls : aw_args 0 as = ls) (hhs : aw_hs cc) (hhh : aw_hh cc = hh)
    (body : ∀ Q : Option aw_V → aw_M → Prop, Q v (hM D') → aw_HW G own cc ret nL d ini (hM D) Q aw_no D' (hn D') (hsl D') 0 ls [] D) : aw_HRH y cc nL ret hh d G as D v D' := by
  obtain ⟨h1, h2, c, sl, h3, h4, h5⟩ := body (fun w M => v = w ∧ M = hM D') ⟨rfl, rfl⟩
  exact ⟨h1, h2, c, sl, _, h3, h4, fun _ _ h => h, aw_bodyH hy hown hini hlen hls hhs hhh h5⟩
section AHC18
variable {G : aw_G} {own : String} {cc : ByteArray} {ret : Option FieldType} {nL d : Nat} {ini : Bool} {M0 : aw_M} {Q : Option aw_V → aw_M → Prop} {X : String → aw_M → Prop} {pc : Nat} {ls : List (Nat × aw_V)} {st : List aw_V} {D D' : ga_D} {N S : Int}
/-- the callee throws, and answer goes on behind the handler -/
theorem hw_catch {y : MethodName} {cc' : ByteArray} {nL' d' pc' : Nat} {ret' : Option FieldType} {as rest : List aw_V} {r : Int} {D1 : ga_D} {ls1 : List (Nat × aw_V)} (hR : aw_HX y cc' nL' ret' d' G as D r D1) (hr : r ≠ 1180591620717411303427)
    (k : aw_HW G own cc ret nL d ini M0 Q X D' N S 33 ls1 [] (h_jx D1 r))
    (k20 : ∀ {c sl : Nat} {M : aw_M} (q : Nat), aw_W G own cc ret nL d ini M0 Q X c sl 33 ls1 [] M → aw_W G own cc ret nL d ini M0 Q X c sl 20 ls [(3, aw_op q)] M)
    (k28 : ∀ {c sl : Nat} {M : aw_M} (q : Nat), aw_W G own cc ret nL d ini M0 Q X c sl 33 ls1 [] M → aw_W G own cc ret nL d ini M0 Q X c sl 28 ls [(3, aw_op q)] M)
    (f : ∀ {c sl mc ms : Nat} {Qc : Option aw_V → aw_M → Prop} {Xc : String → aw_M → Prop}, aw_Runs y cc' nL' ret' d' mc ms G as (hM D) Qc Xc → (∀ (r : Option aw_V) (M' : aw_M), Qc r M' → aw_ext (hM D) M' → aw_W G own cc ret nL d ini M0 Q X c sl pc' ls (r.toList ++ rest) M') →
      (∀ (E : String) (M' : aw_M), Xc E M' → aw_ext (hM D) M' → (E = "java/lang/ArrayIndexOutOfBoundsException" ∧ ∀ q : Nat, aw_W G own cc ret nL d ini M0 Q X c sl 20 ls [(3, aw_op q)] M') ∨ (E = "java/lang/IllegalStateException" ∧ ∀ q : Nat, aw_W G own cc ret nL d ini M0 Q X c sl 28 ls [(3, aw_op q)] M')) → aw_W G own cc ret nL d ini M0 Q X (c + mc) (sl + ms) pc ls st (hM D)) : aw_HW G own cc ret nL d ini M0 Q X D' N S pc ls st D := by
  obtain ⟨-, g1, mc, ms, Xc, g2, g3, g4, g5⟩ := hR
  obtain ⟨h1, h2, c, sl, h3, h4, h5⟩ := k
  refine ⟨h1, g1.tr h2, c + mc, sl + ms, by omega, by omega, f g5 (fun _ _ h _ => h.elim) (fun E M' h _ => ?_)⟩
  obtain ⟨rfl, e1, e2, e3⟩ := g4 E M' h
  have w : aw_W G own cc ret nL d ini M0 Q X c sl 33 ls1 [] M' := aw_cong e1.symm e2.symm (fun a b ha hb => (e3 a b ha hb).symm) h5
  by_cases e : r = 1180591620717411303426
  · exact Or.inr ⟨if_pos e, fun q => k28 q w⟩
  · exact Or.inl ⟨by unfold ex_of; rw [if_neg e, if_neg hr], fun q => k20 q w⟩
/-- the callee's answer is no long: this does not come about -/
theorem hw_vac {y : MethodName} {cc' : ByteArray} {nL' d' pc' : Nat} {ret' : Option FieldType} {as rest : List aw_V} {r : Int} {D1 : ga_D} {pc1 : Nat} {ls1 : List (Nat × aw_V)} (hR : aw_HR y cc' nL' ret' d' G as D (some (1, r)) D1) (hr : 1180591620717411303424 ≤ r)
    (k : aw_HW G own cc ret nL d ini M0 Q X D' N S pc1 ls1 [] (h_jx D1 r))
    (f : ∀ {c sl mc ms : Nat} {Qc : Option aw_V → aw_M → Prop}, aw_Runs y cc' nL' ret' d' mc ms G as (hM D) Qc aw_no → (∀ (r : Option aw_V) (M' : aw_M), Qc r M' → aw_ext (hM D) M' → aw_W G own cc ret nL d ini M0 Q X c sl pc' ls (r.toList ++ rest) M') → aw_W G own cc ret nL d ini M0 Q X (c + mc) (sl + ms) pc ls st (hM D)) : aw_HW G own cc ret nL d ini M0 Q X D' N S pc ls st D := by
  obtain ⟨-, g1, mc, ms, Qc, g2, g3, g4, g5⟩ := hR
  obtain ⟨h1, h2, c, sl, h3, h4, h5⟩ := k
  have i1 : hn (h_jx D1 r) = hn D1 + gx_of r := rfl
  have i2 : hsl (h_jx D1 r) = hsl D1 + sx_of r := rfl
  have j1 : ((gx_of r).toNat : Int) = gx_of r := Int.toNat_of_nonneg gx_nn
  have j2 : ((sx_of r).toNat : Int) = sx_of r := Int.toNat_of_nonneg sx_nn
  refine ⟨h1, fun x hx => ?_, c + (gx_of r).toNat + mc, sl + (sx_of r).toNat + ms, by omega, by omega, f (c := c + (gx_of r).toNat) (sl := sl + (sx_of r).toNat) g5 (fun w M' h _ => ?_)⟩
  · have e1 := g1 x hx
    have e2 : hk (h_jx D1 r) x = hk D1 x := congrFun hk_jk x
    rw [h2 x (by rw [e2, e1]; exact hx), e2, e1]
  · obtain ⟨rfl, rfl⟩ := g4 w M' h
    exact aw_abs (Or.inr rfl) hr
end AHC18
section AHC19
variable {G : aw_G} {own : String} {cc : ByteArray} {ret : Option FieldType} {nL d : Nat} {ini : Bool} {M0 : aw_M} {Q : Option aw_V → aw_M → Prop} {X : String → aw_M → Prop} {pc : Nat} {ls : List (Nat × aw_V)} {st : List aw_V} {D D' : ga_D} {N S : Int}
theorem hw_callH {D1 : ga_D} {y : MethodName} {cc' : ByteArray} {nL' d' pc' : Nat} {ret' : Option FieldType} {hh : List (Nat × Nat × Nat × Nat)} {as rest : List aw_V} {v : Option aw_V} (hR : aw_HRH y cc' nL' ret' hh d' G as D v D1)
    (f : ∀ {c sl mc ms : Nat} {Qc : Option aw_V → aw_M → Prop}, aw_RunsH y cc' nL' ret' hh d' mc ms G as (hM D) Qc aw_no → (∀ (r : Option aw_V) (M' : aw_M), Qc r M' → aw_ext (hM D) M' → aw_W G own cc ret nL d ini M0 Q X c sl pc' ls (r.toList ++ rest) M') → aw_W G own cc ret nL d ini M0 Q X (c + mc) (sl + ms) pc ls st (hM D))
    (k : aw_HW G own cc ret nL d ini M0 Q X D' N S pc' ls (v.toList ++ rest) D1) : aw_HW G own cc ret nL d ini M0 Q X D' N S pc ls st D := by
  obtain ⟨-, g1, mc, ms, Qc, g2, g3, g4, g5⟩ := hR
  refine hw_go (D1 := D1) ⟨g1, mc, ms, g2, g3, fun w => f g5 (fun r M' hq _ => ?_)⟩ k
  obtain ⟨rfl, rfl⟩ := g4 r M' hq
  exact w
end AHC19
