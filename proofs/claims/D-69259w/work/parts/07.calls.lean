/-! calls, and a method's start -/
set_option maxRecDepth 100000
def aw_cw (st : List aw_V) : Nat := (st.map (fun v => if aw_c2 v = true then 2 else 1)).sum
theorem aw_cw_map (ad : Nat → Nat) (st : List aw_V) : ((st.map (aw_val ad)).map fun v => v.category).sum = aw_cw st := by
  unfold aw_cw
  rw [List.map_map]
  congr 1
  apply List.map_congr_left
  intro v _
  exact aw_cat ad v
def aw_args : Nat → List aw_V → List (Nat × aw_V)
  | _, [] => []
  | i, v :: vs => (i, v) :: aw_args (if aw_c2 v = true then i + 2 else i + 1) vs
theorem aw_args_map (ad : Nat → Nat) : ∀ (as : List aw_V) (i : Nat), lv_args i (as.map (aw_val ad)) = (aw_args i as).map fun q => (q.1, aw_val ad q.2)
  | [], _ => rfl
  | v :: vs, i => by
    rw [List.map_cons]
    unfold lv_args aw_args
    rw [List.map_cons, aw_args_map ad vs]
    congr 2
    rw [aw_cat]
    cases aw_c2 v <;> rfl
theorem aw_args_ok {K : Int → Nat × Int} : ∀ (as : List aw_V) (i : Nat), (∀ v ∈ as, aw_ok K v) → ∀ q ∈ aw_args i as, aw_ok K q.2
  | [], _, _, q, hq => absurd hq List.not_mem_nil
  | v :: vs, i, h, q, hq => by
    unfold aw_args at hq
    rcases List.mem_cons.mp hq with e | e
    · rw [e]; exact aw_h h
    · exact aw_args_ok vs _ (aw_t h) q e
theorem aw_sl_len (ad : Nat → Nat) (as : List aw_V) : (lg_sl (as.map (aw_val ad))).length = aw_cw as := by
  unfold aw_cw lg_sl
  induction as with
  | nil => rfl
  | cons v vs ih =>
    rw [List.map_cons, List.flatMap_cons, List.length_append, ih, List.map_cons, List.sum_cons]
    congr 1
    rw [aw_cat]
    cases aw_c2 v <;> rfl
theorem aw_body {y : MethodName} {own : String} {cc : ByteArray} {nL d c sl : Nat} {ret : Option FieldType} {ini : Bool} {G : aw_G} {as : List aw_V} {M : aw_M} {Q : Option aw_V → aw_M → Prop} {X : String → aw_M → Prop} {ls : List (Nat × aw_V)}
    (hy : plainName y.cls = true) (hown : y.cls = own) (hini : ini = true → y.name = "<init>") (hlen : aw_cw as ≤ nL) (hls : aw_args 0 as = ls)
    (body : aw_W G own cc ret nL d ini M Q X c sl 0 ls [] M) (hnh : ¬ aw_hs cc := by exact aw_hsn (by decide +kernel)) : aw_Runs y cc nL ret d c sl G as M Q X := by
  subst hls
  subst hown
  intro l hfl
  refine vx_ofW (cc := cc) (maxL := nL) (ret := ret) hy rfl ?_
  intro p e s m args below meth cd s₁ B hml htab hv
  obtain ⟨rfl, hok, hrep, hK, hZ⟩ := hv
  have hts := atoms_spec (ws := ws_ y cc nL ret) B.pre
  have hts : ∀ w ∈ lw_all, w.before _ s = true := fun w h => hts w (List.mem_cons_of_mem _ h)
  have hbs : aw_b G ≤ s.heap.size := by
    have h1 : (4096 : Int) ≤ aw_n M := hrep.1
    have h2 : (s.heap.size : Int) = aw_b G + (aw_n M - 4096) := hrep.2.1
    omega
  have hl := lv_entry (as.map (aw_val (aw_ad G))) (n := nL) (by rw [aw_sl_len]; exact hlen)
  rw [aw_args_map] at hl
  rw [lg_entry_eq]
  refine body _ (args := (as.map (aw_val (aw_ad G))).toArray) (locs := []) (cells := 0) (slots := 0) ?_ hrep aw_ext.rf (fun q _ => rfl) (fun z hz => absurd hz List.not_mem_nil) (by show 0 + c ≤ c; omega) (by show 0 + sl ≤ sl; omega) _ hl (aw_args_ok as 0 hok) (fun v hv => absurd hv List.not_mem_nil)
  exact ⟨B.exec, B.bytes, B.returns, B.notSynchronized, hml, findClass_of_methodNamed B.named, hts, hK, rfl, rfl, fun h => by rw [(name_of_methodNamed B.named B.method).1]; exact hini h, hfl, ⟨fun x hx => (htab x hx).elim, fun q => absurd q hnh⟩, hbs, hZ⟩
theorem aw_bodyH {y : MethodName} {own : String} {cc : ByteArray} {nL d c sl : Nat} {ret : Option FieldType} {ini : Bool} {G : aw_G} {as : List aw_V} {M : aw_M} {Q : Option aw_V → aw_M → Prop} {X : String → aw_M → Prop} {ls : List (Nat × aw_V)} {hh : List (Nat × Nat × Nat × Nat)}
    (hy : plainName y.cls = true) (hown : y.cls = own) (hini : ini = true → y.name = "<init>") (hlen : aw_cw as ≤ nL) (hls : aw_args 0 as = ls)
    (hhs : aw_hs cc) (hhh : aw_hh cc = hh) (body : aw_W G own cc ret nL d ini M Q X c sl 0 ls [] M) : aw_RunsH y cc nL ret hh d c sl G as M Q X := by
  subst hls
  subst hown
  intro l hfl
  refine vx_ofWH (cc := cc) (maxL := nL) (ret := ret) (hh := hh) hy rfl ?_
  intro p e s m args below meth cd s₁ B hml hv
  obtain ⟨rfl, hok, hrep, hK, hZ⟩ := hv
  have hts := atoms_spec (ws := wsW_ y cc nL ret hh) B.pre
  have htab : cd.exceptionTable.toList = tableOf hh := vx_table (x := y) B (hts _ List.mem_cons_self)
  have hts : ∀ w ∈ lw_all, w.before _ s = true := fun w h => hts w (List.mem_cons_of_mem _ h)
  have hbs : aw_b G ≤ s.heap.size := by
    have h1 : (4096 : Int) ≤ aw_n M := hrep.1
    have h2 : (s.heap.size : Int) = aw_b G + (aw_n M - 4096) := hrep.2.1
    omega
  have hl := lv_entry (as.map (aw_val (aw_ad G))) (n := nL) (by rw [aw_sl_len]; exact hlen)
  rw [aw_args_map] at hl
  rw [lg_entry_eq]
  refine body _ (args := (as.map (aw_val (aw_ad G))).toArray) (locs := []) (cells := 0) (slots := 0) ?_ hrep aw_ext.rf (fun q _ => rfl) (fun z hz => absurd hz List.not_mem_nil) (by show 0 + c ≤ c; omega) (by show 0 + sl ≤ sl; omega) _ hl (aw_args_ok as 0 hok) (fun v hv => absurd hv List.not_mem_nil)
  exact ⟨B.exec, B.bytes, B.returns, B.notSynchronized, hml, findClass_of_methodNamed B.named, hts, hK, rfl, rfl, fun h => by rw [(name_of_methodNamed B.named B.method).1]; exact hini h, hfl, ⟨fun _ _ => hhs, fun _ => by rw [hhh]; exact htab⟩, hbs, hZ⟩
section AJ
variable {G : aw_G} {own : String} {cc : ByteArray} {ret : Option FieldType} {nL d : Nat} {ini : Bool} {M0 M : aw_M} {Q : Option aw_V → aw_M → Prop} {X : String → aw_M → Prop} {c sl pc : Nat} {ls : List (Nat × aw_V)} {st : List aw_V}
theorem aw_go {mc ms : Nat} {rest : List aw_V} {Qc : Option aw_V → aw_M → Prop} {Xc : String → aw_M → Prop}
    (hrun : ∀ {p : Program} {l : Launch} {e : Env} {R : Room} {s : State} {m : MethodId} {args : Array Value} {below : List Frame} {meth : Method} {cd : Code} {H : Heap} {locs : List Loc} {cells slots : Nat} {lsA : Array Slot}, aw_Cx G own cc ret nL d ini p l R s m args meth cd → aw_old G s.heap H → aw_rep G M H → (∀ v ∈ st, aw_ok (aw_k M) v) → lsA.size = nL → cells + mc ≤ R.cells → slots + ms ≤ R.slots →
      ∃ a : Array Value, vx_Run p l e R s m args below meth cd H locs cells slots mc ms (F0 m pc lsA (st.map (aw_val (aw_ad G)))) (rest.map (aw_val (aw_ad G))) (aw_QC G M Qc a) (aw_XC G M Xc) (fun q => aw_b G ≤ q))
    (hrest : ∀ v ∈ rest, v ∈ st)
    (k : ∀ (r : Option aw_V) (M' : aw_M), Qc r M' → aw_ext M M' → aw_W G own cc ret nL d ini M0 Q X c sl (pc + 3) ls (r.toList ++ rest) M')
    (kx : ∀ (E : String) (M' : aw_M), Xc E M' → aw_ext M M' → X E M' ∧ ¬ aw_hs cc) : aw_W G own cc ret nL d ini M0 Q X (c + mc) (sl + ms) pc ls st M := by
  intro p l e R s m args below meth cd H locs cells slots C hr he ho hz hc hs lsA hlv hlo hso T hT Xs
  obtain ⟨a, hru⟩ := hrun (e := e) (below := below) (locs := locs) (cells := cells) (slots := slots) (lsA := lsA) C ho hr hso hlv.1 (by omega) (by omega)
  have hz' : ∀ L : List Loc, (∀ q ∈ L, aw_b G ≤ q.base) → ∀ z ∈ locs ++ L, aw_b G ≤ z.base := fun L hL z h => (List.mem_append.mp h).elim (hz z) (hL z)
  rcases hru T hT Xs with ⟨v, st₀, t, T', L, h0, X', hL, e1, e2, hq, hst⟩ | ⟨q, st₀, t, T', L, E, ce, h0, X', hL, e1, e2, hx, hcell, hvm, hcl, hst⟩
  · obtain ⟨r, M', hv, hok, hQ, hext, hrep, hold⟩ := hq
    have hv' : v = r.map (aw_val (aw_ad G)) := Outcome.returned.inj hv
    subst hv'
    obtain ⟨t2, a1, b1⟩ := k r M' hQ hext _ C (H := T'.heap) (by rw [e1]; exact hrep) (he.tr hext) (fun q hq => by rw [e1, hold q hq, h0]; exact ho q hq) (hz' L hL) (cells := cells + mc) (slots := slots + ms) (by omega) (by omega) lsA hlv (fun q hq => aw_ok_mono hext.2 (hlo q hq))
      (fun w hw => (List.mem_append.mp hw).elim (fun h => hok w (by cases r with | none => exact absurd h List.not_mem_nil | some x => exact congrArg some (List.mem_singleton.mp h).symm)) (fun h => aw_ok_mono hext.2 (hso w (hrest w h)))) T' rfl X'
    refine ⟨t2, hst t2 ?_, b1⟩
    have e3 : (r.toList ++ rest).map (aw_val (aw_ad G)) = (r.map (aw_val (aw_ad G))).toList ++ rest.map (aw_val (aw_ad G)) := by cases r <;> rfl
    rw [e3] at a1
    exact a1
  · obtain ⟨M', hX, hext, hrep, hold⟩ := hx
    obtain ⟨t2, a1, b1⟩ := vx_out (pc := pc) (ls := lsA) (rest := rest.map (aw_val (aw_ad G))) (H := T'.heap) (locs := locs ++ L) (cells := cells + mc) (slots := slots + ms) (mc := R.cells) (ms := R.slots) (Qc := aw_QC G M0 Q) (XC := aw_XC G M0 X) (free := fun q => aw_b G ≤ q)
      (fun x hx => ((kx E M' hX hext).2 (C.2.2.2.2.2.2.2.2.2.2.2.2.1.1 x hx)).elim) C.2.2.2.1 (by rw [e1]; exact hcell) hvm hcl
      (fun t' ht' _ => ⟨M', (kx E M' hX hext).1, he.tr hext, by rw [ht', e1]; exact hrep, fun q hq => by rw [ht', e1, hold q hq, h0]; exact ho q hq⟩) (hz' L hL) (by omega) (by omega) T' rfl X'
    exact ⟨t2, Steps.trans hst a1, b1⟩
theorem aw_blind {as : List aw_V} : FrameBlind (aw_PC G as M) := fun a U g mk q => ⟨q.1, q.2.1, q.2.2.1, aw_K.same (u := U) (U := U.calling g mk a) rfl q.2.2.2.1, aw_Z.same (u := U) (U := U.calling g mk a) (H := U.heap) rfl (fun _ _ => rfl) q.2.2.2.2⟩
theorem aw_pre {s : State} {H : Heap} {as : List aw_V} {av : List Value} (hZ : aw_Z G s s.heap) (ho : aw_old G s.heap H) (hK : aw_K G s) (hr : aw_rep G M H) (hok : ∀ v ∈ as, aw_ok (aw_k M) v) (hav : av = as.map (aw_val (aw_ad G))) : PreS s H (aw_PC G as M) av := by
  subst hav
  exact ⟨aw_blind, fun U hU hW => ⟨rfl, hok, by rw [hU]; exact hr, hK.moved hW, hZ.warm hW (fun a ha => by rw [hU]; exact ho a ha)⟩⟩
theorem aw_rev {as rest : List aw_V} (h : as.reverse ++ rest = st) {ad : Nat → Nat} : st.map (aw_val ad) = (as.map (aw_val ad)).reverse ++ rest.map (aw_val ad) := by
  rw [← h, List.map_append, List.map_reverse]
theorem aw_room {nL' d' : Nat} (hd : d' + 1 ≤ d) (hn : nL' ≤ 500) {p : Program} {l : Launch} {R : Room} {s : State} {m : MethodId} {args : Array Value} {meth : Method} {cd : Code} (C : aw_Cx G own cc ret nL d ini p l R s m args meth cd) {mc ms : Nat} :
    (aw_rm d' mc ms).frames + 1 ≤ R.frames ∧ 8 + (nL' + 11) + (aw_rm d' mc ms).locals ≤ R.locals := by
  have h1 : R.frames = d := C.2.2.2.2.2.2.2.2.1
  have h2 : R.locals = d * 600 := C.2.2.2.2.2.2.2.2.2.1
  rw [h1, h2]
  refine ⟨hd, ?_⟩
  show 8 + (nL' + 11) + d' * 600 ≤ d * 600
  have h3 : (d' + 1) * 600 ≤ d * 600 := Nat.mul_le_mul_right 600 hd
  omega
theorem x_callS {index d' nL' mc ms : Nat} {y : MethodName} {cc' : ByteArray} {ret' : Option FieldType} {as rest : List aw_V} {Qc : Option aw_V → aw_M → Prop} {Xc : String → aw_M → Prop} (hd : decode cc pc = .ok (.invokestatic index, 3)) (hR : aw_Runs y cc' nL' ret' d' mc ms G as M Qc Xc)
    (hT : GoodIn lw_all (va_wsS own index y (ws_ y cc' nL' ret'))) (hy : y.cls ≠ "java/lang/invoke/MethodHandle" ∧ y.cls ≠ "java/lang/invoke/VarHandle" ∧ (parseMethodDescriptor y.desc).map (fun d => d.parameters.length) = some as.length) (hdd : d' + 1 ≤ d) (hn : nL' ≤ 500)
    (hst : as.reverse ++ rest = st) (hw : aw_cw rest ≤ 8)
    (k : ∀ (r : Option aw_V) (M' : aw_M), Qc r M' → aw_ext M M' → aw_W G own cc ret nL d ini M0 Q X c sl (pc + 3) ls (r.toList ++ rest) M')
    (kx : ∀ (E : String) (M' : aw_M), Xc E M' → aw_ext M M' → X E M' ∧ ¬ aw_hs cc) : aw_W G own cc ret nL d ini M0 Q X (c + mc) (sl + ms) pc ls st M := by
  exact aw_go (rest := rest) (Qc := Qc) (Xc := Xc) (fun {p l e R s m args below meth cd H locs cells slots lsA} C ho hr hso hsz hc hs => ⟨(as.map (aw_val (aw_ad G))).toArray, by
    refine vx_runS (As := as.map (aw_val (aw_ad G))) (rest := rest.map (aw_val (aw_ad G))) ⟨C.1, C.2.1, C.2.2.2.2.1, C.2.2.2.2.2.1, C.2.2.2.2.2.2.1⟩ (hR l C.2.2.2.2.2.2.2.2.2.2.2.1) (va_cwS as.length C.2.2.2.2.2.2.1 hT rfl rfl rfl hy (aw_room hdd hn C)) (aw_pre C.2.2.2.2.2.2.2.2.2.2.2.2.2.2 ho C.2.2.2.2.2.2.2.1 hr (fun v hv => hso v (by rw [← hst]; exact List.mem_append_left _ (List.mem_reverse.mpr hv))) rfl) rfl (List.length_map _) hsz (aw_rev hst) (lv_room ?_) hd ⟨hc, hs⟩
    rw [aw_cw_map]
    exact hw⟩) (fun v hv => by rw [← hst]; exact List.mem_append_right _ hv) k kx
theorem aw_recv {p : Program} {l : Launch} {R : Room} {s : State} {m : MethodId} {args : Array Value} {meth : Method} {cd : Code} {H : Heap} {x : Int} {cN : Nat} {q : aw_Q} {C : String} (hC0 : aw_Cx G own cc ret nL d ini p l R s m args meth cd) (ho : aw_old G s.heap H) (hr : aw_rep G M H) (hk : aw_k M x = (cN, 0)) (hq : aw_cls[cN]? = some q) (hC : q.1 = C) :
    ∃ k : Nat, x = (k : Int) ∧ 0 < k ∧ ∃ cellB : Cell, H[aw_ad G k]? = some cellB ∧ cellB.vm.isStatics = false ∧ s.vm.findClass C = some cellB.cls := by
  obtain ⟨k0, rfl, h0, h1, ⟨cell, q1, q2, q3, q4⟩, h3⟩ := aw_objW hC0 ho hr hk hq
  exact ⟨k0, rfl, h0, cell, q1, q3, by rw [q2, ← hC]; exact (hC0.2.2.2.2.2.2.2.1.1 cN q hq).2.1⟩
theorem x_callV {x : Int} {index cN d' nL' mc ms : Nat} {q : aw_Q} {y : MethodName} {cc' : ByteArray} {ret' : Option FieldType} {C : String} {as rest : List aw_V} {Qc : Option aw_V → aw_M → Prop} {Xc : String → aw_M → Prop} (hd : decode cc pc = .ok (.invokevirtual index, 3)) (hR : aw_Runs y cc' nL' ret' d' mc ms G ((2, x) :: as) M Qc Xc)
    (hT : GoodIn lw_all (wsV own index C y (ws_ y cc' nL' ret'))) (hk : aw_k M x = (cN, 0)) (hq : aw_cls[cN]? = some q) (hC : q.1 = C) (hy : y.cls = C ∧ y.cls ≠ "java/lang/invoke/MethodHandle" ∧ y.cls ≠ "java/lang/invoke/VarHandle" ∧ (parseMethodDescriptor y.desc).map (fun d => d.parameters.length) = some as.length) (hdd : d' + 1 ≤ d) (hn : nL' ≤ 500)
    (hst : as.reverse ++ (2, x) :: rest = st) (hw : aw_cw rest ≤ 8)
    (k : ∀ (r : Option aw_V) (M' : aw_M), Qc r M' → aw_ext M M' → aw_W G own cc ret nL d ini M0 Q X c sl (pc + 3) ls (r.toList ++ rest) M')
    (kx : ∀ (E : String) (M' : aw_M), Xc E M' → aw_ext M M' → X E M' ∧ ¬ aw_hs cc) : aw_W G own cc ret nL d ini M0 Q X (c + mc) (sl + ms) pc ls st M := by
  exact aw_go (rest := rest) (Qc := Qc) (Xc := Xc) (fun {p l e R s m args below meth cd H locs cells slots lsA} C0 ho hr hso hsz hc hs => by
    obtain ⟨k0, rfl, h0, hB⟩ := aw_recv C0 ho hr hk hq hC
    have hav : Value.ref (aw_ad G k0) :: as.map (aw_val (aw_ad G)) = ((2, (k0 : Int)) :: as).map (aw_val (aw_ad G)) := by rw [List.map_cons, aw_vref h0]
    have hst2 : st.map (aw_val (aw_ad G)) = (as.map (aw_val (aw_ad G))).reverse ++ .ref (aw_ad G k0) :: rest.map (aw_val (aw_ad G)) := by rw [aw_rev hst, List.map_cons, aw_vref h0]
    have hpre := aw_pre (G := G) (M := M) (s := s) (H := H) (as := (2, (k0 : Int)) :: as) C0.2.2.2.2.2.2.2.2.2.2.2.2.2.2 ho C0.2.2.2.2.2.2.2.1 hr (fun v hv => hso v (by rw [← hst]; rcases List.mem_cons.mp hv with h | h; exact List.mem_append_right _ (by rw [h]; exact List.mem_cons_self); exact List.mem_append_left _ (List.mem_reverse.mpr h))) hav
    refine ⟨(Value.ref (aw_ad G k0) :: as.map (aw_val (aw_ad G))).toArray, ?_⟩
    refine vx_runV (b := aw_ad G k0) (As := as.map (aw_val (aw_ad G))) (rest := rest.map (aw_val (aw_ad G))) ⟨C0.1, C0.2.1, C0.2.2.2.2.1, C0.2.2.2.2.2.1, C0.2.2.2.2.2.2.1⟩ (hR l C0.2.2.2.2.2.2.2.2.2.2.2.1) (cwV as.length C0.2.2.2.2.2.2.1 hT rfl rfl rfl hy (aw_room hdd hn C0)) ⟨hpre.1, hB, hpre.2⟩ rfl (List.length_map _) hsz hst2 (lv_room ?_) hd ⟨hc, hs⟩
    rw [aw_cw_map]
    exact hw) (fun v hv => by rw [← hst]; exact List.mem_append_right _ (List.mem_cons_of_mem _ hv)) k kx
theorem x_callI {x : Int} {index cN d' nL' mc ms : Nat} {q : aw_Q} {y : MethodName} {cc' : ByteArray} {as rest : List aw_V} {Qc : Option aw_V → aw_M → Prop} {Xc : String → aw_M → Prop} (hd : decode cc pc = .ok (.invokespecial index, 3)) (hR : aw_Runs y cc' nL' none d' mc ms G ((2, x) :: as) M Qc Xc)
    (hT : GoodIn lw_all (ws_ y cc' nL' none)) (h1 : Cond.initialized y.cls ∈ lw_all) (h2 : Cond.methodLink own index y ∈ lw_all) (h3 : Cond.instanceMethod y ∈ lw_all) (hk : aw_k M x = (cN, 0)) (hq : aw_cls[cN]? = some q) (hy1 : y.name = "<init>") (hy : y.cls ≠ "java/lang/invoke/MethodHandle" ∧ y.cls ≠ "java/lang/invoke/VarHandle" ∧ (parseMethodDescriptor y.desc).map (fun d => d.parameters.length) = some as.length) (hdd : d' + 1 ≤ d) (hn : nL' ≤ 500)
    (hst : as.reverse ++ (2, x) :: rest = st) (hw : aw_cw rest ≤ 8)
    (k : ∀ (r : Option aw_V) (M' : aw_M), Qc r M' → aw_ext M M' → aw_W G own cc ret nL d ini M0 Q X c sl (pc + 3) ls (r.toList ++ rest) M')
    (kx : ∀ (E : String) (M' : aw_M), Xc E M' → aw_ext M M' → X E M' ∧ ¬ aw_hs cc) : aw_W G own cc ret nL d ini M0 Q X (c + mc) (sl + ms) pc ls st M := by
  exact aw_go (rest := rest) (Qc := Qc) (Xc := Xc) (fun {p l e R s m args below meth cd H locs cells slots lsA} C0 ho hr hso hsz hc hs => by
    obtain ⟨k0, rfl, h0, -⟩ := aw_recv C0 ho hr hk hq rfl
    have hav : Value.ref (aw_ad G k0) :: as.map (aw_val (aw_ad G)) = ((2, (k0 : Int)) :: as).map (aw_val (aw_ad G)) := by rw [List.map_cons, aw_vref h0]
    have hst2 : st.map (aw_val (aw_ad G)) = (as.map (aw_val (aw_ad G))).reverse ++ .ref (aw_ad G k0) :: rest.map (aw_val (aw_ad G)) := by rw [aw_rev hst, List.map_cons, aw_vref h0]
    have hpre := aw_pre (G := G) (M := M) (s := s) (H := H) (as := (2, (k0 : Int)) :: as) C0.2.2.2.2.2.2.2.2.2.2.2.2.2.2 ho C0.2.2.2.2.2.2.2.1 hr (fun v hv => hso v (by rw [← hst]; rcases List.mem_cons.mp hv with h | h; exact List.mem_append_right _ (by rw [h]; exact List.mem_cons_self); exact List.mem_append_left _ (List.mem_reverse.mpr h))) hav
    refine ⟨(Value.ref (aw_ad G k0) :: as.map (aw_val (aw_ad G))).toArray, ?_⟩
    refine vx_runI (b := aw_ad G k0) (As := as.map (aw_val (aw_ad G))) (rest := rest.map (aw_val (aw_ad G))) ⟨C0.1, C0.2.1, C0.2.2.2.2.1, C0.2.2.2.2.2.1, C0.2.2.2.2.2.2.1⟩ (hR l C0.2.2.2.2.2.2.2.2.2.2.2.1) (cwI as.length C0.2.2.2.2.2.2.1 hT rfl rfl rfl (C0.2.2.2.2.2.2.1 _ h1) (C0.2.2.2.2.2.2.1 _ h2) (C0.2.2.2.2.2.2.1 _ h3) hy1 hy (aw_room hdd hn C0)) hpre rfl (List.length_map _) hsz hst2 (lv_room ?_) hd ⟨hc, hs⟩
    rw [aw_cw_map]
    exact hw) (fun v hv => by rw [← hst]; exact List.mem_append_right _ (List.mem_cons_of_mem _ hv)) k kx
theorem x_objInit {x : Int} {index cN : Nat} {q : aw_Q} (hd : decode cc pc = .ok (.invokespecial index, 3)) (h1 : Cond.methodLink own index Lib.objectInit ∈ lw_all) (h2 : Cond.instanceMethod Lib.objectInit ∈ lw_all) (h3 : Cond.code Lib.objectInit ⟨#[0xb1]⟩ 1 none ∈ lw_all) (hk : aw_k M x = (cN, 0)) (hq : aw_cls[cN]? = some q) (hdd : 1 ≤ d) (hw : aw_cw st ≤ 8)
    (k : aw_W G own cc ret nL d ini M0 Q X c sl (pc + 3) ls st M) : aw_W G own cc ret nL d ini M0 Q X c sl pc ls ((2, x) :: st) M := by
  intro p l e R s m args below meth cd H locs cells slots C hr he ho hz hc hs lsA hlv hlo hso
  have hts := C.2.2.2.2.2.2.1
  obtain ⟨k0, rfl, h0, -⟩ := aw_recv C ho hr hk hq rfl
  have g1 : R.frames = d := C.2.2.2.2.2.2.2.2.1
  have g2 : R.locals = d * 600 := C.2.2.2.2.2.2.2.2.2.1
  rw [List.map_cons, aw_vref h0]
  refine W.objInit C.1 C.2.1 C.2.2.2.2.2.1 (hts _ h1) (hts _ h2) (hts _ h3) rfl (by rw [C.2.2.2.2.1]; exact hlv.1) rfl hd (by omega) ?_ (k _ C hr he ho hz hc hs lsA hlv hlo (aw_t hso))
  rw [aw_cw_map, g2]
  show 2 * 0 + aw_cw st + 12 ≤ d * 600
  omega
end AJ
