/-! throwing, the cells counted exactly (vx_throwSE, vx_vmAtE, vx_vmE follow vx_throwS, vx_vmAt, vx_vm) -/
set_option maxRecDepth 100000
section VXE
variable {p : Program} {l : Launch} {e : Env} {R : Room} {s : State} {m : MethodId} {args : Array Value} {below : List Frame} {meth : Method} {c : Code} {H : Heap} {locs : List Loc} {cells slots : Nat} {Q : State → Prop}
variable {mc ms : Nat} {free : Addr → Prop} {A0 A1 : Nat → Prop} {H0 : Heap} {a : Array Value} {ls : Array Slot} {st0 rest : List Value}
variable {Qc : Array Value → State → Outcome → State → Prop} {XC : String → State → State → Prop}
theorem vx_throwSE {cc : ByteArray} {pc : Nat} (hexec : p.tables.exec = Jvm.exec) (hb : c.code = cc) (hl : l.stackTraces = false) {own cls text : String} {names : List String} {ik is ic mc ms sa : Nat} {A : Nat → Prop}
    (hown : s.vm.findClass own = some m.cls) (hcls : Bundle.fit cls = true) (hnames : ∀ n ∈ names, Bundle.fit n = true)
    (hk : (Cond.classLink own ik cls).before args s = true) (hini : (Cond.initialized cls).before args s = true) (hstr : vk_R own is text sa s) (hat : ∀ w ∈ vx_atS own ic cls names, w.before args s = true)
    (hgood : ∀ w ∈ Cond.classLink own ik cls :: Cond.initialized cls :: vx_atS own ic cls names, vx_ot w = true)
    (hU : vx_Zq Bundle.tN "UNASSIGNED_STACK" Bundle.steD A s s.heap) (hN : vx_Zq Bundle.tN "SUPPRESSED_SENTINEL" Bundle.listD A s s.heap) (hS : va_S A s.heap H locs) (hsize : ls.size = c.maxLocals)
    (d0 : decode cc pc = .ok (.new ik, 3)) (d3 : decode cc (pc + 3) = .ok (.dup, 1)) (d4 : decode cc (pc + 4) = .ok (.ldc is, 2)) (d6 : decode cc (pc + 6) = .ok (.invokespecial ic, 3)) (d9 : decode cc (pc + 9) = .ok (.athrow, 1))
    (hout : ∀ x ∈ c.exceptionTable.toList, covers x (pc + 9) = false)
    (hRframes : names.length + 3 < R.frames) (hRlocals : (rest.map fun v => v.category).sum + (13 * (names.length + 1) + 43) ≤ R.locals) (hRcells : cells + 1 ≤ R.cells) (hRslots : slots + 6 ≤ R.slots) (hlocks : meth.locks = false)
    (hx : ∀ t : State, s.vm.Alike t.vm → t.heap.size = H.size + 1 → (∀ q : Nat, q < H.size → t.heap[q]? = H[q]?) → XC cls s t)
    (hf : ∀ z ∈ locs, free z.base) (hc : cells + 1 ≤ mc) (hs : slots + 6 ≤ ms) :
    W p l e R s m args below meth c H locs cells slots (vx_MQ below Qc XC args s mc ms free) (F0 m pc ls rest) := by
  intro T hT X
  have htr : e.platform.stackTraces = false := (show e.platform.stackTraces = l.stackTraces by rw [X.admits.platform]).trans hl
  have Y := vx_rebase X (R' := { frames := R.frames, locals := R.locals, cells := 1, slots := 6 }) (Nat.le_refl _) (Nat.le_refl _) hRcells hRslots
  obtain ⟨s', hA⟩ : ∃ z, z = (T.setVm s.vm).setFrames (.invoking m args :: below) := ⟨_, rfl⟩
  rw [← hA] at Y
  have hvm : s'.vm = s.vm := by rw [hA]; rfl
  have hhp : s'.heap = H := by rw [hA]; exact hT
  have hW0 : s.WarmedH s'.vm := by rw [hvm]; exact State.WarmedH.refl s
  have hat' : ∀ w ∈ vx_atS own ic cls names, w.before args s' = true := fun w hw => vx_ot_at hW0 hvm.symm (hgood w (List.mem_cons_of_mem _ (List.mem_cons_of_mem _ hw))) (hat w hw)
  have hk' : (Cond.classLink own ik cls).before args s' = true := vx_ot_at hW0 hvm.symm (hgood _ List.mem_cons_self) hk
  have hini' : (Cond.initialized cls).before args s' = true := vx_ot_at hW0 hvm.symm (hgood _ (List.mem_cons_of_mem _ List.mem_cons_self)) hini
  have hU' : vx_Zq Bundle.tN "UNASSIGNED_STACK" Bundle.steD A s' s'.heap := by rw [hhp]; exact vx_Zq.moved hW0.alike (hU.kept hS.2.1)
  have hN' : vx_Zq Bundle.tN "SUPPRESSED_SENTINEL" Bundle.listD A s' s'.heap := by rw [hhp]; exact vx_Zq.moved hW0.alike (hN.kept hS.2.1)
  have h : ∀ w ∈ Bundle.ownAtoms own ic cls names, w.before args s' = true := vx_own hat' (vx_isRefq hU'.1) (vx_isRefq hN'.1) hU'.2.word hN'.2.word
  have hown' : s'.vm.findClass own = some m.cls := by rw [hvm]; exact hown
  have hins : (Cond.instantiable cls 6).before args s' = true := h _ (by simp [Bundle.ownAtoms])
  obtain ⟨vm₁, cX, kX, hfX, hkX, -, -, X₁, st1⟩ := Y.newCold hexec (own := own) (C := cls) (index := ik) (n := 6) hown' hk' hins hini'
    (g := F0 m pc ls rest) rfl (by rw [hb]; exact d0) (Nat.le_refl _) (Nat.le_refl _)
  generalize hT1 : (T.setVm vm₁).pushCell { cls := cX, slots := kX.instanceTypes.map defaultValue, vm := .none } = T1 at X₁ st1
  have hcat : (Value.ref T.heap.size).category = 1 := rfl
  have hcellA : T1.heap[T.heap.size]? = some (freshCell cX kX) := by rw [← hT1]; exact State.heap_pushCell_size _ _
  have d3' : decode c.code (pc + 3) = .ok (.dup, 1) := by rw [hb]; exact d3
  have d4' : decode c.code (pc + 4) = .ok (.ldc is, 2) := by rw [hb]; exact d4
  have hstr' : vk_R own is text sa s' := vk_R.warm hW0 hstr
  obtain ⟨U, hsteps, hrun, hend, hW, hsame, ce, hce, hO⟩ := X₁.ctorThrowS hexec htr (own := own) (cls := cls) (names := names) (ic := ic) hown' hcls hnames h (fun x hx => nomatch hx) hfX hkX hcellA (by rw [hhp, hT]; exact Nat.le_refl _) (msg := .ref sa) rfl
    (g := { method := m, pc := pc + 6, locals := ls, stack := .ref sa :: .ref T.heap.size :: .ref T.heap.size :: rest, locked := none }) rfl hsize rfl rfl (rest := rest) rfl
    (by rw [hb]; exact d6) (by rw [hb]; exact d9) hout hRframes (by simp only [List.map_cons, List.sum_cons, hcat]; omega) hlocks
  obtain ⟨f1, f2⟩ := vx_frame hsame
  rw [hhp] at f1 f2
  have hsz1 : U.heap.size = H.size + 1 := by
    have a1 : U.heap.size ≤ s'.heap.size + (0 + 1) := hsame.2.2.1
    have a2 := (Array.getElem?_eq_some_iff.mp hce).1
    rw [hhp] at a1
    rw [hT] at a2
    omega
  have hWs : s.WarmedH U.vm := State.WarmedH.trans hW0 hW
  have hcl : s.vm.findClass cls = some ce.cls := by
    have h9 := hO.cls
    rw [hvm] at h9
    exact h9
  have hall : s.sameButNew ({ U with vm := s.vm } : State) locs mc ms := by
    subst hA
    obtain ⟨e1, e2⟩ := hsame
    rw [State.setFrames_setFrames] at e1
    have h2 : (T.setVm s.vm).sameButNew ({ U with vm := s.vm } : State) [] (0 + 1) (0 + 6) := ⟨e1, e2⟩
    have h3 := X.same.trans h2
    rw [List.append_nil] at h3
    exact h3.mono hc hs
  refine ⟨U, ?_, .threw T.heap.size, hrun, hend, Or.inr ⟨T.heap.size, rfl, cls, ce, locs, hx U hWs.alike hsz1 (fun q hq => f2 q hq (fun z hz => nomatch hz)), hce, hO.vm, hcl, hWs, hall, hf⟩⟩
  refine st1 _ ?_
  show Steps p.tables e below (T1.setTop { method := m, pc := pc + 3, locals := ls, stack := .ref T.heap.size :: rest, locked := none }) _
  jvm_step X₁.here [X₁.here.top, hexec, d3', Value.category]
  exact X₁.ldcString hexec (own := own) (text := text) (index := is) (a := sa) hown' hstr'.1 hstr'.2
    (g := { method := m, pc := pc + 4, locals := ls, stack := .ref T.heap.size :: .ref T.heap.size :: rest, locked := none }) rfl d4' _ hsteps
theorem vx_throwSWE {cc : ByteArray} {pc : Nat} (hexec : p.tables.exec = Jvm.exec) (hb : c.code = cc) (hl : l.stackTraces = false) {own cls text : String} {names : List String} {ik is ic mc ms sa : Nat} {A : Nat → Prop}
    (hown : s.vm.findClass own = some m.cls) (hcls : Bundle.fit cls = true) (hnames : ∀ n ∈ names, Bundle.fit n = true)
    (hk : (Cond.classLink own ik cls).before args s = true) (hini : (Cond.initialized cls).before args s = true) (hstr : vk_R own is text sa s) (hat : ∀ w ∈ vx_atS own ic cls names, w.before args s = true)
    (hgood : ∀ w ∈ Cond.classLink own ik cls :: Cond.initialized cls :: vx_atS own ic cls names, vx_ot w = true)
    (hU : vx_Zq Bundle.tN "UNASSIGNED_STACK" Bundle.steD A s s.heap) (hN : vx_Zq Bundle.tN "SUPPRESSED_SENTINEL" Bundle.listD A s s.heap) (hS : va_S A s.heap H locs) (hsize : ls.size = c.maxLocals)
    (d0 : decode cc pc = .ok (.new ik, 3)) (d3 : decode cc (pc + 3) = .ok (.dup, 1)) (d4 : decode cc (pc + 4) = .ok (.ldc_w is, 3)) (d7 : decode cc (pc + 7) = .ok (.invokespecial ic, 3)) (d10 : decode cc (pc + 10) = .ok (.athrow, 1))
    (hout : ∀ x ∈ c.exceptionTable.toList, covers x (pc + 10) = false)
    (hRframes : names.length + 3 < R.frames) (hRlocals : (rest.map fun v => v.category).sum + (13 * (names.length + 1) + 43) ≤ R.locals) (hRcells : cells + 1 ≤ R.cells) (hRslots : slots + 6 ≤ R.slots) (hlocks : meth.locks = false)
    (hx : ∀ t : State, s.vm.Alike t.vm → t.heap.size = H.size + 1 → (∀ q : Nat, q < H.size → t.heap[q]? = H[q]?) → XC cls s t)
    (hf : ∀ z ∈ locs, free z.base) (hc : cells + 1 ≤ mc) (hs : slots + 6 ≤ ms) :
    W p l e R s m args below meth c H locs cells slots (vx_MQ below Qc XC args s mc ms free) (F0 m pc ls rest) := by
  intro T hT X
  have htr : e.platform.stackTraces = false := (show e.platform.stackTraces = l.stackTraces by rw [X.admits.platform]).trans hl
  have Y := vx_rebase X (R' := { frames := R.frames, locals := R.locals, cells := 1, slots := 6 }) (Nat.le_refl _) (Nat.le_refl _) hRcells hRslots
  obtain ⟨s', hA⟩ : ∃ z, z = (T.setVm s.vm).setFrames (.invoking m args :: below) := ⟨_, rfl⟩
  rw [← hA] at Y
  have hvm : s'.vm = s.vm := by rw [hA]; rfl
  have hhp : s'.heap = H := by rw [hA]; exact hT
  have hW0 : s.WarmedH s'.vm := by rw [hvm]; exact State.WarmedH.refl s
  have hat' : ∀ w ∈ vx_atS own ic cls names, w.before args s' = true := fun w hw => vx_ot_at hW0 hvm.symm (hgood w (List.mem_cons_of_mem _ (List.mem_cons_of_mem _ hw))) (hat w hw)
  have hk' : (Cond.classLink own ik cls).before args s' = true := vx_ot_at hW0 hvm.symm (hgood _ List.mem_cons_self) hk
  have hini' : (Cond.initialized cls).before args s' = true := vx_ot_at hW0 hvm.symm (hgood _ (List.mem_cons_of_mem _ List.mem_cons_self)) hini
  have hU' : vx_Zq Bundle.tN "UNASSIGNED_STACK" Bundle.steD A s' s'.heap := by rw [hhp]; exact vx_Zq.moved hW0.alike (hU.kept hS.2.1)
  have hN' : vx_Zq Bundle.tN "SUPPRESSED_SENTINEL" Bundle.listD A s' s'.heap := by rw [hhp]; exact vx_Zq.moved hW0.alike (hN.kept hS.2.1)
  have h : ∀ w ∈ Bundle.ownAtoms own ic cls names, w.before args s' = true := vx_own hat' (vx_isRefq hU'.1) (vx_isRefq hN'.1) hU'.2.word hN'.2.word
  have hown' : s'.vm.findClass own = some m.cls := by rw [hvm]; exact hown
  have hins : (Cond.instantiable cls 6).before args s' = true := h _ (by simp [Bundle.ownAtoms])
  obtain ⟨vm₁, cX, kX, hfX, hkX, -, -, X₁, st1⟩ := Y.newCold hexec (own := own) (C := cls) (index := ik) (n := 6) hown' hk' hins hini'
    (g := F0 m pc ls rest) rfl (by rw [hb]; exact d0) (Nat.le_refl _) (Nat.le_refl _)
  generalize hT1 : (T.setVm vm₁).pushCell { cls := cX, slots := kX.instanceTypes.map defaultValue, vm := .none } = T1 at X₁ st1
  have hcat : (Value.ref T.heap.size).category = 1 := rfl
  have hcellA : T1.heap[T.heap.size]? = some (freshCell cX kX) := by rw [← hT1]; exact State.heap_pushCell_size _ _
  have d3' : decode c.code (pc + 3) = .ok (.dup, 1) := by rw [hb]; exact d3
  have d4' : decode c.code (pc + 4) = .ok (.ldc_w is, 3) := by rw [hb]; exact d4
  have hstr' : vk_R own is text sa s' := vk_R.warm hW0 hstr
  obtain ⟨U, hsteps, hrun, hend, hW, hsame, ce, hce, hO⟩ := X₁.ctorThrowS hexec htr (own := own) (cls := cls) (names := names) (ic := ic) hown' hcls hnames h (fun x hx => nomatch hx) hfX hkX hcellA (by rw [hhp, hT]; exact Nat.le_refl _) (msg := .ref sa) rfl
    (g := { method := m, pc := pc + 7, locals := ls, stack := .ref sa :: .ref T.heap.size :: .ref T.heap.size :: rest, locked := none }) rfl hsize rfl rfl (rest := rest) rfl
    (by rw [hb]; exact d7) (by rw [hb]; exact d10) hout hRframes (by simp only [List.map_cons, List.sum_cons, hcat]; omega) hlocks
  obtain ⟨f1, f2⟩ := vx_frame hsame
  rw [hhp] at f1 f2
  have hsz1 : U.heap.size = H.size + 1 := by
    have a1 : U.heap.size ≤ s'.heap.size + (0 + 1) := hsame.2.2.1
    have a2 := (Array.getElem?_eq_some_iff.mp hce).1
    rw [hhp] at a1
    rw [hT] at a2
    omega
  have hWs : s.WarmedH U.vm := State.WarmedH.trans hW0 hW
  have hcl : s.vm.findClass cls = some ce.cls := by
    have h9 := hO.cls
    rw [hvm] at h9
    exact h9
  have hall : s.sameButNew ({ U with vm := s.vm } : State) locs mc ms := by
    subst hA
    obtain ⟨e1, e2⟩ := hsame
    rw [State.setFrames_setFrames] at e1
    have h2 : (T.setVm s.vm).sameButNew ({ U with vm := s.vm } : State) [] (0 + 1) (0 + 6) := ⟨e1, e2⟩
    have h3 := X.same.trans h2
    rw [List.append_nil] at h3
    exact h3.mono hc hs
  refine ⟨U, ?_, .threw T.heap.size, hrun, hend, Or.inr ⟨T.heap.size, rfl, cls, ce, locs, hx U hWs.alike hsz1 (fun q hq => f2 q hq (fun z hz => nomatch hz)), hce, hO.vm, hcl, hWs, hall, hf⟩⟩
  refine st1 _ ?_
  show Steps p.tables e below (T1.setTop { method := m, pc := pc + 3, locals := ls, stack := .ref T.heap.size :: rest, locked := none }) _
  jvm_step X₁.here [X₁.here.top, hexec, d3', Value.category]
  exact X₁.ldcStringW hexec (own := own) (text := text) (index := is) (a := sa) hown' hstr'.1 hstr'.2
    (g := { method := m, pc := pc + 4, locals := ls, stack := .ref T.heap.size :: .ref T.heap.size :: rest, locked := none }) rfl d4' _ hsteps
set_option maxHeartbeats 1000000 in
theorem vx_vmAtE {p : Program} {l : Launch} {e : Env} {R : Room} {s : State} {m₀ : MethodId} {args : Array Value} {below : List Frame} {meth : Method} {c : Code} {W : State} {locs : List Loc} {cells slots : Nat}
    (X : Stand p l e R s m₀ args below meth c W locs cells slots) (hexec : p.tables.exec = Jvm.exec) (htr : e.platform.stackTraces = false) {cls : String} {names : List String} {text : String}
    (hcls : Bundle.fit cls = true) (hnames : ∀ n ∈ names, Bundle.fit n = true) (hsoe : (cls == "java/lang/StackOverflowError") = false) (hoom : (cls == "java/lang/OutOfMemoryError") = false)
    (h : ∀ a ∈ Bundle.messageArmAtoms cls names, a.before args s = true)
    (hlocs : ∀ x ∈ locs, ∀ cell, s.heap[x.base]? = some cell → cell.vm.isStatics = false)
    (htext : (text == notModelled) = false) (hlimit : ¬ (stringBytes (stringToUtf16 text)).size > e.platform.arrayLengthLimit) (hheap : ¬ (stringBytes (stringToUtf16 text)).size * componentBytes .byte > e.platform.maxHeapBytes)
    {g : JFrame} (hg : g.method = m₀) (hsize : g.locals.size = c.maxLocals)
    (hRframes : names.length + 4 < R.frames) (hRlocals : 2 * g.monitorRoom + (g.stack.map fun v => v.category).sum + 10240 ≤ R.locals) (hshort : 13 * names.length + 55 ≤ 10240)
    (hRcells : cells + 3 ≤ R.cells) (hRslots : slots + ((stringBytes (stringToUtf16 text)).size + 4 + 6) ≤ R.slots) (hlocks : meth.locks = false) :
    ∃ (S : State) (q : Addr) (ce : Cell), (∀ target, Steps p.tables e below ((S.setTop g).pushFrame (.throwing q)) target → Steps p.tables e below ((W.setTop g).pushFrame (.throwNew cls (some text) none)) target) ∧
      Stand p l e R s m₀ args below meth c S locs (cells + 3) (slots + ((stringBytes (stringToUtf16 text)).size + 4 + 6)) ∧ S.heap[q]? = some ce ∧ s.vm.findClass cls = some ce.cls ∧ ce.vm = .none ∧ q = W.heap.size + 2 := by
  have howns : e.platform.frameOwnsMonitors = true := by rw [X.admits.platform]
  have hfin : e.platform.finalization = false := by rw [X.admits.platform]
  have hpl : e.platform.magicAccessors = ({} : Platform).magicAccessors := by rw [X.admits.platform]
  have a : ∀ x, x ∈ Bundle.messageArmAtoms cls names → x.holds args s none s [] = true := fun x hx => h x hx
  obtain ⟨T, Z0, L, -, Y⟩ := ThrowableC.of_atoms (args := args) howns hfin hpl (fun x hx => h x (by simp [Bundle.messageArmAtoms, hx]))
  obtain ⟨Z, M, LZ, LM, hnZ⟩ := Init0T.ofS_atoms (args := args) hpl L Y (fun x hx => h x (by simp [Bundle.messageArmAtoms, hx]))
  obtain ⟨P1, Ps, hlen, L1, hL, hP1m, hlink1, hlink⟩ := Bundle.chainS (args := args) hpl hnZ names cls hcls hnames (fun x hx => h x (by simp [Bundle.messageArmAtoms, hx]))
  obtain ⟨Zs, LZs, hn4, hfitv, hfitc⟩ := StringT.of_atoms (args := args) (fun x hx => h x (by simp [Bundle.messageArmAtoms, hx]))
  have hfound : s.vm.findClass cls = some P1.m.cls := findClass_of_methodNamed hP1m
  obtain ⟨c1, kX, hc1, hk, hord, -, -, hn6⟩ := Cond.instantiable_spec (a (.instantiable cls 6) (by simp [Bundle.messageArmAtoms]))
  cases Option.some.inj (hc1.symm.trans hfound)
  have hinit := Cond.initialized_spec hfound hk (a (.initialized cls) (by simp [Bundle.messageArmAtoms]))
  have hctor : kX.findMethod "<init>" "(Ljava/lang/String;)V" = some P1.m.idx := findMethod_of_methodNamed hP1m hk
  have hsel0 : selectMethod e.platform s.vm P1.m.cls T.fill0 = .method T.fill0 := by
    obtain ⟨c2, r2, m2, q1, q2, q3, q4, -⟩ := Cond.selects_spec (a (.selects cls Bundle.tFill0 Bundle.tFill0) (by simp [Bundle.messageArmAtoms]))
    cases Option.some.inj (q1.symm.trans hfound)
    cases Option.some.inj (q2.symm.trans (State.methodFound?_of_named Y.fill0 (by decide)))
    cases Option.some.inj (q3.symm.trans Y.fill0)
    rw [Launch.admits_selectMethod X.admits]; exact q4
  have hselF : selectMethod e.platform s.vm P1.m.cls T.fill = .method T.fill := by
    obtain ⟨c2, r2, m2, q1, q2, q3, q4, -⟩ := Cond.selects_spec (a (.selects cls Bundle.tFill Bundle.tFill) (by simp [Bundle.messageArmAtoms]))
    cases Option.some.inj (q1.symm.trans hfound)
    cases Option.some.inj (q2.symm.trans (State.methodFound?_of_named Y.fill (by decide)))
    cases Option.some.inj (q3.symm.trans Y.fill)
    rw [Launch.admits_selectMethod X.admits]; exact q4
  obtain ⟨cellS0, hcS0, hiss⟩ := Y.statics
  obtain ⟨u0, hu0⟩ := Cond.staticRefV Y.unassigned L.unassignedStatic L.statics hcS0 hiss (a (.isRef (.static Bundle.tN "UNASSIGNED_STACK" Bundle.steD)) (by simp [Bundle.messageArmAtoms]))
  obtain ⟨sen, hsen⟩ := Cond.staticRefV Y.sentinel L.sentinelStatic L.statics hcS0 hiss (a (.isRef (.static Bundle.tN "SUPPRESSED_SENTINEL" Bundle.listD)) (by simp [Bundle.messageArmAtoms]))
  obtain ⟨ci198, i198, fB, hk198, hg198, ha198, hsB, -, hnB, htB, hffB⟩ := Cond.ownField (t := .object "java/lang/Object") Y.found L.cls (by decide +kernel) (a (.fieldLink Bundle.tN 198 Bundle.tN "backtrace" "Ljava/lang/Object;") (by simp [Bundle.messageArmAtoms])) (a (.lays Bundle.tN Bundle.tN "backtrace" "Ljava/lang/Object;") (by simp [Bundle.messageArmAtoms])) e.platform hpl
  obtain ⟨cellS, hcS', heS, -, hkeep⟩ := X.same.2.2.2.2.2 T.aS cellS0 hcS0
  have hcellS : W.heap[T.aS]? = some cellS := hcS'
  have hout' : ∀ i, (⟨T.aS, i⟩ : Loc) ∉ locs := fun i hmem => by
    have := hlocs _ hmem cellS0 hcS0
    rw [hiss] at this; cases this
  have hknownS : cellS.vm ≠ .unknown := by
    rw [heS]; intro hu
    rw [show cellS0.vm = .unknown from hu] at hiss
    cases hiss
  have hvU : cellS.slots[T.fUnassigned.slot]? = some u0.v := by rw [hkeep _ (hout' _)]; exact hu0
  have hvSen : cellS.slots[T.fSentinel.slot]? = some sen.v := by rw [hkeep _ (hout' _)]; exact hsen
  obtain ⟨iM, hffM⟩ := Y.msg
  obtain ⟨tyC, dC, hdC, hdnC⟩ := Cond.laysAt hfound hk Y.cause (a (.lays cls Bundle.tN "cause" "Ljava/lang/Throwable;") (by simp [Bundle.messageArmAtoms]))
  obtain ⟨tyS, dS, hdS, hdnS⟩ := Cond.laysAt hfound hk Y.stack (a (.lays cls Bundle.tN "stackTrace" Bundle.steD) (by simp [Bundle.messageArmAtoms]))
  obtain ⟨tyP, dP, hdP, hdnP⟩ := Cond.laysAt hfound hk Y.supp (a (.lays cls Bundle.tN "suppressedExceptions" Bundle.listD) (by simp [Bundle.messageArmAtoms]))
  obtain ⟨tyM, dM, hdM, hdnM⟩ := Cond.laysAt hfound hk hffM (a (.lays cls Bundle.tN "detailMessage" "Ljava/lang/String;") (by simp [Bundle.messageArmAtoms]))
  obtain ⟨tyB, dB, hdB, hdnB⟩ := Cond.laysAt hfound hk hffB (a (.lays cls Bundle.tN "backtrace" "Ljava/lang/Object;") (by simp [Bundle.messageArmAtoms]))
  have bC := Cond.laysApart hdB hdC hdnB hdnC (by rw [hnB, Y.causeName]; decide)
  have bS := Cond.laysApart hdB hdS hdnB hdnS (by rw [hnB, Y.stackName]; decide)
  have bP := Cond.laysApart hdB hdP hdnB hdnP (by rw [hnB, Y.suppName]; decide)
  have hbk : ((preparedCellV T.toThrowableT (freshCell P1.m.cls kX) (W.heap.size + 2) u0 sen).withEntry W.cur).slots[fB.slot]? = some .null := by
    have := fresh_default (c := P1.m.cls) tyB
    rw [htB] at this
    simpa [preparedCellV, Cell.setSlot, Cell.withEntry, Array.getElem?_setIfInBounds, bC, bS, bP, bC.symm, bS.symm, bP.symm, defaultValue] using this
  have tkC := Takes.of_laid (v := .ref (W.heap.size + 2)) hk hord tyC (by rw [Y.causeType]; rfl)
  have tkS := Takes.of_laid (v := u0.v) hk hord tyS (by rw [Y.stackType]; exact fits_refV_array _ u0)
  have tkP := Takes.of_laid (v := sen.v) hk hord tyP (by rw [Y.suppType]; exact fits_refV_object _ sen)
  have tkM := Takes.of_laid (v := .ref (W.heap.size + 1)) hk hord tyM (by rw [Y.msgType]; rfl)
  have hskip : SkipFacts T e.platform s (fun u => u) u0 ((preparedCellV T.toThrowableT (freshCell P1.m.cls kX) (W.heap.size + 2) u0 sen).withEntry W.cur) := ⟨{ ci198 := ci198, i198 := i198, fBack := fB }, ⟨hk198, hg198, ha198, hsB⟩, hbk, fun _ _ => rfl⟩
  have h0 : At W g.method c below := by rw [hg]; exact X.here
  obtain ⟨hbeyond, hfreeW⟩ := X.vmMayThrow hsize (.throwNew cls (some text) none) (fun f hf => by cases hf) rfl hRlocals
  have hfr' : W.frames.length + Ps.length + 4 < (e.platform.stackLimits W.me).1 := by have := X.framesAbove hRframes; omega
  have hwd' : (stackUse (.java g :: W.frames.tail)).2 + 13 * Ps.length + 55 ≤ (e.platform.stackLimits W.me).2 := by have := X.stackAbove hsize (K := 13 * Ps.length + 55) (by omega); omega
  have hslots : W.slotsUsed + (stringBytes (stringToUtf16 text)).size + Zs.kS.instanceTypes.size + kX.instanceTypes.size ≤ e.platform.maxSlots := by
    have := X.slotsAbove hRslots
    rw [hn4, hn6]
    omega
  obtain ⟨vm', hW', st⟩ := Steps.vmThrowsMessageColdByV p (s₀ := s) (S := W) (g := g) h0 hexec T L Z LZ M LM X.warmed (t := W.cur) rfl Zs LZs P1 L1 Ps hL hlink1 hlink hsoe hoom hfound hk hinit hord hctor
    (Launch.admits_hotImplicitExceptions X.admits) hbeyond hfreeW htext hlimit hheap (X.cellsAbove hRcells) hslots (hfitv _) (hfitc _)
    (Nn := fun u => u) heapOnly_id (fun _ _ => rfl) (fun _ => rfl) (fun u x y => setCell_twice _ _ _ _) (fun _ => Nat.le_refl _) (cN := ((preparedCellV T.toThrowableT (freshCell P1.m.cls kX) (W.heap.size + 2) u0 sen).withEntry W.cur))
    hsel0 hcellS hknownS hvU tkS (fun _ hu => hu) (fun _ hu => hu) rfl rfl rfl (by simp [preparedCellV, Cell.setSlot, Cell.withEntry]) hskip (fun _ _ hA hW _ hroom _ hrest => L.nativeOff p htr hA hW hroom hrest) hselF hvSen tkC tkP tkM Y.objLocals rfl hfr' hwd'
  rw [plainBareV_eq T.toThrowableT (W.heap.size + 2) u0 sen (.ref (W.heap.size + 1)) W.cur rfl rfl] at st
  obtain ⟨-, -, w3, w4, -, -, -⟩ := withThrown_facts e.platform W Zs text P1.m.cls kX
  have X3 := ((X.pushed (bytesOf Zs.cB (stringToUtf16 text))).pushed (stringAt Zs.cS Zs.kS Zs.fv Zs.fc (stringToUtf16 text) W.heap.size)).pushed (freshCell P1.m.cls kX)
  rw [← withString_eq] at X3
  have X4 := X3.noted hW'
  have ha : (W.heap.size + 2) < ((withThrown W Zs text P1.m.cls kX).setVm vm').heap.size := by show _ < (withThrown W Zs text P1.m.cls kX).heap.size; rw [w3]; omega
  have hcell : ((withThrown W Zs text P1.m.cls kX).setVm vm').heap[(W.heap.size + 2)]? = some (freshCell P1.m.cls kX) := w4
  have X5 := ((((X4.stored hcell T.fCause.slot (.ref (W.heap.size + 2))).storedAgain ha T.fStack.slot u0.v).storedAgain ha T.fSupp.slot sen.v).storedAgain ha T.fStack.slot u0.v).storedAgain ha T.fMsg.slot (.ref (W.heap.size + 1))
  obtain ⟨g₁, hfrM⟩ := X5.frames_eq
  have hU : ((((withThrown W Zs text P1.m.cls kX).setVm vm').setCell (W.heap.size + 2) (plainBareV T.toThrowableT (freshCell P1.m.cls kX) (W.heap.size + 2) u0 sen (.ref (W.heap.size + 1)))).setTop g).pushFrame (.throwing (W.heap.size + 2)) = (((withThrown W Zs text P1.m.cls kX).setVm vm').setCell (W.heap.size + 2) (plainBareV T.toThrowableT (freshCell P1.m.cls kX) (W.heap.size + 2) u0 sen (.ref (W.heap.size + 1)))).setFrames (.throwing (W.heap.size + 2) :: .java g :: below) := by
    rw [State.pushFrame, State.frames_setTop _ hfrM, State.setTop_of_frames _ hfrM, State.setFrames_setFrames]
  have b1 : (bytesOf Zs.cB (stringToUtf16 text)).slots.size = (stringBytes (stringToUtf16 text)).size := by
    rw [(Cell.writeAll_facts _ _).2.2]; simp [bytes0]
  have b2 : (stringAt Zs.cS Zs.kS Zs.fv Zs.fc (stringToUtf16 text) W.heap.size).slots.size = 4 := by simp [string0, Cell.setSlot, hn4]
  have b3 : (freshCell P1.m.cls kX).slots.size = 6 := by simp [hn6]
  rw [b1, b2, b3] at X5
  have e9 : slots + (stringBytes (stringToUtf16 text)).size + 4 + 6 = slots + ((stringBytes (stringToUtf16 text)).size + 4 + 6) := by omega
  rw [e9] at X5
  simp only [List.append_assoc, List.cons_append, List.nil_append] at X5
  refine ⟨((withThrown W Zs text P1.m.cls kX).setVm vm').setCell (W.heap.size + 2) (plainBareV T.toThrowableT (freshCell P1.m.cls kX) (W.heap.size + 2) u0 sen (.ref (W.heap.size + 1))), W.heap.size + 2, _, fun target ht => st _ (by rw [X.tail, ← hU]; exact ht),
    X5.forget (fun y hy => ?_), heapAt_setCell_self _ ha, hfound, rfl, rfl⟩
  simp only [List.mem_cons, List.not_mem_nil, or_false] at hy
  have hge : s.heap.size ≤ W.heap.size := X.same.2.1
  rcases hy with rfl | rfl | rfl | rfl | rfl <;> exact Nat.le_trans hge (Nat.le_add_right _ 2)
theorem vx_vmE {pc : Nat} {ls : Array Slot} {rest : List Value} {Q : State → Prop} (hexec : p.tables.exec = Jvm.exec) (hl : l.stackTraces = false) {cls text : String} {names : List String} {nb : Nat} {A : Nat → Prop}
    (hcls : Bundle.fit cls = true) (hnames : ∀ n ∈ names, Bundle.fit n = true) (hsoe : (cls == "java/lang/StackOverflowError") = false) (hoom : (cls == "java/lang/OutOfMemoryError") = false)
    (hat : ∀ w ∈ vx_atM cls names, w.before args s = true) (hgood : ∀ w ∈ vx_atM cls names, vx_ot w = true)
    (hU : vx_Zq Bundle.tN "UNASSIGNED_STACK" Bundle.steD A s s.heap) (hN : vx_Zq Bundle.tN "SUPPRESSED_SENTINEL" Bundle.listD A s s.heap) (hS : va_S A s.heap H locs) (hsize : ls.size = c.maxLocals)
    (htext : (text == notModelled) = false) (hnb : (stringBytes (stringToUtf16 text)).size ≤ nb) (hnb1 : nb ≤ 1000)
    (hRframes : names.length + 4 < R.frames) (hRlocals : (rest.map fun v => v.category).sum + 10240 ≤ R.locals) (hshort : 13 * names.length + 55 ≤ 10240) (hRcells : cells + 3 ≤ R.cells) (hRslots : slots + (nb + 10) ≤ R.slots) (hlocks : meth.locks = false)
    (k : ∀ (H1 : Heap) (q9 : Addr) (ce : Cell), H1.size = H.size + 3 → (∀ q : Nat, q < H.size → H1[q]? = H[q]?) → va_S A s.heap H1 locs → H1[q9]? = some ce → ce.vm = .none → s.vm.findClass cls = some ce.cls → vx_W p l e R s m args below meth c H1 locs (cells + 3) (slots + (nb + 10)) Q (F0 m pc ls rest) q9) :
    vx_Note p l e R s m args below meth c H locs cells slots Q (F0 m pc ls rest) cls text := by
  intro T hT X
  have htr : e.platform.stackTraces = false := (show e.platform.stackTraces = l.stackTraces by rw [X.admits.platform]).trans hl
  have Y := vx_rebase X (R' := { frames := R.frames, locals := R.locals, cells := 3, slots := nb + 10 }) (Nat.le_refl _) (Nat.le_refl _) hRcells hRslots
  have hhp : ((T.setVm s.vm).setFrames (.invoking m args :: below)).heap = H := hT
  have hW0 : s.WarmedH ((T.setVm s.vm).setFrames (.invoking m args :: below)).vm := State.WarmedH.refl s
  have hat' : ∀ w ∈ vx_atM cls names, w.before args ((T.setVm s.vm).setFrames (.invoking m args :: below)) = true := fun w hw => vx_ot_at hW0 rfl (hgood w hw) (hat w hw)
  have hU' : vx_Zq Bundle.tN "UNASSIGNED_STACK" Bundle.steD A ((T.setVm s.vm).setFrames (.invoking m args :: below)) ((T.setVm s.vm).setFrames (.invoking m args :: below)).heap := by rw [hhp]; exact vx_Zq.moved hW0.alike (hU.kept hS.2.1)
  have hN' : vx_Zq Bundle.tN "SUPPRESSED_SENTINEL" Bundle.listD A ((T.setVm s.vm).setFrames (.invoking m args :: below)) ((T.setVm s.vm).setFrames (.invoking m args :: below)).heap := by rw [hhp]; exact vx_Zq.moved hW0.alike (hN.kept hS.2.1)
  obtain ⟨S, q, ce, st, Z, hce, hcl', hv, hq2⟩ := vx_vmAtE Y hexec htr (cls := cls) (names := names) (text := text) hcls hnames hsoe hoom (vx_own hat' (vx_isRefq hU'.1) (vx_isRefq hN'.1) hU'.2.word hN'.2.word) (fun x hx => nomatch hx) htext
    (by rw [Launch.admits_arrayLengthLimit X.admits]; omega) (by rw [Launch.admits_maxHeapBytes X.admits]; simp only [componentBytes]; omega)
    (g := F0 m pc ls rest) rfl hsize hRframes (by show 2 * 0 + (rest.map fun v => v.category).sum + 10240 ≤ R.locals; omega) hshort (by show 0 + 3 ≤ 3; omega) (by show 0 + (_ + 4 + 6) ≤ nb + 10; omega) hlocks
  obtain ⟨f1, f2⟩ := vx_frame Z.same
  have f1' : H.size ≤ S.heap.size := by rw [← hT]; exact f1
  have f2' : ∀ q : Nat, q < H.size → S.heap[q]? = H[q]? := fun q hq => by
    rw [← hT]
    exact f2 q (by rw [← hT] at hq; exact hq) (fun z hz => nomatch hz)
  have f3 : S.heap.size = H.size + 3 := by
    have a1 : S.heap.size ≤ T.heap.size + (0 + 3) := Z.same.2.2.1
    have a2 := (Array.getElem?_eq_some_iff.mp hce).1
    rw [hq2] at a2
    have a3 : T.heap.size + 2 < S.heap.size := a2
    rw [hT] at a1 a3
    omega
  have X5 := vx_back9 X Y Z
  have X6 : Stand p l e R s m args below meth c S locs (cells + 3) (slots + (nb + 10)) := { X5 with same := X5.same.mono (by omega) (by omega) }
  obtain ⟨t, a1, b1⟩ := k S.heap q ce f3 f2' ⟨Nat.le_trans hS.1 f1', fun q h1 h2 => (f2' q (Nat.lt_of_lt_of_le h1 hS.1)).trans (hS.2.1 q h1 h2), hS.2.2⟩ hce hv hcl' S rfl X6
  exact ⟨t, st t a1, b1⟩
end VXE
