/-! calls of private methods of the nest -/
set_option maxRecDepth 100000
def aw_FlN (own : String) (index cN j : Nat) (tg : Nat) : Prop :=
  ∃ (q : aw_Q) (ref host : String), aw_cls[cN]? = some q ∧ j < q.2.length ∧ Cond.fieldLinkNest own index ref (aw_T q j).2.1 (aw_T q j).2.2.1 host ∈ lw_tbl ∧ (ref = (aw_T q j).1 ∨ Cond.sameField ref (aw_T q j).1 (aw_T q j).2.1 (aw_T q j).2.2.1 ∈ lw_all) ∧ aw_tg (aw_ty cN j) = tg
section AN
variable {G : aw_G} {own : String} {cc : ByteArray} {ret : Option FieldType} {nL d : Nat} {ini : Bool} {M0 M : aw_M} {Q : Option aw_V → aw_M → Prop} {X : String → aw_M → Prop} {c sl pc : Nat} {ls : List (Nat × aw_V)} {st : List aw_V}
theorem x_callSN {host : String} {index d' nL' mc ms : Nat} {y : MethodName} {cc' : ByteArray} {ret' : Option FieldType} {as rest : List aw_V} {Qc : Option aw_V → aw_M → Prop} {Xc : String → aw_M → Prop} (hd : decode cc pc = .ok (.invokestatic index, 3)) (hR : aw_Runs y cc' nL' ret' d' mc ms G as M Qc Xc)
    (hT : GoodIn lw_all (ws_ y cc' nL' ret')) (h1 : Cond.methodLinkNest own index y host ∈ lw_tbl) (h2 : Cond.static y ∈ lw_all) (h3 : Cond.initialized y.cls ∈ lw_all) (hy : y.cls ≠ "java/lang/invoke/MethodHandle" ∧ y.cls ≠ "java/lang/invoke/VarHandle" ∧ (parseMethodDescriptor y.desc).map (fun d => d.parameters.length) = some as.length) (hdd : d' + 1 ≤ d) (hn : nL' ≤ 500)
    (hst : as.reverse ++ rest = st) (hw : aw_cw rest ≤ 8)
    (k : ∀ (r : Option aw_V) (M' : aw_M), Qc r M' → aw_ext M M' → aw_W G own cc ret nL d ini M0 Q X c sl (pc + 3) ls (r.toList ++ rest) M')
    (kx : ∀ (E : String) (M' : aw_M), Xc E M' → aw_ext M M' → X E M' ∧ ¬ aw_hs cc) : aw_W G own cc ret nL d ini M0 Q X (c + mc) (sl + ms) pc ls st M := by
  exact aw_go (rest := rest) (Qc := Qc) (Xc := Xc) (fun {p l e R s m args below meth cd H locs cells slots lsA} C ho hr hso hsz hc hs => ⟨(as.map (aw_val (aw_ad G))).toArray, by
    refine vx_runSN (host := host) (As := as.map (aw_val (aw_ad G))) (rest := rest.map (aw_val (aw_ad G))) ⟨C.1, C.2.1, C.2.2.2.2.1, C.2.2.2.2.2.1, C.2.2.2.2.2.2.1⟩ (hR l C.2.2.2.2.2.2.2.2.2.2.2.1) ⟨va_cnB as.length C.2.2.2.2.2.2.1 hT rfl rfl rfl (C.2.2.2.2.2.2.2.1.2.2.1 _ h1 rfl) (C.2.2.2.2.2.2.1 _ h3) hy (aw_room hdd hn C), C.2.2.2.2.2.2.1 _ h2, trivial⟩ (aw_pre C.2.2.2.2.2.2.2.2.2.2.2.2.2.2 ho C.2.2.2.2.2.2.2.1 hr (fun v hv => hso v (by rw [← hst]; exact List.mem_append_left _ (List.mem_reverse.mpr hv))) rfl) rfl (List.length_map _) hsz (aw_rev hst) (lv_room ?_) hd ⟨hc, hs⟩
    rw [aw_cw_map]
    exact hw⟩) (fun v hv => by rw [← hst]; exact List.mem_append_right _ hv) k kx
theorem x_callVN {host : String} {x : Int} {index cN d' nL' mc ms : Nat} {q : aw_Q} {y : MethodName} {cc' : ByteArray} {ret' : Option FieldType} {C : String} {as rest : List aw_V} {Qc : Option aw_V → aw_M → Prop} {Xc : String → aw_M → Prop} (hd : decode cc pc = .ok (.invokevirtual index, 3)) (hR : aw_Runs y cc' nL' ret' d' mc ms G ((2, x) :: as) M Qc Xc)
    (hT : GoodIn lw_all (ws_ y cc' nL' ret')) (h1 : Cond.methodLinkNest own index y host ∈ lw_tbl) (h2 : Cond.instanceMethod y ∈ lw_all) (h3 : Cond.initialized y.cls ∈ lw_all) (h4 : Cond.selects C y y ∈ lw_all) (hk : aw_k M x = (cN, 0)) (hq : aw_cls[cN]? = some q) (hC : q.1 = C) (hy : y.cls ≠ "java/lang/invoke/MethodHandle" ∧ y.cls ≠ "java/lang/invoke/VarHandle" ∧ (parseMethodDescriptor y.desc).map (fun d => d.parameters.length) = some as.length) (hdd : d' + 1 ≤ d) (hn : nL' ≤ 500)
    (hst : as.reverse ++ (2, x) :: rest = st) (hw : aw_cw rest ≤ 8)
    (k : ∀ (r : Option aw_V) (M' : aw_M), Qc r M' → aw_ext M M' → aw_W G own cc ret nL d ini M0 Q X c sl (pc + 3) ls (r.toList ++ rest) M')
    (kx : ∀ (E : String) (M' : aw_M), Xc E M' → aw_ext M M' → X E M' ∧ ¬ aw_hs cc) : aw_W G own cc ret nL d ini M0 Q X (c + mc) (sl + ms) pc ls st M := by
  exact aw_go (rest := rest) (Qc := Qc) (Xc := Xc) (fun {p l e R s m args below meth cd H locs cells slots lsA} C0 ho hr hso hsz hc hs => by
    obtain ⟨k0, rfl, h0, hB⟩ := aw_recv C0 ho hr hk hq hC
    have hav : Value.ref (aw_ad G k0) :: as.map (aw_val (aw_ad G)) = ((2, (k0 : Int)) :: as).map (aw_val (aw_ad G)) := by rw [List.map_cons, aw_vref h0]
    have hst2 : st.map (aw_val (aw_ad G)) = (as.map (aw_val (aw_ad G))).reverse ++ .ref (aw_ad G k0) :: rest.map (aw_val (aw_ad G)) := by rw [aw_rev hst, List.map_cons, aw_vref h0]
    have hpre := aw_pre (G := G) (M := M) (s := s) (H := H) (as := (2, (k0 : Int)) :: as) C0.2.2.2.2.2.2.2.2.2.2.2.2.2.2 ho C0.2.2.2.2.2.2.2.1 hr (fun v hv => hso v (by rw [← hst]; rcases List.mem_cons.mp hv with h | h; exact List.mem_append_right _ (by rw [h]; exact List.mem_cons_self); exact List.mem_append_left _ (List.mem_reverse.mpr h))) hav
    refine ⟨(Value.ref (aw_ad G k0) :: as.map (aw_val (aw_ad G))).toArray, ?_⟩
    refine vx_runVN (C := C) (host := host) (b := aw_ad G k0) (As := as.map (aw_val (aw_ad G))) (rest := rest.map (aw_val (aw_ad G))) ⟨C0.1, C0.2.1, C0.2.2.2.2.1, C0.2.2.2.2.2.1, C0.2.2.2.2.2.2.1⟩ (hR l C0.2.2.2.2.2.2.2.2.2.2.2.1) ⟨va_cnB as.length C0.2.2.2.2.2.2.1 hT rfl rfl rfl (C0.2.2.2.2.2.2.2.1.2.2.1 _ h1 rfl) (C0.2.2.2.2.2.2.1 _ h3) hy (aw_room hdd hn C0), C0.2.2.2.2.2.2.1 _ h2, C0.2.2.2.2.2.2.1 _ h4⟩ ⟨hpre.1, hB, hpre.2⟩ rfl (List.length_map _) hsz hst2 (lv_room ?_) hd ⟨hc, hs⟩
    rw [aw_cw_map]
    exact hw) (fun v hv => by rw [← hst]; exact List.mem_append_right _ (List.mem_cons_of_mem _ hv)) k kx
theorem x_callIN {host : String} {x : Int} {index cN d' nL' mc ms : Nat} {q : aw_Q} {y : MethodName} {cc' : ByteArray} {as rest : List aw_V} {Qc : Option aw_V → aw_M → Prop} {Xc : String → aw_M → Prop} (hd : decode cc pc = .ok (.invokespecial index, 3)) (hR : aw_Runs y cc' nL' none d' mc ms G ((2, x) :: as) M Qc Xc)
    (hT : GoodIn lw_all (ws_ y cc' nL' none)) (h1 : Cond.initialized y.cls ∈ lw_all) (h2 : Cond.methodLinkNest own index y host ∈ lw_tbl) (h3 : Cond.instanceMethod y ∈ lw_all) (hk : aw_k M x = (cN, 0)) (hq : aw_cls[cN]? = some q) (hy1 : y.name = "<init>") (hy : y.cls ≠ "java/lang/invoke/MethodHandle" ∧ y.cls ≠ "java/lang/invoke/VarHandle" ∧ (parseMethodDescriptor y.desc).map (fun d => d.parameters.length) = some as.length) (hdd : d' + 1 ≤ d) (hn : nL' ≤ 500)
    (hst : as.reverse ++ (2, x) :: rest = st) (hw : aw_cw rest ≤ 8)
    (k : ∀ (r : Option aw_V) (M' : aw_M), Qc r M' → aw_ext M M' → aw_W G own cc ret nL d ini M0 Q X c sl (pc + 3) ls (r.toList ++ rest) M')
    (kx : ∀ (E : String) (M' : aw_M), Xc E M' → aw_ext M M' → X E M' ∧ ¬ aw_hs cc) : aw_W G own cc ret nL d ini M0 Q X (c + mc) (sl + ms) pc ls st M := by
  exact aw_go (rest := rest) (Qc := Qc) (Xc := Xc) (fun {p l e R s m args below meth cd H locs cells slots lsA} C0 ho hr hso hsz hc hs => by
    obtain ⟨k0, rfl, h0, -⟩ := aw_recv C0 ho hr hk hq rfl
    have hav : Value.ref (aw_ad G k0) :: as.map (aw_val (aw_ad G)) = ((2, (k0 : Int)) :: as).map (aw_val (aw_ad G)) := by rw [List.map_cons, aw_vref h0]
    have hst2 : st.map (aw_val (aw_ad G)) = (as.map (aw_val (aw_ad G))).reverse ++ .ref (aw_ad G k0) :: rest.map (aw_val (aw_ad G)) := by rw [aw_rev hst, List.map_cons, aw_vref h0]
    have hpre := aw_pre (G := G) (M := M) (s := s) (H := H) (as := (2, (k0 : Int)) :: as) C0.2.2.2.2.2.2.2.2.2.2.2.2.2.2 ho C0.2.2.2.2.2.2.2.1 hr (fun v hv => hso v (by rw [← hst]; rcases List.mem_cons.mp hv with h | h; exact List.mem_append_right _ (by rw [h]; exact List.mem_cons_self); exact List.mem_append_left _ (List.mem_reverse.mpr h))) hav
    refine ⟨(Value.ref (aw_ad G k0) :: as.map (aw_val (aw_ad G))).toArray, ?_⟩
    refine vx_runIN (host := host) (b := aw_ad G k0) (As := as.map (aw_val (aw_ad G))) (rest := rest.map (aw_val (aw_ad G))) ⟨C0.1, C0.2.1, C0.2.2.2.2.1, C0.2.2.2.2.2.1, C0.2.2.2.2.2.2.1⟩ (hR l C0.2.2.2.2.2.2.2.2.2.2.2.1) ⟨va_cnB as.length C0.2.2.2.2.2.2.1 hT rfl rfl rfl (C0.2.2.2.2.2.2.2.1.2.2.1 _ h2 rfl) (C0.2.2.2.2.2.2.1 _ h1) hy (aw_room hdd hn C0), hy1, C0.2.2.2.2.2.2.1 _ h3⟩ hpre rfl (List.length_map _) hsz hst2 (lv_room ?_) hd ⟨hc, hs⟩
    rw [aw_cw_map]
    exact hw) (fun v hv => by rw [← hst]; exact List.mem_append_right _ (List.mem_cons_of_mem _ hv)) k kx
theorem x_getfN {x v : Int} {index cN j tg : Nat} (hd : decode cc pc = .ok (.getfield index, 3)) (hF : aw_FlN own index cN j tg) (hk : aw_k M x = (cN, 0)) (hv : aw_d M x j = v)
    (k : aw_W G own cc ret nL d ini M0 Q X c sl (pc + 3) ls ((tg, v) :: st) M) : aw_W G own cc ret nL d ini M0 Q X c sl pc ls ((2, x) :: st) M := by
  obtain ⟨q, ref, host, hq, hj, hw, hsame, rfl⟩ := hF
  subst hv
  intro p l e R s m args below meth cd H locs cells slots C hr he ho hz hc hs lsA hlv hlo hso
  obtain ⟨k0, rfl, h0, h1, ⟨cell, q1, q2, q3, q4⟩, h3⟩ := aw_objW C ho hr hk hq
  obtain ⟨hS, hfc, kC, hkC, hkind⟩ := C.2.2.2.2.2.2.2.1.1 cN q hq
  obtain ⟨cf, kf, fi, f, hi, hsl⟩ := hS j hj
  have hts := C.2.2.2.2.2.2.1
  have hi2 : s.fieldFound? ref (aw_T q j).2.1 (aw_T q j).2.2.1 = some (cf, kf, fi, f) := by
    rcases hsame with h | h
    · rw [h]; exact hi
    · exact u_same (hts _ h) _ hi
  rw [List.map_cons, aw_vref h0]
  refine va_Wgetf C.1 C.2.1 C.2.2.2.2.2.1 (va_Nw.use rfl (C.2.2.2.2.2.2.2.1.2.2.1 _ hw rfl)) hi2 (u_facts hfc hkC (u_lays hts (aw_in' hq) hj) hi).1 q1 (q4 j hj).1 (v := aw_val (aw_ad G) (aw_tg (aw_ty cN j), aw_d M (k0 : Int) j)) (by rw [hsl]; exact (q4 j hj).2) rfl rfl hd ?_
  exact k _ C hr he ho hz hc hs lsA hlv hlo (aw_c1 (aw_okT_ok (h3 j hj)) (aw_t hso))
end AN
