/-! casts, instanceof, references into arrays of Object, copies of references, further calls -/
set_option maxRecDepth 100000
theorem aw_or1 {p : Nat × Int} {z : Int} {a : Nat} (h : z = 0 ∨ p = (a, 0)) : z = 0 ∨ ∃ c, p = (c, 0) ∧ List.elem c [a] = true := h.imp id (fun e => ⟨a, e, by simp⟩)
theorem aw_or2 {p : Nat × Int} {z : Int} {a b : Nat} (h : z = 0 ∨ p = (a, 0) ∨ p = (b, 0)) : z = 0 ∨ ∃ c, p = (c, 0) ∧ List.elem c [a, b] = true := h.imp id (fun e => e.elim (fun e => ⟨a, e, by simp⟩) (fun e => ⟨b, e, by simp⟩))
theorem aw_or3 {p : Nat × Int} {z : Int} {a b c : Nat} (h : z = 0 ∨ p = (a, 0) ∨ p = (b, 0) ∨ p = (c, 0)) : z = 0 ∨ ∃ k, p = (k, 0) ∧ List.elem k [a, b, c] = true := h.imp id (fun e => e.elim (fun e => ⟨a, e, by simp⟩) (fun e => e.elim (fun e => ⟨b, e, by simp⟩) (fun e => ⟨c, e, by simp⟩)))
theorem aw_orM {p : Nat × Int} {z : Int} {L : List Nat} (h : p.1 ∈ L ∧ p.2 = 0) : z = 0 ∨ ∃ k, p = (k, 0) ∧ List.elem k L = true := Or.inr ⟨p.1, Prod.ext rfl h.2, List.elem_iff.mpr h.1⟩
/-- every class of the list is E or can be cast to it -/
def aw_sbl (E : String) (L : List Nat) : Prop := ∀ c, List.elem c L = true → ∃ q : aw_Q, aw_cls[c]? = some q ∧ (q.1 = E ∨ Cond.castable q.1 E ∈ lw_tbl)
section AP
variable {G : aw_G} {own : String} {cc : ByteArray} {ret : Option FieldType} {nL d : Nat} {ini : Bool} {M0 M : aw_M} {Q : Option aw_V → aw_M → Prop} {X : String → aw_M → Prop} {c sl pc : Nat} {ls : List (Nat × aw_V)} {st : List aw_V}
theorem x_castN {index : Nat} (hd : decode cc pc = .ok (.checkcast index, 3)) (k : aw_W G own cc ret nL d ini M0 Q X c sl (pc + 3) ls ((2, 0) :: st) M) : aw_W G own cc ret nL d ini M0 Q X c sl pc ls ((2, 0) :: st) M := by
  intro p l e R s m args below meth cd H locs cells slots C hr he ho hz hc hs lsA hlv hlo hso
  have key := @k p l e R s m args below meth cd H locs cells slots C hr he ho hz hc hs lsA hlv hlo hso
  rw [List.map_cons, aw_null (Int.le_refl 0)] at key ⊢
  exact lv_castN C.1 C.2.1 hd key
theorem x_castL {v : Int} {index : Nat} {nm : String} {L : List Nat} (hd : decode cc pc = .ok (.checkcast index, 3)) (hw : Cond.classLink own index nm ∈ lw_all) (hL : aw_sbl nm L) (hv : v = 0 ∨ ∃ k, aw_k M v = (k, 0) ∧ List.elem k L = true)
    (k : aw_W G own cc ret nL d ini M0 Q X c sl (pc + 3) ls ((2, v) :: st) M) : aw_W G own cc ret nL d ini M0 Q X c sl pc ls ((2, v) :: st) M := by
  rcases hv with hv | ⟨cN, hk, hm⟩
  · subst hv; exact x_castN hd k
  · obtain ⟨q, hq, hE⟩ := hL cN hm
    exact x_cast hd hw (Or.inr hk) hq hE k
theorem x_aastL {x i n v : Int} {t : Nat} {E : String} {L : List Nat} (hd : decode cc pc = .ok (.aastore, 1)) (hk : aw_k M x = (1000 + t, n)) (ht : aw_ats[t]? = some (.object E)) (hx : 4096 ≤ x) (h0 : 0 ≤ i) (h1 : i < n) (hL : aw_sbl E L) (hv : v = 0 ∨ ∃ k, aw_k M v = (k, 0) ∧ List.elem k L = true)
    (k : aw_W G own cc ret nL d ini M0 Q X c sl (pc + 1) ls st (aw_set M x i v)) : aw_W G own cc ret nL d ini M0 Q X c sl pc ls ((2, v) :: (0, i) :: (2, x) :: st) M := by
  rcases hv with hv | ⟨cN, hkv, hm⟩
  · exact x_aastN hd hk ht hx h0 h1 hv k
  · obtain ⟨q, hq, hE⟩ := hL cN hm
    exact x_aast hd hk ht hx h0 h1 hkv hq hE k
theorem x_getfL {x v : Int} {index j tg : Nat} {L : List Nat} (hd : decode cc pc = .ok (.getfield index, 3)) (hF : ∀ c ∈ L, aw_Fl own index c j tg) (hm : (aw_k M x).1 ∈ L ∧ (aw_k M x).2 = 0) (hv : aw_d M x j = v)
    (k : aw_W G own cc ret nL d ini M0 Q X c sl (pc + 3) ls ((tg, v) :: st) M) : aw_W G own cc ret nL d ini M0 Q X c sl pc ls ((2, x) :: st) M :=
  x_getf hd (hF _ hm.1) (Prod.ext rfl hm.2) hv k
theorem x_objInit0 {x : Int} {index : Nat} (hd : decode cc pc = .ok (.invokespecial index, 3)) (h1 : Cond.methodLink own index Lib.objectInit ∈ lw_all) (h2 : Cond.instanceMethod Lib.objectInit ∈ lw_all) (h3 : Cond.code Lib.objectInit ⟨#[0xb1]⟩ 1 none ∈ lw_all) (hx : 0 < x) (hdd : 1 ≤ d) (hw : aw_cw st ≤ 8)
    (k : aw_W G own cc ret nL d ini M0 Q X c sl (pc + 3) ls st M) : aw_W G own cc ret nL d ini M0 Q X c sl pc ls ((2, x) :: st) M := by
  intro p l e R s m args below meth cd H locs cells slots C hr he ho hz hc hs lsA hlv hlo hso
  have hts := C.2.2.2.2.2.2.1
  have g1 : R.frames = d := C.2.2.2.2.2.2.2.2.1
  have g2 : R.locals = d * 600 := C.2.2.2.2.2.2.2.2.2.1
  rw [List.map_cons, aw_vrefI hx]
  refine W.objInit C.1 C.2.1 C.2.2.2.2.2.1 (hts _ h1) (hts _ h2) (hts _ h3) rfl (by rw [C.2.2.2.2.1]; exact hlv.1) rfl hd (by omega) ?_ (k _ C hr he ho hz hc hs lsA hlv hlo (aw_t hso))
  rw [aw_cw_map, g2]
  show 2 * 0 + aw_cw st + 12 ≤ d * 600
  omega
theorem x_callI0 {x : Int} {index d' nL' mc ms : Nat} {y : MethodName} {cc' : ByteArray} {as rest : List aw_V} {Qc : Option aw_V → aw_M → Prop} {Xc : String → aw_M → Prop} (hd : decode cc pc = .ok (.invokespecial index, 3)) (hR : aw_Runs y cc' nL' none d' mc ms G ((2, x) :: as) M Qc Xc)
    (hT : GoodIn lw_all (ws_ y cc' nL' none)) (h1 : Cond.initialized y.cls ∈ lw_all) (h2 : Cond.methodLink own index y ∈ lw_all) (h3 : Cond.instanceMethod y ∈ lw_all) (hx : 0 < x) (hy1 : y.name = "<init>") (hy : y.cls ≠ "java/lang/invoke/MethodHandle" ∧ y.cls ≠ "java/lang/invoke/VarHandle" ∧ (parseMethodDescriptor y.desc).map (fun d => d.parameters.length) = some as.length) (hdd : d' + 1 ≤ d) (hn : nL' ≤ 500)
    (hst : as.reverse ++ (2, x) :: rest = st) (hw : aw_cw rest ≤ 8)
    (k : ∀ (r : Option aw_V) (M' : aw_M), Qc r M' → aw_ext M M' → aw_W G own cc ret nL d ini M0 Q X c sl (pc + 3) ls (r.toList ++ rest) M')
    (kx : ∀ (E : String) (M' : aw_M), Xc E M' → aw_ext M M' → X E M' ∧ ¬ aw_hs cc) : aw_W G own cc ret nL d ini M0 Q X (c + mc) (sl + ms) pc ls st M := by
  exact aw_go (rest := rest) (Qc := Qc) (Xc := Xc) (fun {p l e R s m args below meth cd H locs cells slots lsA} C0 ho hr hso hsz hc hs => by
    obtain ⟨k0, rfl, h0⟩ : ∃ k0 : Nat, x = (k0 : Int) ∧ 0 < k0 := ⟨x.toNat, by omega, by omega⟩
    have hav : Value.ref (aw_ad G k0) :: as.map (aw_val (aw_ad G)) = ((2, (k0 : Int)) :: as).map (aw_val (aw_ad G)) := by rw [List.map_cons, aw_vref h0]
    have hst2 : st.map (aw_val (aw_ad G)) = (as.map (aw_val (aw_ad G))).reverse ++ .ref (aw_ad G k0) :: rest.map (aw_val (aw_ad G)) := by rw [aw_rev hst, List.map_cons, aw_vref h0]
    have hpre := aw_pre (G := G) (M := M) (s := s) (H := H) (as := (2, (k0 : Int)) :: as) C0.2.2.2.2.2.2.2.2.2.2.2.2.2.2 ho C0.2.2.2.2.2.2.2.1 hr (fun v hv => hso v (by rw [← hst]; rcases List.mem_cons.mp hv with h | h; exact List.mem_append_right _ (by rw [h]; exact List.mem_cons_self); exact List.mem_append_left _ (List.mem_reverse.mpr h))) hav
    refine ⟨(Value.ref (aw_ad G k0) :: as.map (aw_val (aw_ad G))).toArray, ?_⟩
    refine vx_runI (b := aw_ad G k0) (As := as.map (aw_val (aw_ad G))) (rest := rest.map (aw_val (aw_ad G))) ⟨C0.1, C0.2.1, C0.2.2.2.2.1, C0.2.2.2.2.2.1, C0.2.2.2.2.2.2.1⟩ (hR l C0.2.2.2.2.2.2.2.2.2.2.2.1) (cwI as.length C0.2.2.2.2.2.2.1 hT rfl rfl rfl (C0.2.2.2.2.2.2.1 _ h1) (C0.2.2.2.2.2.2.1 _ h2) (C0.2.2.2.2.2.2.1 _ h3) hy1 hy (aw_room hdd hn C0)) hpre rfl (List.length_map _) hsz hst2 (lv_room ?_) hd ⟨hc, hs⟩
    rw [aw_cw_map]
    exact hw) (fun v hv => by rw [← hst]; exact List.mem_append_right _ (List.mem_cons_of_mem _ hv)) k kx
theorem aw_selp {y : MethodName} {C : String} {s : State} {args : Array Value} {n : Nat} (hy : y.cls ≠ "java/lang/invoke/MethodHandle" ∧ y.cls ≠ "java/lang/invoke/VarHandle")
    (hins : (Cond.instantiable C n).before args s = true) (hpriv : (Cond.privateMethod y).before args s = true) (hinst : (Cond.instanceMethod y).before args s = true) (hK : ∃ (c2 : ClassId) (k2 : Class), s.vm.findClass y.cls = some c2 ∧ s.vm.classes[c2]? = some k2 ∧ k2.isInterface = false) :
    (Cond.selects C y y).before args s = true := by
  obtain ⟨c, k, hc, hk, -, hniab, -, -⟩ := Cond.instantiable_spec hins
  obtain ⟨c2, k2, hc2, hk2, hni2⟩ := hK
  obtain ⟨mk, methM, hnamed, hmethM, -, -⟩ := Cond.instanceMethod_spec hinst
  have hfound : s.methodFound? y.cls y.name y.desc = some mk := State.methodFound?_of_named hnamed hy
  have hcls : mk.cls = c2 := Option.some.inj ((findClass_of_methodNamed hnamed).symm.trans hc2)
  have hsel : selectMethod {} s.vm c mk = .method mk := selectMethod_private hmethM (Cond.privateMethod_at hpriv mk methM hnamed hmethM)
  simp only [Cond.before, Cond.holds, Cond.value, hc, hfound, hnamed, hsel, hcls, hk2]
  simp; exact hni2
/-- super.m(..) -/
theorem x_callSU {x : Int} {index cN d' nL' mc ms : Nat} {q : aw_Q} {y : MethodName} {cc' : ByteArray} {ret' : Option FieldType} {as rest : List aw_V} {Qc : Option aw_V → aw_M → Prop} {Xc : String → aw_M → Prop} (hd : decode cc pc = .ok (.invokespecial index, 3)) (hR : aw_Runs y cc' nL' ret' d' mc ms G ((2, x) :: as) M Qc Xc)
    (hT : Cond.code y cc' nL' ret' ∈ lw_all) (h1 : Cond.methodLink own index y ∈ lw_all) (h2 : Cond.sameMethod y.cls y.cls y.name y.desc ∈ lw_all) (h3 : Cond.superclass own y.cls ∈ lw_all) (h4 : Cond.instanceMethod y ∈ lw_all) (h5 : Cond.initialized y.cls ∈ lw_all)
    (hk : aw_k M x = (cN, 0)) (hq : aw_cls[cN]? = some q) (hy : y.name ≠ "<init>" ∧ (parseMethodDescriptor y.desc).map (fun d => d.parameters.length) = some as.length) (hdd : d' + 1 ≤ d) (hn : nL' ≤ 500)
    (hst : as.reverse ++ (2, x) :: rest = st) (hw : aw_cw rest ≤ 8)
    (k : ∀ (r : Option aw_V) (M' : aw_M), Qc r M' → aw_ext M M' → aw_W G own cc ret nL d ini M0 Q X c sl (pc + 3) ls (r.toList ++ rest) M')
    (kx : ∀ (E : String) (M' : aw_M), Xc E M' → aw_ext M M' → X E M' ∧ ¬ aw_hs cc) : aw_W G own cc ret nL d ini M0 Q X (c + mc) (sl + ms) pc ls st M := by
  exact aw_go (rest := rest) (Qc := Qc) (Xc := Xc) (fun {p l e R s m args below meth cd H locs cells slots lsA} C0 ho hr hso hsz hc hs => by
    obtain ⟨k0, rfl, h0, hB⟩ := aw_recv C0 ho hr hk hq rfl
    have hts := C0.2.2.2.2.2.2.1
    have hK := C0.2.2.2.2.2.2.2.1
    have hav : Value.ref (aw_ad G k0) :: as.map (aw_val (aw_ad G)) = ((2, (k0 : Int)) :: as).map (aw_val (aw_ad G)) := by rw [List.map_cons, aw_vref h0]
    have hst2 : st.map (aw_val (aw_ad G)) = (as.map (aw_val (aw_ad G))).reverse ++ .ref (aw_ad G k0) :: rest.map (aw_val (aw_ad G)) := by rw [aw_rev hst, List.map_cons, aw_vref h0]
    have hpre := aw_pre (G := G) (M := M) (s := s) (H := H) (as := (2, (k0 : Int)) :: as) C0.2.2.2.2.2.2.2.2.2.2.2.2.2.2 ho C0.2.2.2.2.2.2.2.1 hr (fun v hv => hso v (by rw [← hst]; rcases List.mem_cons.mp hv with h | h; exact List.mem_append_right _ (by rw [h]; exact List.mem_cons_self); exact List.mem_append_left _ (List.mem_reverse.mpr h))) hav
    have hroom := aw_room (mc := mc) (ms := ms) hdd hn C0
    have hCS : va_CS R s args own index y cc' nL' ret' (ws_ y cc' nL' ret') (aw_rm d' mc ms) mc ms as.length := by
      refine ⟨⟨rfl, rfl, hroom.1, hroom.2, pay_in hts (lw_meth hT), List.mem_cons_self⟩, hts _ h1, hts _ h2, hts _ h3, hts _ h4, hts _ h5, hts _ hT, hy.1, fun sig h => ?_⟩
      have h9 := hy.2
      rw [h] at h9
      exact (Option.some.inj h9).symm
    refine ⟨(Value.ref (aw_ad G k0) :: as.map (aw_val (aw_ad G))).toArray, ?_⟩
    refine vx_runSU (C := q.1) (cC := G.1 cN) (b := aw_ad G k0) (As := as.map (aw_val (aw_ad G))) (rest := rest.map (aw_val (aw_ad G))) (hK.1 cN q hq).2 ⟨C0.1, C0.2.1, C0.2.2.2.2.1, C0.2.2.2.2.2.1, C0.2.2.2.2.2.2.1⟩ (hR l C0.2.2.2.2.2.2.2.2.2.2.2.1) hCS ⟨hpre.1, hB, hpre.2⟩ rfl (List.length_map _) hsz hst2 (lv_room ?_) hd ⟨hc, hs⟩
    rw [aw_cw_map]
    exact hw) (fun v hv => by rw [← hst]; exact List.mem_append_right _ (List.mem_cons_of_mem _ hv)) k kx
theorem x_acmpS_ne {x y off : Int} {tgt : Nat} (hd : decode cc pc = .ok (.if_acmp .ne off, 3)) (ht : (pc : Int) + off = (tgt : Int)) (hn : x = 0 ∨ 4096 ≤ x ∨ y = 0 ∨ 4096 ≤ y ∨ x = y ∨ (ga_K x = (69, 0) ∧ ga_K y = (69, 0) ∧ 1000 ≤ x ∧ 1000 ≤ y)) (kt : x ≠ y → aw_W G own cc ret nL d ini M0 Q X c sl tgt ls st M) (kf : ¬ x ≠ y → aw_W G own cc ret nL d ini M0 Q X c sl (pc + 3) ls st M) : aw_W G own cc ret nL d ini M0 Q X c sl pc ls ((2, y) :: (2, x) :: st) M := by
  by_cases h6 : x = 0 ∨ 4096 ≤ x ∨ y = 0 ∨ 4096 ≤ y ∨ x = y
  · exact x_acmp_ne hd ht h6 kt kf
  · have h7 : ga_K x = (69, 0) ∧ ga_K y = (69, 0) ∧ 1000 ≤ x ∧ 1000 ≤ y := by
      rcases hn with h | h | h | h | h | h
      · exact absurd (Or.inl h) h6
      · exact absurd (Or.inr (Or.inl h)) h6
      · exact absurd (Or.inr (Or.inr (Or.inl h))) h6
      · exact absurd (Or.inr (Or.inr (Or.inr (Or.inl h)))) h6
      · exact absurd (Or.inr (Or.inr (Or.inr (Or.inr h)))) h6
      · exact h
    intro p l e R s m args below meth cd H locs cells slots C hr he ho hz hc hs lsA hlv hlo hso
    have hZ := C.2.2.2.2.2.2.2.2.2.2.2.2.2.2
    have hE : (if x ≤ 0 then none else some (aw_ad G x.toNat)) = (if y ≤ 0 then none else some (aw_ad G y.toNat)) ↔ x = y := by
      rw [if_neg (by omega), if_neg (by omega)]
      constructor
      · intro q
        have q2 := Option.some.inj q
        have ex : ((x.toNat : Nat) : Int) = x := by omega
        have ey : ((y.toNat : Nat) : Int) = y := by omega
        have hx4 : x.toNat < aw_NC := by
          by_cases w : 4096 ≤ x
          · exact absurd (Or.inr (Or.inl w)) h6
          · show x.toNat < 4096; omega
        have hy4 : y.toNat < aw_NC := by
          by_cases w : 4096 ≤ y
          · exact absurd (Or.inr (Or.inr (Or.inr (Or.inl w)))) h6
          · show y.toNat < 4096; omega
        have := hZ.2.2.1 x.toNat y.toNat hx4 hy4 (by rw [ex, ey, h7.1, h7.2.1]) (by rw [ex, h7.1]; exact Or.inr (Or.inr rfl)) q2
        omega
      · intro q; rw [q]
    rw [List.map_cons, List.map_cons, aw_rf x, aw_rf y]
    exact lv_acmp_ne C.1 C.2.1 hd ht (fun q => kt (fun z => q (hE.mpr z)) _ C hr he ho hz hc hs lsA hlv hlo (aw_t (aw_t hso))) (fun q => kf (fun z => z (hE.mp q)) _ C hr he ho hz hc hs lsA hlv hlo (aw_t (aw_t hso)))
/-- doubles by eighths -/
theorem x_dcmpg {n : Int} {index : Nat} {v : UInt64} {vz : Int} (hv : UInt64.ofNat vz.toNat = v) (hd : decode cc pc = .ok (.ldc2_w index, 3)) (hw : Cond.constantDouble own index v ∈ lw_all) (hd2 : decode cc (pc + 3) = .ok (.dcmp .g, 1)) (k : aw_W G own cc ret nL d ini M0 Q X c sl (pc + 3 + 1) ls ((0, aw_dcg n vz) :: st) M) : aw_W G own cc ret nL d ini M0 Q X c sl pc ls ((4, n) :: st) M := by
  subst hv
  intro p l e R s m args below meth cd H locs cells slots C hr he ho hz hc hs lsA hlv hlo hso
  have hr1 : R32 (aw_dcg n vz) := by
    unfold aw_dcg aw_dc
    split <;> decide
  refine lv_ldc2d C.1 C.2.1 C.2.2.2.2.2.1 (C.2.2.2.2.2.2.1 _ hw) hd ?_
  refine lv_dcmp (x := aw_dv n) C.1 C.2.1 hd2 ?_
  have key := k _ (e := e) (below := below) C hr he ho hz hc hs lsA hlv hlo (aw_c1 (v := (0, aw_dcg n vz)) hr1 (aw_t hso))
  have e9 : Op.cmpValue (FP.dcmp (aw_dv n) (UInt64.ofNat vz.toNat)) .g = Int32.ofInt (aw_dcg n vz) := by
    unfold aw_dcg aw_dc
    cases FP.dcmp (aw_dv n) (UInt64.ofNat vz.toNat) with
    | none => rfl
    | some o => cases o <;> rfl
  rw [e9]
  exact key
theorem x_dcmpl {n : Int} {index : Nat} {v : UInt64} {vz : Int} (hv : UInt64.ofNat vz.toNat = v) (hd : decode cc pc = .ok (.ldc2_w index, 3)) (hw : Cond.constantDouble own index v ∈ lw_all) (hd2 : decode cc (pc + 3) = .ok (.dcmp .l, 1)) (k : aw_W G own cc ret nL d ini M0 Q X c sl (pc + 3 + 1) ls ((0, aw_dcl n vz) :: st) M) : aw_W G own cc ret nL d ini M0 Q X c sl pc ls ((4, n) :: st) M := by
  subst hv
  intro p l e R s m args below meth cd H locs cells slots C hr he ho hz hc hs lsA hlv hlo hso
  have hr1 : R32 (aw_dcl n vz) := by
    unfold aw_dcl aw_dc
    split <;> decide
  refine lv_ldc2d C.1 C.2.1 C.2.2.2.2.2.1 (C.2.2.2.2.2.2.1 _ hw) hd ?_
  refine lv_dcmp (x := aw_dv n) C.1 C.2.1 hd2 ?_
  have key := k _ (e := e) (below := below) C hr he ho hz hc hs lsA hlv hlo (aw_c1 (v := (0, aw_dcl n vz)) hr1 (aw_t hso))
  have e9 : Op.cmpValue (FP.dcmp (aw_dv n) (UInt64.ofNat vz.toNat)) .l = Int32.ofInt (aw_dcl n vz) := by
    unfold aw_dcl aw_dc
    cases FP.dcmp (aw_dv n) (UInt64.ofNat vz.toNat) with
    | none => rfl
    | some o => cases o <;> rfl
  rw [e9]
  exact key
def fq_g : FP.Core.Datum → Prop
  | .nan => False
  | .inf _ => True
  | .fin _ c q => c < 9007199254740992 ∧ q ≤ 971
theorem fq_bound {s : Bool} {c : Nat} {q : Int} (h : c < 9007199254740992) : fq_g (FP.Core.bound FP.Core.b64 s c q) := by
  have e : FP.Core.b64.qmax = 971 := by decide
  unfold FP.Core.bound
  rw [e]
  by_cases h2 : q ≤ 971
  · rw [if_pos h2]; exact ⟨h, h2⟩
  · rw [if_neg h2]; trivial
theorem fq_settle {s : Bool} {c : Nat} {q : Int} : fq_g (FP.Core.settle FP.Core.b64 s c q) := by
  have e : (2 : Nat) ^ FP.Core.b64.p = 9007199254740992 := by decide
  unfold FP.Core.settle
  rw [e]
  by_cases h2 : c < 9007199254740992
  · rw [if_pos h2]; exact fq_bound h2
  · rw [if_neg h2]; exact fq_bound (by decide)
theorem fq_ratio {s : Bool} {num den : Nat} {e : Int} : fq_g (FP.Core.roundRatio FP.Core.b64 s num den e) := by
  unfold FP.Core.roundRatio
  by_cases h2 : num = 0
  · rw [if_pos h2]; exact ⟨by decide, by decide⟩
  · rw [if_neg h2]; exact fq_settle
theorem fq_enc {d : FP.Core.Datum} (h : fq_g d) : FP.Core.encode FP.Core.b64 d % 9223372036854775808 ≤ 9218868437227405312 := by
  cases d with
  | nan => exact h.elim
  | inf s => cases s <;> decide
  | fin s c q =>
    have h1 : c < 9007199254740992 := h.1
    have h2 : q ≤ 971 := h.2
    have et : FP.Core.b64.tails = 4503599627370496 := by decide
    have ee : FP.Core.b64.exps = 2048 := by decide
    have eq : FP.Core.b64.qmin = -1074 := by decide
    show (if c < FP.Core.b64.tails then FP.Core.assemble FP.Core.b64 s 0 c else FP.Core.assemble FP.Core.b64 s ((q - FP.Core.b64.qmin).toNat + 1) (c - FP.Core.b64.tails)) % 9223372036854775808 ≤ 9218868437227405312
    unfold FP.Core.assemble
    rw [et, ee, eq]
    have hs : s.toNat = 0 ∨ s.toNat = 1 := by cases s <;> simp
    by_cases h3 : c < 4503599627370496
    · rw [if_pos h3]
      rcases hs with hs | hs <;> rw [hs] <;> omega
    · rw [if_neg h3]
      have h4 : (q - -1074).toNat ≤ 2045 := by omega
      generalize (q - -1074).toNat = z at h4
      rcases hs with hs | hs <;> rw [hs] <;> omega
theorem fq_dec {n : Nat} (h : n % 9223372036854775808 ≤ 9218868437227405312) : FP.Core.decode FP.Core.b64 n ≠ .nan := by
  have et : FP.Core.b64.tails = 4503599627370496 := by decide
  have ee : FP.Core.b64.exps = 2048 := by decide
  unfold FP.Core.decode FP.Core.fieldE FP.Core.fieldT
  rw [et, ee]
  by_cases h1 : n / 4503599627370496 % 2048 = 2048 - 1
  · rw [if_pos h1]
    by_cases h2 : n % 4503599627370496 = 0
    · rw [if_pos h2]; exact fun q => by cases q
    · exfalso; omega
  · rw [if_neg h1]
    by_cases h2 : n / 4503599627370496 % 2048 = 0
    · rw [if_pos h2]; exact fun q => by cases q
    · rw [if_neg h2]; exact fun q => by cases q
theorem fq_quo {x : FP.Core.Datum} (hx : x ≠ .nan) (t : Bool) (d : Nat) (r : Int) (hd : d ≠ 0) : fq_g (FP.Core.quotient FP.Core.b64 x (.fin t d r)) := by
  cases x with
  | nan => exact absurd rfl hx
  | inf s => trivial
  | fin s c q =>
    show fq_g (if d = 0 then _ else _)
    rw [if_neg hd]
    exact fq_ratio
theorem aw_dvn (n : Int) : vf_n64 (aw_dv n) := by
  have h0 : FP.Core.fromInt FP.Core.b64 (Int64.ofInt n).toInt % 9223372036854775808 ≤ 9218868437227405312 := fq_enc (show fq_g (FP.Core.roundRatio FP.Core.b64 _ _ 1 0) from fq_ratio)
  have h1 : FP.Core.decode FP.Core.b64 (FP.Core.l2d (Int64.ofInt n)).toNat ≠ .nan := fq_dec (by
    show (UInt64.ofNat (FP.Core.fromInt FP.Core.b64 (Int64.ofInt n).toInt)).toNat % 9223372036854775808 ≤ 9218868437227405312
    rw [UInt64.toNat_ofNat']
    omega)
  have e8 : FP.Core.decode FP.Core.b64 (4620693217682128896 : UInt64).toNat = .fin false 4503599627370496 (-49) := by decide +kernel
  have h2 : FP.Core.div FP.Core.b64 (FP.Core.l2d (Int64.ofInt n)).toNat (4620693217682128896 : UInt64).toNat % 9223372036854775808 ≤ 9218868437227405312 := by
    unfold FP.Core.div
    rw [e8]
    exact fq_enc (fq_quo h1 _ _ _ (by decide))
  show (FP.Core.ddiv (FP.Core.l2d (Int64.ofInt n)) 4620693217682128896) &&& 0x7fffffffffffffff ≤ 0x7ff0000000000000
  rw [UInt64.le_iff_toNat_le, UInt64.toNat_and]
  have e : (0x7fffffffffffffff : UInt64).toNat = 2 ^ 63 - 1 := rfl
  rw [e, Nat.and_two_pow_sub_one_eq_mod]
  show (UInt64.ofNat (FP.Core.div FP.Core.b64 (FP.Core.l2d (Int64.ofInt n)).toNat (4620693217682128896 : UInt64).toNat)).toNat % 9223372036854775808 ≤ 9218868437227405312
  rw [UInt64.toNat_ofNat']
  omega
theorem x_l2d8 {n : Int} {index : Nat} (hd : decode cc pc = .ok (.l2d, 1)) (hd1 : decode cc (pc + 1) = .ok (.ldc2_w index, 3)) (hw : Cond.constantDouble own index 4620693217682128896 ∈ lw_all) (hd2 : decode cc (pc + 1 + 3) = .ok (.ddiv, 1)) (k : aw_W G own cc ret nL d ini M0 Q X c sl (pc + 1 + 3 + 1) ls ((4, n) :: st) M) : aw_W G own cc ret nL d ini M0 Q X c sl pc ls ((1, n) :: st) M := by
  intro p l e R s m args below meth cd H locs cells slots C hr he ho hz hc hs lsA hlv hlo hso
  have hn : R64 n := aw_h hso
  refine lv_l2d C.1 C.2.1 hd ?_
  refine lv_ldc2d C.1 C.2.1 C.2.2.2.2.2.1 (C.2.2.2.2.2.2.1 _ hw) hd1 ?_
  exact lv_ddiv C.1 C.2.1 hd2 (aw_dvn n) (k _ (e := e) (below := below) C hr he ho hz hc hs lsA hlv hlo (aw_c1 (v := (4, n)) (show aw_ok _ (4, n) from hn) (aw_t hso)))
theorem x_i2d8 {n : Int} {index : Nat} (hd : decode cc pc = .ok (.i2d, 1)) (hd1 : decode cc (pc + 1) = .ok (.ldc2_w index, 3)) (hw : Cond.constantDouble own index 4620693217682128896 ∈ lw_all) (hd2 : decode cc (pc + 1 + 3) = .ok (.ddiv, 1)) (k : aw_W G own cc ret nL d ini M0 Q X c sl (pc + 1 + 3 + 1) ls ((4, n) :: st) M) : aw_W G own cc ret nL d ini M0 Q X c sl pc ls ((0, n) :: st) M := by
  intro p l e R s m args below meth cd H locs cells slots C hr he ho hz hc hs lsA hlv hlo hso
  have hn : R32 n := aw_h hso
  have hn6 : R64 n := by constructor <;> (have := hn.1; have := hn.2; omega)
  have e1 : FP.i2d (Int32.ofInt n) = FP.l2d (Int64.ofInt n) := by
    show UInt64.ofNat (FP.Core.fromInt FP.Core.b64 (Int32.ofInt n).toInt) = UInt64.ofNat (FP.Core.fromInt FP.Core.b64 (Int64.ofInt n).toInt)
    rw [Int32.toInt_ofInt_of_le hn.1 (by have := hn.2; omega), Int64.toInt_ofInt_of_le hn6.1 (by have := hn6.2; omega)]
  refine lv_i2d C.1 C.2.1 hd ?_
  rw [e1]
  refine lv_ldc2d C.1 C.2.1 C.2.2.2.2.2.1 (C.2.2.2.2.2.2.1 _ hw) hd1 ?_
  exact lv_ddiv C.1 C.2.1 hd2 (aw_dvn n) (k _ (e := e) (below := below) C hr he ho hz hc hs lsA hlv hlo (aw_c1 (v := (4, n)) (show aw_ok _ (4, n) from hn6) (aw_t hso)))
theorem go_ordinal {x : Int} (hx : ga_K x = (901, 0)) : aw_Runs yJ6_ordinal cJ6_ordinal 1 (some (.int)) 0 0 0 G [(2, x)] M (fun w M' => w = some (0, aw_d M x 0) ∧ M' = M) aw_no := by
  refine aw_body (own := "java/lang/Enum") (ini := false) (ls := [(0, (2, x))]) rfl rfl (fun h => by cases h) (Nat.le_of_ble_eq_true rfl) rfl ?_
  refine x_aload_n dJ6_ordinal_0 rfl ?_
  refine x_getE (en := 901) (j := 0) (tg := 0) dJ6_ordinal_1 q9730 hx (Or.inr rfl) rfl rfl ?_
  exact x_iret dJ6_ordinal_4 rfl rfl trivial ⟨rfl, rfl⟩
theorem x_ordinal {x v : Int} {index : Nat} (hd : decode cc pc = .ok (.invokevirtual index, 3)) (h1 : Cond.methodLink own index ⟨"WasteHouse$PartGraphs$Sentence", "ordinal", "()I"⟩ ∈ lw_all) (hx : ga_K x = (901, 0)) (hv : aw_d M x 0 = v) (hdd : 1 ≤ d) (hw : aw_cw st ≤ 8)
    (k : aw_W G own cc ret nL d ini M0 Q X c sl (pc + 3) ls ((0, v) :: st) M) : aw_W G own cc ret nL d ini M0 Q X c sl pc ls ((2, x) :: st) M := by
  subst hv
  refine x_callUR (c := c) (sl := sl) (mc := 0) (ms := 0) (C := "WasteHouse$PartGraphs$Sentence") (owner := "java/lang/Enum") (xm := ⟨"WasteHouse$PartGraphs$Sentence", "ordinal", "()I"⟩) (as := []) (rest := st) hd (go_ordinal hx) q5857 h1 q5853 (Or.inr q5854) q5855 q5856 q412 (fun C0 ho hr => ?_) (show _ ∧ _ ∧ _ = some 0 from by decide +kernel) (by omega) (by decide) rfl hw (fun w M' h _ => ?_) (fun E M' h _ => h.elim)
  · have hZ := C0.2.2.2.2.2.2.2.2.2.2.2.2.2.2
    obtain ⟨k1, rfl, f0, f9⟩ := aw_enum hx (Or.inr rfl)
    obtain ⟨cellB, f1, f2, f3, -⟩ := (hZ.1.2.2 k1 901 f9 hx (Or.inr rfl)).1.kept (aw_qq ho)
    exact ⟨k1, rfl, f0, cellB, f1, f2, f3⟩
  · obtain ⟨rfl, rfl⟩ := h
    exact k
end AP
