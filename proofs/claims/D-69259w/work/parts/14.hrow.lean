/-! rows that heap mode asks for besides -/
set_option maxRecDepth 100000
section AS14
theorem aw_arrVc {cA : ClassId} {N : Nat} {f g : Nat → Value} (h : ∀ j : Nat, j < N → f j = g j) : arrV cA N f = arrV cA N g := by
  unfold arrV
  have e : (fun j : Fin N => f j.val) = fun j : Fin N => g j.val := funext fun j => h j.val j.isLt
  rw [e]
variable {G : aw_G} {own : String} {cc : ByteArray} {ret : Option FieldType} {nL d : Nat} {ini : Bool} {M0 M : aw_M} {Q : Option aw_V → aw_M → Prop} {X : String → aw_M → Prop} {c sl pc : Nat} {ls : List (Nat × aw_V)} {st : List aw_V}
theorem x_instNo {x : Int} {index cN : Nat} {q : aw_Q} {nm : String} (hd : decode cc pc = .ok (.instanceof index, 3)) (hw : Cond.classLink own index nm ∈ lw_all) (hk : aw_k M x = (cN, 0)) (hq : aw_cls[cN]? = some q) (hE : List.elem (q.1, nm) aw_ncl = true)
    (k : aw_W G own cc ret nL d ini M0 Q X c sl (pc + 3) ls ((0, 0) :: st) M) : aw_W G own cc ret nL d ini M0 Q X c sl pc ls ((2, x) :: st) M := by
  intro p l e R s m args below meth cd H locs cells slots C hr he ho hz hc hs lsA hlv hlo hso
  have hts := C.2.2.2.2.2.2.1
  have hZ := C.2.2.2.2.2.2.2.2.2.2.2.2.2.2
  obtain ⟨k0, rfl, h0, hB⟩ := aw_recv C ho hr hk hq rfl
  have key := k _ (e := e) (below := below) C hr he ho hz hc hs lsA hlv hlo (aw_c1 (v := (0, 0)) (show R32 0 by decide) (aw_t hso))
  rw [List.map_cons, aw_vref h0]
  exact va_instNo C.1 C.2.1 C.2.2.2.2.2.1 (hts _ hw) (hZ.2.1.2.2.2.2.1 (q.1, nm) (List.elem_iff.mp hE)) hB hd key
theorem x_instR {x : Int} {index cN : Nat} {q : aw_Q} {nm : String} {L : List Nat} (hd : decode cc pc = .ok (.instanceof index, 3)) (hw : Cond.classLink own index nm ∈ lw_all) (hq : aw_cls[cN]? = some q) (hC : q.1 = nm) (hL : L.all (fun c => c == cN || (match aw_cls[c]? with | some q => List.elem (q.1, nm) aw_ncl | none => false)) = true) (hm : (aw_k M x).1 ∈ L ∧ (aw_k M x).2 = 0)
    (k : aw_W G own cc ret nL d ini M0 Q X c sl (pc + 3) ls ((0, if aw_k M x = (cN, 0) then (1 : Int) else 0) :: st) M) : aw_W G own cc ret nL d ini M0 Q X c sl pc ls ((2, x) :: st) M := by
  by_cases e : aw_k M x = (cN, 0)
  · rw [if_pos e] at k
    exact x_instY hd hw e hq (Or.inl hC) k
  · rw [if_neg e] at k
    have h1 := List.all_eq_true.mp hL _ hm.1
    have h2 : ((aw_k M x).1 == cN) = false := by
      cases h3 : ((aw_k M x).1 == cN) with
      | false => rfl
      | true => exact absurd (Prod.ext (eq_of_beq h3) hm.2) e
    rw [h2, Bool.false_or] at h1
    cases h4 : aw_cls[(aw_k M x).1]? with
    | none => rw [h4] at h1; cases h1
    | some q2 =>
      rw [h4] at h1
      exact x_instNo hd hw (Prod.ext rfl hm.2 : aw_k M x = ((aw_k M x).1, 0)) h4 h1 k
theorem x_callP {x : Int} {index cN cN2 d' nL' mc ms nS : Nat} {q : aw_Q} {m0 y : MethodName} {cc' : ByteArray} {ret' : Option FieldType} {C : String} {as rest : List aw_V} {Qc : Option aw_V → aw_M → Prop} {Xc : String → aw_M → Prop} (hd : decode cc pc = .ok (.invokevirtual index, 3)) (hR : aw_Runs y cc' nL' ret' d' mc ms G ((2, x) :: as) M Qc Xc)
    (hT : Cond.code y cc' nL' ret' ∈ lw_all) (h1 : Cond.methodLink own index y ∈ lw_all) (h2 : Cond.sameMethod y.cls y.cls y.name y.desc ∈ lw_all) (hp : Cond.privateMethod y ∈ lw_tbl) (hi : Cond.instantiable C nS ∈ lw_all) (hs0 : Cond.selects C m0 m0 ∈ lw_all) (hm0 : m0.cls = y.cls) (h5 : Cond.instanceMethod y ∈ lw_all) (h6 : Cond.initialized y.cls ∈ lw_all)
    (hk : aw_k M x = (cN, 0)) (hq : aw_cls[cN]? = some q) (hC : q.1 = C) (hy : y.cls ≠ "java/lang/invoke/MethodHandle" ∧ y.cls ≠ "java/lang/invoke/VarHandle" ∧ (parseMethodDescriptor y.desc).map (fun d => d.parameters.length) = some as.length) (hdd : d' + 1 ≤ d) (hn : nL' ≤ 500)
    (hst : as.reverse ++ (2, x) :: rest = st) (hw : aw_cw rest ≤ 8)
    (k : ∀ (r : Option aw_V) (M' : aw_M), Qc r M' → aw_ext M M' → aw_W G own cc ret nL d ini M0 Q X c sl (pc + 3) ls (r.toList ++ rest) M')
    (kx : ∀ (E : String) (M' : aw_M), Xc E M' → aw_ext M M' → X E M' ∧ ¬ aw_hs cc) : aw_W G own cc ret nL d ini M0 Q X (c + mc) (sl + ms) pc ls st M := by
  exact aw_go (rest := rest) (Qc := Qc) (Xc := Xc) (fun {p l e R s m args below meth cd H locs cells slots lsA} C0 ho hr hso hsz hc hs => by
    obtain ⟨k0, rfl, h0, hB⟩ := aw_recv C0 ho hr hk hq hC
    have hts := C0.2.2.2.2.2.2.1
    have hK := C0.2.2.2.2.2.2.2.1
    have hav : Value.ref (aw_ad G k0) :: as.map (aw_val (aw_ad G)) = ((2, (k0 : Int)) :: as).map (aw_val (aw_ad G)) := by rw [List.map_cons, aw_vref h0]
    have hst2 : st.map (aw_val (aw_ad G)) = (as.map (aw_val (aw_ad G))).reverse ++ .ref (aw_ad G k0) :: rest.map (aw_val (aw_ad G)) := by rw [aw_rev hst, List.map_cons, aw_vref h0]
    have hpre := aw_pre (G := G) (M := M) (s := s) (H := H) (as := (2, (k0 : Int)) :: as) C0.2.2.2.2.2.2.2.2.2.2.2.2.2.2 ho C0.2.2.2.2.2.2.2.1 hr (fun v hv => hso v (by rw [← hst]; rcases List.mem_cons.mp hv with h | h; exact List.mem_append_right _ (by rw [h]; exact List.mem_cons_self); exact List.mem_append_left _ (List.mem_reverse.mpr h))) hav
    have hdecl : va_Decl s ⟨y.cls, y.name, y.desc⟩ := va_Decl.of (hts _ h5) (hts _ hT)
    have hroom := aw_room (mc := mc) (ms := ms) hdd hn C0
    have hpr : (Cond.privateMethod y).before args s = true := va_any (A := #[]) (A' := args) rfl (hK.2.2.1 _ hp rfl)
    have hcl2 : ∃ (c2 : ClassId) (k2 : Class), s.vm.findClass y.cls = some c2 ∧ s.vm.classes[c2]? = some k2 ∧ k2.isInterface = false := by
      obtain ⟨c2, r2, m2, q1, q2, q3, q4, kP, hkP, hkPi⟩ := Cond.selects_spec (hts _ hs0)
      exact ⟨m2.cls, kP, by rw [← hm0]; exact findClass_of_methodNamed q3, hkP, hkPi⟩
    have hsel : (Cond.selects C y y).before args s = true := aw_selp ⟨hy.1, hy.2.1⟩ (hts _ hi) hpr (hts _ h5) hcl2
    have hCU : va_CU R s args own C y.cls index y y cc' nL' ret' (ws_ y cc' nL' ret') (aw_rm d' mc ms) mc ms as.length := by
      refine ⟨⟨rfl, rfl, hroom.1, hroom.2, pay_in hts (lw_meth hT), List.mem_cons_self⟩, hts _ hT, hts _ h6, ⟨hy.1, hy.2.1⟩, fun sig h => ?_, hts _ h1, hts _ h2, hdecl, hsel, hts _ h5⟩
      have h9 := hy.2.2
      rw [h] at h9
      exact (Option.some.inj h9).symm
    refine ⟨(Value.ref (aw_ad G k0) :: as.map (aw_val (aw_ad G))).toArray, ?_⟩
    refine vx_runU (C := C) (owner := y.cls) (b := aw_ad G k0) (As := as.map (aw_val (aw_ad G))) (rest := rest.map (aw_val (aw_ad G))) ⟨C0.1, C0.2.1, C0.2.2.2.2.1, C0.2.2.2.2.2.1, C0.2.2.2.2.2.2.1⟩ (hR l C0.2.2.2.2.2.2.2.2.2.2.2.1) hCU ⟨hpre.1, hB, hpre.2⟩ rfl (List.length_map _) hsz hst2 (lv_room ?_) hd ⟨hc, hs⟩
    rw [aw_cw_map]
    exact hw) (fun v hv => by rw [← hst]; exact List.mem_append_right _ (List.mem_cons_of_mem _ hv)) k kx
/-- System.arraycopy of references into an array of Object -/
theorem x_copyR {x sp y dp n n0 n1 : Int} {t index : Nat} {M1 : aw_M} (hM : M1 = aw_cp M x sp y dp n) (hd : decode cc pc = .ok (.invokestatic index, 3)) (h1 : Cond.methodLink own index arraycopyName ∈ lw_all) (h2 : Cond.native arraycopyName ∈ lw_all) (h3 : Cond.static arraycopyName ∈ lw_all) (h4 : Cond.initialized "java/lang/System" ∈ lw_all)
    (hk0 : aw_k M x = (1000 + t, n0)) (hk1 : aw_k M y = (1000 + t, n1)) (ht : aw_ats[t]? = some (.object "java/lang/Object")) (hy : 4096 ≤ y) (hb : 0 ≤ sp ∧ 0 ≤ dp ∧ 0 ≤ n ∧ sp + n ≤ n0 ∧ dp + n ≤ n1) (hdd : 1 ≤ d) (hw : aw_cw st ≤ 8)
    (k : aw_W G own cc ret nL d ini M0 Q X c sl (pc + 3) ls st M1) : aw_W G own cc ret nL d ini M0 Q X c sl pc ls ((0, n) :: (0, dp) :: (2, y) :: (0, sp) :: (2, x) :: st) M := by
  subst hM
  intro p l e R s m args below meth cd H locs cells slots C hr he ho hz hc hs lsA hlv hlo hso
  have hts := C.2.2.2.2.2.2.1
  have hK := C.2.2.2.2.2.2.2.1
  have g1 : R.frames = d := C.2.2.2.2.2.2.2.2.1
  have g2 : R.locals = d * 600 := C.2.2.2.2.2.2.2.2.2.1
  have rn : R32 n := aw_h hso
  have rdp : R32 dp := aw_h (aw_t hso)
  have rsp : R32 sp := aw_h (aw_t (aw_t (aw_t hso)))
  obtain ⟨ka, rfl, a0, a1, an0, an1, ⟨ca, acell, ⟨aao, -⟩, aun, asz, asi, asl⟩, aall⟩ := aw_arrW C ho hr hk0 ht
  obtain ⟨kb, rfl, b0, b1, bn0, bn1, bcell, ball⟩ := aw_arr hr hk1 ht hy
  have hkb : aw_NC ≤ kb := by show 4096 ≤ kb; omega
  rw [List.map_cons, List.map_cons, List.map_cons, List.map_cons, List.map_cons, aw_vref a0, aw_vref b0]
  have hA := (hK.2.1 t _ ht).1
  obtain ⟨ast, k0, e0, cm0, ek0⟩ := aao
  obtain ⟨-, k1, e1, cm1, ek1⟩ := hA n1.toNat (fun j => aw_val (aw_ad G) (2, aw_d M (kb : Int) (j : Nat)))
  obtain ⟨kA, comp, r1, r2, r3, -⟩ := (hK.2.1 t _ ht).2
  have hneg : ∀ z : Int, R32 z → 0 ≤ z → ¬ Int32.ofInt z < 0 := fun z hz h q => by have := (aw_lt_o hz (by decide : R32 0)).mp q; omega
  have hti : ∀ z : Int, R32 z → (Int32.ofInt z).toInt = z := fun z hz => Int32.toInt_ofInt_of_le hz.1 (by have := hz.2; omega)
  intro T hT X
  obtain ⟨vm', X', step⟩ := X.arraycopy C.1 C.2.2.2.2.2.1 (hts _ h1) (hts _ h2) (hts _ h3) (hts _ h4) (src := aw_ad G ka) (dst := aw_ad G kb) (srcPos := Int32.ofInt sp) (destPos := Int32.ofInt dp) (n := Int32.ofInt n) (by rw [hT]; exact acell) (by rw [hT]; exact bcell)
    ast (fun _ h => by cases h) aun (fun h => by cases h) e0 e1 ek0 ek1 (by rfl) (hneg _ rsp hb.1) (hneg _ rdp hb.2.1) (hneg _ rn hb.2.2.1)
    (by rw [hti _ rsp, hti _ rn]; omega) (by rw [hti _ rdp, hti _ rn, arrV_size]; omega)
    (fun vm₁ hal i hi => by
      rw [aw_clamp rn] at hi
      have e : ca.slots.getD ((Int32.ofInt sp).toNatClampNeg + i) .null = aw_val (aw_ad G) (2, aw_d M (ka : Int) ((sp.toNat + i : Nat) : Int)) := by
        rw [aw_clamp rsp, Array.getD_eq_getD_getElem?, asl _ (by omega)]
        rfl
      rw [e]
      have hv9 := aall ((sp.toNat + i : Nat) : Int) (by omega) (by omega)
      have hv : aw_va (aw_k M) (aw_d M (ka : Int) ((sp.toNat + i : Nat) : Int)) := hv9
      by_cases h0 : aw_d M (ka : Int) ((sp.toNat + i : Nat) : Int) = 0
      · rw [h0, aw_null (Int.le_refl 0)]
        exact ⟨rfl, trivial⟩
      · obtain ⟨kk, hkk, hk9, cellV, c1, c2, ⟨kC, hkC⟩, c4⟩ := aw_any C ho hr hv h0
        rw [hkk, aw_vref hk9]
        cases e1.symm.trans r1
        cases ek1.symm.trans r2
        obtain ⟨kE, hkE⟩ := aw_kcl r3
        obtain ⟨kC', hkC', -⟩ := hal.2.2 _ _ hkC
        obtain ⟨kE', hkE', -⟩ := hal.2.2 _ _ hkE
        refine ⟨rfl, cellV, (show T.heap[aw_ad G kk]? = some cellV by rw [hT]; exact c1), c2, ⟨kC', hkC'⟩, ⟨kE', hkE'⟩, ?_⟩
        show vm₁.assignable _ _ = true
        rw [hal.assignable]
        exact c4 _ r3)
    (g := F0 m pc lsA (.int (Int32.ofInt n) :: .int (Int32.ofInt dp) :: .ref (aw_ad G kb) :: .int (Int32.ofInt sp) :: .ref (aw_ad G ka) :: st.map (aw_val (aw_ad G)))) rfl (by rw [C.2.2.2.2.1]; exact hlv.1) (rest := st.map (aw_val (aw_ad G))) rfl (by rw [C.2.1]; exact hd) (by omega) (by
      have h9 : nativeFrameWords "java/lang/System" "arraycopy" 5 ≤ 500 := by decide
      show 2 * 0 + _ + _ ≤ _
      rw [aw_cw_map, g2]
      omega)
  have e5 : copied ca (arrV (G.2.2.1 t) n1.toNat (fun j => aw_val (aw_ad G) (2, aw_d M (kb : Int) (j : Nat)))) (Int32.ofInt sp) (Int32.ofInt dp) (Int32.ofInt n) = arrV (G.2.2.1 t) n1.toNat (fun j => aw_val (aw_ad G) (2, va_cpy (fun j => aw_d M (ka : Int) (j : Nat)) (fun j => aw_d M (kb : Int) (j : Nat)) sp.toNat dp.toNat n.toNat j)) := by
    have := va_copiedX (sp := (Int32.ofInt sp).toNatClampNeg) (dp := (Int32.ofInt dp).toNatClampNeg) (n := (Int32.ofInt n).toNatClampNeg) (n1 := n1.toNat) (n0 := n0.toNat) (fun z => aw_val (aw_ad G) (2, z)) ca (G.2.2.1 t) (fun j => aw_d M (ka : Int) (j : Nat)) (fun j => aw_d M (kb : Int) (j : Nat)) (fun j hj => asl j (by omega)) (by rw [aw_clamp rsp, aw_clamp rn]; omega)
    rw [aw_clamp rsp, aw_clamp rdp, aw_clamp rn] at this
    show (arrV _ _ _).storeRun _ _ = _
    rw [aw_clamp rsp, aw_clamp rdp, aw_clamp rn]
    exact this
  have e6 : (arrV (G.2.2.1 t) n1.toNat (fun j => aw_val (aw_ad G) (aw_tg (.object "java/lang/Object"), aw_d M (kb : Int) (j : Nat)))) = arrV (G.2.2.1 t) n1.toNat (fun j => aw_val (aw_ad G) (2, aw_d M (kb : Int) (j : Nat))) := rfl
  rw [e5] at X' step
  have hl : aw_ad G kb < H.size := (Array.getElem?_eq_some_iff.mp bcell).1
  have oq : ∀ (z : Cell) (q : Nat), q ≠ aw_ad G kb → (H.setIfInBounds (aw_ad G kb) z)[q]? = H[q]? := fun z q hq => by simp [Array.getElem?_setIfInBounds, Ne.symm hq]
  obtain ⟨t2, a2, b2⟩ := k _ C (aw_rep_cp (x := (ka : Int)) (sp := sp) (dp := dp) (n := n) hr hkb (H' := H.setIfInBounds (aw_ad G kb) _) (by simp) (oq _) (aw_cpcell hk1 ht ⟨bn0, bn1⟩ hb.1 hb.2.1 hb.2.2.1 hb.2.2.2.2 (by simp [Array.getElem?_setIfInBounds, hl]; rfl) (fun j h5 h6 => aall j (by omega) (by omega)) ball)) he (aw_old_set hkb ho (oq _)) (fun z h => by
      rcases List.mem_append.mp h with h | h
      · exact hz z h
      · obtain ⟨w, -, hw⟩ := List.mem_map.mp h
        rw [← hw]
        exact aw_loc hkb hz ⟨aw_ad G kb, 0⟩ (List.mem_append_right _ (List.mem_singleton.mpr rfl))) hc hs lsA hlv hlo (aw_t (aw_t (aw_t (aw_t (aw_t hso))))) _ (by rw [← hT]; rfl) X'
  exact ⟨t2, step t2 a2, b2⟩
theorem x_cacheI {x : Int} {index : Nat} (hd : decode cc pc = .ok (.getstatic index, 3)) (hw : Cond.fieldLink own index "java/lang/Integer$IntegerCache" "cache" "[Ljava/lang/Integer;" ∈ lw_all) (hd2 : decode cc (pc + 3) = .ok (.iload_n 0, 1)) (hd3 : decode cc (pc + 3 + 1) = .ok (.sipush 128, 3)) (hd4 : decode cc (pc + 3 + 1 + 3) = .ok (.iadd, 1)) (hd5 : decode cc (pc + 3 + 1 + 3 + 1) = .ok (.aaload, 1)) (hl : aw_lk ls 0 = some (0, x)) (hb : 0 ≤ aw_w32 (x + 128) ∧ aw_w32 (x + 128) < 256)
    (k : aw_W G own cc ret nL d ini M0 Q X c sl (pc + 9) ls ((2, aw_w32 (x + 128) + 200) :: st) M) : aw_W G own cc ret nL d ini M0 Q X c sl pc ls st M := by
  intro p l e R s m args below meth cd H locs cells slots C0 hr he ho hz0 hc hs lsA hlv hlo hso
  have hts := C0.2.2.2.2.2.2.1
  have hZ := C0.2.2.2.2.2.2.2.2.2.2.2.2.2.2
  obtain ⟨h1, hT⟩ := hZ.2.1.2.2.2.1.2.1
  obtain ⟨cf, kf, fi, f, a, cell, f1, f2, f3, f4, f5, f6, f7, -⟩ := h1.kept (aw_qq ho)
  obtain ⟨cellT, t1, t2, t3, t4, t5, t6, -⟩ := hT.kept (aw_qq ho)
  refine W.gets C0.1 C0.2.1 C0.2.2.2.2.2.1 (hts _ hw) f1 f2 f3 f4 f5 (fun e => by rw [e] at f6; cases f6) f7 rfl hd ?_
  have hlt : aw_K0 (aw_w32 (x + 128) + 200) = (70, 0) := by
    obtain ⟨b0, b1⟩ := hb
    have hall : ∀ i : Nat, i < 256 → aw_K0 ((i : Int) + 200) = (70, 0) := by decide +kernel
    have h9 := hall (aw_w32 (x + 128)).toNat (by omega)
    rw [show (((aw_w32 (x + 128)).toNat : Nat) : Int) = aw_w32 (x + 128) by omega] at h9
    exact h9
  have hv : aw_va (aw_k M) (aw_w32 (x + 128) + 200) := by
    refine ⟨by omega, Or.inr ?_⟩
    rw [aw_cnK hr.2.2.1.2 _ (by rw [hlt]; exact fun h => absurd (congrArg Prod.fst h) (by decide)), hlt]
    exact Or.inl ⟨by decide, rfl⟩
  refine lv_iload_n C0.1 C0.2.1 hd2 rfl (aw_lat hlv hl) ?_
  refine lv_sipush C0.1 C0.2.1 hd3 (aw_r16 (by decide : (-32768 : Int) ≤ 128 ∧ (128 : Int) < 32768)) ?_
  refine lv_iadd C0.1 C0.2.1 hd4 ?_
  have e2 : Int32.ofInt x + Int32.ofInt 128 = Int32.ofInt (aw_w32 (x + 128)) := by rw [aw_w32_o, ← Int32.ofInt_add]
  rw [e2]
  have hR : R32 (aw_w32 (x + 128)) := aw_w32_r _
  refine W.aald (ty := .object "java/lang/Integer") (v := .ref (aw_ad G (200 + (aw_w32 (x + 128)).toNat))) C0.1 C0.2.1 t1 t2 rfl t3 (aw_ibW (n := 256) hR hb.1 hb.2 t4) ?_ rfl rfl hd5 ?_
  · rw [aw_clamp hR, t6 _ (by omega)]
  · have key := k _ (e := e) (below := below) C0 hr he ho hz0 hc hs lsA hlv hlo (aw_c1 (v := (2, aw_w32 (x + 128) + 200)) hv hso)
    rw [List.map_cons, aw_vrefI (by omega), show (aw_w32 (x + 128) + 200).toNat = 200 + (aw_w32 (x + 128)).toNat by omega] at key
    exact key
theorem x_cacheL {x : Int} {index : Nat} (hd : decode cc pc = .ok (.getstatic index, 3)) (hw : Cond.fieldLink own index "java/lang/Long$LongCache" "cache" "[Ljava/lang/Long;" ∈ lw_all) (hd2 : decode cc (pc + 3) = .ok (.lload_n 0, 1)) (hd22 : decode cc (pc + 3 + 1) = .ok (.l2i, 1)) (hd3 : decode cc (pc + 3 + 1 + 1) = .ok (.sipush 128, 3)) (hd4 : decode cc (pc + 3 + 1 + 1 + 3) = .ok (.iadd, 1)) (hd5 : decode cc (pc + 3 + 1 + 1 + 3 + 1) = .ok (.aaload, 1)) (hl : aw_lk ls 0 = some (1, x)) (hb : 0 ≤ aw_w32 (aw_w32 x + 128) ∧ aw_w32 (aw_w32 x + 128) < 256)
    (k : aw_W G own cc ret nL d ini M0 Q X c sl (pc + 10) ls ((2, aw_w32 (aw_w32 x + 128) + 500) :: st) M) : aw_W G own cc ret nL d ini M0 Q X c sl pc ls st M := by
  intro p l e R s m args below meth cd H locs cells slots C0 hr he ho hz0 hc hs lsA hlv hlo hso
  have hts := C0.2.2.2.2.2.2.1
  have hZ := C0.2.2.2.2.2.2.2.2.2.2.2.2.2.2
  obtain ⟨h1, hT⟩ := hZ.2.1.2.2.2.1.2.2
  obtain ⟨cf, kf, fi, f, a, cell, f1, f2, f3, f4, f5, f6, f7, -⟩ := h1.kept (aw_qq ho)
  obtain ⟨cellT, t1, t2, t3, t4, t5, t6, -⟩ := hT.kept (aw_qq ho)
  refine W.gets C0.1 C0.2.1 C0.2.2.2.2.2.1 (hts _ hw) f1 f2 f3 f4 f5 (fun e => by rw [e] at f6; cases f6) f7 rfl hd ?_
  have hlt : aw_K0 (aw_w32 (aw_w32 x + 128) + 500) = (73, 0) := by
    obtain ⟨b0, b1⟩ := hb
    have hall : ∀ i : Nat, i < 256 → aw_K0 ((i : Int) + 500) = (73, 0) := by decide +kernel
    have h9 := hall (aw_w32 (aw_w32 x + 128)).toNat (by omega)
    rw [show (((aw_w32 (aw_w32 x + 128)).toNat : Nat) : Int) = aw_w32 (aw_w32 x + 128) by omega] at h9
    exact h9
  have hv : aw_va (aw_k M) (aw_w32 (aw_w32 x + 128) + 500) := by
    refine ⟨by omega, Or.inr ?_⟩
    rw [aw_cnK hr.2.2.1.2 _ (by rw [hlt]; exact fun h => absurd (congrArg Prod.fst h) (by decide)), hlt]
    exact Or.inl ⟨by decide, rfl⟩
  have hx64 : R64 x := hlo (0, (1, x)) (aw_lk_mem hl)
  refine lv_lload_n C0.1 C0.2.1 hd2 rfl (aw_lat hlv hl) ?_
  refine lv_l2i C0.1 C0.2.1 hd22 (aw_l2i_o hx64) ?_
  refine lv_sipush C0.1 C0.2.1 hd3 (aw_r16 (by decide : (-32768 : Int) ≤ 128 ∧ (128 : Int) < 32768)) ?_
  refine lv_iadd C0.1 C0.2.1 hd4 ?_
  have e2 : Int32.ofInt (aw_w32 x) + Int32.ofInt 128 = Int32.ofInt (aw_w32 (aw_w32 x + 128)) := by
    generalize aw_w32 x = y
    rw [aw_w32_o, ← Int32.ofInt_add]
  rw [e2]
  have hR : R32 (aw_w32 (aw_w32 x + 128)) := aw_w32_r _
  refine W.aald (ty := .object "java/lang/Long") (v := .ref (aw_ad G (500 + (aw_w32 (aw_w32 x + 128)).toNat))) C0.1 C0.2.1 t1 t2 rfl t3 (aw_ibW (n := 256) hR hb.1 hb.2 t4) ?_ rfl rfl hd5 ?_
  · rw [aw_clamp hR, t6 _ (by omega)]
  · have key := k _ (e := e) (below := below) C0 hr he ho hz0 hc hs lsA hlv hlo (aw_c1 (v := (2, aw_w32 (aw_w32 x + 128) + 500)) hv hso)
    rw [List.map_cons, aw_vrefI (by omega), show (aw_w32 (aw_w32 x + 128) + 500).toNat = 500 + (aw_w32 (aw_w32 x + 128)).toNat by omega] at key
    exact key
/-- an address that is looked at no further -/
def aw_op (a : Nat) : Int := -(a : Int) - 1
theorem aw_vop {ad : Nat → Nat} {a : Nat} : aw_val ad (3, aw_op a) = .ref a := by
  show (if aw_op a < 0 then Value.ref (-(aw_op a) - 1).toNat else _) = _
  unfold aw_op
  rw [if_pos (by omega)]
  have e : (-(-(a : Int) - 1) - 1).toNat = a := by omega
  rw [e]
theorem aw_okop {K : Int → Nat × Int} {a : Nat} : aw_ok K (3, aw_op a) := (show aw_op a < 4294967296 by unfold aw_op; omega)
theorem x_getSF {index : Nat} (hd : decode cc pc = .ok (.getstatic index, 3)) (hw : Cond.fieldLink own index "jdk/internal/util/Preconditions" "SIOOBE_FORMATTER" "Ljava/util/function/BiFunction;" ∈ lw_all)
    (k : ∀ v : aw_V, aw_c2 v = false → aw_W G own cc ret nL d ini M0 Q X c sl (pc + 3) ls (v :: st) M) : aw_W G own cc ret nL d ini M0 Q X c sl pc ls st M := by
  intro p l e R s m args below meth cd H locs cells slots C0 hr he ho hz0 hc hs lsA hlv hlo hso
  have hts := C0.2.2.2.2.2.2.1
  have hZ := C0.2.2.2.2.2.2.2.2.2.2.2.2.2.2
  rcases hZ.2.1.2.2.1.1 with h1 | h1
  · obtain ⟨cf, kf, fi, f, a, cell, f1, f2, f3, f4, f5, f6, f7, -⟩ := h1.kept (aw_qq ho)
    have key := k (2, 0) rfl _ (e := e) (below := below) C0 hr he ho hz0 hc hs lsA hlv hlo (aw_c1 (v := (2, 0)) aw_va0 hso)
    exact W.gets C0.1 C0.2.1 C0.2.2.2.2.2.1 (hts _ hw) f1 f2 f3 f4 f5 (fun e => by rw [e] at f6; cases f6) f7 rfl hd key
  · obtain ⟨cf, kf, fi, f, a, cell, f1, f2, f3, f4, f5, f6, f7, -⟩ := h1.kept (aw_qq ho)
    have key := k (3, aw_op (aw_ad G 161)) rfl _ (e := e) (below := below) C0 hr he ho hz0 hc hs lsA hlv hlo (aw_c1 (v := (3, aw_op (aw_ad G 161))) aw_okop hso)
    rw [List.map_cons, aw_vop] at key
    exact W.gets C0.1 C0.2.1 C0.2.2.2.2.2.1 (hts _ hw) f1 f2 f3 f4 f5 (fun e => by rw [e] at f6; cases f6) f7 rfl hd key
theorem x_getC {x n : Int} {index : Nat} (hd : decode cc pc = .ok (.invokevirtual index, 3)) (h1 : Cond.methodLink own index ⟨"java/lang/Object", "getClass", "()Ljava/lang/Class;"⟩ ∈ lw_all) (h2 : Cond.declares ⟨"java/lang/Object", "getClass", "()Ljava/lang/Class;"⟩ ∈ lw_tbl)
    (h3 : Cond.selects "[Ljava/lang/Object;" ⟨"java/lang/Object", "getClass", "()Ljava/lang/Class;"⟩ ⟨"java/lang/Object", "getClass", "()Ljava/lang/Class;"⟩ ∈ lw_all) (h4 : Cond.instanceMethod ⟨"java/lang/Object", "getClass", "()Ljava/lang/Class;"⟩ ∈ lw_all) (h5 : Cond.native ⟨"java/lang/Object", "getClass", "()Ljava/lang/Class;"⟩ ∈ lw_all)
    (hk : aw_k M x = (1017, n)) (hdd : 1 ≤ d) (hw : aw_cw st ≤ 8)
    (k : aw_W G own cc ret nL d ini M0 Q X c sl (pc + 3) ls ((3, aw_op (aw_ad G 162)) :: st) M) : aw_W G own cc ret nL d ini M0 Q X c sl pc ls ((2, x) :: st) M := by
  intro p l e R s m args below meth cd H locs cells slots C0 hr he ho hz0 hc hs lsA hlv hlo hso
  have hts := C0.2.2.2.2.2.2.1
  have hK := C0.2.2.2.2.2.2.2.1
  have hZ := C0.2.2.2.2.2.2.2.2.2.2.2.2.2.2
  have g1 : R.frames = d := C0.2.2.2.2.2.2.2.2.1
  have g2 : R.locals = d * 600 := C0.2.2.2.2.2.2.2.2.2.1
  have ht : aw_ats[17]? = some (.object "java/lang/Object") := rfl
  obtain ⟨ka, rfl, a0, a1, an0, an1, ⟨ca, acell, ⟨aao, acls⟩, aun, asz, asi, asl⟩, aall⟩ := aw_arrW C0 ho hr hk ht
  have hnm : s.vm.findClass "[Ljava/lang/Object;" = some (G.2.2.1 17) := va_nmO (hK.2.1 17 _ ht).2 (by decide +kernel)
  have hdec : (Cond.declares ⟨"java/lang/Object", "getClass", "()Ljava/lang/Class;"⟩).before args s = true := va_Nw.use (A := args) rfl (hK.2.2.1 _ h2 rfl)
  have key := k _ (e := e) (below := below) C0 hr he ho hz0 hc hs lsA hlv hlo (aw_c1 (v := (3, aw_op (aw_ad G 162))) aw_okop (aw_t hso))
  rw [List.map_cons, aw_vop] at key
  rw [List.map_cons, aw_vref a0]
  have hnst : ca.vm.isStatics = false := by
    cases e9 : ca.vm with
    | statics z => exact absurd e9 (aao.1 z)
    | _ => rfl
  exact va_getC C0.1 C0.2.1 (by rw [C0.2.2.2.2.1]; exact hlv.1.symm) C0.2.2.2.2.2.1 (hts _ h1) hdec (hts _ h3) (hts _ h4) (hts _ h5) hZ.2.1.2.2.2.2.2 ⟨ca, acell, hnst, by rw [acls]; exact hnm⟩ (by omega) (by rw [aw_cw_map, g2]; omega) hd key
theorem x_ldcM {index : Nat} (hd : decode cc pc = .ok (.ldc index, 2)) (h1 : Cond.classLink own index "[Ljava/lang/Object;" ∈ lw_all)
    (k : aw_W G own cc ret nL d ini M0 Q X c sl (pc + 2) ls ((3, aw_op (aw_ad G 162)) :: st) M) : aw_W G own cc ret nL d ini M0 Q X c sl pc ls st M := by
  intro p l e R s m args below meth cd H locs cells slots C0 hr he ho hz0 hc hs lsA hlv hlo hso
  have hts := C0.2.2.2.2.2.2.1
  have hZ := C0.2.2.2.2.2.2.2.2.2.2.2.2.2.2
  have key := k _ (e := e) (below := below) C0 hr he ho hz0 hc hs lsA hlv hlo (aw_c1 (v := (3, aw_op (aw_ad G 162))) aw_okop hso)
  rw [List.map_cons, aw_vop] at key
  exact va_ldcM C0.1 C0.2.1 C0.2.2.2.2.2.1 (hts _ h1) hZ.2.1.2.2.2.2.2 hd key
theorem x_aloadQ {n : Fin 4} {a : Nat} (hd : decode cc pc = .ok (.aload_n n, 1)) (hl : aw_lk ls n.val = some (3, aw_op a)) (k : aw_W G own cc ret nL d ini M0 Q X c sl (pc + 1) ls ((3, aw_op a) :: st) M) : aw_W G own cc ret nL d ini M0 Q X c sl (pc) ls (st) M := by
  refine aw_st (fun hx hb _ _ hlv hso hlo => ⟨aw_c1 (hlo _ (aw_lk_mem hl)) hso, fun w => ?_⟩) k
  have h1 := aw_lat hlv hl
  have w := w
  rw [List.map_cons, aw_vop] at w
  rw [aw_vop] at h1
  exact lv_aload_n hx hb hd rfl h1 w
theorem x_acmpQ {a : Nat} {off : Int} {tgt : Nat} (hd : decode cc pc = .ok (.if_acmp .ne off, 3)) (ht : (pc : Int) + off = (tgt : Int)) (k : aw_W G own cc ret nL d ini M0 Q X c sl (pc + 3) ls st M) : aw_W G own cc ret nL d ini M0 Q X c sl pc ls ((3, aw_op a) :: (3, aw_op a) :: st) M := by
  intro p l e R s m args below meth cd H locs cells slots C hr he ho hz hc hs lsA hlv hlo hso
  rw [List.map_cons, List.map_cons, aw_vop]
  exact lv_acmp_ne (rx := some a) (ry := some a) C.1 C.2.1 hd ht (fun q => absurd rfl q) (fun _ => k _ C hr he ho hz hc hs lsA hlv hlo (aw_t (aw_t hso)))
theorem aw_stUp {Q : Unit → Pre} {E : CtlPost} {e : Env} {dd : Bool} {acts : List Action} {s s₀ : State} {f : JFrame} {index ci n c9 : Nat} {m : MethodId} {dk ck : Class} {cf : ClassFile} {name desc : String} (hs : s.topJava?.isSome) (hp : e.platform.polymorphicOnlyByInvokevirtual = true)
    (hW : s₀.WarmedH s.vm) (hE : s₀.MethodEntryUp e s.vm f.method.cls index c9 m ci) (h1 : s₀.vm.classes[f.method.cls]? = some dk) (h2 : dk.cf = some cf) (h3 : cf.constantPool[index]? = some (.methodref ci n)) (h4 : cf.constantPool.nameAndType? n = some (name, desc))
    (hck : s₀.vm.classes[c9]? = some ck) (hnone : (ck.methods.any fun x => x.name == name && !x.isStatic && signaturePolymorphic ck x) = false) :
    wp (Op.invokestatic.sem index) Q E e dd acts (s.setTop f) ↔ wp (Op.invokestatic.sem index) Q E e dd acts ((s.setVm (s.vm.calledUp f.method.cls ci index c9 m)).setTop f) := by
  obtain ⟨hgc, hrc, hW₁, hgm⟩ := hE.classFirst
  obtain ⟨k₀, hk₀, he₀⟩ := hW.alike.2.2 _ _ h1
  obtain ⟨k₂, hk₂, he₂⟩ := hE.warmed.alike.2.2 _ _ h1
  obtain ⟨c₁, hc₁, hec₁⟩ := hW₁.alike.2.2 _ _ hck
  obtain ⟨c₂, hc₂, hec₂⟩ := hE.warmed.alike.2.2 _ _ hck
  have h3' : cf.constantPool[index]? = some (if false then .interfaceMethodref ci n else .methodref ci n) := h3
  have hb₀ := memberRef_ask_via (e := e) hk₀ (by rw [he₀]; exact h2) h3' h4
  have hb₂ := memberRef_ask_via (e := e) hk₂ (by rw [he₂]; exact h2) h3' h4
  have hn₁ : (c₁.methods.any fun x => x.name == name && !x.isStatic && signaturePolymorphic c₁ x) = false := by rw [hec₁]; exact hnone
  have hn₂ : (c₂.methods.any fun x => x.name == name && !x.isStatic && signaturePolymorphic c₂ x) = false := by rw [hec₂]; exact hnone
  have hs₁ : (s.setVm (s.vm.noted f.method.cls ci (.cls c9))).topJava?.isSome := hs
  have hs₂ : (s.setVm (s.vm.calledUp f.method.cls ci index c9 m)).topJava?.isSome := hs
  have hL : ∀ {Q' : ClassId → Pre} {d' : Bool} {acts' : List Action}, wp (Jvm.resolveClassAt ci) Q' E e d' acts' (s.setTop f) ↔ Q' c9 d' acts' ((s.setVm (s.vm.noted f.method.cls ci (.cls c9))).setTop f) := W.resolveClassAt_links (t := s.setTop f) (State.method?_setTop f hs) hgc
  have hM : ∀ {Q' : MethodId → Pre} {d' : Bool} {acts' : List Action}, wp (Jvm.resolveMethodAt index) Q' E e d' acts' ((s.setVm (s.vm.noted f.method.cls ci (.cls c9))).setTop f) ↔ Q' m d' acts' ((s.setVm (s.vm.calledUp f.method.cls ci index c9 m)).setTop f) := W.resolveMethodAt_links (t := (s.setVm (s.vm.noted f.method.cls ci (.cls c9))).setTop f) (State.method?_setTop f hs₁) hgm
  simp [Op.invokestatic.sem, hp, Seam.memberRefOf, State.method?_setTop f hs, State.method?_setTop f hs₂, hb₀, hb₂, hL, W.resolveClassAt_ready (s := (s.setVm (s.vm.calledUp f.method.cls ci index c9 m)).setTop f) (State.method?_setTop f hs₂) hE.classReady,
    hc₁, hc₂, hn₁, hn₂, hM, W.resolveMethodAt_ready (s := (s.setVm (s.vm.calledUp f.method.cls ci index c9 m)).setTop f) (State.method?_setTop f hs₂) hE.ready, -Array.any_eq_true]
theorem aw_stepUp {p : Program} {l : Launch} {e : Env} {R : Room} {s : State} {m : MethodId} {args : Array Value} {below : List Frame} {meth : Method} {cd : Code} {T : State} {locs : List Loc} {cells slots : Nat} (X : Stand p l e R s m args below meth cd T locs cells slots) (hexec : p.tables.exec = Jvm.exec)
    {own owner : String} {index : Nat} {x : MethodName} (hown : s.vm.findClass own = some m.cls) (hlink : (Cond.methodLink own index x).before args s = true) (hsame : (Cond.sameMethod x.cls owner x.name x.desc).before args s = true)
    {m' : MethodId} {meth' : Method} {k' : Class} (hn : s.methodNamed? ⟨owner, x.name, x.desc⟩ = some m') (hm' : s.vm.method? m' = some meth') (hstatic : meth'.isStatic = true) (hk' : s.vm.classes[m'.cls]? = some k') (hinit : k'.init = .initialized) (howner : owner ≠ "java/lang/invoke/MethodHandle" ∧ owner ≠ "java/lang/invoke/VarHandle")
    {g : JFrame} (hg : g.method = m) {argsL rest : List Value} (hlen : argsL.length = meth'.sig.parameters.length) (hstack : g.stack = argsL.reverse ++ rest) (hdg : decode cd.code g.pc = .ok (.invokestatic index, 3)) :
    ∃ vm', Stand p l e R s m args below meth cd (T.setVm vm') locs cells slots ∧ ∀ target, (∀ acts, Steps p.tables e below (doInvoke e ((T.setVm vm').setTop { g with stack := rest }) acts m' argsL.toArray).1 target) → Steps p.tables e below (T.setTop g) target := by
  have hpl : e.platform.magicAccessors = ({} : Platform).magicAccessors := by rw [X.admits.platform]
  have hpv : e.platform.polymorphicOnlyByInvokevirtual = true := by rw [X.admits.platform]
  obtain ⟨cn, ck, r1, hcn, hck, hni, hf, hn1⟩ := Cond.sameMethod_found hsame
  cases hn.symm.trans hn1
  obtain ⟨ci, hl, hright⟩ := Cond.methodLink_specUp hown hcn hck hni hf hlink e.platform hpl (by rw [X.admits.platform])
  have hE : s.MethodEntryUp e T.vm m.cls index cn m' ci := State.methodEntryUp X.warmed hl hright
  obtain ⟨kx, hkx, hnx⟩ := className_of_methodNamed hn
  cases hk'.symm.trans hkx
  obtain ⟨dk, cfile, nt, mname, mdesc, ck', _, _, hd, hcf, hcp, hnt, -, -, hck', -, hnopoly, -⟩ := hl.here
  cases hck.symm.trans hck'
  have alike := hE.warmed.alike
  obtain ⟨dk₂, hdk₂, hed₂⟩ := alike.2.2 _ _ hd
  obtain ⟨k₂, hk₂, he₂⟩ := alike.2.2 _ _ hk'
  obtain ⟨ck₂, hck₂, hec₂⟩ := alike.2.2 _ _ hck
  have hnone : (ck.methods.any fun y => y.name == mname && !y.isStatic && signaturePolymorphic ck y) = false := by simp [hnopoly]
  have hnone₂ : (ck₂.methods.any fun y => y.name == mname && !y.isStatic && signaturePolymorphic ck₂ y) = false := by rw [hec₂]; exact hnone
  have hcp' : cfile.constantPool[index]? = some (if false then .interfaceMethodref ci nt else .methodref ci nt) := hcp
  refine ⟨T.vm.calledUp m.cls ci index cn m', X.noted hE.warmed, fun target hrest => ?_⟩
  subst hg
  jvm_step X.here [hexec, hdg, aw_stUp (e := e) (s := T) (s₀ := s) (f := g) X.here.top hpv X.warmed hE hd hcf hcp hnt hck hnone,
    Op.invokestatic.wp_ready (e := e) (s := T.setVm (T.vm.calledUp g.method.cls ci index cn m')) (k := k₂) (meth := meth') (m := m') (args := argsL) (rest := rest) (f := g)
      X.here.top ⟨ci, mname, mdesc, false, cn, ck₂, memberRef_ask_via (e := e) hdk₂ (by rw [hed₂]; exact hcf) hcp' hnt, hE.classReady, hck₂, hnone₂⟩ hE.ready hk₂
      (by show (T.vm.calledUp g.method.cls ci index cn m').method? m' = some meth'; rw [alike.method?]; exact hm') (by rw [he₂]; simp [signaturePolymorphic, hnx, howner.1, howner.2]) hstatic (by rw [he₂]; exact hinit) hlen hstack]
  exact fun acts => hrest _
/-- a static method that the class inherits -/
theorem x_callSB {C : String} {index d' nL' mc ms : Nat} {y : MethodName} {cc' : ByteArray} {ret' : Option FieldType} {as rest : List aw_V} {Qc : Option aw_V → aw_M → Prop} {Xc : String → aw_M → Prop} (hd : decode cc pc = .ok (.invokestatic index, 3)) (hR : aw_Runs y cc' nL' ret' d' mc ms G as M Qc Xc)
    (h1 : Cond.methodLink own index ⟨C, y.name, y.desc⟩ ∈ lw_all) (h2 : Cond.sameMethod C y.cls y.name y.desc ∈ lw_all) (h3 : Cond.static y ∈ lw_all) (h4 : Cond.initialized y.cls ∈ lw_all) (h5 : Cond.code y cc' nL' ret' ∈ lw_all)
    (hy : y.cls ≠ "java/lang/invoke/MethodHandle" ∧ y.cls ≠ "java/lang/invoke/VarHandle" ∧ (parseMethodDescriptor y.desc).map (fun d => d.parameters.length) = some as.length) (hdd : d' + 1 ≤ d) (hn : nL' ≤ 500)
    (hst : as.reverse ++ rest = st) (hw : aw_cw rest ≤ 8)
    (k : ∀ (r : Option aw_V) (M' : aw_M), Qc r M' → aw_ext M M' → aw_W G own cc ret nL d ini M0 Q X c sl (pc + 3) ls (r.toList ++ rest) M')
    (kx : ∀ (E : String) (M' : aw_M), Xc E M' → aw_ext M M' → X E M' ∧ ¬ aw_hs cc) : aw_W G own cc ret nL d ini M0 Q X (c + mc) (sl + ms) pc ls st M := by
  exact aw_go (rest := rest) (Qc := Qc) (Xc := Xc) (fun {p l e R s m args below meth cd H locs cells slots lsA} C0 ho hr hso hsz hc hs => ⟨(as.map (aw_val (aw_ad G))).toArray, by
    have hts := C0.2.2.2.2.2.2.1
    have hpre : PreS s H (aw_PC G as M) (as.map (aw_val (aw_ad G))) := aw_pre C0.2.2.2.2.2.2.2.2.2.2.2.2.2.2 ho C0.2.2.2.2.2.2.2.1 hr (fun v hv => hso v (by rw [← hst]; exact List.mem_append_left _ (List.mem_reverse.mpr hv))) rfl
    have hroom := aw_room (mc := mc) (ms := ms) hdd hn C0
    have hcode := hts _ h5
    have hini := hts _ h4
    have hK : vx_Back l R p e below s args y 3 8 (PreOf R mc ms (aw_PC G as M)) (PostOf (aw_QC G M Qc) mc ms (fun q => aw_b G ≤ q)) (vx_Post (aw_XC G M Xc) mc ms (fun q => aw_b G ≤ q)) := vx_back (bytes := cc') (maxL := nL') (ret := ret') (hR l C0.2.2.2.2.2.2.2.2.2.2.2.1) hpre.1 rfl rfl hroom.1 hroom.2 (pay_in hts (lw_meth h5)) List.mem_cons_self (fun a' U hW => word_at hW (Or.inl (by first | rfl | simp [Cond.onTables, Cond.keeps, Cond.steady])) hini)
    intro T hT Xs
    obtain ⟨mk, hnamed⟩ := Cond.code_named hcode
    obtain ⟨methM, cM, hmethM, -, -, -, -, -, -, hsigM⟩ := Cond.code_spec hnamed hcode
    have hstatic : methM.isStatic = true := Cond.static_spec hnamed hmethM (hts _ h3)
    obtain ⟨kP, hkP, -⟩ := className_of_methodNamed hnamed
    have hinitP : kP.init = .initialized := Cond.initialized_spec (findClass_of_methodNamed hnamed) hkP hini
    have hlen : (as.map (aw_val (aw_ad G))).length = methM.sig.parameters.length := by
      have h9 := hy.2.2
      rw [hsigM] at h9
      rw [List.length_map]
      exact (Option.some.inj h9).symm
    have hW : 2 * (F0 m pc lsA (st.map (aw_val (aw_ad G)))).monitorRoom + ((rest.map (aw_val (aw_ad G))).map fun v => v.category).sum ≤ 8 := by
      have h9 := hw
      rw [← aw_cw_map (aw_ad G)] at h9
      exact lv_room h9
    obtain ⟨vm₁, X₁, hstep₁⟩ := aw_stepUp Xs C0.1 (owner := y.cls) (x := ⟨C, y.name, y.desc⟩) C0.2.2.2.2.2.1 (hts _ h1) (hts _ h2) hnamed hmethM hstatic hkP hinitP ⟨hy.1, hy.2.1⟩ (g := F0 m pc lsA (st.map (aw_val (aw_ad G)))) rfl (argsL := as.map (aw_val (aw_ad G))) (rest := rest.map (aw_val (aw_ad G))) hlen (aw_rev hst) (by rw [C0.2.1]; exact hd)
    rcases hK m meth cd ⟨T.setVm vm₁, locs, cells, slots⟩ { F0 m pc lsA (st.map (aw_val (aw_ad G))) with stack := rest.map (aw_val (aw_ad G)) } (.invokestatic index) mk (as.map (aw_val (aw_ad G))).toArray X₁ rfl (by rw [C0.2.2.2.2.1]; exact hsz) (by rw [C0.2.1]; exact hd) hW (X₁.named hnamed) ⟨hc, hs, hpre.2 (T.setVm vm₁) hT X₁.warmed⟩ with ⟨v, ⟨U', l2, c2, s2⟩, X', ⟨g', mk', t, L, e1, e2, hq, h1', hL, h2', h3'⟩, st9⟩ | ⟨q, ⟨U', l2, c2, s2⟩, X', ⟨g', mk', t, L, E, ce, e1, e2, hq, hce, hcv, hcl, h1', hL, h2', h3'⟩, st9⟩
    · dsimp only [Pt.U, Pt.locs, Pt.cells, Pt.slots] at X' e1 e2 h1' h2' h3' st9
      subst h1'; subst h2'; subst h3'
      exact Or.inl ⟨v, (T.setVm vm₁).calling g' mk' (as.map (aw_val (aw_ad G))).toArray, t, U', L, hT, X', hL, e1, e2, hq, fun target h => hstep₁ _ fun acts => by rw [doInvoke_state]; exact st9.trans h⟩
    · dsimp only [Pt.U, Pt.locs, Pt.cells, Pt.slots] at X' e1 e2 h1' h2' h3' st9 hcl
      subst h1'; subst h2'; subst h3'
      exact Or.inr ⟨q, (T.setVm vm₁).calling g' mk' (as.map (aw_val (aw_ad G))).toArray, t, U', L, E, ce, hT, X', hL, e1, e2, hq, hce, hcv, vx_cls X₁.warmed hcl, hstep₁ _ fun acts => by rw [doInvoke_state]; exact st9⟩⟩) (fun v hv => by rw [← hst]; exact List.mem_append_right _ hv) k kx
/-- clone of an array of bytes that was made -/
theorem x_clone {x n z : Int} {index : Nat} (hd : decode cc pc = .ok (.invokevirtual index, 3)) (h1 : Cond.methodLink own index ⟨"[B", "clone", "()Ljava/lang/Object;"⟩ ∈ lw_all) (h2 : Cond.sameMethod "[B" "java/lang/Object" "clone" "()Ljava/lang/Object;" ∈ lw_all) (h3 : Cond.native ⟨"java/lang/Object", "clone", "()Ljava/lang/Object;"⟩ ∈ lw_all) (h4 : Cond.instanceMethod ⟨"java/lang/Object", "clone", "()Ljava/lang/Object;"⟩ ∈ lw_all)
    (h5 : Cond.selects "[B" ⟨"[B", "clone", "()Ljava/lang/Object;"⟩ ⟨"java/lang/Object", "clone", "()Ljava/lang/Object;"⟩ ∈ lw_all) (h6 : Cond.castable "[B" "java/lang/Cloneable" ∈ lw_tbl) (hk : aw_k M x = (1002, n)) (hx : 4096 ≤ x) (hz : aw_n M = z) (hdd : 1 ≤ d) (hw : aw_cw st ≤ 8)
    (k : aw_W G own cc ret nL d ini M0 Q X c sl (pc + 3) ls ((2, z) :: st) (aw_cp (aw_new M (1002, n)) x 0 z 0 n)) : aw_W G own cc ret nL d ini M0 Q X (c + 1) (sl + n.toNat) pc ls ((2, x) :: st) M := by
  subst hz
  intro p l e R s m args below meth cd H locs cells slots C hr he ho hz hc hs lsA hlv hlo hso
  have hts := C.2.2.2.2.2.2.1
  have hK := C.2.2.2.2.2.2.2.1
  have g1 : R.frames = d := C.2.2.2.2.2.2.2.2.1
  have g2 : R.locals = d * 600 := C.2.2.2.2.2.2.2.2.2.1
  have ht : aw_ats[2]? = some .byte := rfl
  obtain ⟨n0, en, hn0, hsz⟩ := aw_size hr
  obtain ⟨ka, rfl, a0, a1, an0, an1, acell, aall⟩ := aw_arr hr hk ht hx
  have hka : aw_NC ≤ ka := by show 4096 ≤ ka; omega
  rw [List.map_cons, aw_vref a0]
  have hnm : s.vm.findClass "[B" = some (G.2.2.1 2) := by
    have h9 := (hK.2.1 2 _ ht).2
    have e9 : "[" ++ FieldType.byte.toString = "[B" := by decide +kernel
    rw [← e9]
    exact h9
  obtain ⟨c0, t0', f1, f2, f3⟩ := Cond.castable_spec (va_Nw.use (A := args) rfl (hK.2.2.1 _ h6 rfl))
  cases hnm.symm.trans f1
  intro T hT Xs
  have hcellT : T.heap[aw_ad G ka]? = some (arrV (G.2.2.1 2) n.toNat (fun j => aw_val (aw_ad G) (aw_tg .byte, aw_d M (ka : Int) (j : Nat)))) := by rw [hT]; exact acell
  obtain ⟨-, kA, hkA, comp, hkind⟩ := State.isArrayOf_alike Xs.warmed.alike ((hK.2.1 2 _ ht).1 0 (fun _ => .null))
  obtain ⟨-, kS, hkS, compS, hkindS⟩ := (hK.2.1 2 _ ht).1 0 (fun _ => .null)
  have hfit : ∀ (i : Nat) (v : Value), (arrV (G.2.2.1 2) n.toNat (fun j => aw_val (aw_ad G) (aw_tg .byte, aw_d M (ka : Int) (j : Nat)))).slots[i]? = some v → fits .byte v = true := va_fit (fun i hi => by
    have h9 : aw_okT (aw_k M) .byte (aw_d M (ka : Int) (i : Nat)) := aall _ (by omega) (by omega)
    exact (aw_ty_fits h9).2)
  obtain ⟨vm', X', st9⟩ := Xs.cloneArray C.1 C.2.2.2.2.2.1 (hts _ h1) (hts _ h2) (hts _ h3) (hts _ h4) (hts _ h5) hcellT (fun k h => by cases h) (fun h => by cases h) hnm f2 f3
    (fun i v hv => by
      have hk' : T.vm.classes[G.2.2.1 2]? = some kA := hkA
      have h9 := hfit i v hv
      simpa [State.fitsSlot, State.slotType?, hk', hkind, arrV] using h9)
    (g := F0 m pc lsA (.ref (aw_ad G ka) :: st.map (aw_val (aw_ad G)))) rfl (by rw [C.2.2.2.2.1]; exact hlv.1) rfl (by rw [C.2.1]; exact hd) (by omega) (by show 2 * 0 + _ + 14 ≤ _; rw [aw_cw_map, g2]; omega) (by omega) (by rw [arrV_size]; omega) (hloader := Vm.clonesLoader_of_array hkS hkindS)
  rw [arrV_size] at X'
  generalize hH1 : H.push (arrV (G.2.2.1 2) n.toNat (fun j => aw_val (aw_ad G) (aw_tg .byte, aw_d M (ka : Int) (j : Nat)))) = H1
  have z1 : H1.size = H.size + 1 := by rw [← hH1, Array.size_push]
  have e1 : H1[H.size]? = some (arrV (G.2.2.1 2) n.toNat (fun j => aw_val (aw_ad G) (aw_tg .byte, aw_d M (ka : Int) (j : Nat)))) := by rw [← hH1, Array.getElem?_push_size]
  have o1 : ∀ q : Nat, q < H.size → H1[q]? = H[q]? := fun q hq => by rw [← hH1, Array.getElem?_push, if_neg (Nat.ne_of_lt hq)]
  have hr1 := aw_newarr hr ht an0 an1 rfl
  have hn9 : (n0 : Int) = aw_n M := en.symm
  have hNC : aw_NC ≤ n0 := by have := hr.1; show 4096 ≤ n0; omega
  have hkn : aw_k (aw_new M (1002, n)) (n0 : Int) = (1000 + 2, n) := if_pos hn9
  have hdn : ∀ b : Int, aw_d (aw_new M (1002, n)) (n0 : Int) b = 0 := fun b => if_pos hn9
  have hda : ∀ b : Int, aw_d (aw_new M (1002, n)) (ka : Int) b = aw_d M (ka : Int) b := fun b => if_neg (fun q => absurd a1 (by rw [show (ka : Int) = aw_n M from q]; exact Int.lt_irrefl _))
  have hup := aw_up (kd := (1002, n)) hr
  have hr2 : aw_rep G (aw_cp (aw_new M (1002, n)) (ka : Int) 0 (n0 : Int) 0 n) H1 := aw_rep_cp hr1 hNC (by rw [z1, Array.size_push]) (fun a ha => by
      rw [hsz] at ha
      by_cases hl : a < H.size
      · rw [o1 a hl, Array.getElem?_push, if_neg (Nat.ne_of_lt hl)]
      · rw [Array.getElem?_eq_none (by omega), Array.getElem?_eq_none (by rw [Array.size_push]; omega)]) (aw_cpcell hkn ht ⟨an0, an1⟩ (Int.le_refl 0) (Int.le_refl 0) an0 (by omega) (by
        rw [hsz, e1]
        refine congrArg some (aw_arrVc fun j hj => ?_)
        show aw_val (aw_ad G) _ = aw_val (aw_ad G) _
        congr 2
        unfold va_cpy
        rw [if_pos ⟨Nat.zero_le _, by omega⟩]
        show aw_d M (ka : Int) (j : Nat) = aw_d (aw_new M (1002, n)) (ka : Int) ((0 + (j - 0) : Nat) : Int)
        rw [hda, Nat.sub_zero, Nat.zero_add]) (fun j h7 h8 => by rw [hda]; exact aw_okT_mono hup (aall j h7 (by omega))) (fun j h7 h8 => by rw [hdn]; show -128 ≤ (0 : Int) ∧ (0 : Int) < 128; decide))
  obtain ⟨t, b1, b2⟩ := k _ (e := e) (below := below) C (H := H1) (by rw [← hn9]; exact hr2) (aw_ext_new hr he) (fun q hq => (o1 q (by have h1 : (4096 : Int) ≤ aw_n M := hr.1; have h2 : (H.size : Int) = aw_b G + (aw_n M - 4096) := hr.2.1; omega)).trans (ho q hq)) hz (cells := cells + 1) (slots := slots + n.toNat) (by omega) (by omega) lsA hlv (fun q hq => aw_ok_mono hup (hlo q hq)) (aw_c1 (v := (2, aw_n M)) (aw_vnew hr (Or.inr (Or.inl ⟨(by show 1000 ≤ 1002; decide), (by show 1002 < 1000 + aw_ats.length; decide), (by show (1002 : Nat) ≠ 1005; decide)⟩))) (fun v hv => aw_ok_mono hup (aw_t hso v hv))) ((T.setVm vm').pushCell _) (by rw [← hH1, ← hT]; rfl) X'
  refine ⟨t, st9 t ?_, b2⟩
  rw [List.map_cons, en, aw_vref hn0, hsz, ← hT] at b1
  exact b1
end AS14
section AHZ
variable {G : aw_G} {own : String} {cc : ByteArray} {ret : Option FieldType} {nL d : Nat} {ini : Bool} {M0 : aw_M} {Q : Option aw_V → aw_M → Prop} {X : String → aw_M → Prop} {pc : Nat} {ls : List (Nat × aw_V)} {st : List aw_V} {D D' : ga_D} {N S : Int}
theorem hy_clone {index : Nat} {x n z c0 s0 : Int} {D1 D2 : ga_D} (hP : h_P D) (hz : z = hn D) (hD : D1 = h_new D c0 n s0) (hD2 : D2 = ga_cp D1 x 0 z 0 n) (hc : c0 = ((1002 : Nat) : Int)) (hs : s0 = n) (hd : decode cc pc = .ok (.invokevirtual index, 3)) (h1 : Cond.methodLink own index ⟨"[B", "clone", "()Ljava/lang/Object;"⟩ ∈ lw_all) (h2 : Cond.sameMethod "[B" "java/lang/Object" "clone" "()Ljava/lang/Object;" ∈ lw_all) (h3 : Cond.native ⟨"java/lang/Object", "clone", "()Ljava/lang/Object;"⟩ ∈ lw_all) (h4 : Cond.instanceMethod ⟨"java/lang/Object", "clone", "()Ljava/lang/Object;"⟩ ∈ lw_all)
    (h5 : Cond.selects "[B" ⟨"[B", "clone", "()Ljava/lang/Object;"⟩ ⟨"java/lang/Object", "clone", "()Ljava/lang/Object;"⟩ ∈ lw_all) (h6 : Cond.castable "[B" "java/lang/Cloneable" ∈ lw_tbl) (hkx : hk D x = (1002, n)) (hx : 4096 ≤ x) (h0 : 0 ≤ n) (hdd : 1 ≤ d) (hw : aw_cw st ≤ 8)
    (k : h_P D2 → h_E D D2 → hk D2 z = (1002, n) → 5342 ≤ z → aw_HW G own cc ret nL d ini M0 Q X D' N S (pc + 3) ls ((2, z) :: st) D2) : aw_HW G own cc ret nL d ini M0 Q X D' N S pc ls ((2, x) :: st) D := by
  have hE := h_E_new hD hc hP
  obtain ⟨g1, g2, g3⟩ := hM_new hD hc hP
  have hP1 : h_P D1 := hP.new hD hc
  have hz0 : 5342 ≤ z := by rw [hz]; exact hP.2.1
  have hk1 : hk D1 z = (1002, n) := by
    have := congrFun g2 z
    rw [show hk D1 z = aw_k (hM D1) z from rfl, this, hz]
    exact if_pos rfl
  have hP2 : h_P D2 := hP1.cp hD2 (Int.le_trans (by decide) hz0) (Int.le_refl 0) (fun _ => hPn hk1 rfl)
  have hE2 : h_E D1 D2 := h_E_cp hD2 (Int.le_refl 0)
  refine hw_go (D1 := D2) ⟨hE.tr hE2, 1, n.toNat, ?_, ?_, fun {c sl} w => ?_⟩ (k hP2 (hE.tr hE2) (by rw [hE2 z (by rw [hk1]; exact fun h => by cases h)]; exact hk1) hz0)
  · rw [hD2, hn_cp (Int.le_trans (by decide) hz0), hD, hn_new]; rfl
  · rw [hD2, hsl_cp (Int.le_trans (by decide) hz0)]
    have e1 : hsl D1 = hsl D + s0 := by rw [hD]; exact sl_new
    rw [e1, hs]
    omega
  · refine x_clone hd h1 h2 h3 h4 h5 h6 hkx hx hz.symm hdd hw ?_
    subst hD2
    rw [hM_cp (Int.le_trans (by decide) hz0) (Int.le_refl 0)] at w
    exact aw_cong (M' := aw_cp (hM D1) x 0 z 0 n) g1 g2 (fun a b ha hb => by
      by_cases e : a = z ∧ 0 ≤ b ∧ b < 0 + n
      · rw [show aw_d (aw_cp (hM D1) x 0 z 0 n) a b = aw_d (hM D1) x (0 + (b - 0)) from if_pos e, show aw_d (aw_cp (aw_new (hM D) (1002, n)) x 0 z 0 n) a b = aw_d (aw_new (hM D) (1002, n)) x (0 + (b - 0)) from if_pos e]
        exact g3 x _ (by omega) (by omega)
      · rw [show aw_d (aw_cp (hM D1) x 0 z 0 n) a b = aw_d (hM D1) a b from if_neg e, show aw_d (aw_cp (aw_new (hM D) (1002, n)) x 0 z 0 n) a b = aw_d (aw_new (hM D) (1002, n)) a b from if_neg e]
        exact g3 a b ha hb) w
end AHZ
