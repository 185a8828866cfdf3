/-! System.arraycopy between arrays of one type -/
set_option maxRecDepth 100000
section AQ
variable {G : aw_G} {own : String} {cc : ByteArray} {ret : Option FieldType} {nL d : Nat} {ini : Bool} {M0 M : aw_M} {Q : Option aw_V → aw_M → Prop} {X : String → aw_M → Prop} {c sl pc : Nat} {ls : List (Nat × aw_V)} {st : List aw_V}
theorem aw_rep_cp {H H' : Heap} (hr : aw_rep G M H) {k : Nat} {x sp dp n : Int} (hk : aw_NC ≤ k) (hz : H'.size = H.size) (ho : ∀ a : Nat, a ≠ aw_ad G k → H'[a]? = H[a]?) (hc : aw_cell G (aw_cp M x sp k dp n) H' k) : aw_rep G (aw_cp M x sp k dp n) H' := by
  refine ⟨hr.1, by rw [hz]; exact hr.2.1, ⟨hr.2.2.1.1, fun a ha => ⟨(hr.2.2.1.2 a ha).1, fun b z hb => (if_neg (fun q => by have := q.1; omega)).trans ((hr.2.2.1.2 a ha).2 b z hb)⟩⟩, fun a hge ha => ?_, hr.2.2.2.2⟩
  by_cases e : a = k
  · rw [e]; exact hc
  · have h1 := hr.2.2.2.1 a hge ha
    have hn : aw_ad G a ≠ aw_ad G k := aw_ad_ne hr hk e
    have hd : ∀ b : Int, aw_d (aw_cp M x sp k dp n) a b = aw_d M a b := fun b => if_neg (fun h => e (by have := h.1; omega))
    refine ⟨fun cN q e1 e2 => ?_, fun t n ty e1 e2 => ?_⟩
    · obtain ⟨g1, g2⟩ := h1.1 cN q e1 e2
      exact ⟨(g1.kept (ho _ hn)).to (fun i _ => by show aw_val _ (_, _) = aw_val _ (_, _); rw [hd]), fun i hi => by rw [hd]; exact g2 i hi⟩
    · obtain ⟨g1, g2, g3, g4⟩ := h1.2 t n ty e1 e2
      refine ⟨g1, g2, ?_, fun i h2 h3 => by rw [hd]; exact g4 i h2 h3⟩
      rw [ho _ hn, g3]
      congr 2
      funext i
      rw [hd]
theorem aw_cpcell {H' : Heap} {k t : Nat} {x sp dp n n1 : Int} {ty : FieldType} (hk : aw_k M k = (1000 + t, n1)) (ht : aw_ats[t]? = some ty) (hn : 0 ≤ n1 ∧ n1 < 2147483648) (h0 : 0 ≤ sp) (h1 : 0 ≤ dp) (h2 : 0 ≤ n) (h3 : dp + n ≤ n1)
    (e1 : H'[aw_ad G k]? = some (arrV (G.2.2.1 t) n1.toNat (fun j => aw_val (aw_ad G) (aw_tg ty, va_cpy (fun j => aw_d M x (j : Nat)) (fun j => aw_d M k (j : Nat)) sp.toNat dp.toNat n.toNat j)))) (hx : ∀ j : Int, sp ≤ j → j < sp + n → aw_okT (aw_k M) ty (aw_d M x j)) (hall : ∀ j : Int, 0 ≤ j → j < n1 → aw_okT (aw_k M) ty (aw_d M k j)) : aw_cell G (aw_cp M x sp k dp n) H' k := by
  refine ⟨fun c2 q e2 e3 => ?_, fun t2 n2 ty2 e2 e3 => ?_⟩
  · have e4 : c2 = 1000 + t := congrArg Prod.fst (e2.symm.trans hk)
    have h1 : c2 < aw_cls.length := (List.getElem?_eq_some_iff.mp e3).1
    have h2 : aw_cls.length ≤ 200 := by decide
    omega
  · have e4 : 1000 + t2 = 1000 + t := congrArg Prod.fst (e2.symm.trans hk)
    have e5 : t2 = t := by omega
    have e6 : n2 = n1 := congrArg Prod.snd (e2.symm.trans hk)
    subst e5; subst e6
    cases ht.symm.trans e3
    refine ⟨hn.1, hn.2, ?_, fun j h4 h5 => ?_⟩
    · rw [e1]
      congr 2
      funext j
      show aw_val _ (_, if dp.toNat ≤ j ∧ j < dp.toNat + n.toNat then aw_d M x ((sp.toNat + (j - dp.toNat) : Nat) : Int) else aw_d M k j) = aw_val _ (_, if (k : Int) = k ∧ dp ≤ (j : Int) ∧ (j : Int) < dp + n then M.2.2 x (sp + ((j : Int) - dp)) else M.2.2 k j)
      by_cases e : dp.toNat ≤ j ∧ j < dp.toNat + n.toNat
      · rw [if_pos e, if_pos ⟨rfl, by omega, by omega⟩]
        have e7 : ((sp.toNat + (j - dp.toNat) : Nat) : Int) = sp + ((j : Int) - dp) := by omega
        rw [e7]; rfl
      · rw [if_neg e, if_neg (by omega)]
        rfl
    · show aw_okT (aw_k M) ty (if (k : Int) = k ∧ dp ≤ j ∧ j < dp + n then M.2.2 x (sp + (j - dp)) else M.2.2 k j)
      by_cases e : (k : Int) = k ∧ dp ≤ j ∧ j < dp + n
      · rw [if_pos e]; exact hx _ (by omega) (by omega)
      · rw [if_neg e]; exact hall j h4 h5
theorem x_copy {x sp y dp n n0 n1 : Int} {t index : Nat} {ty : FieldType} {M1 : aw_M} (hM : M1 = aw_cp M x sp y dp n) (hd : decode cc pc = .ok (.invokestatic index, 3)) (h1 : Cond.methodLink own index arraycopyName ∈ lw_all) (h2 : Cond.native arraycopyName ∈ lw_all) (h3 : Cond.static arraycopyName ∈ lw_all) (h4 : Cond.initialized "java/lang/System" ∈ lw_all)
    (hk0 : aw_k M x = (1000 + t, n0)) (hk1 : aw_k M y = (1000 + t, n1)) (ht : aw_ats[t]? = some ty) (hp : refKind ty = false) (hy : 4096 ≤ y) (hb : 0 ≤ sp ∧ 0 ≤ dp ∧ 0 ≤ n ∧ sp + n ≤ n0 ∧ dp + n ≤ n1) (hdd : 1 ≤ d) (hw : aw_cw st ≤ 8)
    (k : aw_W G own cc ret nL d ini M0 Q X c sl (pc + 3) ls st M1) : aw_W G own cc ret nL d ini M0 Q X c sl pc ls ((0, n) :: (0, dp) :: (2, y) :: (0, sp) :: (2, x) :: st) M := by
  subst hM
  intro p l e R s m args below meth cd H locs cells slots C hr he ho hz hc hs lsA hlv hlo hso
  have hts := C.2.2.2.2.2.2.1
  have hK := C.2.2.2.2.2.2.2.1
  have g1 : R.frames = d := C.2.2.2.2.2.2.2.2.1
  have g2 : R.locals = d * 600 := C.2.2.2.2.2.2.2.2.2.1
  have rn : R32 n := aw_h hso
  have rdp : R32 dp := aw_h (aw_t hso)
  have rsp : R32 sp := aw_h (aw_t (aw_t (aw_t hso)))
  obtain ⟨ka, rfl, a0, a1, an0, an1, ⟨ca, acell, ⟨aao, -⟩, aun, asz, asi, asl⟩, aall⟩ := aw_arrW C ho hr hk0 ht
  obtain ⟨kb, rfl, b0, b1, bn0, bn1, bcell, ball⟩ := aw_arr hr hk1 ht hy
  have hkb : aw_NC ≤ kb := by show 4096 ≤ kb; omega
  rw [List.map_cons, List.map_cons, List.map_cons, List.map_cons, List.map_cons, aw_vref a0, aw_vref b0]
  have hA := (hK.2.1 t _ ht).1
  obtain ⟨ast, k0, e0, cm0, ek0⟩ := aao
  obtain ⟨-, k1, e1, cm1, ek1⟩ := hA n1.toNat (fun j => aw_val (aw_ad G) (aw_tg ty, aw_d M (kb : Int) (j : Nat)))
  have hneg : ∀ z : Int, R32 z → 0 ≤ z → ¬ Int32.ofInt z < 0 := fun z hz h q => by have := (aw_lt_o hz (by decide : R32 0)).mp q; omega
  have hti : ∀ z : Int, R32 z → (Int32.ofInt z).toInt = z := fun z hz => Int32.toInt_ofInt_of_le hz.1 (by have := hz.2; omega)
  intro T hT X
  obtain ⟨vm', X', step⟩ := X.arraycopy C.1 C.2.2.2.2.2.1 (hts _ h1) (hts _ h2) (hts _ h3) (hts _ h4) (src := aw_ad G ka) (dst := aw_ad G kb) (srcPos := Int32.ofInt sp) (destPos := Int32.ofInt dp) (n := Int32.ofInt n) (by rw [hT]; exact acell) (by rw [hT]; exact bcell)
    ast (fun _ h => by cases h) aun (fun h => by cases h) e0 e1 ek0 ek1 (by simp) (hneg _ rsp hb.1) (hneg _ rdp hb.2.1) (hneg _ rn hb.2.2.1)
    (by rw [hti _ rsp, hti _ rn]; omega) (by rw [hti _ rdp, hti _ rn, arrV_size]; omega)
    (fun vm₁ _ i hi => by
      rw [aw_clamp rn] at hi
      have e : ca.slots.getD ((Int32.ofInt sp).toNatClampNeg + i) .null = aw_val (aw_ad G) (aw_tg ty, aw_d M (ka : Int) ((sp.toNat + i : Nat) : Int)) := by
        rw [aw_clamp rsp, Array.getD_eq_getD_getElem?, asl _ (by omega)]
        rfl
      rw [e]
      refine ⟨(aw_ty_fits (aall _ (by omega) (by omega))).2, ?_⟩
      have hz9 : aw_okT (aw_k M) ty (aw_d M (ka : Int) ((sp.toNat + i : Nat) : Int)) := aall _ (by omega) (by omega)
      cases ty <;> first | exact trivial | (cases hp; done) | (show State.takes _ _ (if _ then _ else _); rw [if_neg (Int.not_lt.mpr (show 0 ≤ _ from hz9.1))]; exact trivial))
    (g := F0 m pc lsA (.int (Int32.ofInt n) :: .int (Int32.ofInt dp) :: .ref (aw_ad G kb) :: .int (Int32.ofInt sp) :: .ref (aw_ad G ka) :: st.map (aw_val (aw_ad G)))) rfl (by rw [C.2.2.2.2.1]; exact hlv.1) (rest := st.map (aw_val (aw_ad G))) rfl (by rw [C.2.1]; exact hd) (by omega) (by
      have h9 : nativeFrameWords "java/lang/System" "arraycopy" 5 ≤ 500 := by decide
      show 2 * 0 + _ + _ ≤ _
      rw [aw_cw_map, g2]
      omega)
  have e5 : copied ca (arrV (G.2.2.1 t) n1.toNat (fun j => aw_val (aw_ad G) (aw_tg ty, aw_d M (kb : Int) (j : Nat)))) (Int32.ofInt sp) (Int32.ofInt dp) (Int32.ofInt n) = arrV (G.2.2.1 t) n1.toNat (fun j => aw_val (aw_ad G) (aw_tg ty, va_cpy (fun j => aw_d M (ka : Int) (j : Nat)) (fun j => aw_d M (kb : Int) (j : Nat)) sp.toNat dp.toNat n.toNat j)) := by
    have := va_copiedX (sp := (Int32.ofInt sp).toNatClampNeg) (dp := (Int32.ofInt dp).toNatClampNeg) (n := (Int32.ofInt n).toNatClampNeg) (n1 := n1.toNat) (n0 := n0.toNat) (fun z => aw_val (aw_ad G) (aw_tg ty, z)) ca (G.2.2.1 t) (fun j => aw_d M (ka : Int) (j : Nat)) (fun j => aw_d M (kb : Int) (j : Nat)) (fun j hj => asl j (by omega)) (by rw [aw_clamp rsp, aw_clamp rn]; omega)
    rw [aw_clamp rsp, aw_clamp rdp, aw_clamp rn] at this
    show (arrV _ _ _).storeRun _ _ = _
    rw [aw_clamp rsp, aw_clamp rdp, aw_clamp rn]
    exact this
  rw [e5] at X' step
  have hl : aw_ad G kb < H.size := (Array.getElem?_eq_some_iff.mp bcell).1
  have oq : ∀ (z : Cell) (q : Nat), q ≠ aw_ad G kb → (H.setIfInBounds (aw_ad G kb) z)[q]? = H[q]? := fun z q hq => by simp [Array.getElem?_setIfInBounds, Ne.symm hq]
  obtain ⟨t2, a2, b2⟩ := k _ C (aw_rep_cp (x := (ka : Int)) (sp := sp) (dp := dp) (n := n) hr hkb (H' := H.setIfInBounds (aw_ad G kb) _) (by simp) (oq _) (aw_cpcell hk1 ht ⟨bn0, bn1⟩ hb.1 hb.2.1 hb.2.2.1 hb.2.2.2.2 (by simp [Array.getElem?_setIfInBounds, hl]; rfl) (fun j h5 h6 => aall j (by omega) (by omega)) ball)) he (aw_old_set hkb ho (oq _)) (fun z h => by
      rcases List.mem_append.mp h with h | h
      · exact hz z h
      · obtain ⟨w, -, hw⟩ := List.mem_map.mp h
        rw [← hw]
        exact aw_loc hkb hz ⟨aw_ad G kb, 0⟩ (List.mem_append_right _ (List.mem_singleton.mpr rfl))) hc hs lsA hlv hlo (aw_t (aw_t (aw_t (aw_t (aw_t hso))))) _ (by rw [← hT]; rfl) X'
  exact ⟨t2, step t2 a2, b2⟩
theorem aw_kcp {M M1 : aw_M} {x sp y dp n e : Int} {q : Nat × Int} (h : M1 = aw_cp M x sp y dp n) (hk : aw_k M e = q) : aw_k M1 e = q := by subst h; exact hk
end AQ
