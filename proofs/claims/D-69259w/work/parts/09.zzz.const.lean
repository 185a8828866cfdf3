/-! rows about what stands before the law begins: statics, strings, enums, the script; doubles by eighths; throwing -/
set_option maxRecDepth 100000
theorem aw_vrefI {ad : Nat → Nat} {z : Int} (h : 0 < z) : aw_val ad (2, z) = .ref (ad z.toNat) := if_neg (by omega)
theorem aw_sts_in {q : (String × String × String) × aw_V} (h : List.elem q aw_sts = true) : q ∈ aw_sts := List.elem_iff.mp h
theorem aw_txs_ok : ∀ q ∈ aw_txs, 0 < q.2 ∧ q.2 < 4096 ∧ ga_K q.2 = (69, 0) := by decide +kernel
theorem aw_real69 {z : Int} : aw_real z (69, 0) := Or.inl ⟨by decide, rfl⟩
theorem aw_qq {G : aw_G} {H0 H : Heap} (ho : aw_old G H0 H) : ∀ a : Nat, a < H0.size → ¬ aw_A G a → H[a]? = H0[a]? := fun a _ ha => ho a (Nat.lt_of_not_le ha)
section AZ
variable {G : aw_G} {own : String} {cc : ByteArray} {ret : Option FieldType} {nL d : Nat} {ini : Bool} {M0 M : aw_M} {Q : Option aw_V → aw_M → Prop} {X : String → aw_M → Prop} {c sl pc : Nat} {ls : List (Nat × aw_V)} {st : List aw_V}
theorem x_gets {C n dd : String} {index tg : Nat} {z : Int} (hd : decode cc pc = .ok (.getstatic index, 3)) (hw : Cond.fieldLink own index C n dd ∈ lw_all) (hz : List.elem ((C, n, dd), (tg, z)) aw_sts = true)
    (k : aw_W G own cc ret nL d ini M0 Q X c sl (pc + 3) ls ((tg, z) :: st) M) : aw_W G own cc ret nL d ini M0 Q X c sl pc ls st M := by
  intro p l e R s m args below meth cd H locs cells slots C0 hr he ho hz0 hc hs lsA hlv hlo hso
  have hts := C0.2.2.2.2.2.2.1
  have hZ := C0.2.2.2.2.2.2.2.2.2.2.2.2.2.2
  obtain ⟨h1, h2⟩ := hZ.2.1.1 _ (aw_sts_in hz)
  obtain ⟨cf, kf, fi, f, a, cell, f1, f2, f3, f4, f5, f6, f7, -⟩ := h1.kept (aw_qq ho)
  exact W.gets C0.1 C0.2.1 C0.2.2.2.2.2.1 (hts _ hw) f1 f2 f3 f4 f5 (fun e => by rw [e] at f6; cases f6) f7 rfl hd (k _ C0 hr he ho hz0 hc hs lsA hlv hlo (aw_c1 (aw_ok_mono (aw_cnK hr.2.2.1.2) h2) hso))
theorem x_ldcS {tx : String} {index : Nat} {z : Int} (hd : decode cc pc = .ok (.ldc index, 2)) (hw : Cond.stringRef own index tx ∈ lw_tbl) (hz : List.elem (tx, z) aw_txs = true)
    (k : aw_W G own cc ret nL d ini M0 Q X c sl (pc + 2) ls ((2, z) :: st) M) : aw_W G own cc ret nL d ini M0 Q X c sl pc ls st M := by
  intro p l e R s m args below meth cd H locs cells slots C0 hr he ho hz0 hc hs lsA hlv hlo hso
  have hZ := C0.2.2.2.2.2.2.2.2.2.2.2.2.2.2
  have hm : (tx, z) ∈ aw_txs := List.elem_iff.mp hz
  obtain ⟨g1, g2, g3⟩ := aw_txs_ok _ hm
  have hv : aw_va (aw_k M) z := by
    refine ⟨by omega, Or.inr ?_⟩
    have h3 := (hr.2.2.1.2 z.toNat (by show z.toNat < 4096; omega)).1
    rw [show ((z.toNat : Nat) : Int) = z by omega] at h3
    rw [h3, g3]
    exact aw_real69
  refine va_ldcS C0.1 C0.2.1 C0.2.2.2.2.2.1 (hZ.2.1.2.1 own tx index z hw hm) hd ?_
  have key := k _ (e := e) (below := below) C0 hr he ho hz0 hc hs lsA hlv hlo (aw_c1 (v := (2, z)) hv hso)
  rw [List.map_cons, aw_vrefI g1] at key
  exact key
theorem va_ldcSw {p : Program} {l : Launch} {e : Env} {R : Room} {s : State} {m : MethodId} {args : Array Value} {below : List Frame} {meth : Method} {c : Code} {H : Heap} {locs : List Loc} {cells slots : Nat} {Q : State → Prop} {cc : ByteArray} {pc : Nat} {ls : Array Slot} {rest : List Value} (hexec : p.tables.exec = Jvm.exec) (hb : c.code = cc) {own tx : String} {index q : Nat} (hown : s.vm.findClass own = some m.cls) (hZ : vk_R own index tx q s) (hdg : decode cc pc = .ok (.ldc_w index, 3))
    (k : W p l e R s m args below meth c H locs cells slots Q (F0 m (pc + 3) ls (.ref q :: rest))) : W p l e R s m args below meth c H locs cells slots Q (F0 m pc ls rest) := by
  intro T hT X
  obtain ⟨t, a1, b1⟩ := k T hT X
  exact ⟨t, X.ldcStringW hexec hown (text := tx) (a := q) hZ.1 hZ.2 (g := F0 m pc ls rest) rfl (by rw [hb]; exact hdg) t a1, b1⟩
theorem x_ldcSw {tx : String} {index : Nat} {z : Int} (hd : decode cc pc = .ok (.ldc_w index, 3)) (hw : Cond.stringRef own index tx ∈ lw_tbl) (hz : List.elem (tx, z) aw_txs = true)
    (k : aw_W G own cc ret nL d ini M0 Q X c sl (pc + 3) ls ((2, z) :: st) M) : aw_W G own cc ret nL d ini M0 Q X c sl pc ls st M := by
  intro p l e R s m args below meth cd H locs cells slots C0 hr he ho hz0 hc hs lsA hlv hlo hso
  have hZ := C0.2.2.2.2.2.2.2.2.2.2.2.2.2.2
  have hm : (tx, z) ∈ aw_txs := List.elem_iff.mp hz
  obtain ⟨g1, g2, g3⟩ := aw_txs_ok _ hm
  have hv : aw_va (aw_k M) z := by
    refine ⟨by omega, Or.inr ?_⟩
    have h3 := (hr.2.2.1.2 z.toNat (by show z.toNat < 4096; omega)).1
    rw [show ((z.toNat : Nat) : Int) = z by omega] at h3
    rw [h3, g3]
    exact aw_real69
  refine va_ldcSw C0.1 C0.2.1 C0.2.2.2.2.2.1 (hZ.2.1.2.1 own tx index z hw hm) hd ?_
  have key := k _ (e := e) (below := below) C0 hr he ho hz0 hc hs lsA hlv hlo (aw_c1 (v := (2, z)) hv hso)
  rw [List.map_cons, aw_vrefI g1] at key
  exact key
/-- constants of an enum stand below 4096 -/
theorem aw_enum {x : Int} {en : Nat} (h : ga_K x = (en, 0)) (he : en = 900 ∨ en = 901) : ∃ k : Nat, x = (k : Int) ∧ 0 < k ∧ k < aw_NC := by
  have hall : ∀ i : Nat, (!(decide ((ly_row i).1.1 = 900) || decide ((ly_row i).1.1 = 901)) || (decide (0 < i) && decide (i < 4096))) = true := ly_all (fun i r => !(decide (r.1.1 = 900) || decide (r.1.1 = 901)) || (decide (0 < i) && decide (i < 4096))) (fun _ => rfl) (by decide +kernel)
  cases x with
  | negSucc k =>
    have q2 : (9999 : Nat) = en := congrArg Prod.fst h
    rcases he with e | e
    · rw [e] at q2; exact absurd q2 (by decide)
    · rw [e] at q2; exact absurd q2 (by decide)
  | ofNat i =>
    have h1 := hall i
    have h2 : (ly_row i).1.1 = en := congrArg Prod.fst (h : (ly_row i).1 = (en, 0))
    rw [h2] at h1
    have h3 : (decide (en = 900) || decide (en = 901)) = true := by rcases he with e | e <;> rw [e] <;> rfl
    rw [h3] at h1
    have h4 : (decide (0 < i) && decide (i < 4096)) = true := by simpa using h1
    have h5 := Bool.and_eq_true_iff.mp h4
    exact ⟨i, rfl, of_decide_eq_true h5.1, of_decide_eq_true h5.2⟩
theorem x_getE {x : Int} {index en j tg : Nat} {ref n dd : String} {ty : FieldType} (hd : decode cc pc = .ok (.getfield index, 3)) (hw : Cond.fieldLink own index ref n dd ∈ lw_all) (hk : ga_K x = (en, 0)) (he9 : en = 900 ∨ en = 901) (hf : (aw_ef en)[j]? = some (ref, n, dd, ty)) (htg : aw_tg ty = tg)
    (k : aw_W G own cc ret nL d ini M0 Q X c sl (pc + 3) ls ((tg, aw_d M x j) :: st) M) : aw_W G own cc ret nL d ini M0 Q X c sl pc ls ((2, x) :: st) M := by
  subst htg
  intro p l e R s m args below meth cd H locs cells slots C0 hr he ho hz0 hc hs lsA hlv hlo hso
  have hts := C0.2.2.2.2.2.2.1
  have hZ := C0.2.2.2.2.2.2.2.2.2.2.2.2.2.2
  obtain ⟨k0, rfl, g0, g1⟩ := aw_enum hk he9
  obtain ⟨z, e1, e2, e3⟩ := (hZ.1.2.2 k0 en g1 hk he9).2 j _ hf
  obtain ⟨cf, kf, fi, f, cell, f1, f2, f3, f4, f5, -⟩ := e3.kept (aw_qq ho)
  have hz : aw_d M (k0 : Int) j = z := (hr.2.2.1.2 k0 g1).2 _ _ e1
  rw [List.map_cons, aw_vref g0]
  refine W.getf C0.1 C0.2.1 C0.2.2.2.2.2.1 (hts _ hw) f1 f2 f3 f4 (v := aw_val (aw_ad G) (aw_tg ty, z)) f5 rfl rfl hd ?_
  have key := k _ (e := e) (below := below) C0 hr he ho hz0 hc hs lsA hlv hlo (aw_c1 (v := (aw_tg ty, aw_d M (k0 : Int) j)) (by rw [hz]; exact aw_okT_ok (aw_okT_mono (aw_cnK hr.2.2.1.2) e2)) (aw_t hso))
  rw [List.map_cons, hz] at key
  exact key
theorem aw_enE {G : aw_G} {U : State} {H : Heap} (hZ : aw_Z G U H) {x y : Int} {en : Nat} (he : en = 900 ∨ en = 901) (hx : x = 0 ∨ ga_K x = (en, 0)) (hy : y = 0 ∨ ga_K y = (en, 0)) : (if x ≤ 0 then none else some (aw_ad G x.toNat)) = (if y ≤ 0 then none else some (aw_ad G y.toNat)) ↔ x = y := by
  constructor
  · intro q
    rcases hx with rfl | hx
    · rcases hy with rfl | hy
      · rfl
      · obtain ⟨b, rfl, b0, b1⟩ := aw_enum hy he
        rw [if_pos (Int.le_refl 0), if_neg (by omega)] at q; cases q
    · obtain ⟨a, rfl, a0, a1⟩ := aw_enum hx he
      rcases hy with rfl | hy
      · rw [if_neg (by omega), if_pos (Int.le_refl 0)] at q; cases q
      · obtain ⟨b, rfl, b0, b1⟩ := aw_enum hy he
        rw [if_neg (by omega), if_neg (by omega)] at q
        have q2 := Option.some.inj q
        have := hZ.2.2.1 a b a1 b1 (hx.trans hy.symm) (by rw [hx]; rcases he with e | e <;> rw [e] <;> simp) q2
        rw [this]
  · intro q
    rw [q]
theorem x_acmpE_eq {x y off : Int} {tgt en : Nat} (hd : decode cc pc = .ok (.if_acmp .eq off, 3)) (ht : (pc : Int) + off = (tgt : Int)) (he9 : en = 900 ∨ en = 901) (hx : x = 0 ∨ ga_K x = (en, 0)) (hy : y = 0 ∨ ga_K y = (en, 0)) (kt : x = y → aw_W G own cc ret nL d ini M0 Q X c sl tgt ls st M) (kf : ¬ x = y → aw_W G own cc ret nL d ini M0 Q X c sl (pc + 3) ls st M) : aw_W G own cc ret nL d ini M0 Q X c sl pc ls ((2, y) :: (2, x) :: st) M := by
  intro p l e R s m args below meth cd H locs cells slots C hr he ho hz hc hs lsA hlv hlo hso
  have hE := aw_enE C.2.2.2.2.2.2.2.2.2.2.2.2.2.2 he9 hx hy
  rw [List.map_cons, List.map_cons, aw_rf x, aw_rf y]
  exact lv_acmp_eq C.1 C.2.1 hd ht (fun q => kt (hE.mp q) _ C hr he ho hz hc hs lsA hlv hlo (aw_t (aw_t hso))) (fun q => kf (fun z => q (hE.mpr z)) _ C hr he ho hz hc hs lsA hlv hlo (aw_t (aw_t hso)))
theorem x_acmpE_ne {x y off : Int} {tgt en : Nat} (hd : decode cc pc = .ok (.if_acmp .ne off, 3)) (ht : (pc : Int) + off = (tgt : Int)) (he9 : en = 900 ∨ en = 901) (hx : x = 0 ∨ ga_K x = (en, 0)) (hy : y = 0 ∨ ga_K y = (en, 0)) (kt : x ≠ y → aw_W G own cc ret nL d ini M0 Q X c sl tgt ls st M) (kf : ¬ x ≠ y → aw_W G own cc ret nL d ini M0 Q X c sl (pc + 3) ls st M) : aw_W G own cc ret nL d ini M0 Q X c sl pc ls ((2, y) :: (2, x) :: st) M := by
  intro p l e R s m args below meth cd H locs cells slots C hr he ho hz hc hs lsA hlv hlo hso
  have hE := aw_enE C.2.2.2.2.2.2.2.2.2.2.2.2.2.2 he9 hx hy
  rw [List.map_cons, List.map_cons, aw_rf x, aw_rf y]
  exact lv_acmp_ne C.1 C.2.1 hd ht (fun q => kt (fun z => q (hE.mpr z)) _ C hr he ho hz hc hs lsA hlv hlo (aw_t (aw_t hso))) (fun q => kf (fun z => z (hE.mp q)) _ C hr he ho hz hc hs lsA hlv hlo (aw_t (aw_t hso)))
theorem aw_oneof {K : Int → Nat × Int} {z : Int} (h : aw_va K z) : z = 0 ∨ aw_real z (K z) := h.2
/-- an enum's constant goes into an array of the enum -/
theorem x_aastS {x i n v : Int} {t en : Nat} (hd : decode cc pc = .ok (.aastore, 1)) (hk : aw_k M x = (1000 + t, n)) (ht : aw_ats[t]? = some (.object (aw_en en))) (he9 : en = 900 ∨ en = 901) (hx : 4096 ≤ x) (hb : 0 ≤ i ∧ i < n ∧ (v = 0 ∨ ga_K v = (en, 0)))
    (k : aw_W G own cc ret nL d ini M0 Q X c sl (pc + 1) ls st (aw_set M x i v)) : aw_W G own cc ret nL d ini M0 Q X c sl pc ls ((2, v) :: (0, i) :: (2, x) :: st) M := by
  obtain ⟨h0, h1, hv⟩ := hb
  rcases hv with hv | hv
  · exact x_aastN hd hk ht hx h0 h1 hv k
  · intro p l e R s m args below meth cd H locs cells slots C hr he ho hz hc hs lsA hlv hlo hso
    have hts := C.2.2.2.2.2.2.1
    have hK := C.2.2.2.2.2.2.2.1
    have hZ := C.2.2.2.2.2.2.2.2.2.2.2.2.2.2
    obtain ⟨k0, rfl, g0, g1, hn0, hn1, hcell, hall⟩ := aw_arr hr hk ht hx
    obtain ⟨k1, rfl, f0, f9⟩ := aw_enum hv he9
    obtain ⟨cellB, f1, f2, f3, -⟩ := (hZ.1.2.2 k1 en f9 hv he9).1.kept (aw_qq ho)
    have hk0 : aw_NC ≤ k0 := by show 4096 ≤ k0; omega
    have hi : R32 i := aw_h (aw_t hso)
    obtain ⟨kA, comp, a1, a2, a3, -⟩ := (hK.2.1 t _ ht).2
    have hasg : s.vm.assignable cellB.cls comp = true := vb_asgS (C := aw_en en) comp cellB.cls a3 f3
    have hst : ∀ z, cellB.vm ≠ .statics z := fun z h => by rw [h] at f2; cases f2
    obtain ⟨kcomp, hkcomp⟩ := aw_kcl a3
    obtain ⟨kB, hkB⟩ := aw_kcl f3
    rw [List.map_cons, List.map_cons, List.map_cons, aw_vref g0, aw_vref f0]
    refine W.aast C.1 C.2.1 hcell (fun q h => by cases h) (fun h => by cases h) a1 a2 rfl hkcomp ⟨fun h => ?_, ?_⟩ f1 hst hkB hasg rfl rfl hd fun H' e1 e2 e3 => ?_
    · have h3 := (aw_lt_o hi (by decide : R32 0)).mp h
      omega
    · show _ < (arrV _ _ _).slots.size
      rw [arrV_size, aw_clamp hi]
      omega
    · rw [aw_clamp hi] at e1 ⊢
      exact k _ C (aw_rep_set hr hk0 e2 e3 (aw_stcell (ty := .object (aw_en en)) hk ht ⟨hn0, hn1⟩ h0 (aw_h hso) (aw_vref f0).symm e1 hall)) he (aw_old_set hk0 ho e3) (aw_loc hk0 hz) hc hs lsA hlv hlo (aw_t (aw_t (aw_t hso)))
/-- the script -/
theorem x_slen (hd : decode cc pc = .ok (.arraylength, 1)) (k : aw_W G own cc ret nL d ini M0 Q X c sl (pc + 1) ls ((0, (G.2.2.2.2.2.1 : Int)) :: st) M) : aw_W G own cc ret nL d ini M0 Q X c sl pc ls ((2, 1) :: st) M := by
  intro p l e R s m args below meth cd H locs cells slots C hr he ho hz hc hs lsA hlv hlo hso
  have hZ := C.2.2.2.2.2.2.2.2.2.2.2.2.2.2
  obtain ⟨hn, hx, hT⟩ := hZ.2.2.2
  obtain ⟨cell, h1, h2, h3, h4, h5, h6, -⟩ := hT.kept (aw_qq ho)
  rw [List.map_cons, aw_vrefI (by decide)]
  exact W.alen (n := Int32.ofInt G.2.2.2.2.2.1) C.1 C.2.1 h1 h2 (by rw [h5, ← Int32.ofInt_eq_ofNat]) rfl rfl hd (k _ C hr he ho hz hc hs lsA hlv hlo (aw_c1 (v := (0, (G.2.2.2.2.2.1 : Int))) (show R32 _ from ⟨by omega, by omega⟩) (aw_t hso)))
theorem x_sald1 {i : Int} (hd : decode cc pc = .ok (.iaload, 1)) (h0 : 0 ≤ i) (h1 : i < (G.2.2.2.2.2.1 : Int)) (k : aw_W G own cc ret nL d ini M0 Q X c sl (pc + 1) ls ((0, G.2.2.2.2.2.2 i.toNat) :: st) M) : aw_W G own cc ret nL d ini M0 Q X c sl pc ls ((0, i) :: (2, 1) :: st) M := by
  intro p l e R s m args below meth cd H locs cells slots C hr he ho hz hc hs lsA hlv hlo hso
  have hZ := C.2.2.2.2.2.2.2.2.2.2.2.2.2.2
  obtain ⟨hn, hx, hT⟩ := hZ.2.2.2
  obtain ⟨cell, g1, g2, g3, g4, g5, g6, -⟩ := hT.kept (aw_qq ho)
  rw [List.map_cons, List.map_cons, aw_vrefI (by decide)]
  refine W.iald (v := aw_val (aw_ad G) (0, G.2.2.2.2.2.2 i.toNat)) C.1 C.2.1 g1 g2 g3 (aw_ibW (n := (G.2.2.2.2.2.1 : Int)) (aw_h hso) h0 h1 (by omega)) ?_ rfl rfl hd (k _ C hr he ho hz hc hs lsA hlv hlo (aw_c1 (v := (0, G.2.2.2.2.2.2 i.toNat)) (hx _) (aw_t (aw_t hso))))
  rw [aw_clamp (aw_h hso)]
  exact g6 i.toNat (by omega)
end AZ
