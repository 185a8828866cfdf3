/-! rows that read and write cells, make them, return and call -/
set_option maxRecDepth 100000
theorem aw_ad_new {G : aw_G} {k : Nat} (h : aw_NC ≤ k) : aw_ad G k = aw_b G + (k - aw_NC) := if_neg (by omega)
theorem aw_ad_ne {G : aw_G} {M : aw_M} {H : Heap} (hr : aw_rep G M H) {k x : Nat} (hx : aw_NC ≤ x) (hne : k ≠ x) : aw_ad G k ≠ aw_ad G x := by
  rcases Nat.lt_or_ge k aw_NC with h | h
  · have h1 := hr.2.2.1.1 k h
    rw [aw_ad_new hx]
    omega
  · rw [aw_ad_new h, aw_ad_new hx]
    omega
/-- an integer that stands for a cell: its number -/
theorem aw_cel {G : aw_G} {M : aw_M} {H : Heap} (hr : aw_rep G M H) {x : Int} (hk : aw_k M x ≠ (9999, 0)) : ∃ k : Nat, x = (k : Int) ∧ 0 < k ∧ (k : Int) < aw_n M := by
  have h1 : ¬ (x ≤ 0 ∨ aw_n M ≤ x) := fun h => hk (hr.2.2.2.2 x h)
  exact ⟨x.toNat, by omega, by omega, by omega⟩
theorem aw_kc {M : aw_M} {x : Int} {c : Nat} {n : Int} (h : aw_k M x = (c, n)) (hc : c ≠ 9999) : aw_k M x ≠ (9999, 0) := fun q => hc (congrArg Prod.fst (h.symm.trans q))
theorem aw_vref {ad : Nat → Nat} {k : Nat} (h : 0 < k) : aw_val ad (2, (k : Int)) = .ref (ad k) := by
  show (if (k : Int) ≤ 0 then Value.null else Value.ref (ad (k : Int).toNat)) = _
  rw [if_neg (by omega)]
  rfl
/-- what a field's reference in the pool means: own class, its entry; the class's number, the field's, the tag -/
def aw_Fl (own : String) (index cN j : Nat) (tg : Nat) : Prop :=
  ∃ (q : aw_Q) (ref : String), aw_cls[cN]? = some q ∧ j < q.2.length ∧ Cond.fieldLink own index ref (aw_T q j).2.1 (aw_T q j).2.2.1 ∈ lw_all ∧ (ref = (aw_T q j).1 ∨ Cond.sameField ref (aw_T q j).1 (aw_T q j).2.1 (aw_T q j).2.2.1 ∈ lw_all) ∧ aw_tg (aw_ty cN j) = tg
theorem aw_in' {c : Nat} {q : aw_Q} (h : aw_cls[c]? = some q) : ∀ w ∈ u_ws q.1 (aw_T q) q.2.length, w ∈ lw_all := aw_in q (List.mem_of_getElem? h)
theorem aw_ty_fits {K : Int → Nat × Int} {ty : FieldType} {ad : Nat → Nat} {z : Int} (h : aw_okT K ty z) : narrow ty (aw_val ad (aw_tg ty, z)) = aw_val ad (aw_tg ty, z) ∧ fits ty (aw_val ad (aw_tg ty, z)) = true := by
  have hr : ∀ (v : Value), (v = .null ∨ ∃ a, v = .ref a) → ∀ ty : FieldType, aw_tg ty = 2 → narrow ty v = v ∧ fits ty v = true := by
    intro v hv ty hty
    cases ty <;> first | (simp [aw_tg] at hty; done) | (rcases hv with rfl | ⟨a, rfl⟩ <;> exact ⟨rfl, rfl⟩)
  have hv : ∀ z : Int, aw_val ad (2, z) = .null ∨ ∃ a, aw_val ad (2, z) = .ref a := by
    intro z
    by_cases h : z ≤ 0
    · exact Or.inl (if_pos h)
    · exact Or.inr ⟨_, if_neg h⟩
  cases ty with
  | int => exact ⟨rfl, rfl⟩
  | long => exact ⟨rfl, rfl⟩
  | float =>
    have h1 : 0 ≤ z ∧ z < 4294967296 := h
    rw [show aw_val ad (aw_tg .float, z) = .float (UInt32.ofNat z.toNat) from if_neg (show ¬ z < 0 by omega)]
    exact ⟨rfl, rfl⟩
  | double => exact ⟨rfl, rfl⟩
  | object C => exact hr _ (hv z) _ rfl
  | array t => exact hr _ (hv z) _ rfl
  | boolean =>
    have h1 : 0 ≤ z ∧ z < 2 := h
    rcases (show z = 0 ∨ z = 1 by omega) with rfl | rfl <;> exact ⟨rfl, rfl⟩
  | byte =>
    have h1 : -128 ≤ z ∧ z < 128 := h
    have e : (Int32.ofInt z).toInt8.toInt32 = Int32.ofInt z := by
      apply Int32.toInt_inj.mp
      rw [Int8.toInt_toInt32, Int32.toInt_toInt8, aw_t32 ⟨by omega, by omega⟩]
      exact Int.bmod_eq_of_le (by omega) (by omega)
    show narrow .byte (.int (Int32.ofInt z)) = .int (Int32.ofInt z) ∧ fits .byte (.int (Int32.ofInt z)) = true
    rw [← e]
    exact ⟨pk_nb _, pk_fb _⟩
  | short =>
    have h1 : -32768 ≤ z ∧ z < 32768 := h
    have e : (Int32.ofInt z).toInt16.toInt32 = Int32.ofInt z := by
      apply Int32.toInt_inj.mp
      rw [Int16.toInt_toInt32, Int32.toInt_toInt16, aw_t32 ⟨by omega, by omega⟩]
      exact Int.bmod_eq_of_le (by omega) (by omega)
    show narrow .short (.int (Int32.ofInt z)) = .int (Int32.ofInt z) ∧ fits .short (.int (Int32.ofInt z)) = true
    rw [← e]
    exact ⟨pk_ns _, pk_fs _⟩
  | char =>
    have h1 : 0 ≤ z ∧ z < 65536 := h
    have e : Int32.ofInt z = nI z.toNat := by
      show Int32.ofInt z = Int32.ofNat z.toNat
      rw [← Int32.ofInt_eq_ofNat, show ((z.toNat : Nat) : Int) = z by omega]
    show narrow .char (.int (Int32.ofInt z)) = .int (Int32.ofInt z) ∧ fits .char (.int (Int32.ofInt z)) = true
    rw [e]
    exact pk_charN (by omega)
section AH
variable {G : aw_G} {own : String} {cc : ByteArray} {ret : Option FieldType} {nL d : Nat} {ini : Bool} {M0 M : aw_M} {Q : Option aw_V → aw_M → Prop} {X : String → aw_M → Prop} {c sl pc : Nat} {ls : List (Nat × aw_V)} {st : List aw_V}
theorem aw_lt9 {cN : Nat} {q : aw_Q} (h : aw_cls[cN]? = some q) : cN ≠ 9999 := by
  have h1 : cN < aw_cls.length := (List.getElem?_eq_some_iff.mp h).1
  have h2 : aw_cls.length ≤ 200 := by decide
  omega
/-- where a made object stands, and its fields' facts -/
theorem aw_obj {s : State} {args : Array Value} {H : Heap} (hts : ∀ w ∈ lw_all, w.before args s = true) (hK : aw_K G s) (hr : aw_rep G M H) {x : Int} {cN : Nat} {q : aw_Q} (hk : aw_k M x = (cN, 0)) (hq : aw_cls[cN]? = some q) (hc : cN ≠ 9999) (hx : 4096 ≤ x) :
    ∃ k : Nat, x = (k : Int) ∧ 0 < k ∧ (k : Int) < aw_n M ∧ t_OB (aw_ad G k) (G.1 cN) q.2.length (G.2.1 cN) H (fun j => aw_val (aw_ad G) (aw_tg (aw_ty cN j), aw_d M x j)) ∧ ∀ j : Nat, j < q.2.length → aw_okT (aw_k M) (aw_ty cN j) (aw_d M x j) := by
  obtain ⟨k, rfl, h0, h1⟩ := aw_cel hr (aw_kc hk hc)
  obtain ⟨h2, h3⟩ := (hr.2.2.2.1 k (by show 4096 ≤ k; omega) h1).1 cN q hk hq
  exact ⟨k, rfl, h0, h1, h2, h3⟩
/-- any object, a constant too: its cell, less is known of it -/
theorem aw_objW {p : Program} {l : Launch} {R : Room} {s : State} {m : MethodId} {args : Array Value} {meth : Method} {cd : Code} {H : Heap} (C : aw_Cx G own cc ret nL d ini p l R s m args meth cd) (ho : aw_old G s.heap H) (hr : aw_rep G M H) {x : Int} {cN : Nat} {q : aw_Q} (hk : aw_k M x = (cN, 0)) (hq : aw_cls[cN]? = some q) :
    ∃ k : Nat, x = (k : Int) ∧ 0 < k ∧ (k : Int) < aw_n M ∧ (∃ cell : Cell, H[aw_ad G k]? = some cell ∧ cell.cls = G.1 cN ∧ cell.vm.isStatics = false ∧ ∀ j : Nat, j < q.2.length → cell.vm ≠ .unknown ∧ cell.slots[G.2.1 cN j]? = some (aw_val (aw_ad G) (aw_tg (aw_ty cN j), aw_d M x j))) ∧ ∀ j : Nat, j < q.2.length → aw_okT (aw_k M) (aw_ty cN j) (aw_d M x j) := by
  have hts := C.2.2.2.2.2.2.1
  have hK := C.2.2.2.2.2.2.2.1
  have hZ := C.2.2.2.2.2.2.2.2.2.2.2.2.2.2
  have hc := aw_lt9 hq
  obtain ⟨k, rfl, h0, h1⟩ := aw_cel hr (aw_kc hk hc)
  rcases Nat.lt_or_ge k aw_NC with hlt | hge
  · obtain ⟨c1, c2⟩ := hr.2.2.1.2 k hlt
    have hk2 : ga_K (k : Int) = (cN, 0) := by rw [← c1]; exact hk
    obtain ⟨b1, b2⟩ := hZ.1.1 k cN q hlt hk2 hq
    have hqq : ∀ a : Nat, a < s.heap.size → ¬ aw_A G a → H[a]? = s.heap[a]? := fun a _ ha => ho a (Nat.lt_of_not_le ha)
    obtain ⟨cell, g1, g2, g3, -⟩ := b1.kept hqq
    obtain ⟨hS, hfc, -⟩ := hK.1 cN q hq
    refine ⟨k, rfl, h0, h1, ⟨cell, g1, Option.some.inj (g3.symm.trans hfc), g2, fun j hj => ?_⟩, fun j hj => ?_⟩
    · obtain ⟨z, e1, e2, e3⟩ := b2 j hj
      obtain ⟨cf, kf, fi, f, cell2, f1, f2, f3, f4, f5, -⟩ := e3.kept hqq
      obtain ⟨cf', kf', fi', f', hi, hsl⟩ := hS j hj
      cases f1.symm.trans hi
      cases g1.symm.trans f3
      rw [c2 j z e1, ← hsl]
      exact ⟨f4, f5⟩
    · obtain ⟨z, e1, e2, e3⟩ := b2 j hj
      rw [c2 j z e1]
      exact aw_okT_mono (aw_cnK hr.2.2.1.2) e2
  · obtain ⟨⟨cell, q1, q2, q3, q4⟩, h3⟩ := (hr.2.2.2.1 k hge h1).1 cN q hk hq
    exact ⟨k, rfl, h0, h1, ⟨cell, q1, q2, (by rw [q3]; rfl), fun j hj => ⟨(by rw [q3]; exact fun h => (by cases h)), q4 j hj⟩⟩, h3⟩
theorem x_getf {x v : Int} {index cN j tg : Nat} (hd : decode cc pc = .ok (.getfield index, 3)) (hF : aw_Fl own index cN j tg) (hk : aw_k M x = (cN, 0)) (hv : aw_d M x j = v)
    (k : aw_W G own cc ret nL d ini M0 Q X c sl (pc + 3) ls ((tg, v) :: st) M) : aw_W G own cc ret nL d ini M0 Q X c sl pc ls ((2, x) :: st) M := by
  obtain ⟨q, ref, hq, hj, hw, hsame, rfl⟩ := hF
  subst hv
  intro p l e R s m args below meth cd H locs cells slots C hr he ho hz hc hs lsA hlv hlo hso
  obtain ⟨k0, rfl, h0, h1, ⟨cell, q1, q2, q3, q4⟩, h3⟩ := aw_objW C ho hr hk hq
  obtain ⟨hS, hfc, kC, hkC, hkind⟩ := C.2.2.2.2.2.2.2.1.1 cN q hq
  obtain ⟨cf, kf, fi, f, hi, hsl⟩ := hS j hj
  have hts := C.2.2.2.2.2.2.1
  have hi2 : s.fieldFound? ref (aw_T q j).2.1 (aw_T q j).2.2.1 = some (cf, kf, fi, f) := by
    rcases hsame with h | h
    · rw [h]; exact hi
    · exact u_same (hts _ h) _ hi
  rw [List.map_cons, aw_vref h0]
  refine W.getf C.1 C.2.1 C.2.2.2.2.2.1 (hts _ hw) hi2 (u_facts hfc hkC (u_lays hts (aw_in' hq) hj) hi).1 q1 (q4 j hj).1 (v := aw_val (aw_ad G) (aw_tg (aw_ty cN j), aw_d M (k0 : Int) j)) (by rw [hsl]; exact (q4 j hj).2) rfl rfl hd ?_
  exact k _ C hr he ho hz hc hs lsA hlv hlo (aw_c1 (aw_okT_ok (h3 j hj)) (aw_t hso))
/-- a memory with one place changed: the other cells stay -/
theorem aw_rep_set {H H' : Heap} (hr : aw_rep G M H) {k : Nat} {j v : Int} (hk : aw_NC ≤ k) (hz : H'.size = H.size) (ho : ∀ a : Nat, a ≠ aw_ad G k → H'[a]? = H[a]?) (hc : aw_cell G (aw_set M k j v) H' k) : aw_rep G (aw_set M k j v) H' := by
  refine ⟨hr.1, by rw [hz]; exact hr.2.1, ⟨hr.2.2.1.1, fun a ha => ⟨(hr.2.2.1.2 a ha).1, fun b z hb => (if_neg (fun q => by have := q.1; omega)).trans ((hr.2.2.1.2 a ha).2 b z hb)⟩⟩, fun a hge ha => ?_, hr.2.2.2.2⟩
  by_cases e : a = k
  · rw [e]; exact hc
  · have h1 := hr.2.2.2.1 a hge ha
    have hn : aw_ad G a ≠ aw_ad G k := aw_ad_ne hr hk e
    have hd : ∀ b : Int, aw_d (aw_set M k j v) a b = aw_d M a b := fun b => if_neg (fun h => e (by have := h.1; omega))
    refine ⟨fun cN q e1 e2 => ?_, fun t n ty e1 e2 => ?_⟩
    · obtain ⟨g1, g2⟩ := h1.1 cN q e1 e2
      exact ⟨(g1.kept (ho _ hn)).to (fun i _ => by show aw_val _ (_, _) = aw_val _ (_, _); rw [hd]), fun i hi => by rw [hd]; exact g2 i hi⟩
    · obtain ⟨g1, g2, g3, g4⟩ := h1.2 t n ty e1 e2
      refine ⟨g1, g2, ?_, fun i h2 h3 => by rw [hd]; exact g4 i h2 h3⟩
      rw [ho _ hn, g3]
      congr 2
      funext i
      rw [hd]
theorem aw_old_set {H0 H H' : Heap} {k : Nat} (hk : aw_NC ≤ k) (ho : aw_old G H0 H) (h : ∀ a : Nat, a ≠ aw_ad G k → H'[a]? = H[a]?) : aw_old G H0 H' := fun q hq => by
  rw [h q (by rw [aw_ad_new hk]; omega)]
  exact ho q hq
theorem aw_loc {locs : List Loc} {k i : Nat} (hk : aw_NC ≤ k) (h : ∀ z ∈ locs, aw_b G ≤ z.base) : ∀ z ∈ locs ++ [⟨aw_ad G k, i⟩], aw_b G ≤ z.base := fun z hz => by
  rcases List.mem_append.mp hz with h1 | h1
  · exact h z h1
  · rw [List.mem_singleton.mp h1]
    show aw_b G ≤ aw_ad G k
    rw [aw_ad_new hk]
    omega
theorem aw_putcell {H' : Heap} {cell : Cell} {k cN j : Nat} {v : Int} {q : aw_Q} {s : State} {args : Array Value} (hts : ∀ w ∈ lw_all, w.before args s = true) (hK : aw_K G s) (hkk : aw_k M k = (cN, 0)) (hq : aw_cls[cN]? = some q) (hj : j < q.2.length) (hok : aw_okT (aw_k M) (aw_ty cN j) v)
    (q1 : H'[aw_ad G k]? = some (cell.setSlot (G.2.1 cN j) (aw_val (aw_ad G) (aw_tg (aw_ty cN j), v)))) (q2 : cell.cls = G.1 cN) (q3 : cell.vm = .none) (q4 : ∀ i, i < q.2.length → cell.slots[G.2.1 cN i]? = some (aw_val (aw_ad G) (aw_tg (aw_ty cN i), aw_d M k i))) (h3 : ∀ i : Nat, i < q.2.length → aw_okT (aw_k M) (aw_ty cN i) (aw_d M k i)) : aw_cell G (aw_set M k j v) H' k := by
  obtain ⟨hS, -⟩ := hK.1 cN q hq
  have hap : ∀ x y, x < q.2.length → y < q.2.length → x ≠ y → (G.2.1 cN) x ≠ (G.2.1 cN) y := by
    intro x y hx hy hne
    obtain ⟨_, _, _, fa, hia, ea⟩ := hS x hx
    obtain ⟨_, _, _, fb, hib, eb⟩ := hS y hy
    rw [← ea, ← eb]
    refine u_apart (u_lays hts (aw_in' hq) hx) (u_lays hts (aw_in' hq) hy) hia hib ?_
    rw [(State.fieldFound?_type hia (aw_tyok cN q hq x hx)).1, (State.fieldFound?_type hib (aw_tyok cN q hq y hy)).1]
    exact aw_nm q (List.mem_of_getElem? hq) x hx y hy hne
  have hset := t_set (V := fun i => aw_val (aw_ad G) (aw_tg (aw_ty cN i), aw_d M k i)) q4 hap hj (aw_val (aw_ad G) (aw_tg (aw_ty cN j), v))
  have hdd : ∀ i : Nat, aw_d (aw_set M k j v) k i = if i = j then v else aw_d M k i := by
    intro i
    show (if (k : Int) = k ∧ (i : Int) = j then v else M.2.2 k i) = _
    by_cases e : i = j
    · rw [if_pos e, if_pos ⟨rfl, by omega⟩]
    · rw [if_neg e, if_neg (by omega)]
      rfl
  refine ⟨fun c2 q' e1 e2 => ?_, fun t n ty e1 e2 => ?_⟩
  · have e3 : c2 = cN := congrArg Prod.fst (e1.symm.trans hkk)
    subst e3
    cases hq.symm.trans e2
    refine ⟨⟨_, q1, q2, q3, fun i hi => ?_⟩, fun i hi => ?_⟩
    · rw [hset i hi]
      simp only [updV, hdd]
      by_cases e : i = j
      · rw [if_pos e, if_pos e, e]
      · rw [if_neg e, if_neg e]
    · rw [hdd]
      by_cases e : i = j
      · rw [if_pos e, e]; exact hok
      · rw [if_neg e]; exact h3 i hi
  · have e3 : 1000 + t = cN := congrArg Prod.fst (e1.symm.trans hkk)
    have h1 : cN < aw_cls.length := (List.getElem?_eq_some_iff.mp hq).1
    have h2 : aw_cls.length ≤ 200 := by decide
    omega
theorem x_putf {x v : Int} {index cN j tg : Nat} (hd : decode cc pc = .ok (.putfield index, 3)) (hF : aw_Fl own index cN j tg) (hfin : (aw_cls[cN]?.map (fun q => (aw_T q j).2.2.2)) = some false) (hk : aw_k M x = (cN, 0)) (hx : 4096 ≤ x) (hok : aw_okS (aw_ty cN j) v)
    (k : aw_W G own cc ret nL d ini M0 Q X c sl (pc + 3) ls st (aw_set M x j v)) : aw_W G own cc ret nL d ini M0 Q X c sl pc ls ((tg, v) :: (2, x) :: st) M := by
  obtain ⟨q, ref, hq, hj, hw, hsame, rfl⟩ := hF
  intro p l e R s m args below meth cd H locs cells slots C hr he ho hz hc hs lsA hlv hlo hso
  have hts := C.2.2.2.2.2.2.1
  have hK := C.2.2.2.2.2.2.2.1
  obtain ⟨k0, rfl, h0, h1, ⟨cell, q1, q2, q3, q4⟩, h3⟩ := aw_obj (args := args) hts hK hr hk hq (aw_lt9 hq) hx
  have hk0 : aw_NC ≤ k0 := by show 4096 ≤ k0; omega
  obtain ⟨hS, hfc, kC, hkC, hkind⟩ := hK.1 cN q hq
  obtain ⟨cf, kf, fi, f, hi, hsl⟩ := hS j hj
  have hi2 : s.fieldFound? ref (aw_T q j).2.1 (aw_T q j).2.2.1 = some (cf, kf, fi, f) := by
    rcases hsame with h | h
    · rw [h]; exact hi
    · exact u_same (hts _ h) _ hi
  have hokT : aw_okT (aw_k M) (aw_ty cN j) v := aw_okS_T hok (aw_h hso)
  have hlay := hts _ (aw_in' hq _ (u_in_lay hj))
  unfold u_lay at hlay
  rw [hq] at hfin
  have hf0 : (aw_T q j).2.2.2 = false := Option.some.inj hfin
  rw [if_neg (by rw [hf0]; decide)] at hlay
  have hst := (u_facts hfc hkC (u_lays hts (aw_in' hq) hj) hi).1
  have h6 := u_store (v := aw_val (aw_ad G) (aw_tg (aw_ty cN j), v)) hfc hkC hkind hlay hi (aw_tyok cN q hq j hj) (aw_ty_fits hokT).1 (aw_ty_fits hokT).2
  rw [List.map_cons, List.map_cons, aw_vref h0]
  refine W.putK C.1 C.2.1 (f := f) ⟨C.2.2.2.2.2.1, hts _ hw, ⟨_, _, _, hi2⟩, hst⟩ (by rw [q2]; exact h6) q1 q3 (by rw [hsl]; exact k2_hasslot (q4 j hj)) rfl rfl hd fun H' e1 e2 e3 => ?_
  rw [hsl] at e1 ⊢
  exact k _ C (aw_rep_set hr hk0 e2 e3 (aw_putcell hts hK hk hq hj hokT e1 q2 q3 q4 h3)) he (aw_old_set hk0 ho e3) (aw_loc hk0 hz) hc hs lsA hlv hlo (aw_t (aw_t hso))
theorem x_putfF {x v : Int} {index cN j tg : Nat} (hd : decode cc pc = .ok (.putfield index, 3)) (hF : aw_Fl own index cN j tg) (hfin : (aw_cls[cN]?.map (fun q => ((aw_T q j).2.2.2, (aw_T q j).1))) = some (true, own)) (hini : ini = true) (hk : aw_k M x = (cN, 0)) (hx : 4096 ≤ x) (hok : aw_okS (aw_ty cN j) v)
    (k : aw_W G own cc ret nL d ini M0 Q X c sl (pc + 3) ls st (aw_set M x j v)) : aw_W G own cc ret nL d ini M0 Q X c sl pc ls ((tg, v) :: (2, x) :: st) M := by
  obtain ⟨q, ref, hq, hj, hw, hsame, rfl⟩ := hF
  intro p l e R s m args below meth cd H locs cells slots C hr he ho hz hc hs lsA hlv hlo hso
  have hts := C.2.2.2.2.2.2.1
  have hK := C.2.2.2.2.2.2.2.1
  obtain ⟨k0, rfl, h0, h1, ⟨cell, q1, q2, q3, q4⟩, h3⟩ := aw_obj (args := args) hts hK hr hk hq (aw_lt9 hq) hx
  have hk0 : aw_NC ≤ k0 := by show 4096 ≤ k0; omega
  obtain ⟨hS, hfc, kC, hkC, hkind⟩ := hK.1 cN q hq
  obtain ⟨cf, kf, fi, f, hi, hsl⟩ := hS j hj
  have hi2 : s.fieldFound? ref (aw_T q j).2.1 (aw_T q j).2.2.1 = some (cf, kf, fi, f) := by
    rcases hsame with h | h
    · rw [h]; exact hi
    · exact u_same (hts _ h) _ hi
  have hokT : aw_okT (aw_k M) (aw_ty cN j) v := aw_okS_T hok (aw_h hso)
  have hlay := hts _ (aw_in' hq _ (u_in_lay hj))
  unfold u_lay at hlay
  rw [hq] at hfin
  have hf1 : ((aw_T q j).2.2.2, (aw_T q j).1) = (true, own) := Option.some.inj hfin
  have hf2 := Prod.mk.inj hf1
  rw [if_pos hf2.1] at hlay
  have hst := (u_facts hfc hkC (u_lays hts (aw_in' hq) hj) hi).1
  have hcf : m.cls = cf := by
    obtain ⟨_, _, c', _, _, _, -, -, hf', -, -, -, hown2, -⟩ := Cond.laysFinal_spec hlay
    have e1 : c' = cf := by have := hi.symm.trans hf'; simp at this; exact this.1.symm
    rw [hf2.2] at hown2
    rw [← e1]; exact Option.some.inj (C.2.2.2.2.2.1.symm.trans hown2)
  have h6 := u_fits (v := aw_val (aw_ad G) (aw_tg (aw_ty cN j), v)) hfc hkC hkind (Or.inr hlay) hi (aw_tyok cN q hq j hj) (aw_ty_fits hokT).1 (aw_ty_fits hokT).2
  rw [List.map_cons, List.map_cons, aw_vref h0]
  refine W.putFinK C.1 C.2.1 C.2.2.2.2.2.1 (hts _ hw) hi2 hst hcf (C.2.2.2.2.2.2.2.2.2.2.1 hini) (by rw [q2]; exact h6) q1 q3 (by rw [hsl]; exact k2_hasslot (q4 j hj)) rfl rfl hd fun H' e1 e2 e3 => ?_
  rw [hsl] at e1 ⊢
  exact k _ C (aw_rep_set hr hk0 e2 e3 (aw_putcell hts hK hk hq hj hokT e1 q2 q3 q4 h3)) he (aw_old_set hk0 ho e3) (aw_loc hk0 hz) hc hs lsA hlv hlo (aw_t (aw_t hso))
end AH
