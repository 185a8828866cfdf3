/-! throws in heap mode: what was made for the throw stands behind the memory, of no kind -/
set_option maxRecDepth 100000
theorem aw_hl {l : Launch} (h : l.flags = flags0) : l.stackTraces = false := by
  show (!l.flags.contains noTraceFlag) = false
  rw [h]
  decide +kernel
theorem aw_rep_jk {G : aw_G} {M M' : aw_M} {H H' : Heap} {g : Nat} (hr : aw_rep G M H) (h1 : aw_n M' = aw_n M + g) (h2 : aw_k M' = aw_k M) (h3 : ∀ a b : Int, 0 ≤ a → 0 ≤ b → aw_d M' a b = aw_d M a b) (hz : H'.size = H.size + g) (ho : ∀ q : Nat, q < H.size → H'[q]? = H[q]?) : aw_rep G M' H' := by
  have hr2 : aw_rep G (aw_n M, aw_k M', aw_d M') H := aw_rep_cong (M := M) (M' := (aw_n M, aw_k M', aw_d M')) rfl h2 h3 hr
  have hr0 : (4096 : Int) ≤ aw_n M := hr.1
  have hr1 : (H.size : Int) = aw_b G + (aw_n M - 4096) := hr.2.1
  refine ⟨by rw [h1]; show (4096 : Int) ≤ _; omega, by rw [hz, h1]; show ((H.size + g : Nat) : Int) = aw_b G + (aw_n M + g - 4096); omega, hr2.2.2.1, fun k hge hk => ?_, fun x hx => hr2.2.2.2.2 x (hx.elim Or.inl (fun h => Or.inr (by show aw_n M ≤ x; omega)))⟩
  have hge2 : 4096 ≤ k := hge
  by_cases hlt : (k : Int) < aw_n M
  · have had : aw_ad G k = aw_b G + (k - 4096) := if_neg (Nat.not_lt.mpr hge)
    have hq : H'[aw_ad G k]? = H[aw_ad G k]? := ho _ (by rw [had]; omega)
    have hc := hr2.2.2.2.1 k hge hlt
    refine ⟨fun c q e1 e2 => ?_, fun t n ty e1 e2 => ?_⟩
    · obtain ⟨g1, g2⟩ := hc.1 c q e1 e2
      exact ⟨g1.kept hq, g2⟩
    · obtain ⟨g1, g2, g3, g4⟩ := hc.2 t n ty e1 e2
      exact ⟨g1, g2, hq.trans g3, g4⟩
  · have hk9 : aw_k M' (k : Int) = (9999, 0) := hr2.2.2.2.2 (k : Int) (Or.inr (by show aw_n M ≤ _; omega))
    have l1 : aw_cls.length ≤ 200 := by decide
    have l2 : aw_ats.length ≤ 200 := by decide
    refine ⟨fun c q e1 e2 => ?_, fun t n ty e1 e2 => ?_⟩
    · have e3 : c = 9999 := congrArg Prod.fst (e1.symm.trans hk9)
      have e4 := (List.getElem?_eq_some_iff.mp e2).1
      omega
    · have e3 : 1000 + t = 9999 := congrArg Prod.fst (e1.symm.trans hk9)
      have e4 := (List.getElem?_eq_some_iff.mp e2).1
      omega
theorem aw_ext_jk {M0 M M' : aw_M} {g : Nat} (h : aw_ext M0 M) (h1 : aw_n M' = aw_n M + g) (h2 : aw_k M' = aw_k M) : aw_ext M0 M' := ⟨by have := h.1; omega, fun k hk => by rw [h2]; exact h.2 k hk⟩
section AX16
variable {G : aw_G} {own : String} {cc : ByteArray} {ret : Option FieldType} {nL d : Nat} {ini : Bool} {M0 M : aw_M} {Q : Option aw_V → aw_M → Prop} {X : String → aw_M → Prop} {c sl pc : Nat} {ls : List (Nat × aw_V)} {st : List aw_V}
/-- throw new E("text") -/
theorem x_throwS {cls text : String} {names : List String} {ik is ic : Nat} {z : Int} {M1 : aw_M} (hcls : Bundle.fit cls = true) (hnames : ∀ n ∈ names, Bundle.fit n = true) (h1 : Cond.classLink own ik cls ∈ lw_all) (h2 : Cond.initialized cls ∈ lw_all) (h3 : Cond.stringRef own is text ∈ lw_tbl) (hz : List.elem (text, z) aw_txs = true)
    (hat : ∀ w ∈ vx_atS own ic cls names, w ∈ lw_all ∨ (w ∈ lw_tbl ∧ aw_nk w = true)) (hgood : (Cond.classLink own ik cls :: Cond.initialized cls :: vx_atS own ic cls names).all vx_ot = true)
    (d0 : decode cc pc = .ok (.new ik, 3)) (d3 : decode cc (pc + 3) = .ok (.dup, 1)) (d4 : decode cc (pc + 4) = .ok (.ldc is, 2)) (d6 : decode cc (pc + 6) = .ok (.invokespecial ic, 3)) (d9 : decode cc (pc + 9) = .ok (.athrow, 1))
    (hcc : ¬ aw_hs cc) (hdd : names.length + 3 < d ∧ names.length ≤ 20) (hw : aw_cw st ≤ 8) (m1 : aw_n M1 = aw_n M + 1) (m2 : aw_k M1 = aw_k M) (m3 : ∀ a b : Int, 0 ≤ a → 0 ≤ b → aw_d M1 a b = aw_d M a b) (hX : X cls M1) : aw_W G own cc ret nL d ini M0 Q X (c + 1) (sl + 6) pc ls st M := by
  intro p l e R s m args below meth cd H locs cells slots C hr he ho hz0 hc hs lsA hlv hlo hso T hT Xs
  have hts := C.2.2.2.2.2.2.1
  have hK := C.2.2.2.2.2.2.2.1
  have hZ := C.2.2.2.2.2.2.2.2.2.2.2.2.2.2
  have g1 : R.frames = d := C.2.2.2.2.2.2.2.2.1
  have g2 : R.locals = d * 600 := C.2.2.2.2.2.2.2.2.2.1
  have h6 := hdd.2
  have h8 : 4 ≤ d := by omega
  have h7 : 4 * 600 ≤ d * 600 := Nat.mul_le_mul_right 600 h8
  have hsz : s.heap.size ≤ H.size := by
    have h9 := Xs.same.2.1
    rw [← hT]
    exact h9
  have hS : va_S (aw_A G) s.heap H locs := ⟨hsz, fun q _ hq => ho q (Nat.lt_of_not_le hq), fun q hq => hz0 q hq⟩
  refine vx_throwSE (cls := cls) (text := text) (names := names) (sa := aw_ad G z.toNat) (A := aw_A G) C.1 C.2.1 (aw_hl C.2.2.2.2.2.2.2.2.2.2.2.1) C.2.2.2.2.2.1 hcls hnames (hts _ h1) (hts _ h2) (hZ.2.1.2.1 own text is z h3 (List.elem_iff.mp hz)) (fun w hw => ?_) (fun w hw => List.all_eq_true.mp hgood w hw) hZ.2.1.2.2.1.2.1 hZ.2.1.2.2.1.2.2 hS (by rw [C.2.2.2.2.1]; exact hlv.1) d0 d3 d4 d6 d9
    (fun x hx => (hcc (C.2.2.2.2.2.2.2.2.2.2.2.2.1.1 x hx)).elim) (by rw [g1]; exact hdd.1) (by rw [aw_cw_map, g2]; omega) (by omega) (by omega) C.2.2.2.1 (fun t hA hn hq => ?_) hz0 (by omega) (by omega) T hT Xs
  · rcases hat w hw with h | h
    · exact hts _ h
    · exact va_any (A := #[]) (A' := args) (aw_nk_t h.2) (hK.2.2.1 _ h.1 h.2)
  · exact ⟨M1, hX, aw_ext_jk (g := 1) he m1 m2, aw_rep_jk (g := 1) hr m1 m2 m3 hn hq, fun q hq0 => by
      have hb : aw_b G ≤ H.size := by
        have h5 : (4096 : Int) ≤ aw_n M := hr.1
        have h6 : (H.size : Int) = aw_b G + (aw_n M - 4096) := hr.2.1
        omega
      rw [hq q (by omega)]
      exact ho q hq0⟩
/-- the same, the text by a wide index -/
theorem x_throwSW {cls text : String} {names : List String} {ik is ic : Nat} {z : Int} {M1 : aw_M} (hcls : Bundle.fit cls = true) (hnames : ∀ n ∈ names, Bundle.fit n = true) (h1 : Cond.classLink own ik cls ∈ lw_all) (h2 : Cond.initialized cls ∈ lw_all) (h3 : Cond.stringRef own is text ∈ lw_tbl) (hz : List.elem (text, z) aw_txs = true)
    (hat : ∀ w ∈ vx_atS own ic cls names, w ∈ lw_all ∨ (w ∈ lw_tbl ∧ aw_nk w = true)) (hgood : (Cond.classLink own ik cls :: Cond.initialized cls :: vx_atS own ic cls names).all vx_ot = true)
    (d0 : decode cc pc = .ok (.new ik, 3)) (d3 : decode cc (pc + 3) = .ok (.dup, 1)) (d4 : decode cc (pc + 4) = .ok (.ldc_w is, 3)) (d6 : decode cc (pc + 7) = .ok (.invokespecial ic, 3)) (d9 : decode cc (pc + 10) = .ok (.athrow, 1))
    (hcc : ¬ aw_hs cc) (hdd : names.length + 3 < d ∧ names.length ≤ 20) (hw : aw_cw st ≤ 8) (m1 : aw_n M1 = aw_n M + 1) (m2 : aw_k M1 = aw_k M) (m3 : ∀ a b : Int, 0 ≤ a → 0 ≤ b → aw_d M1 a b = aw_d M a b) (hX : X cls M1) : aw_W G own cc ret nL d ini M0 Q X (c + 1) (sl + 6) pc ls st M := by
  intro p l e R s m args below meth cd H locs cells slots C hr he ho hz0 hc hs lsA hlv hlo hso T hT Xs
  have hts := C.2.2.2.2.2.2.1
  have hK := C.2.2.2.2.2.2.2.1
  have hZ := C.2.2.2.2.2.2.2.2.2.2.2.2.2.2
  have g1 : R.frames = d := C.2.2.2.2.2.2.2.2.1
  have g2 : R.locals = d * 600 := C.2.2.2.2.2.2.2.2.2.1
  have h6 := hdd.2
  have h8 : 4 ≤ d := by omega
  have h7 : 4 * 600 ≤ d * 600 := Nat.mul_le_mul_right 600 h8
  have hsz : s.heap.size ≤ H.size := by
    have h9 := Xs.same.2.1
    rw [← hT]
    exact h9
  have hS : va_S (aw_A G) s.heap H locs := ⟨hsz, fun q _ hq => ho q (Nat.lt_of_not_le hq), fun q hq => hz0 q hq⟩
  refine vx_throwSWE (cls := cls) (text := text) (names := names) (sa := aw_ad G z.toNat) (A := aw_A G) C.1 C.2.1 (aw_hl C.2.2.2.2.2.2.2.2.2.2.2.1) C.2.2.2.2.2.1 hcls hnames (hts _ h1) (hts _ h2) (hZ.2.1.2.1 own text is z h3 (List.elem_iff.mp hz)) (fun w hw => ?_) (fun w hw => List.all_eq_true.mp hgood w hw) hZ.2.1.2.2.1.2.1 hZ.2.1.2.2.1.2.2 hS (by rw [C.2.2.2.2.1]; exact hlv.1) d0 d3 d4 d6 d9
    (fun x hx => (hcc (C.2.2.2.2.2.2.2.2.2.2.2.2.1.1 x hx)).elim) (by rw [g1]; exact hdd.1) (by rw [aw_cw_map, g2]; omega) (by omega) (by omega) C.2.2.2.1 (fun t hA hn hq => ?_) hz0 (by omega) (by omega) T hT Xs
  · rcases hat w hw with h | h
    · exact hts _ h
    · exact va_any (A := #[]) (A' := args) (aw_nk_t h.2) (hK.2.2.1 _ h.1 h.2)
  · exact ⟨M1, hX, aw_ext_jk (g := 1) he m1 m2, aw_rep_jk (g := 1) hr m1 m2 m3 hn hq, fun q hq0 => by
      have hb : aw_b G ≤ H.size := by
        have h5 : (4096 : Int) ≤ aw_n M := hr.1
        have h6 : (H.size : Int) = aw_b G + (aw_n M - 4096) := hr.2.1
        omega
      rw [hq q (by omega)]
      exact ho q hq0⟩
end AX16
/-- the name of what was thrown, by the answer's code; how many cells and slots were made for it -/
def ex_of (r : Int) : String := if r = 1180591620717411303426 then "java/lang/IllegalStateException" else if r = 1180591620717411303427 then "java/lang/IllegalArgumentException" else "java/lang/ArrayIndexOutOfBoundsException"
def gx_of (r : Int) : Int := if r = 1180591620717411303428 then 3 else 1
def sx_of (r : Int) : Int := if r = 1180591620717411303428 then 222 else 6
def h_jk (D : ga_D) (g s : Int) : ga_D := fun x i => if x = -1 then (if i = 0 then D (-1) 0 + g else if i = 1 then D (-1) 1 + s else D (-1) i) else D x i
def h_jx (D : ga_D) (r : Int) : ga_D := h_jk D (gx_of r) (sx_of r)
theorem jk_o {D : ga_D} {g s x i : Int} (hx : 0 ≤ x) : h_jk D g s x i = D x i := if_neg (by omega)
theorem hn_jk {D : ga_D} {g s : Int} : hn (h_jk D g s) = hn D + g := rfl
theorem hsl_jk {D : ga_D} {g s : Int} : hsl (h_jk D g s) = hsl D + s := rfl
theorem hk_jk {D : ga_D} {g s : Int} : hk (h_jk D g s) = hk D := funext fun x => by
  unfold hk
  by_cases e : x < 5342
  · rw [if_pos e, if_pos e]
  · rw [if_neg e, if_neg e, jk_o (by omega), jk_o (by omega)]
theorem jk_P {a b w : Int} (ha : ¬ 0 ≤ a) (hw : ga_P0 a b = some w) : False := by
  cases a with
  | ofNat i => exact ha (Int.natCast_nonneg i)
  | negSucc i => cases (show (none : Option Int) = some w by rw [← hw]; unfold ga_P0 ly_at ly_p; cases b <;> rfl)
theorem h_P.jk {D : ga_D} {g s : Int} (h : h_P D) (hg : 0 ≤ g) : h_P (h_jk D g s) := by
  refine ⟨fun a b w hw => ?_, by rw [hn_jk]; have := h.2.1; omega, fun x hx => by rw [hk_jk]; rw [hn_jk] at hx; exact h.2.2.1 x (by omega), fun a b w hw => ?_⟩
  · have h1 := h.1 a b w hw
    by_cases ha : 0 ≤ a
    · rw [jk_o ha]; exact h1
    · exfalso; exact jk_P ha hw
  · have := ga_C0_lt hw
    rw [jk_o (by omega)]
    exact h.2.2.2 a b w hw
theorem h_E_jk {D : ga_D} {g s : Int} : h_E D (h_jk D g s) := fun x _ => by rw [hk_jk]
section AXV
variable {G : aw_G} {own : String} {cc : ByteArray} {ret : Option FieldType} {nL d : Nat} {ini : Bool} {M0 M : aw_M} {Q : Option aw_V → aw_M → Prop} {X : String → aw_M → Prop} {c sl pc : Nat} {ls : List (Nat × aw_V)} {st : List aw_V}
/-- a byte read outside of an array that was made -/
theorem x_baldX {x i n : Int} {names : List String} {M1 : aw_M} (hnames : ∀ n ∈ names, Bundle.fit n = true) (hat : ∀ w ∈ vx_atM "java/lang/ArrayIndexOutOfBoundsException" names, w ∈ lw_all ∨ (w ∈ lw_tbl ∧ aw_nk w = true)) (hgood : (vx_atM "java/lang/ArrayIndexOutOfBoundsException" names).all vx_ot = true)
    (hd : decode cc pc = .ok (.baload, 1)) (hk : aw_k M x = (1002, n)) (hx : 4096 ≤ x) (hout : ¬ (0 ≤ i ∧ i < n)) (hcc : ¬ aw_hs cc) (hdd : 18 ≤ d ∧ names.length + 4 < d ∧ names.length ≤ 20) (hw : aw_cw st ≤ 8) (m1 : aw_n M1 = aw_n M + 3) (m2 : aw_k M1 = aw_k M) (m3 : ∀ a b : Int, 0 ≤ a → 0 ≤ b → aw_d M1 a b = aw_d M a b) (hX : X "java/lang/ArrayIndexOutOfBoundsException" M1) : aw_W G own cc ret nL d ini M0 Q X (c + 3) (sl + 222) pc ls ((0, i) :: (2, x) :: st) M := by
  intro p l e R s m args below meth cd H locs cells slots C hr he ho hz0 hc hs lsA hlv hlo hso T hT Xs
  have hts := C.2.2.2.2.2.2.1
  have hK := C.2.2.2.2.2.2.2.1
  have hZ := C.2.2.2.2.2.2.2.2.2.2.2.2.2.2
  have g1 : R.frames = d := C.2.2.2.2.2.2.2.2.1
  have g2 : R.locals = d * 600 := C.2.2.2.2.2.2.2.2.2.1
  have h7 : 18 * 600 ≤ d * 600 := Nat.mul_le_mul_right 600 hdd.1
  have hi : R32 i := aw_h hso
  have ht : aw_ats[2]? = some .byte := rfl
  have hsz : s.heap.size ≤ H.size := by
    have h9 := Xs.same.2.1
    rw [← hT]
    exact h9
  have hb : aw_b G ≤ H.size := by
    have h5 : (4096 : Int) ≤ aw_n M := hr.1
    have h6 : (H.size : Int) = aw_b G + (aw_n M - 4096) := hr.2.1
    omega
  have hS : va_S (aw_A G) s.heap H locs := ⟨hsz, fun q _ hq => ho q (Nat.lt_of_not_le hq), fun q hq => hz0 q hq⟩
  obtain ⟨k0, rfl, h0, h1, hn0, hn1, hcell, hall⟩ := aw_arr hr hk ht hx
  rw [List.map_cons, List.map_cons, aw_vref h0]
  have note : ∀ tx : String, tx = (toString "Index " ++ toString (Int32.ofInt i) ++ toString " out of bounds for length " ++ toString n.toNat : String) → vx_Note p l e R s m args below meth cd H locs cells slots (vx_MQ below (aw_QC G M0 Q) (aw_XC G M0 X) args s R.cells R.slots (fun q => aw_b G ≤ q)) (F0 m pc lsA (st.map (aw_val (aw_ad G)))) "java/lang/ArrayIndexOutOfBoundsException" tx := fun tx htx => by
    refine vx_vmE (names := names) (nb := 212) (A := aw_A G) C.1 (aw_hl C.2.2.2.2.2.2.2.2.2.2.2.1) (by decide +kernel) hnames (by decide +kernel) (by decide +kernel) (fun w hw => ?_) (fun w hw => List.all_eq_true.mp hgood w hw) hZ.2.1.2.2.1.2.1 hZ.2.1.2.2.1.2.2 hS (by rw [C.2.2.2.2.1]; exact hlv.1) (by rw [htx]; exact index_text_modelled _ _) (by rw [htx]; exact index_text_bytes _ (by omega)) (by decide) (by rw [g1]; exact hdd.2.1) (by rw [aw_cw_map, g2]; omega) (by have := hdd.2.2; omega) (by omega) (by omega) C.2.2.2.1
      (fun H1 q9 ce hz1 ho1 hS1 hce hv hcl => vx_out (pc := pc) (ls := lsA) (rest := st.map (aw_val (aw_ad G))) (H := H1) (locs := locs) (cells := cells + 3) (slots := slots + (212 + 10)) (mc := R.cells) (ms := R.slots) (Qc := aw_QC G M0 Q) (XC := aw_XC G M0 X) (free := fun q => aw_b G ≤ q)
        (fun x hx => (hcc (C.2.2.2.2.2.2.2.2.2.2.2.2.1.1 x hx)).elim) C.2.2.2.1 hce hv hcl
        (fun t' ht' _ => ⟨M1, hX, aw_ext_jk (g := 3) he m1 m2, by rw [ht']; exact aw_rep_jk (g := 3) hr m1 m2 m3 hz1 ho1, fun q hq => by rw [ht', ho1 q (by omega)]; exact ho q hq⟩) hz0 (by omega) (by omega))
    rcases hat w hw with h | h
    · exact hts _ h
    · exact va_any (A := #[]) (A' := args) (aw_nk_t h.2) (hK.2.2.1 _ h.1 h.2)
  obtain ⟨t, st9, q9⟩ := note _ rfl T hT Xs
  refine ⟨t, ?_, q9⟩
  have hio : Int32.ofInt i < 0 ∨ (arrV (G.2.2.1 2) n.toNat (fun j => aw_val (aw_ad G) (aw_tg .byte, aw_d M (k0 : Int) (j : Nat)))).slots.size ≤ (Int32.ofInt i).toNatClampNeg := by
    rw [arrV_size, aw_clamp hi]
    by_cases h : 0 ≤ i
    · exact Or.inr (by omega)
    · exact Or.inl ((aw_lt_o hi (by decide : R32 0)).mpr (by omega))
  have h2 := Xs.baloadOut C.1 (by rw [hT]; exact hcell) ((hK.2.1 2 _ ht).1 n.toNat _) (j := Int32.ofInt i) hio (g := F0 m pc lsA (.int (Int32.ofInt i) :: .ref (aw_ad G k0) :: st.map (aw_val (aw_ad G)))) rfl (rest := st.map (aw_val (aw_ad G))) rfl (by rw [C.2.1]; exact hd) t
  simp only [arrV_size] at h2
  exact h2 st9
end AXV
/-- the same memory, as far as it is seen -/
def aw_eqv (M M' : aw_M) : Prop := aw_n M = aw_n M' ∧ aw_k M = aw_k M' ∧ ∀ a b : Int, 0 ≤ a → 0 ≤ b → aw_d M a b = aw_d M' a b
/-- a method's contract where it throws: D' is what it had done till then -/
def aw_HX (y : MethodName) (cc : ByteArray) (nL : Nat) (ret : Option FieldType) (d : Nat) (G : aw_G) (as : List aw_V) (D : ga_D) (r : Int) (D' : ga_D) : Prop :=
  h_P (h_jx D' r) ∧ h_E D (h_jx D' r) ∧ ∃ (c sl : Nat) (Xc : String → aw_M → Prop), hn D + c = hn (h_jx D' r) ∧ hsl D + sl = hsl (h_jx D' r) ∧ (∀ E M, Xc E M → E = ex_of r ∧ aw_eqv M (hM (h_jx D' r))) ∧ aw_Runs y cc nL ret d c sl G as (hM D) (fun _ _ => False) Xc
theorem hw_bodyx {y : MethodName} {own : String} {cc : ByteArray} {nL d : Nat} {ret : Option FieldType} {ini : Bool} {G : aw_G} {as : List aw_V} {D D' : ga_D} {r : Int} {ls : List (Nat × aw_V)}
    (hy : plainName y.cls = true) (hown : y.cls = own) (hini : ini = true → y.name = "<init>") (hlen : aw_cw as ≤ nL) (hls : aw_args 0 as = ls)
    (body : ∀ X : String → aw_M → Prop, (∀ M, aw_eqv M (hM (h_jx D' r)) → X (ex_of r) M) → aw_HW G own cc ret nL d ini (hM D) (fun _ _ => False) X (h_jx D' r) (hn (h_jx D' r)) (hsl (h_jx D' r)) 0 ls [] D) (hnh : ¬ aw_hs cc := by exact aw_hsn (by decide +kernel)) : aw_HX y cc nL ret d G as D r D' := by
  obtain ⟨h1, h2, c, sl, h3, h4, h5⟩ := body (fun E M => E = ex_of r ∧ aw_eqv M (hM (h_jx D' r))) (fun M h => ⟨rfl, h⟩)
  exact ⟨h1, h2, c, sl, _, h3, h4, fun _ _ h => h, aw_body hy hown hini hlen hls h5 hnh⟩
theorem gx_nn {r : Int} : 0 ≤ gx_of r := by unfold gx_of; split <;> decide
theorem sx_nn {r : Int} : 0 ≤ sx_of r := by unfold sx_of; split <;> decide
theorem ga_bnd_x {f : ga_S} {k : Int → ga_D → ga_S} {r : Int} {D' : ga_D} (h : ga_bnd f k = some (r, D')) : (f = some (r, D') ∧ 1180591620717411303424 ≤ r) ∨ ∃ (r1 : Int) (D1 : ga_D), f = some (r1, D1) ∧ r1 < 1180591620717411303424 ∧ k r1 D1 = some (r, D') := by
  cases f with
  | none => cases h
  | some p =>
    have h1 : (if 1180591620717411303424 ≤ p.1 then some p else k p.1 p.2) = some (r, D') := h
    by_cases e : 1180591620717411303424 ≤ p.1
    · rw [if_pos e] at h1
      have h3 : p.1 = r := congrArg Prod.fst (Option.some.inj h1)
      exact Or.inl ⟨h1, by omega⟩
    · rw [if_neg e] at h1
      exact Or.inr ⟨p.1, p.2, rfl, by omega, h1⟩
section AHX2
variable {G : aw_G} {own : String} {cc : ByteArray} {ret : Option FieldType} {nL d : Nat} {ini : Bool} {M0 : aw_M} {Q : Option aw_V → aw_M → Prop} {X : String → aw_M → Prop} {pc : Nat} {ls : List (Nat × aw_V)} {st : List aw_V} {D D' : ga_D}
/-- a return of a number that no int and no long is, does not come about -/
theorem hw_abs {v : Int} {t : Nat} (ht : t = 0 ∨ t = 1) (hv : 1180591620717411303424 ≤ v) (hP : h_P D) : aw_HW G own cc ret nL d ini M0 Q X (h_jx D v) (hn (h_jx D v)) (hsl (h_jx D v)) pc ls ((t, v) :: st) D := by
  refine ⟨hP.jk gx_nn, h_E_jk, (gx_of v).toNat, (sx_of v).toNat, ?_, ?_, ?_⟩
  · show hn D + ((gx_of v).toNat : Int) = hn D + gx_of v
    rw [Int.toNat_of_nonneg gx_nn]
  · show hsl D + ((sx_of v).toNat : Int) = hsl D + sx_of v
    rw [Int.toNat_of_nonneg sx_nn]
  · intro p l e R s m args below meth cd H locs cells slots C hr he ho hz hc hs lsA hlv hlo hso
    exfalso
    have h := hso (t, v) List.mem_cons_self
    rcases ht with rfl | rfl
    · have h2 : R32 v := h
      have := h2.2
      omega
    · have h2 : R64 v := h
      have := h2.2
      omega
theorem hw_thr {r : Int} {mc ms : Nat} {E : String} (hP : h_P D) (hg : gx_of r = (mc : Int) ∧ sx_of r = (ms : Int)) (hE : ex_of r = E) (hX : ∀ M, aw_eqv M (hM (h_jx D r)) → X (ex_of r) M)
    (f : ∀ {c sl : Nat} {M1 : aw_M}, aw_n M1 = aw_n (hM D) + mc → aw_k M1 = aw_k (hM D) → (∀ a b : Int, 0 ≤ a → 0 ≤ b → aw_d M1 a b = aw_d (hM D) a b) → X E M1 → aw_W G own cc ret nL d ini M0 Q X (c + mc) (sl + ms) pc ls st (hM D)) : aw_HW G own cc ret nL d ini M0 Q X (h_jx D r) (hn (h_jx D r)) (hsl (h_jx D r)) pc ls st D := by
  subst hE
  refine ⟨hP.jk gx_nn, h_E_jk, 0 + mc, 0 + ms, ?_, ?_, ?_⟩
  · show hn D + ((0 + mc : Nat) : Int) = hn D + gx_of r
    rw [hg.1, Nat.zero_add]
  · show hsl D + ((0 + ms : Nat) : Int) = hsl D + sx_of r
    rw [hg.2, Nat.zero_add]
  · refine f (c := 0) (sl := 0) (M1 := hM (h_jx D r)) ?_ ?_ (fun a b ha _ => jk_o ha) (hX _ ⟨rfl, rfl, fun _ _ _ _ => rfl⟩)
    · show hn D + gx_of r = hn D + mc
      rw [hg.1]
    · exact hk_jk
theorem hw_callx {y : MethodName} {cc' : ByteArray} {nL' d' pc' : Nat} {ret' : Option FieldType} {as rest : List aw_V} {r : Int} (hR : aw_HX y cc' nL' ret' d' G as D r D') (hX : ∀ M, aw_eqv M (hM (h_jx D' r)) → X (ex_of r) M) (hcc : ¬ aw_hs cc)
    (f : ∀ {c sl mc ms : Nat} {Qc : Option aw_V → aw_M → Prop} {Xc : String → aw_M → Prop}, aw_Runs y cc' nL' ret' d' mc ms G as (hM D) Qc Xc → (∀ (r : Option aw_V) (M' : aw_M), Qc r M' → aw_ext (hM D) M' → aw_W G own cc ret nL d ini M0 Q X c sl pc' ls (r.toList ++ rest) M') → (∀ (E : String) (M' : aw_M), Xc E M' → aw_ext (hM D) M' → X E M' ∧ ¬ aw_hs cc) → aw_W G own cc ret nL d ini M0 Q X (c + mc) (sl + ms) pc ls st (hM D)) : aw_HW G own cc ret nL d ini M0 Q X (h_jx D' r) (hn (h_jx D' r)) (hsl (h_jx D' r)) pc ls st D := by
  obtain ⟨g0, g1, mc, ms, Xc, g2, g3, g4, g5⟩ := hR
  refine ⟨g0, g1, 0 + mc, 0 + ms, by rw [Nat.zero_add]; exact g2, by rw [Nat.zero_add]; exact g3, f (c := 0) (sl := 0) g5 (fun _ _ h _ => h.elim) (fun E M' h _ => ?_)⟩
  obtain ⟨rfl, h2⟩ := g4 E M' h
  exact ⟨hX M' h2, hcc⟩
end AHX2
/-- a static method that throws -/
theorem hg_stx {y : MethodName} {cc : ByteArray} {nL d : Nat} {ret : Option FieldType} {G : aw_G} {as : List aw_V} {D D1 : ga_D} {lo hi r : Int} {f : ga_S} (hP : h_P D) (hlo : 4096 ≤ lo) (hhi : hi ≤ 5342) (hf : ga_fr lo hi D f) (hp : ga_pr D f) (hv : f = some (r, D1))
    (hR : aw_St (hM D) → ga_P D → aw_Runs y cc nL ret d (gx_of r).toNat (sx_of r).toNat G as (aw_wD (hM D) D) (fun _ _ => False) (fun E M => E = ex_of r ∧ aw_n M = aw_n (hM D) + gx_of r ∧ aw_k M = aw_k (hM D) ∧ ∀ a b : Int, 0 ≤ a → 0 ≤ b → aw_d M a b = D1 a b)) : aw_HX y cc nL ret d G as D r D1 := by
  have hsame : ∀ x : Int, x < lo ∨ hi ≤ x → D1 x = D x := hf r D1 hv
  have e1 : hn D1 = hn D := congrFun (hsame (-1) (by omega)) 0
  have e2 : hsl D1 = hsl D := congrFun (hsame (-1) (by omega)) 1
  have e3 : hk D1 = hk D := funext fun x => by
    unfold hk
    by_cases e : x < 5342
    · rw [if_pos e, if_pos e]
    · rw [if_neg e, if_neg e, hsame x (by omega)]
  have hP1 : h_P D1 := ⟨hp hP.1 r D1 hv, by rw [e1]; exact hP.2.1, (fun x hx => by rw [e3]; exact hP.2.2.1 x (by omega)), fun a b w hw => by rw [hsame a (by have := ga_C0_lt hw; omega)]; exact hP.2.2.2 a b w hw⟩
  refine ⟨hP1.jk gx_nn, fun x _ => by rw [show hk (h_jx D1 r) = hk D1 from hk_jk, e3], (gx_of r).toNat, (sx_of r).toNat, _, ?_, ?_, fun E M h => ⟨h.1, ?_, ?_, fun a b ha hb => ?_⟩, hR (hw_st hP) hP.1⟩
  · show hn D + ((gx_of r).toNat : Int) = hn D1 + gx_of r
    rw [Int.toNat_of_nonneg gx_nn, e1]
  · show hsl D + ((sx_of r).toNat : Int) = hsl D1 + sx_of r
    rw [Int.toNat_of_nonneg sx_nn, e2]
  · rw [h.2.1]
    show hn D + gx_of r = hn D1 + gx_of r
    rw [e1]
  · rw [h.2.2.1]
    show hk D = hk (h_jx D1 r)
    rw [show hk (h_jx D1 r) = hk D1 from hk_jk, e3]
  · rw [h.2.2.2 a b ha hb]
    exact (jk_o ha).symm
section AXS
variable {G : aw_G} {own : String} {cc : ByteArray} {ret : Option FieldType} {nL d : Nat} {ini : Bool} {M0 M : aw_M} {Q : Option aw_V → aw_M → Prop} {X : String → aw_M → Prop} {c sl pc : Nat} {ls : List (Nat × aw_V)} {st : List aw_V}
theorem aw_abs {v : Int} {t : Nat} (ht : t = 0 ∨ t = 1) (hv : 1180591620717411303424 ≤ v) : aw_W G own cc ret nL d ini M0 Q X c sl pc ls ((t, v) :: st) M := by
  intro p l e R s m args below meth cd H locs cells slots C hr he ho hz hc hs lsA hlv hlo hso
  exfalso
  have h := hso (t, v) List.mem_cons_self
  rcases ht with rfl | rfl
  · have h2 : R32 v := h
    have := h2.2
    omega
  · have h2 : R64 v := h
    have := h2.2
    omega
theorem aw_thr {r : Int} {cls : String} {Mz : aw_M} {D' : ga_D} (hg : gx_of r = 1) (hs : sx_of r = 6) (hE : ex_of r = cls) (hX : ∀ M, aw_n M = aw_n Mz + gx_of r → aw_k M = aw_k Mz → (∀ a b : Int, 0 ≤ a → 0 ≤ b → aw_d M a b = D' a b) → X (ex_of r) M)
    (f : ∀ {M1 : aw_M}, aw_n M1 = aw_n (aw_wD Mz D') + 1 → aw_k M1 = aw_k (aw_wD Mz D') → (∀ a b : Int, 0 ≤ a → 0 ≤ b → aw_d M1 a b = aw_d (aw_wD Mz D') a b) → X cls M1 → aw_W G own cc ret nL d ini M0 Q X (0 + 1) (0 + 6) pc ls st (aw_wD Mz D')) : aw_W G own cc ret nL d ini M0 Q X (gx_of r).toNat (sx_of r).toNat pc ls st (aw_wD Mz D') := by
  subst hE
  rw [hg, hs]
  exact f (M1 := (aw_n Mz + 1, aw_k Mz, D')) rfl rfl (fun _ _ _ _ => rfl) (hX _ (by rw [hg]; rfl) rfl (fun _ _ _ _ => rfl))
end AXS
