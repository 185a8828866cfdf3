/-! the language in which methods' meanings are printed: what a method answers and the memory behind it; none where it isn't known to come to an end -/
def aw_is (v : Option aw_V) (M' : aw_M) : Option aw_V → aw_M → Prop := fun r M => v = r ∧ M' = M
def aw_no : String → aw_M → Prop := fun _ _ => False
theorem aw_nox {cc : ByteArray} {M : aw_M} {X : String → aw_M → Prop} : ∀ (E : String) (M' : aw_M), aw_no E M' → aw_ext M M' → X E M' ∧ ¬ aw_hs cc := fun _ _ h _ => h.elim
theorem aw_kp {M : aw_M} {x : Int} {t : Nat} (h : (aw_k M x).1 = t) : aw_k M x = (t, (aw_k M x).2) := by rw [← h]
theorem aw_ks {M M1 : aw_M} {x j v e : Int} {q : Nat × Int} (h : M1 = aw_set M x j v) (hk : aw_k M e = q) : aw_k M1 e = q := by subst h; exact hk
theorem aw_kv {M : aw_M} {a b : Int} {q : Nat × Int} (h : a = b) (hk : aw_k M b = q) : aw_k M a = q := by rw [h]; exact hk
section AK
variable {G : aw_G} {own : String} {cc : ByteArray} {ret : Option FieldType} {nL d : Nat} {ini : Bool} {M0 M : aw_M} {Q : Option aw_V → aw_M → Prop} {X : String → aw_M → Prop} {c sl pc : Nat} {ls : List (Nat × aw_V)} {st : List aw_V}
theorem x_nm {t : Nat} {a z : Int} (h : z = a) (k : aw_W G own cc ret nL d ini M0 Q X c sl pc ls ((t, z) :: st) M) : aw_W G own cc ret nL d ini M0 Q X c sl pc ls ((t, a) :: st) M := h ▸ k
theorem x_nmM {M1 : aw_M} (h : M1 = M) (k : aw_W G own cc ret nL d ini M0 Q X c sl pc ls st M1) : aw_W G own cc ret nL d ini M0 Q X c sl pc ls st M := h ▸ k
theorem x_locs {ls' : List (Nat × aw_V)} (ks : List Nat) (h : ks.filterMap (fun k => ls[k]?) = ls') (k : aw_W G own cc ret nL d ini M0 Q X c sl pc ls' st M) : aw_W G own cc ret nL d ini M0 Q X c sl pc ls st M := by
  have hm : ∀ q ∈ ls', q ∈ ls := by
    intro q hq
    rw [← h] at hq
    obtain ⟨i, -, hi⟩ := List.mem_filterMap.mp hq
    exact List.mem_of_getElem? hi
  intro p l e R s m args below meth cd H locs cells slots C hr he ho hz hc hs lsA hlv hlo hso
  refine k _ C hr he ho hz hc hs lsA ⟨hlv.1, hlv.2.1, fun q hq => ?_⟩ (fun q hq => hlo q (hm q hq)) hso
  obtain ⟨q0, h1, rfl⟩ := List.mem_map.mp hq
  exact hlv.2.2 _ (List.mem_map.mpr ⟨q0, hm q0 h1, rfl⟩)
theorem aw_ext_n {kd : Nat × Int} (h : ∀ x : Int, x ≤ 0 ∨ aw_n M ≤ x → aw_k M x = (9999, 0)) : aw_ext M (aw_new M kd) := by
  refine ⟨by show aw_n M ≤ aw_n M + 1; omega, fun k hk => ?_⟩
  have h2 : ¬ k = aw_n M := fun q => hk (h k (Or.inr (by omega)))
  exact if_neg h2
theorem aw_knew {z : Int} {M1 : aw_M} {kd : Nat × Int} (hz : z = aw_n M) (hM : M1 = aw_new M kd) : aw_k M1 z = kd := by
  subst hz; subst hM
  exact if_pos rfl
theorem y_new {index cN nS : Nat} {z : Int} {M1 : aw_M} {q : aw_Q} {C : String} (hz : z = aw_n M) (hM : M1 = aw_new M (cN, 0)) (hd : decode cc pc = .ok (.new index, 3)) (hq : aw_cls[cN]? = some q) (hC : q.1 = C) (h1 : Cond.classLink own index C ∈ lw_all) (h2 : Cond.instantiable C nS ∈ lw_all) (h3 : Cond.initialized C ∈ lw_all)
    (k : aw_ext M M1 → aw_k M1 z = (cN, 0) → aw_W G own cc ret nL d ini M0 Q X c sl (pc + 3) ls ((2, z) :: st) M1) : aw_W G own cc ret nL d ini M0 Q X (c + 1) (sl + nS) pc ls st M := by
  have hk := aw_knew hz hM
  subst hM
  refine aw_mok fun _ h5 _ => ?_
  refine x_new hd hq hC h1 h2 h3 hz.symm (Nat.le_add_left 1 c) (Nat.le_add_left nS sl) ?_
  rw [Nat.add_sub_cancel, Nat.add_sub_cancel]
  exact k (aw_ext_n h5) hk
theorem y_newa {t : Nat} {n z : Int} {M1 : aw_M} {atype : ArrayType} (hz : z = aw_n M) (hM : M1 = aw_new M (1000 + t, n)) (hd : decode cc pc = .ok (.newarray atype, 2)) (ht : aw_ats[t]? = some (newarray.typeOf atype)) (ht6 : t < 5) (hw : Cond.arrayClass (newarray.typeOf atype) ∈ lw_all) (h0 : 0 ≤ n) (hb : n ≤ 60000000)
    (k : aw_ext M M1 → aw_W G own cc ret nL d ini M0 Q X c sl (pc + 2) ls ((2, z) :: st) M1) : aw_W G own cc ret nL d ini M0 Q X (c + 1) (sl + n.toNat) pc ls ((0, n) :: st) M := by
  subst hM
  refine aw_mok fun _ h5 _ => ?_
  refine x_newa hd ht ht6 hw h0 hb (by omega) hz.symm (Nat.le_add_left 1 c) ?_
  rw [Nat.add_sub_cancel, Nat.add_sub_cancel]
  exact k (aw_ext_n h5)
theorem y_anew {t index : Nat} {n z : Int} {M1 : aw_M} {C : String} (hz : z = aw_n M) (hM : M1 = aw_new M (1000 + t, n)) (hd : decode cc pc = .ok (.anewarray index, 3)) (ht : aw_ats[t]? = some (.object C)) (hC : C ∈ aw_aos) (hw : Cond.classLink own index C ∈ lw_all) (h0 : 0 ≤ n) (hb : n ≤ 60000000)
    (k : aw_ext M M1 → aw_W G own cc ret nL d ini M0 Q X c sl (pc + 3) ls ((2, z) :: st) M1) : aw_W G own cc ret nL d ini M0 Q X (c + 1) (sl + n.toNat) pc ls ((0, n) :: st) M := by
  subst hM
  refine aw_mok fun _ h5 _ => ?_
  refine x_anew hd ht hC hw h0 hb (by omega) hz.symm (Nat.le_add_left 1 c) ?_
  rw [Nat.add_sub_cancel, Nat.add_sub_cancel]
  exact k (aw_ext_n h5)
end AK
