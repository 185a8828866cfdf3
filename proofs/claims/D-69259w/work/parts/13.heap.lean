/-! heap mode on the machine: the memory is told by the contents alone; what is made on the way is counted by the contents -/
set_option maxRecDepth 100000
def hM (D : ga_D) : aw_M := (hn D, hk D, D)
def hsl (D : ga_D) : Int := D (-1) 1
/-- the fixed pointers stand, what isn't made yet has no kind -/
def h_P (D : ga_D) : Prop := ga_P D ∧ 5342 ≤ hn D ∧ (∀ x : Int, hn D ≤ x → hk D x = (9999, 0)) ∧ ga_C D
/-- kinds stay -/
def h_E (D D' : ga_D) : Prop := ∀ x : Int, hk D x ≠ (9999, 0) → hk D' x = hk D x
theorem h_E.rf {D : ga_D} : h_E D D := fun _ _ => rfl
theorem h_E.tr {D D1 D2 : ga_D} (h : h_E D D1) (h' : h_E D1 D2) : h_E D D2 := fun x hx => (h' x (by rw [h x hx]; exact hx)).trans (h x hx)
theorem h_kx {D D1 : ga_D} (h : h_E D D1) {x : Int} {c : Nat} {n : Int} (hx : hk D x = (c, n)) (hc : c ≠ 9999) : hk D1 x = (c, n) :=
  (h x (fun q => hc (congrArg Prod.fst (hx.symm.trans q)))).trans hx
theorem hkS {D : ga_D} {x : Int} {c : Nat} {n : Int} (h : ga_K x = (c, n)) (hc : c ≠ 9999) : hk D x = (c, n) := by
  unfold hk
  by_cases e : x < 5342
  · rw [if_pos e]; exact h
  · exfalso
    obtain ⟨i, rfl⟩ := Int.eq_ofNat_of_zero_le (show 0 ≤ x by omega)
    have h1 : (ly_row i).1 = (c, n) := h
    rw [ly_out (by show 5342 ≤ i; omega)] at h1
    exact hc (congrArg Prod.fst h1).symm
theorem hk_p {D : ga_D} {x : Int} {t : Nat} (h : (hk D x).1 = t) : hk D x = (t, (hk D x).2) := by rw [← h]
/-- a thing with a kind stands behind 0 -/
theorem hk_pos {D : ga_D} {x : Int} {c : Nat} {n : Int} (h : hk D x = (c, n)) (hc : c ≠ 9999) : 0 ≤ x := by
  rcases Int.lt_or_le x 0 with h1 | h1
  · exfalso
    unfold hk at h
    rw [if_pos (by omega)] at h
    cases x with
    | ofNat i => exact absurd h1 (Int.not_lt.mpr (Int.natCast_nonneg i))
    | negSucc i => exact hc (congrArg Prod.fst (h : ((9999 : Nat), (0 : Int)) = (c, n))).symm
  · exact h1
theorem ly_ge (c : Nat) : (List.range ly_N).all (fun i => !(decide ((ly_row i).1.1 = c)) || decide (4096 ≤ i)) = true → c ≠ 9999 → ∀ {x : Int} {n : Int}, ga_K x = (c, n) → 4096 ≤ x := by
  intro hall hc x n h
  have h0 := ly_all (fun i r => !(decide (r.1.1 = c)) || decide (4096 ≤ i)) (fun i => by
    have : decide ((((9999, 0), []) : ly_R).1.1 = c) = false := decide_eq_false (fun q => hc q.symm)
    rw [this]; rfl) hall
  cases x with
  | negSucc i => exact absurd (congrArg Prod.fst (h : ((9999 : Nat), (0 : Int)) = (c, n))).symm hc
  | ofNat i =>
    have h1 := h0 i
    have h2 : decide ((ly_row i).1.1 = c) = true := decide_eq_true (congrArg Prod.fst (h : (ly_row i).1 = (c, n)))
    rw [h2] at h1
    exact Int.ofNat_le.mpr (of_decide_eq_true (by simpa using h1))
theorem hk_ge {D : ga_D} {x : Int} {c : Nat} {n : Int} (h : hk D x = (c, n)) (hc : c ≠ 9999) (hall : (List.range ly_N).all (fun i => !(decide ((ly_row i).1.1 = c)) || decide (4096 ≤ i)) = true) : 4096 ≤ x := by
  by_cases e : x < 5342
  · refine ly_ge c hall hc (n := n) ?_
    rw [← h]
    unfold hk
    rw [if_pos e]
  · omega
theorem hPn {D : ga_D} {x j : Int} {c : Nat} {n : Int} (h : hk D x = (c, n)) (hf : ly_pf c j = true) : ga_P0 x j = none := by
  by_cases e : x < 5342
  · refine ga_Pn (c := c) (n := n) ?_ hf
    rw [← h]
    unfold hk
    rw [if_pos e]
  · obtain ⟨i, rfl⟩ := Int.eq_ofNat_of_zero_le (show 0 ≤ x by omega)
    show ly_p (ly_row i) j = none
    rw [ly_out (by show 5342 ≤ i; omega)]
    cases j <;> rfl
theorem hM_set {D : ga_D} {x j v : Int} (hx : 0 ≤ x) (hj : 0 ≤ j) : hM (ga_set D x j v) = aw_set (hM D) x j v := by
  unfold hM
  rw [hn_set hx, show hk (ga_set D x j v) = hk D from funext fun y => hk_set hj]
  rfl
theorem hM_cp {D : ga_D} {x sp y dp n : Int} (hy : 0 ≤ y) (hp : 0 ≤ dp) : hM (ga_cp D x sp y dp n) = aw_cp (hM D) x sp y dp n := by
  unfold hM
  rw [hn_cp hy, show hk (ga_cp D x sp y dp n) = hk D from funext fun z => hk_cp hp]
  rfl
theorem hsl_set {D : ga_D} {x j v : Int} (hx : 0 ≤ x) : hsl (ga_set D x j v) = hsl D := ga_sx (by omega)
theorem hsl_cp {D : ga_D} {x sp y dp n : Int} (hy : 0 ≤ y) : hsl (ga_cp D x sp y dp n) = hsl D := if_neg (fun q => by have := q.1; omega)
theorem ga_C0_lt {x j v : Int} (h : ga_C0 x j = some v) : 0 ≤ x ∧ x < 4096 := by
  unfold ga_C0 at h
  cases x with
  | negSucc i => cases h
  | ofNat i =>
    cases j with
    | negSucc k => cases h
    | ofNat k =>
      have h1 : lc_at i k = some v := h
      refine ⟨Int.natCast_nonneg i, ?_⟩
      by_cases e : i < 4096
      · show (i : Int) < 4096; omega
      · exfalso
        unfold lc_at at h1
        have h2 : lc_T.length ≤ 64 := by decide +kernel
        rw [show lc_T.getD (i / 64) [] = [] by rw [List.getD_eq_getElem?_getD, List.getElem?_eq_none (by omega)]; rfl] at h1
        cases h1
theorem ga_Cset {D D1 : ga_D} {x j v : Int} (e : D1 = ga_set D x j v) (h : ga_C D) (hx : 4096 ≤ x) : ga_C D1 := by
  subst e
  intro a b w hw
  have h1 := ga_C0_lt hw
  rw [ga_sx (by omega)]
  exact h a b w hw
theorem ga_Ccp {D D1 : ga_D} {x sp y dp n : Int} (e : D1 = ga_cp D x sp y dp n) (h : ga_C D) (hy : 4096 ≤ y) : ga_C D1 := by
  subst e
  intro a b w hw
  have h1 := ga_C0_lt hw
  rw [show ga_cp D x sp y dp n a b = D a b from if_neg (fun q => by have := q.1; omega)]
  exact h a b w hw
theorem h_P.set {D D1 : ga_D} {x j v : Int} (e : D1 = ga_set D x j v) (h : h_P D) (hx : 4096 ≤ x) (hj : 0 ≤ j) (hn0 : ga_P0 x j = none) : h_P D1 := by
  refine ⟨ga_Pset e h.1 hn0, ?_, fun y hy => ?_, ga_Cset e h.2.2.2 hx⟩
  · rw [e, hn_set (by omega)]; exact h.2.1
  · rw [e, hn_set (by omega)] at hy
    rw [e, hk_set hj]; exact h.2.2.1 y hy
theorem h_P.cp {D D1 : ga_D} {x sp y dp n : Int} (e : D1 = ga_cp D x sp y dp n) (h : h_P D) (hy : 4096 ≤ y) (hp : 0 ≤ dp) (hn0 : ∀ j, ga_P0 y j = none) : h_P D1 := by
  refine ⟨ga_Pcp e h.1 hn0, ?_, fun z hz => ?_, ga_Ccp e h.2.2.2 hy⟩
  · rw [e, hn_cp (by omega)]; exact h.2.1
  · rw [e, hn_cp (by omega)] at hz
    rw [e, hk_cp hp]; exact h.2.2.1 z hz
theorem h_E_set {D D1 : ga_D} {x j v : Int} (e : D1 = ga_set D x j v) (hj : 0 ≤ j) : h_E D D1 := fun y _ => by rw [e, hk_set hj]
theorem h_E_cp {D D1 : ga_D} {x sp y dp n : Int} (e : D1 = ga_cp D x sp y dp n) (hp : 0 ≤ dp) : h_E D D1 := fun z _ => by rw [e, hk_cp hp]
theorem hk_newf {D : ga_D} {n s : Int} {c : Nat} (h : 5342 ≤ hn D) (x : Int) : hk (h_new D (c : Int) n s) x = if x = hn D then (c, n) else hk D x := by
  by_cases e : x = hn D
  · rw [if_pos e, e]; exact hk_new h c rfl
  · rw [if_neg e]
    by_cases e2 : x < 5342
    · unfold hk; rw [if_pos e2, if_pos e2]
    · exact hk_new_o (by omega) e
theorem h_P.new {D D1 : ga_D} {n s c0 : Int} {c : Nat} (e : D1 = h_new D c0 n s) (hc : c0 = (c : Int)) (h : h_P D) : h_P D1 := by
  subst hc
  subst e
  obtain ⟨h1, h2, h3, h4⟩ := h
  refine ⟨fun a b w hw => ?_, by rw [hn_new]; omega, fun x hx => ?_, fun a b w hw => ?_⟩
  · have ha : 0 ≤ a ∧ a < 5342 := by
      cases a with
      | negSucc i => cases (show (none : Option Int) = some w by rw [← hw]; unfold ga_P0 ly_at ly_p; cases b <;> rfl)
      | ofNat i =>
        rcases Nat.lt_or_ge i ly_N with g | g
        · have : i < 5342 := g
          exact ⟨Int.natCast_nonneg i, by show (i : Int) < 5342; omega⟩
        · have hw2 : ly_p (ly_row i) b = some w := hw
          rw [ly_out g] at hw2
          cases b <;> cases hw2
    rw [new_o ha.1 (by omega)]
    exact h1 a b w hw
  · rw [hn_new] at hx
    rw [hk_newf h2, if_neg (by omega)]
    exact h3 x (by omega)
  · have h9 := ga_C0_lt hw
    rw [new_o h9.1 (by omega)]
    exact h4 a b w hw
theorem h_E_new {D D1 : ga_D} {n s c0 : Int} {c : Nat} (e : D1 = h_new D c0 n s) (hc : c0 = (c : Int)) (h : h_P D) : h_E D D1 := by
  subst hc
  subst e
  intro x hx
  rw [hk_newf h.2.1, if_neg (fun q => hx (h.2.2.1 x (by omega)))]
theorem aw_rep_cong {G : aw_G} {M M' : aw_M} {H : Heap} (h1 : aw_n M' = aw_n M) (h2 : aw_k M' = aw_k M) (h3 : ∀ a b : Int, 0 ≤ a → 0 ≤ b → aw_d M' a b = aw_d M a b) (hr : aw_rep G M H) : aw_rep G M' H := by
  refine ⟨by rw [h1]; exact hr.1, by rw [h1]; exact hr.2.1, ⟨hr.2.2.1.1, fun k hk0 => ⟨by rw [h2]; exact (hr.2.2.1.2 k hk0).1, fun j z hj => ?_⟩⟩, fun k hge hk0 => ?_, fun x hx => by rw [h1] at hx; rw [h2]; exact hr.2.2.2.2 x hx⟩
  · have hj0 : 0 ≤ j := by
      cases j with
      | ofNat i => exact Int.natCast_nonneg i
      | negSucc i => cases hj
    rw [h3 _ _ (Int.natCast_nonneg k) hj0]
    exact (hr.2.2.1.2 k hk0).2 j z hj
  · rw [h1] at hk0
    have g := hr.2.2.2.1 k hge hk0
    refine ⟨fun c q e1 e2 => ?_, fun t n ty e1 e2 => ?_⟩
    · rw [h2] at e1
      obtain ⟨g1, g2⟩ := g.1 c q e1 e2
      exact ⟨g1.to (fun i _ => by rw [h3 _ _ (Int.natCast_nonneg k) (Int.natCast_nonneg i)]), fun i hi => by rw [h3 _ _ (Int.natCast_nonneg k) (Int.natCast_nonneg i), h2]; exact g2 i hi⟩
    · rw [h2] at e1
      obtain ⟨g1, g2, g3, g4⟩ := g.2 t n ty e1 e2
      refine ⟨g1, g2, ?_, fun i i0 i1 => by rw [h3 _ _ (Int.natCast_nonneg k) i0, h2]; exact g4 i i0 i1⟩
      rw [g3]
      congr 2
      funext i
      rw [h3 _ _ (Int.natCast_nonneg k) (Int.natCast_nonneg i)]
section AHW
variable {G : aw_G} {own : String} {cc : ByteArray} {ret : Option FieldType} {nL d : Nat} {ini : Bool} {M0 : aw_M} {Q : Option aw_V → aw_M → Prop} {X : String → aw_M → Prop} {pc : Nat} {ls : List (Nat × aw_V)} {st : List aw_V}
theorem aw_cong {c sl : Nat} {M M' : aw_M} (h1 : aw_n M' = aw_n M) (h2 : aw_k M' = aw_k M) (h3 : ∀ a b : Int, 0 ≤ a → 0 ≤ b → aw_d M' a b = aw_d M a b) (k : aw_W G own cc ret nL d ini M0 Q X c sl pc ls st M') : aw_W G own cc ret nL d ini M0 Q X c sl pc ls st M := by
  intro p l e R s m args below meth cd H locs cells slots C hr he ho hz hc hs lsA hlv hlo hso
  exact k _ C (aw_rep_cong h1 h2 h3 hr) ⟨by rw [h1]; exact he.1, fun x hx => by rw [h2]; exact he.2 x hx⟩ ho hz hc hs lsA hlv (by rw [h2]; exact hlo) (by rw [h2]; exact hso)
/-- the judgement: from here to the end D', with N cells and S slots in use at the end -/
def aw_HW (G : aw_G) (own : String) (cc : ByteArray) (ret : Option FieldType) (nL d : Nat) (ini : Bool) (M0 : aw_M) (Q : Option aw_V → aw_M → Prop) (X : String → aw_M → Prop) (D' : ga_D) (N S : Int) (pc : Nat) (ls : List (Nat × aw_V)) (st : List aw_V) (D : ga_D) : Prop :=
  h_P D' ∧ h_E D D' ∧ ∃ c sl : Nat, hn D + c = N ∧ hsl D + sl = S ∧ aw_W G own cc ret nL d ini M0 Q X c sl pc ls st (hM D)
variable {D D' : ga_D} {N S : Int}
theorem hw_1 {pc' : Nat} {ls' : List (Nat × aw_V)} {st' : List aw_V} (f : ∀ {c sl : Nat}, aw_W G own cc ret nL d ini M0 Q X c sl pc' ls' st' (hM D) → aw_W G own cc ret nL d ini M0 Q X c sl pc ls st (hM D))
    (k : aw_HW G own cc ret nL d ini M0 Q X D' N S pc' ls' st' D) : aw_HW G own cc ret nL d ini M0 Q X D' N S pc ls st D := by
  obtain ⟨h1, h2, c, sl, h3, h4, h5⟩ := k
  exact ⟨h1, h2, c, sl, h3, h4, f h5⟩
theorem hw_nm {t : Nat} {a z : Int} (h : z = a) (k : aw_HW G own cc ret nL d ini M0 Q X D' N S pc ls ((t, z) :: st) D) : aw_HW G own cc ret nL d ini M0 Q X D' N S pc ls ((t, a) :: st) D := h ▸ k
theorem hw_locs {ls' : List (Nat × aw_V)} (ks : List Nat) (h : ks.filterMap (fun k => ls[k]?) = ls') (k : aw_HW G own cc ret nL d ini M0 Q X D' N S pc ls' st D) : aw_HW G own cc ret nL d ini M0 Q X D' N S pc ls st D :=
  hw_1 (fun k => x_locs ks h k) k
theorem hw_ret (hP : h_P D) (k : aw_W G own cc ret nL d ini M0 Q X 0 0 pc ls st (hM D)) : aw_HW G own cc ret nL d ini M0 Q X D (hn D) (hsl D) pc ls st D :=
  ⟨hP, h_E.rf, 0, 0, by omega, by omega, k⟩
theorem hw_set {D1 : ga_D} {x j v : Int} {pc' : Nat} {ls' : List (Nat × aw_V)} {st' : List aw_V} (e : D1 = ga_set D x j v) (hx : 0 ≤ x) (hj : 0 ≤ j)
    (f : ∀ {c sl : Nat}, aw_W G own cc ret nL d ini M0 Q X c sl pc' ls' st' (aw_set (hM D) x j v) → aw_W G own cc ret nL d ini M0 Q X c sl pc ls st (hM D))
    (k : aw_HW G own cc ret nL d ini M0 Q X D' N S pc' ls' st' D1) : aw_HW G own cc ret nL d ini M0 Q X D' N S pc ls st D := by
  obtain ⟨h1, h2, c, sl, h3, h4, h5⟩ := k
  subst e
  rw [hM_set hx hj] at h5
  rw [hn_set hx] at h3
  rw [hsl_set hx] at h4
  exact ⟨h1, (h_E_set rfl hj).tr h2, c, sl, h3, h4, f h5⟩
theorem hw_cp {D1 : ga_D} {x sp y dp n : Int} {pc' : Nat} {ls' : List (Nat × aw_V)} {st' : List aw_V} (e : D1 = ga_cp D x sp y dp n) (hy : 0 ≤ y) (hp : 0 ≤ dp)
    (f : ∀ {c sl : Nat}, aw_W G own cc ret nL d ini M0 Q X c sl pc' ls' st' (aw_cp (hM D) x sp y dp n) → aw_W G own cc ret nL d ini M0 Q X c sl pc ls st (hM D))
    (k : aw_HW G own cc ret nL d ini M0 Q X D' N S pc' ls' st' D1) : aw_HW G own cc ret nL d ini M0 Q X D' N S pc ls st D := by
  obtain ⟨h1, h2, c, sl, h3, h4, h5⟩ := k
  subst e
  rw [hM_cp hy hp] at h5
  rw [hn_cp hy] at h3
  rw [hsl_cp hy] at h4
  exact ⟨h1, (h_E_cp rfl hp).tr h2, c, sl, h3, h4, f h5⟩
/-- a step that makes cells and may change all -/
theorem hw_go {D1 : ga_D} {pc' : Nat} {ls' : List (Nat × aw_V)} {st' : List aw_V}
    (f : h_E D D1 ∧ ∃ mc ms : Nat, hn D + mc = hn D1 ∧ hsl D + ms = hsl D1 ∧ ∀ {c sl : Nat}, aw_W G own cc ret nL d ini M0 Q X c sl pc' ls' st' (hM D1) → aw_W G own cc ret nL d ini M0 Q X (c + mc) (sl + ms) pc ls st (hM D))
    (k : aw_HW G own cc ret nL d ini M0 Q X D' N S pc' ls' st' D1) : aw_HW G own cc ret nL d ini M0 Q X D' N S pc ls st D := by
  obtain ⟨h1, h2, c, sl, h3, h4, h5⟩ := k
  obtain ⟨f1, mc, ms, f2, f3, f4⟩ := f
  exact ⟨h1, f1.tr h2, c + mc, sl + ms, by omega, by omega, f4 h5⟩
theorem hM_new {n s c0 : Int} {c : Nat} {D1 : ga_D} (e : D1 = h_new D c0 n s) (hc : c0 = (c : Int)) (hP : h_P D) : aw_n (hM D1) = aw_n (aw_new (hM D) (c, n)) ∧ aw_k (hM D1) = aw_k (aw_new (hM D) (c, n)) ∧ ∀ a b : Int, 0 ≤ a → 0 ≤ b → aw_d (hM D1) a b = aw_d (aw_new (hM D) (c, n)) a b := by
  subst hc
  subst e
  refine ⟨(hn_new (D := D) (c := (c : Int)) (n := n) (s := s)), funext fun x => hk_newf hP.2.1 x, fun a b ha hb => ?_⟩
  show h_new D (c : Int) n s a b = if a = hn D then 0 else D a b
  by_cases e : a = hn D
  · rw [if_pos e, e]; exact new_0 hP.2.1 hb
  · rw [if_neg e, new_o ha e]
theorem hy_new {index cN nS : Nat} {z c0 s0 : Int} {D1 : ga_D} {q : aw_Q} {C : String} (hP : h_P D) (hz : z = hn D) (hD : D1 = h_new D c0 0 s0) (hc : c0 = (cN : Int)) (hs : s0 = (nS : Int)) (hd : decode cc pc = .ok (.new index, 3)) (hq : aw_cls[cN]? = some q) (hC : q.1 = C) (h1 : Cond.classLink own index C ∈ lw_all) (h2 : Cond.instantiable C nS ∈ lw_all) (h3 : Cond.initialized C ∈ lw_all)
    (k : h_P D1 → h_E D D1 → hk D1 z = (cN, 0) → 5342 ≤ z → aw_HW G own cc ret nL d ini M0 Q X D' N S (pc + 3) ls ((2, z) :: st) D1) : aw_HW G own cc ret nL d ini M0 Q X D' N S pc ls st D := by
  have hE := h_E_new hD hc hP
  obtain ⟨g1, g2, g3⟩ := hM_new hD hc hP
  refine hw_go (D1 := D1) ⟨hE, 1, nS, ?_, ?_, fun {c sl} w => ?_⟩ (k (hP.new hD hc) hE ?_ (by rw [hz]; exact hP.2.1))
  · rw [hD, hn_new]; rfl
  · rw [hD, hs]; exact sl_new.symm
  · exact y_new (M1 := aw_new (hM D) (cN, 0)) hz rfl hd hq hC h1 h2 h3 (fun _ _ => aw_cong g1 g2 g3 w)
  · have := congrFun g2 z
    rw [show hk D1 z = aw_k (hM D1) z from rfl, this, hz]
    exact if_pos rfl
theorem hy_newa {t : Nat} {n z c0 s0 : Int} {D1 : ga_D} {atype : ArrayType} (hP : h_P D) (hz : z = hn D) (hD : D1 = h_new D c0 n s0) (hc : c0 = ((1000 + t : Nat) : Int)) (hs : s0 = n) (hd : decode cc pc = .ok (.newarray atype, 2)) (ht : aw_ats[t]? = some (newarray.typeOf atype)) (ht6 : t < 5) (hw : Cond.arrayClass (newarray.typeOf atype) ∈ lw_all) (h0 : 0 ≤ n) (hb : n ≤ 60000000)
    (k : h_P D1 → h_E D D1 → hk D1 z = (1000 + t, n) → 5342 ≤ z → aw_HW G own cc ret nL d ini M0 Q X D' N S (pc + 2) ls ((2, z) :: st) D1) : aw_HW G own cc ret nL d ini M0 Q X D' N S pc ls ((0, n) :: st) D := by
  have hE := h_E_new hD hc hP
  obtain ⟨g1, g2, g3⟩ := hM_new hD hc hP
  refine hw_go (D1 := D1) ⟨hE, 1, n.toNat, ?_, ?_, fun {c sl} w => ?_⟩ (k (hP.new hD hc) hE ?_ (by rw [hz]; exact hP.2.1))
  · rw [hD, hn_new]; rfl
  · have e1 : hsl D1 = hsl D + s0 := by rw [hD]; exact sl_new
    rw [e1, hs]
    omega
  · exact y_newa (M1 := aw_new (hM D) (1000 + t, n)) hz rfl hd ht ht6 hw h0 hb (fun _ => aw_cong g1 g2 g3 w)
  · have := congrFun g2 z
    rw [show hk D1 z = aw_k (hM D1) z from rfl, this, hz]
    exact if_pos rfl
theorem hy_anew {t index : Nat} {n z c0 s0 : Int} {D1 : ga_D} {C : String} (hP : h_P D) (hz : z = hn D) (hD : D1 = h_new D c0 n s0) (hc : c0 = ((1000 + t : Nat) : Int)) (hs : s0 = n) (hd : decode cc pc = .ok (.anewarray index, 3)) (ht : aw_ats[t]? = some (.object C)) (hC : C ∈ aw_aos) (hw : Cond.classLink own index C ∈ lw_all) (h0 : 0 ≤ n) (hb : n ≤ 60000000)
    (k : h_P D1 → h_E D D1 → hk D1 z = (1000 + t, n) → 5342 ≤ z → aw_HW G own cc ret nL d ini M0 Q X D' N S (pc + 3) ls ((2, z) :: st) D1) : aw_HW G own cc ret nL d ini M0 Q X D' N S pc ls ((0, n) :: st) D := by
  have hE := h_E_new hD hc hP
  obtain ⟨g1, g2, g3⟩ := hM_new hD hc hP
  refine hw_go (D1 := D1) ⟨hE, 1, n.toNat, ?_, ?_, fun {c sl} w => ?_⟩ (k (hP.new hD hc) hE ?_ (by rw [hz]; exact hP.2.1))
  · rw [hD, hn_new]; rfl
  · have e1 : hsl D1 = hsl D + s0 := by rw [hD]; exact sl_new
    rw [e1, hs]
    omega
  · exact y_anew (M1 := aw_new (hM D) (1000 + t, n)) hz rfl hd ht hC hw h0 hb (fun _ => aw_cong g1 g2 g3 w)
  · have := congrFun g2 z
    rw [show hk D1 z = aw_k (hM D1) z from rfl, this, hz]
    exact if_pos rfl
end AHW
/-- a method's contract in heap mode: it ends at D' with the answer v, and what it made is counted -/
def aw_HR (y : MethodName) (cc : ByteArray) (nL : Nat) (ret : Option FieldType) (d : Nat) (G : aw_G) (as : List aw_V) (D : ga_D) (v : Option aw_V) (D' : ga_D) : Prop :=
  h_P D' ∧ h_E D D' ∧ ∃ (c sl : Nat) (Qc : Option aw_V → aw_M → Prop), hn D + c = hn D' ∧ hsl D + sl = hsl D' ∧ (∀ w M, Qc w M → v = w ∧ M = hM D') ∧ aw_Runs y cc nL ret d c sl G as (hM D) Qc aw_no
theorem hw_body {y : MethodName} {own : String} {cc : ByteArray} {nL d : Nat} {ret : Option FieldType} {ini : Bool} {G : aw_G} {as : List aw_V} {D D' : ga_D} {v : Option aw_V} {ls : List (Nat × aw_V)}
    (hy : plainName y.cls = true) (hown : y.cls = own) (hini : ini = true → y.name = "<init>") (hlen : aw_cw as ≤ nL) (hls : aw_args 0 as = ls)
    (body : ∀ Q : Option aw_V → aw_M → Prop, Q v (hM D') → aw_HW G own cc ret nL d ini (hM D) Q aw_no D' (hn D') (hsl D') 0 ls [] D) (hnh : ¬ aw_hs cc := by exact aw_hsn (by decide +kernel)) : aw_HR y cc nL ret d G as D v D' := by
  obtain ⟨h1, h2, c, sl, h3, h4, h5⟩ := body (fun w M => v = w ∧ M = hM D') ⟨rfl, rfl⟩
  exact ⟨h1, h2, c, sl, _, h3, h4, fun _ _ h => h, aw_body hy hown hini hlen hls h5 hnh⟩
theorem hw_st {D : ga_D} (hP : h_P D) : aw_St (hM D) := ⟨fun _ _ _ h hc => hkS h hc, hP.2.1⟩
/-- a method of a module whose cells are all laid at the start -/
theorem hg_st {y : MethodName} {cc : ByteArray} {nL d : Nat} {ret : Option FieldType} {G : aw_G} {as : List aw_V} {D D1 : ga_D} {v : Option aw_V} {lo hi r : Int} {f : ga_S} (hP : h_P D) (hlo : 4096 ≤ lo) (hhi : hi ≤ 5342) (hf : ga_fr lo hi D f) (hp : ga_pr D f) (hv : f = some (r, D1))
    (hR : aw_St (hM D) → ga_P D → aw_Runs y cc nL ret d 0 0 G as (aw_wD (hM D) D) (aw_isP v (aw_wD (hM D) D1)) aw_no) : aw_HR y cc nL ret d G as D v D1 := by
  have hsame : ∀ x : Int, x < lo ∨ hi ≤ x → D1 x = D x := hf r D1 hv
  have e1 : hn D1 = hn D := congrFun (hsame (-1) (by omega)) 0
  have e2 : hsl D1 = hsl D := congrFun (hsame (-1) (by omega)) 1
  have e3 : hk D1 = hk D := funext fun x => by
    unfold hk
    by_cases e : x < 5342
    · rw [if_pos e, if_pos e]
    · rw [if_neg e, if_neg e, hsame x (by omega)]
  have e4 : aw_wD (hM D) D1 = hM D1 := by
    unfold aw_wD hM
    rw [e1, e3]
  refine ⟨⟨hp hP.1 r D1 hv, by rw [e1]; exact hP.2.1, (fun x hx => by rw [e3]; exact hP.2.2.1 x (by omega)), fun a b w hw => by rw [hsame a (by have := ga_C0_lt hw; omega)]; exact hP.2.2.2 a b w hw⟩, fun x _ => by rw [e3], 0, 0, _, by omega, by omega, fun w M h => ⟨h.1, h.2.1.symm.trans e4⟩, hR (hw_st hP) hP.1⟩
section AHX
variable {G : aw_G} {own : String} {cc : ByteArray} {ret : Option FieldType} {nL d : Nat} {ini : Bool} {M0 : aw_M} {Q : Option aw_V → aw_M → Prop} {X : String → aw_M → Prop} {pc : Nat} {ls : List (Nat × aw_V)} {st : List aw_V} {D D' : ga_D} {N S : Int}
theorem hw_call {D1 : ga_D} {y : MethodName} {cc' : ByteArray} {nL' d' pc' : Nat} {ret' : Option FieldType} {as rest : List aw_V} {v : Option aw_V} (hR : aw_HR y cc' nL' ret' d' G as D v D1)
    (f : ∀ {c sl mc ms : Nat} {Qc : Option aw_V → aw_M → Prop}, aw_Runs y cc' nL' ret' d' mc ms G as (hM D) Qc aw_no → (∀ (r : Option aw_V) (M' : aw_M), Qc r M' → aw_ext (hM D) M' → aw_W G own cc ret nL d ini M0 Q X c sl pc' ls (r.toList ++ rest) M') → aw_W G own cc ret nL d ini M0 Q X (c + mc) (sl + ms) pc ls st (hM D))
    (k : aw_HW G own cc ret nL d ini M0 Q X D' N S pc' ls (v.toList ++ rest) D1) : aw_HW G own cc ret nL d ini M0 Q X D' N S pc ls st D := by
  obtain ⟨-, g1, mc, ms, Qc, g2, g3, g4, g5⟩ := hR
  refine hw_go (D1 := D1) ⟨g1, mc, ms, g2, g3, fun w => f g5 (fun r M' hq _ => ?_)⟩ k
  obtain ⟨rfl, rfl⟩ := g4 r M' hq
  exact w
end AHX
theorem h_mx {D D1 : ga_D} (h : h_E D D1) {x : Int} {L : List Nat} (hx : (hk D x).1 ∈ L ∧ (hk D x).2 = 0) (hL : 9999 ∉ L) : (hk D1 x).1 ∈ L ∧ (hk D1 x).2 = 0 := by
  rw [h x (fun q => hL (by rw [q] at hx; exact hx.1))]
  exact hx
theorem hk_pos1 {D : ga_D} {x : Int} {c : Nat} {n : Int} (h : hk D x = (c, n)) (hc : c ≠ 9999) : 0 < x := by
  have h0 := hk_pos h hc
  by_cases e : x = 0
  · subst e
    have h1 : hk D 0 = (9999, 0) := by
      unfold hk
      rw [if_pos (by decide)]
      decide +kernel
    rw [h1] at h
    exact absurd (congrArg Prod.fst h).symm hc
  · omega
theorem ga_bnd_some {f : ga_S} {k : Int → ga_D → ga_S} {r : Int} {D' : ga_D} (hr : r < 1180591620717411303424) (h : ga_bnd f k = some (r, D')) : ∃ (r1 : Int) (D1 : ga_D), f = some (r1, D1) ∧ r1 < 1180591620717411303424 ∧ k r1 D1 = some (r, D') := by
  cases f with
  | none => cases h
  | some p =>
    have h1 : (if 1180591620717411303424 ≤ p.1 then some p else k p.1 p.2) = some (r, D') := h
    by_cases e : 1180591620717411303424 ≤ p.1
    · rw [if_pos e] at h1
      have h2 := Option.some.inj h1
      have h3 : p.1 = r := congrArg Prod.fst h2
      omega
    · rw [if_neg e] at h1
      exact ⟨p.1, p.2, rfl, by omega, h1⟩
section AHY
variable {G : aw_G} {own : String} {cc : ByteArray} {ret : Option FieldType} {nL d : Nat} {ini : Bool} {M0 : aw_M} {Q : Option aw_V → aw_M → Prop} {X : String → aw_M → Prop} {pc : Nat} {ls : List (Nat × aw_V)} {st : List aw_V} {D D' : ga_D} {N S : Int}
/-- a call, as a step (several methods may be meant) -/
theorem hw_callM {D1 : ga_D} {y : MethodName} {cc' : ByteArray} {nL' d' pc' : Nat} {ret' : Option FieldType} {as rest : List aw_V} {v : Option aw_V} (hR : aw_HR y cc' nL' ret' d' G as D v D1)
    (f : ∀ {c sl mc ms : Nat} {Qc : Option aw_V → aw_M → Prop}, aw_Runs y cc' nL' ret' d' mc ms G as (hM D) Qc aw_no → (∀ (r : Option aw_V) (M' : aw_M), Qc r M' → aw_ext (hM D) M' → aw_W G own cc ret nL d ini M0 Q X c sl pc' ls (r.toList ++ rest) M') → aw_W G own cc ret nL d ini M0 Q X (c + mc) (sl + ms) pc ls st (hM D)) :
    h_P D1 ∧ h_E D D1 ∧ ∃ mc ms : Nat, hn D + mc = hn D1 ∧ hsl D + ms = hsl D1 ∧ ∀ {c sl : Nat}, aw_W G own cc ret nL d ini M0 Q X c sl pc' ls (v.toList ++ rest) (hM D1) → aw_W G own cc ret nL d ini M0 Q X (c + mc) (sl + ms) pc ls st (hM D) := by
  obtain ⟨g0, g1, mc, ms, Qc, g2, g3, g4, g5⟩ := hR
  refine ⟨g0, g1, mc, ms, g2, g3, fun w => f g5 (fun r M' hq _ => ?_)⟩
  obtain ⟨rfl, rfl⟩ := g4 r M' hq
  exact w
end AHY
