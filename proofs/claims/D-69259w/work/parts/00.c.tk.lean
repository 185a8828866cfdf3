/-! pure toolkit: frames, rewriting -/
set_option maxRecDepth 100000
/-- what comes back differs from D inside [lo, hi) alone -/
def ga_fr (lo hi : Int) (D : ga_D) (f : ga_S) : Prop := ∀ (r : Int) (D' : ga_D), f = some (r, D') → ∀ x : Int, x < lo ∨ hi ≤ x → D' x = D x
section FR
variable {lo hi : Int} {D : ga_D}
theorem fr_none : ga_fr lo hi D none := fun _ _ h => by cases h
theorem fr_some {r : Int} : ga_fr lo hi D (some (r, D)) := fun _ _ h => by cases h; exact fun _ _ => rfl
theorem fr_ck {p : Prop} [Decidable p] {k : ga_S} (h : p → ga_fr lo hi D k) : ga_fr lo hi D (ga_ck p k) := fun r D' e => by
  obtain ⟨hp, e2⟩ := ga_ck_some e
  exact h hp r D' e2
theorem fr_let {α : Type} {a : α} {k : α → ga_S} (h : ∀ v, ga_fr lo hi D (k v)) : ga_fr lo hi D (ga_let a k) := h a
theorem fr_ite {p : Prop} [Decidable p] {a b : ga_S} (h1 : p → ga_fr lo hi D a) (h2 : ¬p → ga_fr lo hi D b) : ga_fr lo hi D (if p then a else b) := by
  by_cases h : p
  · rw [if_pos h]; exact h1 h
  · rw [if_neg h]; exact h2 h
theorem fr_upd {x j v : Int} {k : ga_D → ga_S} (hx : lo ≤ x ∧ x < hi) (h : ∀ D1, ga_fr lo hi D1 (k D1)) : ga_fr lo hi D (ga_let (ga_set D x j v) k) := fun r D' e y hy => by
  rw [h _ r D' e y hy]
  funext b
  exact if_neg (fun q => by omega)
theorem fr_cpy {x sp y dp n : Int} {k : ga_D → ga_S} (hx : lo ≤ y ∧ y < hi) (h : ∀ D1, ga_fr lo hi D1 (k D1)) : ga_fr lo hi D (ga_let (ga_cp D x sp y dp n) k) := fun r D' e z hz => by
  rw [h _ r D' e z hz]
  funext b
  exact if_neg (fun q => by omega)
theorem fr_bind {f : ga_S} {k : Int → ga_D → ga_S} (hf : ga_fr lo hi D f) (h : ∀ r D1, ga_fr lo hi D1 (k r D1)) : ga_fr lo hi D (ga_bind f k) := fun r D' e y hy => by
  obtain ⟨r1, D1, e1, e2⟩ := ga_bind_some e
  rw [h r1 D1 r D' e2 y hy, hf r1 D1 e1 y hy]
end FR
theorem ga_bs {a : Int} {D : ga_D} {k : Int → ga_D → ga_S} : ga_bind (some (a, D)) k = k a D := Eq.trans (Eq.refl _) (Eq.refl _)
theorem ga_bn {k : Int → ga_D → ga_S} : ga_bind none k = none := Eq.trans (Eq.refl _) (Eq.refl _)
theorem ga_bi {p : Prop} [Decidable p] {a b : ga_S} {k : Int → ga_D → ga_S} : ga_bind (if p then a else b) k = if p then ga_bind a k else ga_bind b k := by split <;> rfl
theorem ga_ct {p : Prop} [Decidable p] {k : ga_S} (h : p) : ga_ck p k = k := if_pos h
theorem ga_le {α : Type} {a : α} {k : α → ga_S} : ga_let a k = k a := Eq.trans (Eq.refl _) (Eq.refl _)
theorem ga_sr {D : ga_D} {a j v x y : Int} : ga_set D a j v x y = if x = a ∧ y = j then v else D x y := rfl
theorem ga_ss {D : ga_D} {a j v : Int} : ga_set D a j v a j = v := if_pos ⟨rfl, rfl⟩
theorem ga_sx {D : ga_D} {a j v x y : Int} (h : x ≠ a) : ga_set D a j v x y = D x y := if_neg (fun q => h q.1)
theorem ga_sy {D : ga_D} {a j v y : Int} (h : y ≠ j) : ga_set D a j v a y = D a y := if_neg (fun q => h q.2)
theorem ga_sc {D : ga_D} {a j v x : Int} (h : x ≠ a) : ga_set D a j v x = D x := funext (fun _ => ga_sx h)
theorem ga_s2 {D : ga_D} {a j v w : Int} : ga_set (ga_set D a j v) a j w = ga_set D a j w := by
  funext x y
  simp only [ga_sr]
  split <;> rfl
theorem cmp_lt {x y : Int} : (aw_cmp x y < 0) = (x < y) := by unfold aw_cmp; apply propext; split <;> (try split) <;> omega
theorem cmp_gt {x y : Int} : (0 < aw_cmp x y) = (y < x) := by unfold aw_cmp; apply propext; split <;> (try split) <;> omega
theorem cmp_le {x y : Int} : (aw_cmp x y ≤ 0) = (x ≤ y) := by unfold aw_cmp; apply propext; split <;> (try split) <;> omega
theorem cmp_ge {x y : Int} : (0 ≤ aw_cmp x y) = (y ≤ x) := by unfold aw_cmp; apply propext; split <;> (try split) <;> omega
theorem cmp_eq {x y : Int} : (aw_cmp x y = 0) = (x = y) := by unfold aw_cmp; apply propext; split <;> (try split) <;> omega
theorem cmi_lt {x y : Int} : aw_cmp x y < 0 ↔ x < y := by rw [cmp_lt]
theorem cmi_gt {x y : Int} : 0 < aw_cmp x y ↔ y < x := by rw [cmp_gt]
theorem cmi_le {x y : Int} : aw_cmp x y ≤ 0 ↔ x ≤ y := by rw [cmp_le]
theorem cmi_ge {x y : Int} : 0 ≤ aw_cmp x y ↔ y ≤ x := by rw [cmp_ge]
theorem cmi_eq {x y : Int} : aw_cmp x y = 0 ↔ x = y := by rw [cmp_eq]
theorem cmi_ne {x y : Int} : aw_cmp x y ≠ 0 ↔ x ≠ y := not_congr cmi_eq
theorem ii_0 {c : Prop} [Decidable c] {A B : ga_S} : (if (if c then (1 : Int) else 0) = 0 then A else B) = if c then B else A := by
  by_cases h : c
  · rw [if_pos h, if_neg (by decide), if_pos h]
  · rw [if_neg h, if_pos rfl, if_neg h]
theorem ii_1 {c : Prop} [Decidable c] {A B : ga_S} : (if (if c then (1 : Int) else 0) ≠ 0 then A else B) = if c then A else B := by
  by_cases h : c
  · rw [if_pos h, if_pos (by decide), if_pos h]
  · rw [if_neg h, if_neg (by decide), if_neg h]
theorem ite_sm {p : Prop} [Decidable p] {a b : Int} {D : ga_D} : (if p then (some (a, D) : ga_S) else some (b, D)) = some (if p then a else b, D) := by split <;> rfl
/-- a loop that is cut short by a measure -/
theorem aw_fuS : ∃ m, aw_fu = m + 100000000 := ⟨900000000, rfl⟩
/-- it comes to an end with P -/
def ga_T (f : ga_S) (P : Int → ga_D → Prop) : Prop := ∃ r D, f = some (r, D) ∧ P r D
section TT
variable {P : Int → ga_D → Prop}
theorem T_some {r : Int} {D : ga_D} (h : P r D) : ga_T (some (r, D)) P := ⟨r, D, rfl, h⟩
theorem T_ck {p : Prop} [Decidable p] {k : ga_S} (hp : p) (h : ga_T k P) : ga_T (ga_ck p k) P := by rw [ga_ct hp]; exact h
theorem T_ite {p : Prop} [Decidable p] {a b : ga_S} (h1 : p → ga_T a P) (h2 : ¬p → ga_T b P) : ga_T (if p then a else b) P := by
  by_cases h : p
  · rw [if_pos h]; exact h1 h
  · rw [if_neg h]; exact h2 h
theorem T_pos {p : Prop} [Decidable p] {a b : ga_S} (hp : p) (h1 : ga_T a P) : ga_T (if p then a else b) P := by rw [if_pos hp]; exact h1
theorem T_neg {p : Prop} [Decidable p] {a b : ga_S} (hp : ¬p) (h1 : ga_T b P) : ga_T (if p then a else b) P := by rw [if_neg hp]; exact h1
theorem T_let {α : Type} {a : α} {k : α → ga_S} (h : ga_T (k a) P) : ga_T (ga_let a k) P := h
theorem T_bind {f : ga_S} {k : Int → ga_D → ga_S} {R : Int → ga_D → Prop} (hf : ga_T f R) (h : ∀ r D, R r D → ga_T (k r D) P) : ga_T (ga_bind f k) P := by
  obtain ⟨r, D, e, hR⟩ := hf
  rw [e]; exact h r D hR
theorem T_be {f : ga_S} {k : Int → ga_D → ga_S} {r : Int} {D : ga_D} (hf : f = some (r, D)) (h : ga_T (k r D) P) : ga_T (ga_bind f k) P := by rw [hf]; exact h
theorem T_mono {f : ga_S} {R : Int → ga_D → Prop} (hf : ga_T f R) (h : ∀ r D, R r D → P r D) : ga_T f P := by
  obtain ⟨r, D, e, hR⟩ := hf
  exact ⟨r, D, e, h r D hR⟩
theorem T_eq {f : ga_S} {r : Int} {D : ga_D} (hf : f = some (r, D)) (h : P r D) : ga_T f P := ⟨r, D, hf, h⟩
/-- a loop: an invariant, a measure that falls -/
theorem T_loop {σ : Type} (g : Nat → σ → ga_S) (I : σ → Prop) (μ : σ → Nat) (h : ∀ n s, I s → (∀ s', I s' → μ s' < μ s → ga_T (g n s') P) → ga_T (g (n + 1) s) P) : ∀ (n : Nat) (s : σ), I s → μ s < n → ga_T (g n s) P := by
  intro n
  induction n with
  | zero => intro s _ hn; exact absurd hn (Nat.not_lt_zero _)
  | succ n ih => intro s hI hn; exact h n s hI (fun s' hI' hm => ih s' hI' (by omega))
end TT
