/-! the fixed pointers stay, through the printed functions of the laid modules -/
set_option maxRecDepth 100000
def ga_pr (D : ga_D) (f : ga_S) : Prop := ga_P D → ∀ (r : Int) (D' : ga_D), f = some (r, D') → ga_P D'
section PR
variable {D : ga_D}
theorem pr_none : ga_pr D none := fun _ _ _ h => by cases h
theorem pr_some {r : Int} : ga_pr D (some (r, D)) := fun hP _ _ h => by cases h; exact hP
theorem pr_ck {p : Prop} [Decidable p] {k : ga_S} (h : p → ga_pr D k) : ga_pr D (ga_ck p k) := fun hP r D' e => by
  obtain ⟨hp, e2⟩ := ga_ck_some e
  exact h hp hP r D' e2
theorem pr_let {α : Type} {a : α} {k : α → ga_S} (h : ∀ v, ga_pr D (k v)) : ga_pr D (ga_let a k) := h a
theorem pr_ite {p : Prop} [Decidable p] {a b : ga_S} (h1 : p → ga_pr D a) (h2 : ¬p → ga_pr D b) : ga_pr D (if p then a else b) := by
  by_cases h : p
  · rw [if_pos h]; exact h1 h
  · rw [if_neg h]; exact h2 h
theorem pr_upd {x j v : Int} {k : ga_D → ga_S} (hx : ga_P0 x j = none) (h : ∀ D1, ga_pr D1 (k D1)) : ga_pr D (ga_let (ga_set D x j v) k) := fun hP r D' e => h _ (ga_Pset rfl hP hx) r D' e
theorem pr_cpy {x sp y dp n : Int} {k : ga_D → ga_S} (hx : ∀ j, ga_P0 y j = none) (h : ∀ D1, ga_pr D1 (k D1)) : ga_pr D (ga_let (ga_cp D x sp y dp n) k) := fun hP r D' e => h _ (ga_Pcp rfl hP hx) r D' e
theorem pr_bind {f : ga_S} {k : Int → ga_D → ga_S} (hf : ga_pr D f) (h : ∀ r D1, ga_pr D1 (k r D1)) : ga_pr D (ga_bind f k) := fun hP r D' e => by
  obtain ⟨r1, D1, e1, e2⟩ := ga_bind_some e
  exact h r1 D1 (hf hP r1 D1 e1) r D' e2
end PR
