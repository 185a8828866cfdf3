/-! heap mode: toolkit -/
set_option maxRecDepth 100000
theorem hk_set {D : ga_D} {a j v x : Int} (h : 0 ≤ j) : hk (ga_set D a j v) x = hk D x := by
  have e : ∀ k : Int, k < 0 → ga_set D a j v x k = D x k := fun k hk => if_neg (fun q => by omega)
  unfold hk
  rw [e _ (by decide), e _ (by decide)]
theorem hn_set {D : ga_D} {a j v : Int} (h : 0 ≤ a) : hn (ga_set D a j v) = hn D := by
  unfold hn
  rw [ga_sx (by omega)]
theorem hk_cp {D : ga_D} {x sp y dp n z : Int} (h : 0 ≤ dp) : hk (ga_cp D x sp y dp n) z = hk D z := by
  have e : ∀ j : Int, j < 0 → ga_cp D x sp y dp n z j = D z j := fun j hj => if_neg (fun q => by omega)
  unfold hk
  rw [e _ (by decide), e _ (by decide)]
theorem hn_cp {D : ga_D} {x sp y dp n : Int} (h : 0 ≤ y) : hn (ga_cp D x sp y dp n) = hn D := if_neg (fun q => by omega)
theorem cp_o {D : ga_D} {x sp y dp n z : Int} (h : z ≠ y) : ga_cp D x sp y dp n z = D z := funext (fun _ => if_neg (fun q => h q.1))
theorem cp_y {D : ga_D} {x sp y dp n j : Int} (h : dp ≤ j ∧ j < dp + n) : ga_cp D x sp y dp n y j = D x (sp + (j - dp)) := if_pos ⟨rfl, h⟩
theorem cp_n {D : ga_D} {x sp y dp n j : Int} (h : j < dp ∨ dp + n ≤ j) : ga_cp D x sp y dp n y j = D y j := if_neg (fun q => by omega)
theorem hk_new_o {D : ga_D} {c n s x : Int} (h0 : 0 ≤ x) (h : x ≠ hn D) : hk (h_new D c n s) x = hk D x := by
  have e : ∀ j : Int, h_new D c n s x j = D x j := fun j => by
    unfold h_new
    rw [if_neg (by omega), if_neg (show ¬ x = D (-1) 0 from h)]
  unfold hk
  rw [e, e]
theorem new_o {D : ga_D} {c n s x : Int} (h0 : 0 ≤ x) (h : x ≠ hn D) : h_new D c n s x = D x := by
  funext j
  unfold h_new
  rw [if_neg (by omega), if_neg (show ¬ x = D (-1) 0 from h)]
theorem hk_new {D : ga_D} {c n s : Int} (hw : 5342 ≤ hn D) (c' : Nat) (hc : c = (c' : Int)) : hk (h_new D c n s) (hn D) = (c', n) := by
  unfold hk
  rw [if_neg (by omega)]
  unfold h_new
  have h1 : ¬ hn D = -1 := by omega
  have h2 : hn D = D (-1) 0 := rfl
  simp only [if_neg h1, if_pos h2, if_pos, if_neg (show ¬ ((-2 : Int) = -1) by decide), hc]
  rfl
theorem hn_new {D : ga_D} {c n s : Int} : hn (h_new D c n s) = hn D + 1 := by
  unfold hn h_new
  rw [if_pos rfl, if_pos rfl]
theorem sl_new {D : ga_D} {c n s : Int} : h_new D c n s (-1) 1 = D (-1) 1 + s := by
  unfold h_new
  rw [if_pos rfl, if_neg (by decide), if_pos rfl]
theorem new_0 {D : ga_D} {c n s j : Int} (hw : 5342 ≤ hn D) (h : 0 ≤ j) : h_new D c n s (hn D) j = 0 := by
  unfold h_new
  rw [if_neg (by omega), if_pos (show hn D = D (-1) 0 from rfl), if_neg (by omega), if_neg (by omega)]
