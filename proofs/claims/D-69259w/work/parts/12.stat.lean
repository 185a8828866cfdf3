/-! static mode on the machine: the kinds are as the layout says; contents go along -/
set_option maxRecDepth 100000
def aw_wD (M : aw_M) (D : ga_D) : aw_M := (M.1, M.2.1, D)
def aw_St (M : aw_M) : Prop := (∀ (x : Int) (c : Nat) (n : Int), ga_K x = (c, n) → c ≠ 9999 → aw_k M x = (c, n)) ∧ (ly_N : Int) ≤ aw_n M
theorem aw_kS {M : aw_M} {D : ga_D} (hS : aw_St M) {x : Int} {c : Nat} {n : Int} (hk : ga_K x = (c, n)) (hc : c ≠ 9999) : aw_k (aw_wD M D) x = (c, n) := hS.1 x c n hk hc
def aw_isP (v : Option aw_V) (M' : aw_M) : Option aw_V → aw_M → Prop := fun r M => v = r ∧ M' = M ∧ ga_P M'.2.2
section AS
variable {G : aw_G} {own : String} {cc : ByteArray} {ret : Option FieldType} {nL d : Nat} {ini : Bool} {M0 Mz : aw_M} {Q : Option aw_V → aw_M → Prop} {X : String → aw_M → Prop} {c sl pc : Nat} {ls : List (Nat × aw_V)} {st : List aw_V}
theorem x_nmD {D D1 : ga_D} {x j v : Int} (e : D1 = ga_set D x j v) (k : aw_W G own cc ret nL d ini M0 Q X c sl pc ls st (aw_wD Mz D1)) : aw_W G own cc ret nL d ini M0 Q X c sl pc ls st (aw_set (aw_wD Mz D) x j v) := by
  subst e
  exact k
end AS
