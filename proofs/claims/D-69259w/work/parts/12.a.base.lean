/-! heap mode: kinds and the next cell lie in the contents -/
set_option maxRecDepth 100000
/-- kind and length of a cell -/
def hk (D : ga_D) (x : Int) : Nat × Int := if x < 5342 then ga_K x else ((D x (-1)).toNat, D x (-2))
/-- the next cell -/
def hn (D : ga_D) : Int := D (-1) 0
/-- a new cell of kind c, length n, with s slots -/
def h_new (D : ga_D) (c n s : Int) : ga_D := fun a b => if a = -1 then (if b = 0 then D (-1) 0 + 1 else if b = 1 then D (-1) 1 + s else D a b) else if a = D (-1) 0 then (if b = -1 then c else if b = -2 then n else 0) else D a b
/-- a call that may throw: numbers from 2^70 on are exceptions -/
def ga_bnd (f : ga_S) (k : Int → ga_D → ga_S) : ga_S := match f with
  | none => none
  | some q => if 1180591620717411303424 ≤ q.1 then some q else k q.1 q.2
/-- Arrays.copyOf for references -/
def h_copyOf (x n : Int) (D : ga_D) : ga_S := ga_ck ((hk D x).1 = 1017) (ga_ck (0 ≤ n ∧ n ≤ 60000000) (ga_let (hn D) (fun z => ga_let (h_new D 1017 n n) (fun D1 => ga_let (ga_cp D1 x 0 z 0 (aw_min (hk D x).2 n)) (fun D2 => some (z, D2))))))
