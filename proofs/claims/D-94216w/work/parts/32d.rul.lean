set_option maxRecDepth 100000
/-! pure: a rule on the tape -/
/-- the tape as numbers -/
def tpc (D : zI) (j : Nat) : Nat := (D 28 j).toNatClampNeg % 256
/-- what a rule on the tape comes to: the answer, the marks where it is one -/
def rulV (D : zI) (t : Nat) : Int32 × Option (List Nat) :=
  if t = 0 then (nI 0, some []) else
  match pzz (tpc D) (min t 40) 0 0 0 with
  | .inl q => (if 40 < t ∧ 40 ≤ q then -41 else -1 - nI q, none)
  | .inr x => if x.1 = min t 40 then (if 40 < t then (-41, none) else (nI 0, some x.2)) else (if 40 < t ∧ 40 ≤ x.1 then -41 else -1 - nI x.1, none)
/-- the rule told from then on -/
def ruN (ro : Option (List Nat)) : Option (List Nat) → Option (List Nat)
  | none => ro
  | some l => if l = [] then none else some l
