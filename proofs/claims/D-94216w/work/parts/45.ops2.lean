set_option maxRecDepth 100000
/-! THE CALLS as functions, part 2 -/
theorem zV_k {P : zR} {S : zT} {Q : zQ} {D I I2 : zI} {R : List Int64} {L : zL} {f : Option Int32} {v : Int32} (h : f = some v) (k : ∀ I2, mR D R I2 L P S → frM I L I2 L → I2 0 0 = nI (bI f.isNone) → Q (.inl (some (.int (f.getD (nI 0))))) I2 L P S) (hm : mR D R I2 L P S) (hf : frM I L I2 L) (h0 : I2 0 0 = nI 0) : Q (.inl (some (.int v))) I2 L P S := by
  subst h
  exact k _ hm hf h0
theorem zV_n {P : zR} {S : zT} {Q : zQ} {D I I2 : zI} {R : List Int64} {L : zL} {f : Option Int32} (h : f = none) (k : ∀ I2, mR D R I2 L P S → frM I L I2 L → I2 0 0 = nI (bI f.isNone) → Q (.inl (some (.int (f.getD (nI 0))))) I2 L P S) (hm : mR D R I2 L P S) (hf : frM I L I2 L) (h0 : I2 0 0 = nI 1) : Q (.inl (some (.int (nI 0)))) I2 L P S := by
  subst h
  exact k _ hm hf h0
