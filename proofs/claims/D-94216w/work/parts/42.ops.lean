set_option maxRecDepth 100000
/-! THE CALLS as functions on the data: the answer, the data, the row -/
theorem zO_k {P : zR} {S : zT} {Q : zQ} {I I2 : zI} {L L2 : zL} {f : zO} {v : Int32} {D2 : zI} {R2 : List Int64} (h : f = (v, D2, R2)) (k : ∀ I2 L2, mR f.2.1 f.2.2 I2 L2 P S → frM I L I2 L2 → Q (.inl (some (.int f.1))) I2 L2 P S) (hm : mR D2 R2 I2 L2 P S) (hf : frM I L I2 L2) : Q (.inl (some (.int v))) I2 L2 P S := by
  subst h
  exact k _ _ hm hf
theorem mR.zw {D I : zI} {R : List Int64} {L : zL} {P : zR} {S : zT} {a k : Nat} {v : Int32} (h : mR D R I L P S) (ha : dAt a k = true) : mR (zw D a k v) R (zw I a k v) L P S := by
  obtain ⟨h1, h2, h3, h4⟩ := h
  have hne : ¬ (a = 0 ∧ k = 1) := by rintro ⟨rfl, rfl⟩; exact absurd ha (by decide)
  refine ⟨h1, h2, by rw [md_in ha, h3], ⟨?_, h4.2⟩⟩
  rw [← h4.1]
  show (_root_.id (fun b j => (if b = a then (fun j => if j = k then v else I a j) else I b) j)) 0 1 = _
  by_cases e : 0 = a
  · subst e
    simp [show ¬ 1 = k from fun e => hne ⟨rfl, e.symm⟩]
  · simp [e]