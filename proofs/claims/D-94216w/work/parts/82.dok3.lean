set_option maxRecDepth 100000
/-! THE LAW, PURE: the searches' rows are short -/
section DOK3
variable {D : zI} {R : List Int64} {no n np B : Nat} {ro : Option (List Nat)} {W : zI}
theorem sonF_3 {p h0 most : Nat} {x : Nat × Nat × Nat} (h6 : no ≤ 6) (h : sonF W p h0 most no = some x) : x.2.1 ≤ most := by
  unfold sonF at h
  by_cases e : ∃ x : Nat × Nat × Nat, x.1 < 2399 - h0 ∧ soon W p h0 most no x.1 x.2.1 x.2.2
  · rw [dif_pos e] at h
    cases h
    obtain ⟨⟨o, q, -⟩, -⟩ := e.choose_spec.2
    exact (rch_vr h6 rfl _ _ _ _ _ q).1
  · rw [dif_neg e] at h
    cases h
theorem rcc_n {p h0 most : Nat} : ∀ i n o l x, rcc W p h0 most no i n o l x → n ≤ most := by
  intro i
  induction i with
  | zero => intro n o l x h; rw [h.1]; exact Nat.zero_le _
  | succ i ih =>
    rintro n o l x ⟨n1, o1, l2, x2, q, -, ⟨rfl, -⟩ | ⟨rfl, hm, -⟩⟩
    · rcases q with q | ⟨-, x1, q, -⟩
      · exact ih _ _ _ _ q
      · exact ih _ _ _ _ q
    · exact hm
theorem cheF_3 {p h0 H most : Nat} {x : Nat × Nat} (h : cheF W p h0 H most no = some x) : x.1 ≤ most := by
  unfold cheF at h
  by_cases e : ∃ x : Nat × Nat, chp W p h0 most no H x.1 x.2
  · rw [dif_pos e] at h
    cases h
    obtain ⟨⟨i, -, o, x1, q, -⟩, -⟩ := e.choose_spec
    exact rcc_n _ _ _ _ _ q
  · rw [dif_neg e] at h
    cases h
theorem noD_o (h : dOk D R no n np ro B) : noD D = no := by
  have := h.hw.o6
  rw [noD, o3 h, nI_clamp (by omega)]
theorem r_one (h : dOk D R no n np ro B) {p hh k : Int32} : rsh (fOne D R p hh k) D := by
  have h6 := h.hw.o6
  unfold fOne
  split
  · next e =>
    obtain ⟨q, hq, rfl⟩ := rB_k (hi := 3) (and4 e).2 (by decide)
    rw [nI_clamp (show q < 2 ^ 31 by omega), noD_o h]
    split
    · exact ⟨rfl, h.rl⟩
    · next x ex =>
      have := sonF_3 h6 ex
      exact ⟨rfl, by show (rowT x.2.1 x.2.2 x.2.1).length ≤ 24; rw [rowT_l]; omega⟩
  · exact ⟨rfl, h.rl⟩
theorem r_edge (h : R.length ≤ 24) {p hh k : Int32} : rsh (fEdge D R p hh k) D := by
  unfold fEdge
  split
  · split
    · exact ⟨rfl, h⟩
    · exact ⟨rfl, by simp⟩
  · exact ⟨rfl, h⟩
theorem r_cheap (h : R.length ≤ 24) {p hh k e : Int32} : rsh (fCheap D R p hh k e) D := by
  unfold fCheap
  split
  · next e =>
    obtain ⟨q, hq, rfl⟩ := rB_k (hi := 2) (and4 (and4 e).1).2 (by decide)
    rw [nI_clamp (show q < 2 ^ 31 by omega)]
    split
    · exact ⟨rfl, h⟩
    · next x ex =>
      have := cheF_3 ex
      exact ⟨rfl, by show (rowT x.1 (x.2 % 512) x.1).length ≤ 24; rw [rowT_l]; omega⟩
  · exact ⟨rfl, h⟩
end DOK3
