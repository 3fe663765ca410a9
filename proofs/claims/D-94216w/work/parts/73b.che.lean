set_option maxRecDepth 100000
/-! what the search for the cheapest says; cheap as a function -/
section CHE
variable {W : zI} {p h0 most no H : Nat}
noncomputable def cheF (W : zI) (p h0 H most no : Nat) : Option (Nat × Nat) := @dite _ (∃ x : Nat × Nat, chp W p h0 most no H x.1 x.2) (Classical.propDecidable _) (fun h => some h.choose) (fun _ => none)
theorem cheF_s {n x : Nat} (h : chp W p h0 most no H n x) : cheF W p h0 H most no = some (n, x) := by
  have e : ∃ x : Nat × Nat, chp W p h0 most no H x.1 x.2 := ⟨(n, x), h⟩
  unfold cheF
  rw [dif_pos e]
  obtain ⟨e1, e2⟩ := chp_u e.choose_spec h
  rw [show e.choose = (n, x) from Prod.ext e1 e2]
theorem cheF_n (h : ∀ i, i < H → ∀ n x, ¬ fiC W p h0 most no i n x) : cheF W p h0 H most no = none := by
  unfold cheF
  rw [dif_neg (fun ⟨x, ⟨i, hi, q⟩, _⟩ => h i hi _ _ q)]
theorem oneC_F {x : Int32} {y : Int64} (h : oneC x y (fun n x => ∃ j, j < H ∧ fiC W p h0 most no j n x)) : (x = -1 ∧ cheF W p h0 H most no = none) ∨ ∃ n c, (n < 4 ∧ c < 2 ^ 40) ∧ x = nI n ∧ y = lN c ∧ chp W p h0 most no H n c ∧ cheF W p h0 H most no = some (n, c) := by
  rcases h with ⟨a, b⟩ | ⟨n, c, b0, b1, b2, b3, b4⟩
  · exact Or.inl ⟨a, cheF_n (fun i hi n x q => b n x ⟨i, hi, q⟩)⟩
  · have g : chp W p h0 most no H n c := ⟨b3, fun i n2 x2 hi q => b4 n2 x2 ⟨i, hi, q⟩⟩
    exact Or.inr ⟨n, c, b0, b1, b2, g, cheF_s g⟩
/-- how the row of it is bounded -/
theorem chp_b {born len n x : Nat} (h : chp W p h0 most no H n x) (hk : knf W no) (hy : pyf W no) (hb : W 20 p = nI born) (hbn : born < no) (h6 : no ≤ 6) (hl : W 18 p = nI len) (hl0 : 0 < len) (hl6 : len ≤ 60) (hm : most ≤ 2) (hH : H ≤ 400) : n ≤ most ∧ x % 512 < 8 ^ n ∧ x / 512 ≤ 40000 := by
  obtain ⟨⟨i, hi, o, x1, q, hw, rfl⟩, -⟩ := h
  obtain ⟨⟨a1, a2, -⟩, a3, -, a6⟩ := rcc_b hk hy (born := born) (by rw [hb, nI_clamp (by omega)]) hbn h6 (len := len) (by rw [hl, nI_clamp (by omega)]) hl0 hm i _ _ _ _ q
  have := (pyf_b hy a3).2
  have := a2.1
  exact ⟨a1, by omega, by omega⟩
/-- the hours that may be asked of -/
def ehi (h : Nat) : Nat := min 2399 (h + 400)
noncomputable def fCheap (D : zI) (R : List Int64) (p h k e : Int32) : zO := if (pB D p && rB h 0 2399 && rB k 0 2 && rB e (h.toNatClampNeg : Int) (ehi h.toNatClampNeg : Int)) = true then (match cheF (wld D) p.toNatClampNeg h.toNatClampNeg (e.toNatClampNeg - h.toNatClampNeg) k.toNatClampNeg (noD D) with
    | none => (-2, D, R)
    | some x => (nI (x.2 / 512), D, rowT x.1 (x.2 % 512) x.1))
  else (-1, D, R)
end CHE
