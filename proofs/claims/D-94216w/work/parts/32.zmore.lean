/-! small rows that both sides use -/
theorem zwk_n : zwk [] [] := trivial
theorem zwk_f {a : Value} {l l' : List Value} (h : zwk l l') : zwk (a :: l) (.retAddr 0 :: l') := ⟨Or.inr rfl, h⟩
theorem zwk_c {a b : Value} {l l' : List Value} (e : b = a) (h : zwk l l') : zwk (a :: l) (b :: l') := ⟨Or.inl e, h⟩
theorem nI_m1 {k : Nat} (hk : k < 2 ^ 31) : ¬ nI k = -1 := fun e => by
  have := congrArg Int32.toInt e
  rw [z_ti hk, z_m1] at this
  omega
theorem zu_com {b : zS} {i j : Nat} {u v : Int32} (h : i ≠ j) : zu (zu b i u) j v = zu (zu b j v) i u := by
  funext k
  unfold zu
  by_cases e : k = j
  · subst e; simp [Ne.symm h]
  · by_cases e2 : k = i
    · subst e2; simp [e]
    · simp [e, e2]
