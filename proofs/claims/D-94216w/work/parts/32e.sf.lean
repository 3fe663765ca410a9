set_option maxRecDepth 100000
/-! PURE, part 3: what is kept true of a state's row -/
section SF
variable {W : zI} {no n : Nat} {s : zS}
theorem sf_any (h : sf W no n s) (hn : n ≤ 8) {j : Nat} {v : Int32} (hj : j = 1 ∨ (11 ≤ j ∧ j < 27) ∨ (43 ≤ j ∧ j < 127)) : sf W no n (zu s j v) := by
  obtain ⟨⟨t, ht, h0⟩, ⟨b, hb, h2⟩, h3, h4, h5, h6⟩ := h
  refine ⟨⟨t, ht, by rw [zu_n _ _ _ (by omega)]; exact h0⟩, ⟨b, hb, by rw [zu_n _ _ _ (by omega)]; exact h2⟩, fun p hp => ?_, fun p hp => ?_, fun p hp => ?_, fun q hq => ?_⟩
  · rw [zu_n _ _ _ (by omega)]; exact h3 p hp
  · rw [zu_n _ _ _ (by omega)]; exact h4 p hp
  · rw [zu_n _ _ _ (by omega)]; exact h5 p hp
  · rw [zu_n _ _ _ (by omega)]; exact h6 q hq
theorem sf_27 (h : sf W no n s) (hn : n ≤ 8) {p : Nat} {v : Int32} (hp : p < n) (hv : v = nI 0 ∨ (v = nI 1 ∧ W 0 37 = 0 ∧ ∃ k, k < no ∧ W 21 p = nI k)) : sf W no n (zu s (27 + p) v) := by
  obtain ⟨⟨t, ht, h0⟩, ⟨b, hb, h2⟩, h3, h4, h5, h6⟩ := h
  refine ⟨⟨t, ht, by rw [zu_n _ _ _ (by omega)]; exact h0⟩, ⟨b, hb, by rw [zu_n _ _ _ (by omega)]; exact h2⟩, fun q hq => ?_, fun q hq => ?_, fun q hq => ?_, fun q hq => ?_⟩
  · rw [zu_n _ _ _ (by omega)]; exact h3 q hq
  · by_cases e : q = p
    · subst e; rw [zu_s]; exact hv
    · rw [zu_n _ _ _ (by omega)]; exact h4 q hq
  · rw [zu_n _ _ _ (by omega)]; exact h5 q hq
  · rw [zu_n _ _ _ (by omega)]; exact h6 q hq
theorem sf_35 (h : sf W no n s) (hn : n ≤ 8) {p : Nat} {v : Int32} (hp : p < n) (hv : v = -1 ∨ ∃ k, k < 2 ^ 31 ∧ v = nI k) : sf W no n (zu s (35 + p) v) := by
  obtain ⟨⟨t, ht, h0⟩, ⟨b, hb, h2⟩, h3, h4, h5, h6⟩ := h
  refine ⟨⟨t, ht, by rw [zu_n _ _ _ (by omega)]; exact h0⟩, ⟨b, hb, by rw [zu_n _ _ _ (by omega)]; exact h2⟩, fun q hq => ?_, fun q hq => ?_, fun q hq => ?_, fun q hq => ?_⟩
  · rw [zu_n _ _ _ (by omega)]; exact h3 q hq
  · rw [zu_n _ _ _ (by omega)]; exact h4 q hq
  · by_cases e : q = p
    · subst e; rw [zu_s]; exact hv
    · rw [zu_n _ _ _ (by omega)]; exact h5 q hq
  · rw [zu_n _ _ _ (by omega)]; exact h6 q hq
theorem sf_3 (h : sf W no n s) (hn : n ≤ 8) {p : Nat} {v : Int32} (hp : p < n) (hv : ∃ k, k < no ∧ v = nI k) : sf W no n (zu s (3 + p) v) := by
  obtain ⟨⟨t, ht, h0⟩, ⟨b, hb, h2⟩, h3, h4, h5, h6⟩ := h
  refine ⟨⟨t, ht, by rw [zu_n _ _ _ (by omega)]; exact h0⟩, ⟨b, hb, by rw [zu_n _ _ _ (by omega)]; exact h2⟩, fun q hq => ?_, fun q hq => ?_, fun q hq => ?_, fun q hq => ?_⟩
  · by_cases e : q = p
    · subst e; rw [zu_s]; exact hv
    · rw [zu_n _ _ _ (by omega)]; exact h3 q hq
  · rw [zu_n _ _ _ (by omega)]; exact h4 q hq
  · rw [zu_n _ _ _ (by omega)]; exact h5 q hq
  · rw [zu_n _ _ _ (by omega)]; exact h6 q hq
theorem sf_0 (h : sf W no n s) {t : Nat} (ht : t ≤ 2399) : sf W no n (zu s 0 (nI t)) := by
  obtain ⟨-, ⟨b, hb, h2⟩, h3, h4, h5, h6⟩ := h
  refine ⟨⟨t, ht, zu_s _ _ _⟩, ⟨b, hb, by rw [zu_n _ _ _ (by omega)]; exact h2⟩, fun q hq => ?_, fun q hq => ?_, fun q hq => ?_, fun q hq => ?_⟩
  · rw [zu_n _ _ _ (by omega)]; exact h3 q hq
  · rw [zu_n _ _ _ (by omega)]; exact h4 q hq
  · rw [zu_n _ _ _ (by omega)]; exact h5 q hq
  · rw [zu_n _ _ _ (by omega)]; exact h6 q hq
theorem sf_2 (h : sf W no n s) {t : Nat} (ht : t ≤ 60) : sf W no n (zu s 2 (nI t)) := by
  obtain ⟨⟨t, ht, h0⟩, -, h3, h4, h5, h6⟩ := h
  refine ⟨⟨t, ht, by rw [zu_n _ _ _ (by omega)]; exact h0⟩, ⟨_, by assumption, zu_s _ _ _⟩, fun q hq => ?_, fun q hq => ?_, fun q hq => ?_, fun q hq => ?_⟩
  · rw [zu_n _ _ _ (by omega)]; exact h3 q hq
  · rw [zu_n _ _ _ (by omega)]; exact h4 q hq
  · rw [zu_n _ _ _ (by omega)]; exact h5 q hq
  · rw [zu_n _ _ _ (by omega)]; exact h6 q hq
theorem sf_wrk1 (h : sf W no n s) (hw : wf W no n) {p hr o : Nat} (hp : p < n) (hh : hr < 2 ^ 30) : sf W no n (wrk1 W s hr p o) := by
  have hn := hw.n8
  have h1 : sf W no n (zu (zu (zu (zu s (11 + p) (s (11 + p) - nI 1)) (19 + p) (s (19 + p) + nI 1)) (43 + p) (s (43 + p) + nI 1)) 1 (s 1 + W 7 o)) :=
    sf_any (sf_any (sf_any (sf_any h hn (by omega)) hn (by omega)) hn (by omega)) hn (by omega)
  unfold wrk1
  dsimp only
  split
  · exact sf_35 h1 hn hp (Or.inr ⟨hr + 1, by omega, rfl⟩)
  · split
    · exact h1
    · next hq =>
      split
      · refine sf_any (sf_27 h1 hn hp (Or.inr ⟨rfl, ?_⟩)) hn (by omega)
        unfold askd at hq
        split at hq
        · next e =>
          refine ⟨e, ?_⟩
          rcases hw.asks hp with q | q
          · rw [q] at hq; exact absurd (by decide) hq
          · exact q
        · exact absurd (by decide) hq
      · exact h1
theorem sf_wrkS {t : zK4} {rd : Int32} {hr p : Nat} (h : sf W no n t.1) (hw : wf W no n) (hp : p < n) (hh : hr < 2 ^ 30) : sf W no n (wrkS W rd hr p t).1 := by
  unfold wrkS
  split
  · split
    · next e =>
      refine sf_27 h hw.n8 hp ?_
      rcases h.wt hp with q | q
      · rw [q] at e; exact absurd e (by decide)
      · cases hb : !(opn W (t.1 (3 + p)).toNatClampNeg hr && opn W (W 21 p).toNatClampNeg hr)
        · exact Or.inl rfl
        · exact Or.inr ⟨rfl, q.2⟩
    · split
      · exact sf_wrk1 h hw hp hh
      · exact h
  · exact h
theorem sf_wrkN {t : zK4} {rd : Int32} {hr : Nat} (h : sf W no n t.1) (hw : wf W no n) (hh : hr < 2 ^ 30) : ∀ i, i ≤ n → sf W no n (wrkN W rd hr t i).1 := by
  intro i
  induction i with
  | zero => exact fun _ => h
  | succ i ih => exact fun hi => sf_wrkS (ih (by omega)) hw (by omega) hh
theorem sf_hndS (h : sf W no n s) (hw : wf W no n) {p o hr : Nat} (hp : p < n) (ho : o < no) : sf W no n (hndS W s p o hr) := by
  have hn := hw.n8
  obtain ⟨b, hb, h2⟩ := h.bk
  unfold hndS
  dsimp only
  have h1 : ∀ v : Int32, sf W no n (zu (zu (zu s (11 + p) (s (11 + p) + v)) (59 + p) (s (59 + p) + v)) (51 + p) (s (51 + p) + nI 1)) := fun v =>
    sf_any (sf_any (sf_any h hn (by omega)) hn (by omega)) hn (by omega)
  refine sf_3 ?_ hn hp ⟨o, ho, rfl⟩
  split
  · next e =>
    rw [h2] at e
    have hb2 : b < 60 := (nI_ltI (by omega) (by omega)).mp e
    rw [h2, nI_add, nI_clamp (by omega)]
    exact sf_2 (sf_any (h1 _) hn (by omega)) (by omega)
  · exact h1 _
theorem chsN_le {e : List Nat} {p hr : Nat} : ∀ m, (chsN W e s p hr m).1 ≤ m := by
  intro m
  induction m with
  | zero => exact Nat.le_refl _
  | succ m ih =>
    unfold chsN
    dsimp only
    split <;> omega
theorem chs_lt {e : List Nat} {p hr : Nat} (h : 0 < no) : chs W e s p hr no < no := by
  have := chsN_le (W := W) (e := e) (s := s) (p := p) (hr := hr) (no - 1)
  unfold chs
  omega
theorem sf_clsS {e : List Nat} {rd : Int32} {hr p : Nat} (h : sf W no n s) (hw : wf W no n) (hp : p < n) : sf W no n (clsS W e no rd hr p s) := by
  unfold clsS
  split
  · split
    · exact h
    · obtain ⟨k, hk, -⟩ := h.pl hp
      exact sf_hndS h hw hp (chs_lt (by omega))
  · exact h
theorem sf_clsN {e : List Nat} {rd : Int32} {hr : Nat} (h : sf W no n s) (hw : wf W no n) : ∀ i, i ≤ n → sf W no n (clsN W e no rd hr s i) := by
  intro i
  induction i with
  | zero => exact fun _ => h
  | succ i ih => exact fun hi => sf_clsS (ih (by omega)) hw (by omega)
end SF
