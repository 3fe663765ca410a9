set_option maxRecDepth 100000
/-! PURE, part 3b: what is kept true, an hour, an end -/
section SF2
variable {W : zI} {no n : Nat} {s : zS}
theorem wrkS_0 {rd : Int32} {hr p : Nat} {t : zK4} : (wrkS W rd hr p t).1 0 = t.1 0 := by
  unfold wrkS
  split
  · split
    · exact zu_n _ _ _ (by omega)
    · split
      · unfold wrk1
        try dsimp only
        have e : ∀ a b c e : Int32, zu (zu (zu (zu t.1 (11 + p) a) (19 + p) b) (43 + p) c) 1 e 0 = t.1 0 := fun a b c e => by
          rw [zu_n _ _ _ (by omega), zu_n _ _ _ (by omega), zu_n _ _ _ (by omega), zu_n _ _ _ (by omega)]
        split
        · rw [zu_n _ _ _ (by omega)]; exact e _ _ _ _
        · split
          · exact e _ _ _ _
          · split
            · rw [zu_n _ _ _ (by omega), zu_n _ _ _ (by omega)]; exact e _ _ _ _
            · exact e _ _ _ _
      · rfl
  · rfl
theorem wrkN_0 {rd : Int32} {hr : Nat} {t : zK4} : ∀ i, (wrkN W rd hr t i).1 0 = t.1 0 := by
  intro i
  induction i with
  | zero => rfl
  | succ i ih => exact wrkS_0.trans ih
theorem hndS_0 {p o hr : Nat} : hndS W s p o hr 0 = s 0 := by
  unfold hndS
  try dsimp only
  rw [zu_n _ _ _ (by omega)]
  split
  · rw [zu_n _ _ _ (by omega), zu_n _ _ _ (by omega), zu_n _ _ _ (by omega), zu_n _ _ _ (by omega), zu_n _ _ _ (by omega)]
  · rw [zu_n _ _ _ (by omega), zu_n _ _ _ (by omega), zu_n _ _ _ (by omega)]
theorem clsN_0 {e : List Nat} {rd : Int32} {hr : Nat} : ∀ i, clsN W e no rd hr s i 0 = s 0 := by
  intro i
  induction i with
  | zero => rfl
  | succ i ih =>
    refine Eq.trans ?_ ih
    show clsS W e no rd hr i _ 0 = _
    unfold clsS
    split
    · split
      · rfl
      · exact hndS_0
    · rfl
theorem clss_0 {ro : Option (List Nat)} {rd : Int32} {hr : Nat} : clss W ro no n rd hr s 0 = s 0 := by
  cases ro with
  | none => rfl
  | some e => exact clsN_0 n
theorem sf_wrks (h : sf W no n s) (hw : wf W no n) : sf W no n (wrks W n s).1 := by
  obtain ⟨t, ht, e⟩ := h.now
  exact sf_wrkN (t := (s, nI 0, nI 0, fun _ => nI 0)) h hw (by rw [e, nI_clamp (by omega)]; omega) n (Nat.le_refl _)
theorem sf_clss {ro : Option (List Nat)} {rd : Int32} {hr : Nat} (h : sf W no n s) (hw : wf W no n) : sf W no n (clss W ro no n rd hr s) := by
  cases ro with
  | none => exact h
  | some e => exact sf_clsN h hw n (Nat.le_refl _)
theorem hrS_0 {ro : Option (List Nat)} {t : Nat} (h0 : s 0 = nI t) : hrS W ro no n s 0 = nI (t + 1) := by
  unfold hrS
  rw [zu_s, h0, nI_add]
theorem sf_hrS {ro : Option (List Nat)} {t : Nat} (h : sf W no n s) (hw : wf W no n) (h0 : s 0 = nI t) (ht : t < 2399) : sf W no n (hrS W ro no n s) := by
  unfold hrS
  rw [h0, nI_add]
  exact sf_0 (sf_clss (sf_wrks h hw) hw) (by omega)
theorem endN_dn {ro : Option (List Nat)} (h : allDn s n = true) (f : Nat) : endN W ro no n f s = some s := by
  cases f <;> simp [endN, h]
theorem endN_nd {ro : Option (List Nat)} (h : allDn s n = false) (f : Nat) : endN W ro no n (f + 1) s = endN W ro no n f (hrS W ro no n s) := by simp [endN, h]
theorem endN_0 {ro : Option (List Nat)} (h : allDn s n = false) : endN W ro no n 0 s = none := by simp [endN, h]
theorem sf_layS (h : sf W no n s) (hw : wf W no n) {p : Nat} (hp : p < n) : sf W no n (layS W s p) := by
  have hn := hw.n8
  unfold layS
  exact sf_any (sf_any (sf_any (sf_35 (sf_27 (sf_any (sf_any (sf_3 h hn hp (hw.born hp)) hn (by omega)) hn (by omega)) hn hp (Or.inl rfl)) hn hp (Or.inl rfl)) hn (by omega)) hn (by omega)) hn (by omega)
/-- what holds of a row once the pieces below m are laid -/
theorem sf_begS (hw : wf W no n) (hi : ∀ j, 127 ≤ j → s j = 0) {h : Nat} (hh : h ≤ 2399) : sf W no n (begS W s n h) := by
  have hn := hw.n8
  have key : ∀ m, m ≤ n → sf W no m (layN W (zu (zu (zu s 0 (nI h)) 1 (nI 0)) 2 (nI 0)) m) := by
    intro m
    induction m with
    | zero =>
      refine fun _ => ⟨⟨h, hh, by rw [layN, zu_n _ _ _ (by omega), zu_n _ _ _ (by omega), zu_s]⟩, ⟨0, by omega, by rw [layN, zu_s]⟩, fun p hp => absurd hp (by omega), fun p hp => absurd hp (by omega), fun p hp => absurd hp (by omega), fun j hj => ?_⟩
      rw [layN, zu_n _ _ _ (by omega), zu_n _ _ _ (by omega), zu_n _ _ _ (by omega)]
      exact hi j hj
    | succ m ih =>
      intro hm
      obtain ⟨⟨t, ht, g0⟩, ⟨b, hb, g2⟩, g3, g4, g5, g6⟩ := ih (by omega)
      have z : ∀ j, (j = 0 ∨ j = 2 ∨ 127 ≤ j) → layN W (zu (zu (zu s 0 (nI h)) 1 (nI 0)) 2 (nI 0)) (m + 1) j = layN W (zu (zu (zu s 0 (nI h)) 1 (nI 0)) 2 (nI 0)) m j := fun j hj => by
        show layS W _ m j = _
        unfold layS
        rw [zu_n _ _ _ (by omega), zu_n _ _ _ (by omega), zu_n _ _ _ (by omega), zu_n _ _ _ (by omega), zu_n _ _ _ (by omega), zu_n _ _ _ (by omega), zu_n _ _ _ (by omega), zu_n _ _ _ (by omega)]
      have f3 : ∀ (s : zS) (p : Nat), p < 8 → layS W s m (3 + p) = if p = m then W 20 m else s (3 + p) := fun s p hp => by
        unfold layS
        rw [zu_n _ _ _ (by omega), zu_n _ _ _ (by omega), zu_n _ _ _ (by omega), zu_n _ _ _ (by omega), zu_n _ _ _ (by omega), zu_n _ _ _ (by omega), zu_n _ _ _ (by omega)]
        unfold zu
        simp
      have f27 : ∀ (s : zS) (p : Nat), p < 8 → layS W s m (27 + p) = if p = m then nI 0 else s (27 + p) := fun s p hp => by
        unfold layS
        rw [zu_n _ _ _ (by omega), zu_n _ _ _ (by omega), zu_n _ _ _ (by omega), zu_n _ _ _ (by omega)]
        by_cases e : p = m
        · subst e; rw [zu_s, if_pos rfl]
        · rw [zu_n _ _ _ (by omega), zu_n _ _ _ (by omega), zu_n _ _ _ (by omega), zu_n _ _ _ (by omega), if_neg e]
      have f35 : ∀ (s : zS) (p : Nat), p < 8 → layS W s m (35 + p) = if p = m then -1 else s (35 + p) := fun s p hp => by
        unfold layS
        rw [zu_n _ _ _ (by omega), zu_n _ _ _ (by omega), zu_n _ _ _ (by omega)]
        by_cases e : p = m
        · subst e; rw [zu_s, if_pos rfl]
        · rw [zu_n _ _ _ (by omega), zu_n _ _ _ (by omega), zu_n _ _ _ (by omega), zu_n _ _ _ (by omega), zu_n _ _ _ (by omega), if_neg e]
      refine ⟨⟨t, ht, (z 0 (by omega)).trans g0⟩, ⟨b, hb, (z 2 (by omega)).trans g2⟩, fun p hp => ?_, fun p hp => ?_, fun p hp => ?_, fun j hj => (z j (by omega)).trans (g6 j hj)⟩
      · show ∃ k, k < no ∧ layS W _ m (3 + p) = nI k
        rw [f3 _ p (by omega)]
        split
        · exact hw.born (by omega)
        · exact g3 p (by omega)
      · show layS W _ m (27 + p) = _ ∨ (layS W _ m (27 + p) = _ ∧ _)
        rw [f27 _ p (by omega)]
        split
        · exact Or.inl rfl
        · exact g4 p (by omega)
      · show layS W _ m (35 + p) = _ ∨ ∃ k, k < 2 ^ 31 ∧ layS W _ m (35 + p) = nI k
        rw [f35 _ p (by omega)]
        split
        · exact Or.inl rfl
        · exact g5 p (by omega)
  exact key n (Nat.le_refl _)
theorem row_back {s I1 I3 : zS} (hi : ∀ j, 127 ≤ j → s j = 0) (h1 : ∀ j, j < 127 → I1 j = s j) (h2 : ∀ j, j < 127 → I3 j = I1 j) (h3 : ∀ j, 127 ≤ j → I3 j = 0) : I3 = s := by
  funext j
  by_cases h : j < 127
  · rw [h2 j h, h1 j h]
  · rw [h3 j (by omega), hi j (by omega)]
end SF2
