set_option maxRecDepth 100000
/-! THE DATA. D: what the model's memory says (mdat), R: the row that was told. mR: a memory holds D and R on the model's side -/
def dAt (h k : Nat) : Bool := wAt h k || (match h with
  | 0 => k == 29 || k == 50
  | 23 => true | 28 => true | 51 => true | 52 => true | 53 => true | 56 => true | 57 => true
  | _ => false)
def mdat (I : zI) : zI := fun h k => if dAt h k = true then I h k else 0
theorem dr {I D : zI} {a k : Nat} (hD : mdat I = D) (h : dAt a k = true) : I a k = D a k := by
  rw [← hD, mdat, if_pos h]
theorem dAt_w {a k : Nat} (h : wAt a k = true) : dAt a k = true := by
  unfold dAt
  rw [h, Bool.true_or]
theorem wld_mdat {I D : zI} (hD : mdat I = D) : wld I = wld D := by
  funext a k
  unfold wld
  split
  · next q => exact dr hD (dAt_w q)
  · rfl
theorem md_fr {T : Nat → Nat → Bool} {I I' : zI} (h : fr T I I') (hT : ∀ a k, dAt a k = true → T a k = false) : mdat I' = mdat I := by
  funext a k
  unfold mdat
  split
  · next q => exact h a k (hT a k q)
  · rfl
theorem md_in {I : zI} {a k : Nat} {v : Int32} (h : dAt a k = true) : mdat (zw I a k v) = zw (mdat I) a k v := by
  funext b j
  unfold mdat
  unfold zw zu
  by_cases e : b = a
  · subst e
    by_cases e2 : j = k
    · subst e2; simp [h]
    · simp [e2]
  · simp [e]
theorem md_out {I : zI} {a k : Nat} {v : Int32} (h : dAt a k = false) : mdat (zw I a k v) = mdat I := by
  funext b j
  unfold mdat
  split
  · next q =>
    have : ¬ (b = a ∧ j = k) := by rintro ⟨rfl, rfl⟩; rw [h] at q; exact absurd q (by decide)
    unfold zw zu
    by_cases e : b = a
    · subst e
      simp [show j ≠ k from fun e => this ⟨rfl, e⟩]
    · simp [e]
  · rfl
theorem md_zu {I : zI} {a : Nat} {v : zS} (h : ∀ k, dAt a k = true) : mdat (zu I a v) = zu (mdat I) a v := by
  funext b j
  unfold mdat zu
  by_cases e : b = a
  · subst e; simp [h]
  · simp [e]
/-- the row as it is told -/
def mRw (R : List Int64) (I : zI) (L : zL) : Prop := I 0 1 = nI R.length ∧ ∀ k, k < R.length → L 2 k = R.getD k 0
def mSw (P : zR) : Prop := ((P 0 38 = some 38 ∧ P 0 39 = some 39) ∨ (P 0 38 = some 39 ∧ P 0 39 = some 38)) ∧ ((P 0 43 = some 43 ∧ P 0 44 = some 44) ∨ (P 0 43 = some 44 ∧ P 0 44 = some 43))
def mR (D : zI) (R : List Int64) (I : zI) (L : zL) (P : zR) (S : zT) : Prop := mOk P S ∧ mSw P ∧ mdat I = D ∧ mRw R I L
/-- what the model's calls leave alone -/
def frM (I : zI) (L : zL) (I' : zI) (L' : zL) : Prop := ∀ h, 100 ≤ h → I' h = I h ∧ L' h = L h
theorem frM.rf {I : zI} {L : zL} : frM I L I L := fun _ _ => ⟨rfl, rfl⟩
theorem frM.tr {I I' I'' : zI} {L L' L'' : zL} (h : frM I L I' L') (h' : frM I' L' I'' L'') : frM I L I'' L'' := fun a ha => ⟨(h' a ha).1.trans (h a ha).1, (h' a ha).2.trans (h a ha).2⟩
theorem frM.st {I I' : zI} {L L' : zL} {a k : Nat} {v : Int32} (h : frM I L I' L') (ha : a < 100) : frM I L (zw I' a k v) L' := fun b hb => ⟨by rw [zw_n _ _ _ _ (by omega)]; exact (h b hb).1, (h b hb).2⟩
theorem frM.su {I I' : zI} {L L' : zL} {a : Nat} {v : zS} (h : frM I L I' L') (ha : a < 100) : frM I L (zu I' a v) L' := fun b hb => ⟨by rw [zu_n _ _ _ (by omega)]; exact (h b hb).1, (h b hb).2⟩
theorem frM.sl {I I' : zI} {L L' : zL} {a k : Nat} {v : Int64} (h : frM I L I' L') (ha : a < 100) : frM I L I' (zw L' a k v) := fun b hb => ⟨(h b hb).1, by rw [zw_n _ _ _ _ (by omega)]; exact (h b hb).2⟩
theorem frM.of {T : Nat → Nat → Bool} {I I' : zI} {L : zL} (h : fr T I I') (hT : ∀ a k, 100 ≤ a → T a k = false) : frM I L I' L := fun a ha => ⟨funext fun k => h a k (hT a k ha), rfl⟩
theorem tE_hi {a k : Nat} (h : 100 ≤ a) : tE a k = false := by
  unfold tE tP tW
  simp [show ¬ a = 23 by omega, show ¬ a = 33 by omega, show ¬ a = 0 by omega, show ¬ a = 27 by omega, show ¬ a = 24 by omega]
theorem tP_hi {a k : Nat} (h : 100 ≤ a) : tP a k = false := tP_E (tE_hi h)
theorem mR.z0 {D I : zI} {R : List Int64} {L : zL} {P : zR} {S : zT} {v : Int32} (h : mR D R I L P S) : mR D R (zw I 0 0 v) L P S := by
  obtain ⟨h1, h2, h3, h4⟩ := h
  exact ⟨h1, h2, (md_out rfl).trans h3, ⟨h4.1, h4.2⟩⟩
theorem Z_start {G : zG} {M : zM} {d C Sl pc : Nat} {lv st : List Value} {I D : zI} {L : zL} {P : zR} {S : zT} {Q : zQ} {R : List Int64} {v : Int32} (h : mR D R I L P S) (k : ∀ I1, mR D R I1 L P S → frM I L I1 L → I1 0 0 = v → Zj G M d C Sl pc lv st I1 L P S Q) : Zj G M d C Sl pc lv st (zw I 0 0 v) L P S Q := k _ h.z0 (frM.rf.st (by decide)) rfl
