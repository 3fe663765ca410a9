set_option maxRecDepth 100000
/-! pure: the search for the soonest way of one piece -/
section ONE
variable {A : zS} {W : zI}
def lstV (x v : Int32) : Int32 := if 0 ≤ x then mn x v else v
def pl (n o l : Nat) : Nat := (n * 6 + o) * 128 + l
theorem pl_inj {n o l n2 o2 l2 : Nat} (h1 : o < 6) (h2 : o2 < 6) (h3 : l < 128) (h4 : l2 < 128) (h : pl n o l = pl n2 o2 l2) : n = n2 ∧ o = o2 ∧ l = l2 := by
  unfold pl at h
  omega
theorem pl_lt {n o l : Nat} (h0 : n < 4) (h1 : o < 6) (h3 : l < 128) : pl n o l < 3072 := by
  unfold pl
  omega
/-- the table A says of each place the least code by which it is reached; -1: it is not -/
def tbl (A : zS) (T : Nat → Nat → Nat → Nat → Prop) : Prop := ∀ n o l, n < 4 → o < 6 → l < 128 → (A (pl n o l) = -1 ∧ ∀ c, ¬ T n o l c) ∨ ∃ c, c < 2 ^ 30 ∧ A (pl n o l) = nI c ∧ T n o l c ∧ ∀ c2, T n o l c2 → c ≤ c2
theorem tbl_0 (h : ∀ j, j < 3072 → A j = -1) : tbl A (fun _ _ _ _ => False) := fun n o l h0 h1 h2 => Or.inl ⟨h _ (pl_lt h0 h1 h2), fun _ q => q⟩
theorem tbl_eq {T T2 : Nat → Nat → Nat → Nat → Prop} (h : tbl A T) (e : ∀ n o l c, T n o l c ↔ T2 n o l c) : tbl A T2 := by
  have : T = T2 := by
    funext n o l c
    exact propext (e n o l c)
  rw [← this]
  exact h
/-- one more way is written down -/
theorem tbl_l {T : Nat → Nat → Nat → Nat → Prop} (h : tbl A T) {n o l c : Nat} (h0 : n < 4) (h1 : o < 6) (h2 : l < 128) (hc : c < 2 ^ 30) : tbl (zu A (pl n o l) (lstV (A (pl n o l)) (nI c))) (fun n2 o2 l2 c2 => T n2 o2 l2 c2 ∨ (n2 = n ∧ o2 = o ∧ l2 = l ∧ c2 = c)) := by
  intro n2 o2 l2 g0 g1 g2
  by_cases e : pl n2 o2 l2 = pl n o l
  · obtain ⟨rfl, rfl, rfl⟩ := pl_inj g1 h1 g2 h2 e
    right
    rw [zu_s]
    rcases h n2 o2 l2 g0 g1 g2 with ⟨a1, a2⟩ | ⟨c1, b1, b2, b3, b4⟩
    · refine ⟨c, hc, ?_, Or.inr ⟨rfl, rfl, rfl, rfl⟩, fun c2 q => ?_⟩
      · rw [a1]
        unfold lstV
        rw [if_neg (by decide)]
      · rcases q with q | ⟨-, -, -, rfl⟩
        · exact absurd q (a2 c2)
        · exact Nat.le_refl _
    · have e0 : lstV (A (pl n2 o2 l2)) (nI c) = nI (min c1 c) := by
        rw [b2]
        unfold lstV
        rw [if_pos (Int32.not_lt.mp (nI_pos (by omega)))]
        unfold mn
        by_cases q : c < c1
        · first
            | rw [if_pos (nI_lt q (by omega)), Nat.min_eq_right (by omega)]
            | rw [if_neg (nI_nlt (by omega) (by omega)), Nat.min_eq_right (by omega)]
        · by_cases q2 : c = c1
          · subst q2; rw [Nat.min_self]; split <;> rfl
          · first
              | rw [if_neg (nI_nlt (by omega) (by omega)), Nat.min_eq_left (by omega)]
              | rw [if_pos (nI_lt (by omega) (by omega)), Nat.min_eq_left (by omega)]
      refine ⟨min c1 c, by omega, e0, ?_, fun c2 q => ?_⟩
      · by_cases q : c1 ≤ c
        · rw [Nat.min_eq_left q]; exact Or.inl b3
        · rw [Nat.min_eq_right (by omega)]; exact Or.inr ⟨rfl, rfl, rfl, rfl⟩
      · rcases q with q | ⟨-, -, -, rfl⟩
        · have := b4 c2 q; omega
        · exact Nat.min_le_right _ _
  · rw [zu_n _ _ _ e]
    rcases h n2 o2 l2 g0 g1 g2 with ⟨a1, a2⟩ | ⟨c1, b1, b2, b3, b4⟩
    · refine Or.inl ⟨a1, fun c2 q => ?_⟩
      rcases q with q | ⟨rfl, rfl, rfl, -⟩
      · exact a2 c2 q
      · exact e rfl
    · refine Or.inr ⟨c1, b1, b2, Or.inl b3, fun c2 q => ?_⟩
      rcases q with q | ⟨rfl, rfl, rfl, -⟩
      · exact b4 c2 q
      · exact absurd rfl e
/-- an hour of work at an office -/
def wkO (W : zI) (p o h : Nat) : Bool := opn W o h && zbit (W 9 o) (W 17 p)
def lsN (W : zI) (a b h : Nat) : Nat := (lst W a b h).toNatClampNeg
/-- how one may stand as the hour h0 + i begins: handings, office, what is left (it is more than nothing), the way in digits of eight -/
def rch (W : zI) (p h0 most no : Nat) : Nat → Nat → Nat → Nat → Nat → Prop
  | 0, n, o, l, c => n = 0 ∧ o = (W 20 p).toNatClampNeg ∧ l = (W 18 p).toNatClampNeg ∧ c = 0
  | i + 1, n, o, l, c => ∃ n1 o1 l1 l2 c1, rch W p h0 most no i n1 o1 l1 c1 ∧ l1 = l2 + (if wkO W p o1 (h0 + i) = true then 1 else 0) ∧ 0 < l2 ∧ ((n = n1 ∧ o = o1 ∧ l = l2 ∧ c = c1) ∨ (n = n1 + 1 ∧ n1 < most ∧ o < no ∧ o ≠ o1 ∧ l = l2 + lsN W o1 o (h0 + i + 1) ∧ c = 8 * c1 + o))
/-- it is done in the hour h0 + i, after n handings, by the way c -/
def fin (W : zI) (p h0 most no i n c : Nat) : Prop := ∃ o, rch W p h0 most no i n o 1 c ∧ wkO W p o (h0 + i) = true
/-- what the search says: the first hour by whose end it is done, the least handings then, the least way with them -/
def soon (W : zI) (p h0 most no i n c : Nat) : Prop := fin W p h0 most no i n c ∧ (∀ i2 n2 c2, i2 < i → ¬ fin W p h0 most no i2 n2 c2) ∧ (∀ n2 c2, fin W p h0 most no i n2 c2 → n < n2 ∨ (n = n2 ∧ c ≤ c2))
theorem soon_u {p h0 most no i n c i2 n2 c2 : Nat} (h : soon W p h0 most no i n c) (g : soon W p h0 most no i2 n2 c2) : i = i2 ∧ n = n2 ∧ c = c2 := by
  have e : i = i2 := by
    rcases Nat.lt_trichotomy i i2 with q | q | q
    · exact absurd h.1 (g.2.1 i n c q)
    · exact q
    · exact absurd g.1 (h.2.1 i2 n2 c2 q)
  subst e
  have a := h.2.2 n2 c2 g.1
  have b := g.2.2 n c h.1
  omega
end ONE
