set_option maxRecDepth 100000
/-! THE COMPONENT's SIDE, part 1: what its memory holds. x: handle 100; a state at h: its array of the field k at h + k; a world at h: offices h + 1, known h + 2, its rows h + 3 + a; an office at a: its feasts at a + 8 -/
def sAr : Nat → Option (FieldType × Nat) := fun k => match k with
  | 4 => some (.int, 8) | 5 => some (.int, 8) | 6 => some (.int, 8) | 7 => some (.int, 8) | 8 => some (.boolean, 8) | 9 => some (.int, 8) | 10 => some (.int, 8) | 11 => some (.int, 8) | 12 => some (.int, 60) | 14 => some (.int, 6)
  | _ => none
def stO (S : zT) (P : zR) (h : Nat) : Prop := S h = some (.inl 2) ∧ (∀ k q, sAr k = some q → S (h + k) = some (.inr q) ∧ P h k = some (h + k)) ∧ P h 15 = some 100
/-- where the row of a state has the field k -/
def sBs : Nat → Nat := fun k => match k with
  | 4 => 3 | 5 => 11 | 6 => 19 | 7 => 35 | 8 => 27 | 9 => 43 | 10 => 51 | _ => 59
/-- the object at h says what the row s says -/
def sRw (n : Nat) (I : zI) (h : Nat) (s : zS) : Prop := (I h 0 = s 0 ∧ I h 1 = s 1 ∧ I h 2 = sumI (fun p => s (51 + p)) n ∧ I h 3 = sumI (fun p => s (59 + p)) n) ∧ (∀ k p, 4 ≤ k → k ≤ 11 → p < n → I (h + k) p = s (sBs k + p)) ∧
  (∀ k p, (k = 6 ∨ (8 ≤ k ∧ k ≤ 11)) → n ≤ p → p < 8 → I (h + k) p = 0) ∧ ∀ k, k < (s 2).toNatClampNeg → I (h + 12) k = s (67 + k)
theorem sRw.f {n h : Nat} {I : zI} {s : zS} (g : sRw n I h s) {k p : Nat} (h4 : 4 ≤ k) (h11 : k ≤ 11) (hp : p < n) : I (h + k) p = s (sBs k + p) := g.2.1 k p h4 h11 hp
theorem sBs_k : ∀ k, 4 ≤ k → k ≤ 11 → (sBs k = 3 ∧ k = 4) ∨ (sBs k = 11 ∧ k = 5) ∨ (sBs k = 19 ∧ k = 6) ∨ (sBs k = 35 ∧ k = 7) ∨ (sBs k = 27 ∧ k = 8) ∨ (sBs k = 43 ∧ k = 9) ∨ (sBs k = 51 ∧ k = 10) ∨ (sBs k = 59 ∧ k = 11) := by
  intro k h1 h2
  obtain rfl | rfl | rfl | rfl | rfl | rfl | rfl | rfl : k = 4 ∨ k = 5 ∨ k = 6 ∨ k = 7 ∨ k = 8 ∨ k = 9 ∨ k = 10 ∨ k = 11 := by omega
  all_goals simp [sBs]
theorem sumI_c {f g : Nat → Int32} : ∀ n, (∀ p, p < n → f p = g p) → sumI f n = sumI g n := by
  intro n
  induction n with
  | zero => exact fun _ => rfl
  | succ n ih => intro h; rw [sumI, sumI, ih (fun p hp => h p (by omega)), h n (by omega)]
theorem sumI_u {f : Nat → Int32} {v : Int32} : ∀ n p, p < n → sumI (zu f p v) n = sumI f n + (v - f p) := by
  intro n
  induction n with
  | zero => intro p hp; exact absurd hp (by omega)
  | succ n ih =>
    intro p hp
    rw [sumI, sumI]
    by_cases e : p = n
    · subst e
      rw [zu_s, sumI_c p (fun q hq => zu_n _ _ _ (by omega))]
      generalize sumI f p = a
      generalize f p = b
      rw [Int32.add_assoc]
      congr 1
      rw [Int32.sub_eq_add_neg, Int32.add_comm v, ← Int32.add_assoc, Int32.add_right_neg, Int32.zero_add]
    · rw [ih p (by omega), zu_n _ _ _ (by omega)]
      generalize sumI f n = a
      generalize f n = b
      generalize v - f p = c
      rw [Int32.add_assoc, Int32.add_assoc, Int32.add_comm c]
/-- a place of a piece is written, where no sum is told of it -/
theorem sRw.put {n h : Nat} {I : zI} {s : zS} (g : sRw n I h s) (hn : n ≤ 8) {k p : Nat} {v : Int32} (h4 : 4 ≤ k) (h9 : k ≤ 9) (hp : p < n) : sRw n (zw I (h + k) p v) h (zu s (sBs k + p) v) := by
  obtain ⟨⟨a0, a1, a2, a3⟩, b, c, e⟩ := g
  have hk := sBs_k k h4 (by omega)
  refine ⟨⟨?_, ?_, ?_, ?_⟩, fun k2 p2 h42 h112 hp2 => ?_, fun k2 p2 hk2 hp2 hp8 => ?_, fun j hj => ?_⟩
  · rw [zw_n _ _ _ _ (by omega), zu_n _ _ _ (by omega)]; exact a0
  · rw [zw_n _ _ _ _ (by omega), zu_n _ _ _ (by omega)]; exact a1
  · rw [zw_n _ _ _ _ (by omega), a2]; exact sumI_c n (fun q hq => (zu_n _ _ _ (by omega)).symm)
  · rw [zw_n _ _ _ _ (by omega), a3]; exact sumI_c n (fun q hq => (zu_n _ _ _ (by omega)).symm)
  · have hk3 := sBs_k k2 h42 h112
    by_cases ek : k2 = k
    · subst ek
      rw [zw_a]
      by_cases ep : p2 = p
      · subst ep; rw [zu_s, zu_s]
      · rw [zu_n _ _ _ ep, zu_n _ _ _ (by omega)]; exact b _ _ h42 h112 hp2
    · rw [zw_n _ _ _ _ (by omega), zu_n _ _ _ (by omega)]; exact b _ _ h42 h112 hp2
  · by_cases ek : k2 = k
    · subst ek; rw [zw_a, zu_n _ _ _ (by omega)]; exact c _ _ hk2 hp2 hp8
    · rw [zw_n _ _ _ _ (by omega)]; exact c _ _ hk2 hp2 hp8
  · rw [zu_n _ _ _ (by omega)] at hj
    rw [zw_n _ _ _ _ (by omega), zu_n _ _ _ (by omega)]; exact e j hj
theorem sRw.now {n h : Nat} {I : zI} {s : zS} (g : sRw n I h s) (hn : n ≤ 8) {v : Int32} : sRw n (zw I h 0 v) h (zu s 0 v) := by
  obtain ⟨⟨a0, a1, a2, a3⟩, b, c, e⟩ := g
  refine ⟨⟨?_, ?_, ?_, ?_⟩, fun k2 p2 h42 h112 hp2 => ?_, fun k2 p2 hk2 hp2 hp8 => ?_, fun j hj => ?_⟩
  · rw [zw_s, zu_s]
  · rw [zw_a, zu_n _ _ _ (by decide), zu_n _ _ _ (by decide)]; exact a1
  · rw [zw_a, zu_n _ _ _ (by decide), a2]; exact sumI_c n (fun q hq => (zu_n _ _ _ (by omega)).symm)
  · rw [zw_a, zu_n _ _ _ (by decide), a3]; exact sumI_c n (fun q hq => (zu_n _ _ _ (by omega)).symm)
  · have hk3 := sBs_k k2 h42 h112
    rw [zw_n _ _ _ _ (by omega), zu_n _ _ _ (by omega)]; exact b _ _ h42 h112 hp2
  · rw [zw_n _ _ _ _ (by omega)]; exact c _ _ hk2 hp2 hp8
  · rw [zu_n _ _ _ (by decide)] at hj
    rw [zw_n _ _ _ _ (by omega), zu_n _ _ _ (by omega)]; exact e j hj
theorem sRw.pay {n h : Nat} {I : zI} {s : zS} (g : sRw n I h s) (hn : n ≤ 8) {v : Int32} : sRw n (zw I h 1 v) h (zu s 1 v) := by
  obtain ⟨⟨a0, a1, a2, a3⟩, b, c, e⟩ := g
  refine ⟨⟨?_, ?_, ?_, ?_⟩, fun k2 p2 h42 h112 hp2 => ?_, fun k2 p2 hk2 hp2 hp8 => ?_, fun j hj => ?_⟩
  · rw [zw_a, zu_n _ _ _ (by decide), zu_n _ _ _ (by decide)]; exact a0
  · rw [zw_s, zu_s]
  · rw [zw_a, zu_n _ _ _ (by decide), a2]; exact sumI_c n (fun q hq => (zu_n _ _ _ (by omega)).symm)
  · rw [zw_a, zu_n _ _ _ (by decide), a3]; exact sumI_c n (fun q hq => (zu_n _ _ _ (by omega)).symm)
  · have hk3 := sBs_k k2 h42 h112
    rw [zw_n _ _ _ _ (by omega), zu_n _ _ _ (by omega)]; exact b _ _ h42 h112 hp2
  · rw [zw_n _ _ _ _ (by omega)]; exact c _ _ hk2 hp2 hp8
  · rw [zu_n _ _ _ (by decide)] at hj
    rw [zw_n _ _ _ _ (by omega), zu_n _ _ _ (by omega)]; exact e j hj
/-- what lies outside -/
theorem sRw.fr {n h : Nat} {I I2 : zI} {s : zS} (g : sRw n I h s) (he : ∀ k, k ≤ 12 → I2 (h + k) = I (h + k)) : sRw n I2 h s := by
  obtain ⟨⟨a0, a1, a2, a3⟩, b, c, e⟩ := g
  have h0 := he 0 (by omega)
  rw [Nat.add_zero] at h0
  refine ⟨⟨by rw [h0]; exact a0, by rw [h0]; exact a1, by rw [h0]; exact a2, by rw [h0]; exact a3⟩, fun k p h4 h11 hp => by rw [he k (by omega)]; exact b k p h4 h11 hp, fun k p hk hp hp8 => by rw [he k (by omega)]; exact c k p hk hp hp8, fun j hj => by rw [he 12 (by omega)]; exact e j hj⟩
-- offices
def oOk (S : zT) (P : zR) (a : Nat) : Prop := S a = some (.inl 5) ∧ S (a + 8) = some (.inr (.boolean, 100)) ∧ P a 8 = some (a + 8)
def oRw (I : zI) (a : Nat) (W : zI) (o : Nat) : Prop := (I a 0 = W 4 o ∧ I a 1 = W 5 o ∧ I a 2 = W 6 o ∧ I a 3 = W 7 o) ∧ (I a 4 = W 8 o ∧ I a 5 = W 9 o ∧ I a 6 = W 10 o ∧ I a 7 = W 11 o) ∧ ∀ d, d < 100 → I (a + 8) d = W 12 (100 * o + d)
-- worlds
def wdO (S : zT) (P : zR) (h : Nat) : Prop := S h = some (.inl 1) ∧ (S (h + 1) = some (.inr (.object "FollowTheSun$Office", 6)) ∧ P h 0 = some (h + 1)) ∧ (S (h + 2) = some (.inr (.array .int, 6)) ∧ P h 4 = some (h + 2)) ∧ ∀ a, a < 6 → S (h + 3 + a) = some (.inr (.int, 6)) ∧ P (h + 2) a = some (h + 3 + a)
/-- the world at h says what W says; its offices are oh -/
def wRw (S : zT) (P : zR) (I : zI) (h : Nat) (W : zI) (no : Nat) (oh : Nat → Nat) : Prop := (I h 1 = nI no ∧ I h 2 = W 0 14 ∧ I h 3 = W 0 15) ∧ (∀ a b, a < 6 → b < 6 → I (h + 3 + a) b = if a < no ∧ b < no then W 13 (6 * a + b) else 0) ∧ ∀ o, o < no → P (h + 1) o = some (oh o) ∧ oOk S P (oh o) ∧ oRw I (oh o) W o
-- pieces
def pcR (S : zT) (P : zR) (I : zI) (W : zI) (n : Nat) (ph : Nat → Nat) : Prop := ∀ p, p < n → P 110 p = some (ph p) ∧ S (ph p) = some (.inl 6) ∧ (I (ph p) 0 = W 17 p ∧ I (ph p) 1 = W 18 p ∧ I (ph p) 2 = W 19 p) ∧ (I (ph p) 3 = askd W p ∧ I (ph p) 4 = W 22 p ∧ I (ph p) 5 = W 20 p)
-- the object x (handle 100) and what it keeps
def xAr : Nat → Option (FieldType × Nat × Nat) := fun k => match k with
  | 0 => some (.object "FollowTheSun$Piece", 8, 110) | 7 => some (.byte, 60, 301) | 9 => some (.long, 32, 302) | 11 => some (.int, 9, 303) | 12 => some (.int, 9, 304) | 13 => some (.int, 9, 305) | 15 => some (.object "FollowTheSun$State", 3, 306) | 16 => some (.int, 3, 307)
  | _ => none
def xO (S : zT) (P : zR) : Prop := S 100 = some (.inl 0) ∧ S 300 = some (.inl 3) ∧ (∀ k q, xAr k = some q → S q.2.2 = some (.inr (q.1, q.2.1)) ∧ P 100 k = some q.2.2) ∧ (P 100 2 = some 200 ∧ P 100 3 = some 220 ∧ P 100 4 = some 240 ∧ P 100 5 = some 270 ∧ P 100 6 = some 300) ∧ wdO S P 200 ∧ wdO S P 220 ∧ stO S P 240 ∧ stO S P 270
/-- what pieces are like -/
def xf (W : zI) (n : Nat) : Prop := ∀ p, p < n → (∃ A, A < 2 ^ p ∧ W 19 p = nI A) ∧ (∃ l, 1 ≤ l ∧ l ≤ 60 ∧ W 18 p = nI l) ∧ (∃ e, 1 ≤ e ∧ e ≤ 60 ∧ W 22 p = nI e) ∧ ∃ c, c < 6 ∧ W 17 p = nI c
/-- handings of a row: the book has the first sixty -/
def hk (s : zS) (n b : Nat) : Prop := ∃ H, H ≤ b ∧ s 2 = nI (min 60 H) ∧ sumI (fun p => s (51 + p)) n = nI H
