set_option maxRecDepth 100000
/-! PURE: all rows gone through in their order, the best of them kept -/
section SRC
/-- the row that a code tells -/
def dgR (born K c : Nat) : Nat → Nat := fun j => if j = 0 then born else c / 8 ^ (K - j) % 8
variable {born K c o no NN b bK bc X : Nat} {wv : Nat → Nat → Nat}
theorem dgR_0 : dgR born K c 0 = born := if_pos rfl
theorem dgR_s (ho : o < 8) {j : Nat} (hj : j ≤ K) : dgR born (K + 1) (8 * c + o) j = dgR born K c j := by
  unfold dgR
  by_cases e : j = 0
  · rw [if_pos e, if_pos e]
  · rw [if_neg e, if_neg e, show K + 1 - j = (K - j) + 1 by omega, Nat.pow_succ, Nat.mul_comm (8 ^ (K - j)) 8, ← Nat.div_div_eq_div_mul, show (8 * c + o) / 8 = c by omega]
theorem dgR_l (ho : o < 8) : dgR born (K + 1) (8 * c + o) (K + 1) = o := by
  unfold dgR
  rw [if_neg (by omega), Nat.sub_self, Nat.pow_zero, Nat.div_one]
  omega
theorem cdR_dg (h : c < 8 ^ K) : ∀ k, k ≤ K → cdR (dgR born K c) k = c / 8 ^ (K - k) := by
  intro k
  induction k with
  | zero => intro _; exact (Nat.div_eq_of_lt h).symm
  | succ k ih =>
    intro hk
    rw [cdR, ih (by omega)]
    unfold dgR
    rw [if_neg (by omega), show K - k = (K - (k + 1)) + 1 by omega, Nat.pow_succ, ← Nat.div_div_eq_div_mul]
    generalize c / 8 ^ (K - (k + 1)) = x
    omega
theorem cdR_K (h : c < 8 ^ K) : cdR (dgR born K c) K = c := by rw [cdR_dg h K (Nat.le_refl _), Nat.sub_self, Nat.pow_zero, Nat.div_one]
/-- a row that may be gone -/
def vr (no born K c : Nat) : Prop := c < 8 ^ K ∧ rwV no born K (dgR born K c)
theorem vr_s (h : vr no born K c) (h6 : no ≤ 6) (ho : o < no) (hne : o ≠ dgR born K c K) : vr no born (K + 1) (8 * c + o) := by
  refine ⟨by have := h.1; rw [Nat.pow_succ]; omega, dgR_0, fun j hj => ?_⟩
  by_cases e : j = K
  · subst e
    rw [dgR_l (by omega), dgR_s (by omega) (Nat.le_refl _)]
    exact ⟨ho, hne⟩
  · rw [dgR_s (by omega) (by omega), dgR_s (by omega) (by omega)]
    exact h.2.2 j (by omega)
theorem vr_0 : vr no born 0 0 := ⟨by decide, dgR_0, fun j hj => absurd hj (Nat.not_lt_zero _)⟩
/-- what a longer row's code says of the shorter one -/
theorem dgR_d {m : Nat} {j : Nat} (hj : j ≤ K) : dgR born (K + m) c j = dgR born K (c / 8 ^ m) j := by
  unfold dgR
  by_cases e : j = 0
  · rw [if_pos e, if_pos e]
  · rw [if_neg e, if_neg e, Nat.div_div_eq_div_mul, ← Nat.pow_add, show K + m - j = m + (K - j) by omega]
theorem vr_d {m : Nat} (h : vr no born (K + m) c) {j : Nat} (hj : j < K) : dgR born K (c / 8 ^ m) (j + 1) < no ∧ dgR born K (c / 8 ^ m) (j + 1) ≠ dgR born K (c / 8 ^ m) j := by
  have := h.2.2 j (by omega)
  rw [dgR_d (by omega), dgR_d (by omega)] at this
  exact this
/-- the first of them that holds -/
def frH (f : Nat → Bool) : Nat → Nat
  | 0 => 0
  | m + 1 => if frH f m < m then frH f m else if f m = true then m else m + 1
theorem frH_le {f : Nat → Bool} : ∀ m, frH f m ≤ m := by
  intro m
  induction m with
  | zero => exact Nat.le_refl _
  | succ m ih => rw [frH]; split <;> (try split) <;> omega
theorem frH_lt {f : Nat → Bool} : ∀ {m}, frH f m < m → f (frH f m) = true := by
  intro m
  induction m with
  | zero => intro h; exact absurd h (Nat.not_lt_zero _)
  | succ m ih =>
    intro h
    rw [frH] at h ⊢
    split
    · next q => exact ih q
    · next q =>
      rw [if_neg q] at h
      split
      · next q2 => exact q2
      · next q2 => rw [if_neg q2] at h; omega
theorem frH_n {f : Nat → Bool} : ∀ {m i}, i < frH f m → f i = false := by
  intro m
  induction m with
  | zero => intro i h; exact absurd h (Nat.not_lt_zero _)
  | succ m ih =>
    intro i h
    rw [frH] at h
    split at h
    · exact ih h
    · next q =>
      have e : frH f m = m := by have := frH_le (f := f) m; omega
      split at h
      · exact ih (by omega)
      · next q2 =>
        by_cases e2 : i = m
        · subst e2; exact Bool.not_eq_true _ ▸ q2
        · exact ih (by omega)
theorem frH_eq {f : Nat → Bool} {m i : Nat} (hi : i < m) (h : f i = true) (h0 : ∀ j, j < i → f j = false) : frH f m = i := by
  rcases Nat.lt_trichotomy (frH f m) i with q | q | q
  · have := frH_lt (f := f) (m := m) (by omega)
    rw [h0 _ q] at this
    exact absurd this (by decide)
  · exact q
  · have := frH_n q
    rw [h] at this
    exact absurd this (by decide)
theorem frH_all {f : Nat → Bool} {m : Nat} (h0 : ∀ j, j < m → f j = false) : frH f m = m := by
  have h1 := frH_le (f := f) m
  by_cases e : frH f m = m
  · exact e
  · have := frH_lt (f := f) (m := m) (by omega)
    rw [h0 _ (by omega)] at this
    exact absurd this (by decide)
/-- gone through so far -/
def sn (no born K X K2 c2 : Nat) : Prop := vr no born K2 c2 ∧ (K2 < K ∨ (K2 = K ∧ c2 < X))
/-- the best of what is gone through: the first of the least; NN: none yet -/
def bsI (no born NN : Nat) (wv : Nat → Nat → Nat) (K X b bK bc : Nat) : Prop := (b ≤ NN ∧ ∀ K2 c2, sn no born K X K2 c2 → b ≤ wv K2 c2) ∧ (b < NN → sn no born K X bK bc ∧ wv bK bc = b ∧ ∀ K2 c2, sn no born K X K2 c2 → wv K2 c2 = b → bK < K2 ∨ (bK = K2 ∧ bc ≤ c2))
theorem bsI_0 : bsI no born NN wv 0 0 NN bK bc := ⟨⟨Nat.le_refl _, fun K2 c2 h => by rcases h.2 with q | q <;> omega⟩, fun h => absurd h (Nat.lt_irrefl _)⟩
theorem bsI_eq {K2 X2 : Nat} (h : bsI no born NN wv K X b bK bc) (e : ∀ x y, sn no born K2 X2 x y ↔ sn no born K X x y) : bsI no born NN wv K2 X2 b bK bc := ⟨⟨h.1.1, fun x y q => h.1.2 x y ((e x y).mp q)⟩, fun q => ⟨(e _ _).mpr (h.2 q).1, (h.2 q).2.1, fun x y s => (h.2 q).2.2 x y ((e x y).mp s)⟩⟩
theorem bsI_gap {Y : Nat} (h : bsI no born NN wv K X b bK bc) (hXY : X ≤ Y) (hg : ∀ c, X ≤ c → c < Y → ¬ vr no born K c) : bsI no born NN wv K Y b bK bc := bsI_eq h fun x y => by
  refine ⟨fun ⟨a, q⟩ => ⟨a, ?_⟩, fun ⟨a, q⟩ => ⟨a, by omega⟩⟩
  rcases q with q | ⟨rfl, q⟩
  · exact Or.inl q
  · by_cases e : y < X
    · exact Or.inr ⟨rfl, e⟩
    · exact absurd a (hg y (by omega) q)
theorem bsI_next (h : bsI no born NN wv K (8 ^ K) b bK bc) : bsI no born NN wv (K + 1) 0 b bK bc := bsI_eq h fun x y => by
  refine ⟨fun ⟨a, q⟩ => ⟨a, ?_⟩, fun ⟨a, q⟩ => ⟨a, by omega⟩⟩
  by_cases e : x = K
  · subst e; exact Or.inr ⟨rfl, a.1⟩
  · exact Or.inl (by omega)
theorem sn_c {x y : Nat} (q : sn no born K (c + 1) x y) : sn no born K c x y ∨ (x = K ∧ y = c) := by
  by_cases e : x = K ∧ y = c
  · exact Or.inr e
  · exact Or.inl ⟨q.1, by have := q.2; omega⟩
theorem bsI_no (h : bsI no born NN wv K c b bK bc) (hv : b ≤ wv K c) : bsI no born NN wv K (c + 1) b bK bc := by
  refine ⟨⟨h.1.1, fun x y q => ?_⟩, fun q => ⟨⟨(h.2 q).1.1, by have := (h.2 q).1.2; omega⟩, (h.2 q).2.1, fun x y s es => ?_⟩⟩
  · rcases sn_c q with q | ⟨rfl, rfl⟩
    · exact h.1.2 x y q
    · exact hv
  · rcases sn_c s with s | ⟨rfl, rfl⟩
    · exact (h.2 q).2.2 x y s es
    · have := (h.2 q).1.2; omega
theorem bsI_yes (h : bsI no born NN wv K c b bK bc) (hr : vr no born K c) (hv : wv K c < b) : bsI no born NN wv K (c + 1) (wv K c) K c := by
  refine ⟨⟨by have := h.1.1; omega, fun x y q => ?_⟩, fun _ => ⟨⟨hr, Or.inr ⟨rfl, Nat.lt_succ_self _⟩⟩, rfl, fun x y s es => ?_⟩⟩
  · rcases sn_c q with q | ⟨rfl, rfl⟩
    · have := h.1.2 x y q; omega
    · exact Nat.le_refl _
  · rcases sn_c s with s | ⟨rfl, rfl⟩
    · have := h.1.2 x y s; omega
    · exact Or.inr ⟨rfl, Nat.le_refl _⟩
/-- nothing goes through an office that isn't, nor from an office to itself -/
theorem gap_o {m at1 : Nat} (hno : ¬ (o < no ∧ o ≠ dgR born at1 c at1)) (ho : o < 8) : ∀ c2, (8 * c + o) * 8 ^ m ≤ c2 → c2 < (8 * c + o + 1) * 8 ^ m → ¬ vr no born (at1 + 1 + m) c2 := by
  intro c2 h1 h2 hv
  have e : c2 / 8 ^ m = 8 * c + o := by
    have hp : 0 < 8 ^ m := Nat.pow_pos (by decide)
    apply Nat.le_antisymm
    · exact Nat.lt_succ_iff.mp ((Nat.div_lt_iff_lt_mul hp).mpr h2)
    · exact (Nat.le_div_iff_mul_le hp).mpr h1
  have := vr_d (m := m) hv (Nat.lt_succ_self at1)
  rw [e, dgR_l ho, dgR_s ho (Nat.le_refl _)] at this
  exact hno this
/-- what a row comes to: the hour, counted from h0, in which it is done; NN: it is not -/
def wvS (W : zI) (p h0 len born NN K c : Nat) : Nat := frH (fun i => decide (awS W p (h0 + i) (dgR born K c) (lfR W p h0 len (dgR born K c) i) K = 0)) NN
variable {W : zI} {p h0 most len : Nat}
theorem rch_vr (h6 : no ≤ 6) (hb : (W 20 p).toNatClampNeg = born) : ∀ (i n o l c : Nat), rch W p h0 most no i n o l c → n ≤ most ∧ vr no born n c ∧ o = dgR born n c n := by
  intro i
  induction i with
  | zero =>
    rintro n o l c ⟨rfl, h1, -, rfl⟩
    exact ⟨Nat.zero_le _, vr_0, by rw [h1, hb]; rfl⟩
  | succ i ih =>
    rintro n o l c ⟨n1, o1, l1, l2, c1, h1, -, -, ⟨rfl, rfl, rfl, rfl⟩ | ⟨rfl, hm, ho, hne, rfl, rfl⟩⟩
    · exact ih _ _ _ _ h1
    · obtain ⟨a, b, e⟩ := ih _ _ _ _ h1
      exact ⟨hm, vr_s b h6 ho (by rw [← e]; exact hne), (dgR_l (by omega)).symm⟩
theorem lfR_pos {r : Nat → Nat} (hl0 : 0 < len) (hw : ∀ h, wkO W p (r K) h = false) : ∀ i, 0 < lfR W p h0 len r i K := by
  intro i
  induction i with
  | zero => show 0 < (if K = 0 then len else 9999); split <;> omega
  | succ i ih =>
    have e : awS W p (h0 + i) r (lfR W p h0 len r i) K = lfR W p h0 len r i K := if_neg (fun q => by rw [hw] at q; exact absurd q.2 (by decide))
    show 0 < hoS W p (h0 + i) r (lfR W p h0 len r i) K
    cases K with
    | zero => show 0 < awS _ _ _ _ _ _; rw [e]; exact ih
    | succ k =>
      show 0 < (if awS W p (h0 + i) r (lfR W p h0 len r i) k < 9999 ∧ 0 < awS W p (h0 + i) r (lfR W p h0 len r i) k then min (awS W p (h0 + i) r (lfR W p h0 len r i) (k + 1)) (awS W p (h0 + i) r (lfR W p h0 len r i) k + lsN W (r k) (r (k + 1)) (h0 + i + 1)) else awS W p (h0 + i) r (lfR W p h0 len r i) (k + 1))
      rw [e]
      split <;> omega
theorem wvS_no (hl0 : 0 < len) (hz : zbit (W 9 (dgR born K c K)) (W 17 p) = false) : wvS W p h0 len born NN K c = NN := by
  have hw : ∀ h, wkO W p (dgR born K c K) h = false := fun h => by unfold wkO; rw [hz, Bool.and_false]
  refine frH_all fun j hj => decide_eq_false fun e => ?_
  have hp := lfR_pos (h0 := h0) (r := dgR born K c) hl0 hw j
  have e2 : awS W p (h0 + j) (dgR born K c) (lfR W p h0 len (dgR born K c) j) K = lfR W p h0 len (dgR born K c) j K := if_neg (fun q => by rw [hw] at q; exact absurd q.2 (by decide))
  omega
/-- the best of all rows is what the search says -/
theorem bsI_soon (h : bsI no born NN (wvS W p h0 len born NN) (most + 1) 0 b bK bc) (h6 : no ≤ 6) (hb : (W 20 p).toNatClampNeg = born) (hm : most ≤ 3) (hbn : born < no) (hl : (W 18 p).toNatClampNeg = len) (hl0 : 0 < len) (hl6 : len ≤ 60) (hls : ∀ a b h, a < no → b < no → lsN W a b h ≤ 22) :
    (b = NN ∧ ∀ i, i < NN → ∀ n c, ¬ fin W p h0 most no i n c) ∨ (b < NN ∧ (bK ≤ most ∧ vr no born bK bc) ∧ soon W p h0 most no b bK bc) := by
  have key : ∀ i, i ≤ b → i < NN → (∀ j, j < i → ∀ n c, ¬ fin W p h0 most no j n c) → ∀ n c, fin W p h0 most no i n c → vr no born n c ∧ n ≤ most ∧ wvS W p h0 len born NN n c ≤ i := by
    intro i _ hi hal n c hf
    obtain ⟨o, h1, h2⟩ := id hf
    obtain ⟨a1, a2, a3⟩ := rch_vr h6 hb _ _ _ _ _ h1
    refine ⟨a2, a1, ?_⟩
    have d := (dn_fin (K := n) (r := dgR born n c) (i := i) h6 hb a2.2 a1 hm hbn hl hl0 hl6 hls hal).mpr (by rw [cdR_K a2.1]; exact hf)
    apply Nat.le_of_not_lt
    intro q
    have := frH_n q
    exact (of_decide_eq_false this) d
  have hal : ∀ i, i < b → ∀ n c, ¬ fin W p h0 most no i n c := by
    intro i
    induction i using Nat.strongRecOn with
    | _ i ih =>
      intro hi n c hf
      obtain ⟨a1, a2, a3⟩ := key i (by omega) (by have := h.1.1; omega) (fun j hj => ih j hj (by omega)) n c hf
      have := h.1.2 n c ⟨a1, Or.inl (by omega)⟩
      omega
  by_cases e : b = NN
  · exact Or.inl ⟨e, fun i hi => hal i (by omega)⟩
  · have hlt : b < NN := by have := h.1.1; omega
    obtain ⟨⟨s1, s2⟩, e1, s3⟩ := h.2 hlt
    have hk : bK ≤ most := by omega
    refine Or.inr ⟨hlt, ⟨hk, s1⟩, ?_, fun i n c hi => hal i hi n c, fun n c hf => ?_⟩
    · have d := frH_lt (f := fun i => decide (awS W p (h0 + i) (dgR born bK bc) (lfR W p h0 len (dgR born bK bc) i) bK = 0)) (m := NN) (by show wvS W p h0 len born NN bK bc < NN; omega)
      have d2 := of_decide_eq_true d
      have e3 : frH (fun i => decide (awS W p (h0 + i) (dgR born bK bc) (lfR W p h0 len (dgR born bK bc) i) bK = 0)) NN = b := e1
      rw [e3] at d2
      have := (dn_fin (K := bK) (r := dgR born bK bc) (i := b) h6 hb s1.2 hk hm hbn hl hl0 hl6 hls hal).mp d2
      rw [cdR_K s1.1] at this
      exact this
    · obtain ⟨a1, a2, a3⟩ := key b (Nat.le_refl _) hlt hal n c hf
      have := h.1.2 n c ⟨a1, Or.inl (by omega)⟩
      have := s3 n c ⟨a1, Or.inl (by omega)⟩ (by omega)
      omega
end SRC
