set_option maxRecDepth 100000
/-! PURE: a row of offices gone through: what is left at least, of each stage -/
section DPR
variable {W : zI} {p h0 most no len born K : Nat} {r : Nat → Nat}
/-- the way of a row -/
def cdR (r : Nat → Nat) : Nat → Nat
  | 0 => 0
  | k + 1 => 8 * cdR r k + r (k + 1)
/-- behind the work of an hour -/
def awS (W : zI) (p h : Nat) (r : Nat → Nat) (L : Nat → Nat) (k : Nat) : Nat := if (L k < 9999 ∧ 0 < L k) ∧ wkO W p (r k) h = true then L k - 1 else L k
/-- behind the hour -/
def hoS (W : zI) (p h : Nat) (r : Nat → Nat) (L : Nat → Nat) : Nat → Nat
  | 0 => awS W p h r L 0
  | k + 1 => if awS W p h r L k < 9999 ∧ 0 < awS W p h r L k then min (awS W p h r L (k + 1)) (awS W p h r L k + lsN W (r k) (r (k + 1)) (h + 1)) else awS W p h r L (k + 1)
def lfR (W : zI) (p h0 len : Nat) (r : Nat → Nat) : Nat → Nat → Nat
  | 0 => fun k => if k = 0 then len else 9999
  | i + 1 => hoS W p (h0 + i) r (lfR W p h0 len r i)
/-- a row of K handings -/
def rwV (no born K : Nat) (r : Nat → Nat) : Prop := r 0 = born ∧ ∀ j, j < K → r (j + 1) < no ∧ r (j + 1) ≠ r j
theorem rch_o (h6 : no ≤ 6) : ∀ (i n o l c : Nat), rch W p h0 most no i n o l c → (n = 0 → o = (W 20 p).toNatClampNeg ∧ c = 0) ∧ ∀ m, n = m + 1 → o < no ∧ o = c % 8 := by
  intro i
  induction i with
  | zero => intro n o l c h; exact ⟨fun _ => ⟨h.2.1, h.2.2.2⟩, fun m e => by have := h.1; omega⟩
  | succ i ih =>
    intro n o l c h
    obtain ⟨n1, o1, l1, l2, c1, h1, -, -, ⟨rfl, rfl, rfl, rfl⟩ | ⟨rfl, hm, ho, hne, rfl, rfl⟩⟩ := h
    · exact ih _ _ _ _ h1
    · exact ⟨fun e => absurd e (by omega), fun m e => ⟨ho, by omega⟩⟩
theorem cdR_o (h6 : no ≤ 6) (hv : rwV no born K r) : ∀ k, k < K → cdR r (k + 1) / 8 = cdR r k ∧ cdR r (k + 1) % 8 = r (k + 1) := by
  intro k hk
  have := (hv.2 k hk).1
  rw [cdR]
  omega
/-- a step along a row -/
theorem rch_st (h6 : no ≤ 6) (hb : (W 20 p).toNatClampNeg = born) (hv : rwV no born K r) (hK : K ≤ most) {i k l : Nat} (hk : k ≤ K) : rch W p h0 most no (i + 1) k (r k) l (cdR r k) ↔
    (∃ l1, rch W p h0 most no i k (r k) l1 (cdR r k) ∧ l1 = l + (if wkO W p (r k) (h0 + i) = true then 1 else 0) ∧ 0 < l) ∨
    (∃ j l1 l2, k = j + 1 ∧ rch W p h0 most no i j (r j) l1 (cdR r j) ∧ l1 = l2 + (if wkO W p (r j) (h0 + i) = true then 1 else 0) ∧ 0 < l2 ∧ l = l2 + lsN W (r j) (r k) (h0 + i + 1)) := by
  constructor
  · rintro ⟨n1, o1, l1, l2, c1, h1, e1, h2, ⟨e2, e3, e4, e5⟩ | ⟨e2, hm, ho, hne, e4, e5⟩⟩
    · subst e2 e4
      rw [← e3, ← e5] at h1
      rw [← e3] at e1
      exact Or.inl ⟨l1, h1, e1, h2⟩
    · obtain ⟨j, rfl⟩ : ∃ j, k = j + 1 := ⟨n1, e2⟩
      have e6 : n1 = j := by omega
      subst e6
      have hc := cdR_o h6 hv n1 (by omega)
      have ec : c1 = cdR r n1 := by
        have hr := (hv.2 n1 (by omega)).1
        omega
      subst ec
      have eo : o1 = r n1 := by
        have q := rch_o h6 _ _ _ _ _ h1
        cases n1 with
        | zero => rw [(q.1 rfl).1, hb]; exact hv.1.symm
        | succ m =>
          rw [(q.2 m rfl).2]
          exact (cdR_o h6 hv m (by omega)).2
      subst eo
      exact Or.inr ⟨n1, l1, l2, rfl, h1, e1, h2, e4⟩
  · rintro (⟨l1, h1, e1, h2⟩ | ⟨j, l1, l2, rfl, h1, e1, h2, e3⟩)
    · exact ⟨k, r k, l1, l, cdR r k, h1, e1, h2, Or.inl ⟨rfl, rfl, rfl, rfl⟩⟩
    · have hr := hv.2 j (by omega)
      exact ⟨j, r j, l1, l2, cdR r j, h1, e1, h2, Or.inr ⟨rfl, by omega, hr.1, hr.2, e3, rfl⟩⟩
/-- what is left at least, as long as nothing was done -/
theorem lf_ok (h6 : no ≤ 6) (hb : (W 20 p).toNatClampNeg = born) (hv : rwV no born K r) (hK : K ≤ most) (hm : most ≤ 3) (hbn : born < no) (hl : (W 18 p).toNatClampNeg = len) (hl0 : 0 < len) (hl6 : len ≤ 60) (hls : ∀ a b h, a < no → b < no → lsN W a b h ≤ 22) : ∀ i, (∀ i2, i2 < i → ∀ n c, ¬ fin W p h0 most no i2 n c) → ∀ k, k ≤ K →
    (lfR W p h0 len r i k = 9999 ∧ ∀ l, ¬ rch W p h0 most no i k (r k) l (cdR r k)) ∨ ((0 < lfR W p h0 len r i k ∧ lfR W p h0 len r i k ≤ 60 + 22 * k) ∧ rch W p h0 most no i k (r k) (lfR W p h0 len r i k) (cdR r k) ∧ ∀ l, rch W p h0 most no i k (r k) l (cdR r k) → lfR W p h0 len r i k ≤ l) := by
  have hrn : ∀ k, k ≤ K → r k < no := fun k hk => by
    cases k with
    | zero => rw [hv.1]; exact hbn
    | succ j => exact (hv.2 j (by omega)).1
  intro i
  induction i with
  | zero =>
    intro _ k hk
    by_cases e : k = 0
    · subst e
      have e0 : lfR W p h0 len r 0 0 = len := rfl
      rw [e0]
      exact Or.inr ⟨⟨hl0, by omega⟩, ⟨rfl, by rw [hb]; exact hv.1, hl.symm, rfl⟩, fun l h => by rw [h.2.2.1, hl]; exact Nat.le_refl _⟩
    · exact Or.inl ⟨if_neg e, fun l h => e h.1⟩
  | succ i ih =>
    intro hal k hk
    have ih2 := ih (fun i2 h => hal i2 (by omega))
    have hna := hal i (by omega)
    obtain ⟨L, hL⟩ : ∃ L, L = lfR W p h0 len r i := ⟨_, rfl⟩
    rw [← hL] at ih2
    have A : ∀ k, k ≤ K → (awS W p (h0 + i) r L k = 9999 ∧ ∀ l, ¬ rch W p h0 most no i k (r k) l (cdR r k)) ∨ ((0 < awS W p (h0 + i) r L k ∧ awS W p (h0 + i) r L k ≤ 60 + 22 * k) ∧ rch W p h0 most no i k (r k) (awS W p (h0 + i) r L k + (if wkO W p (r k) (h0 + i) = true then 1 else 0)) (cdR r k) ∧ ∀ l, rch W p h0 most no i k (r k) l (cdR r k) → awS W p (h0 + i) r L k + (if wkO W p (r k) (h0 + i) = true then 1 else 0) ≤ l) := by
      intro k hk
      rcases ih2 k hk with ⟨a, b⟩ | ⟨⟨a1, a2⟩, b, c⟩
      · left
        refine ⟨?_, b⟩
        unfold awS
        rw [if_neg (fun q => by omega)]; exact a
      · right
        by_cases hw : wkO W p (r k) (h0 + i) = true
        · have e : awS W p (h0 + i) r L k = L k - 1 := if_pos ⟨⟨by omega, a1⟩, hw⟩
          have n1 : L k ≠ 1 := fun q => hna k (cdR r k) ⟨r k, by rw [← q]; exact b, hw⟩
          have e2 : awS W p (h0 + i) r L k + (if wkO W p (r k) (h0 + i) = true then 1 else 0) = L k := by rw [if_pos hw, e]; omega
          rw [e2, e]
          exact ⟨⟨by omega, by omega⟩, b, c⟩
        · have e : awS W p (h0 + i) r L k = L k := if_neg (fun q => hw q.2)
          have e2 : awS W p (h0 + i) r L k + (if wkO W p (r k) (h0 + i) = true then 1 else 0) = L k := by rw [if_neg hw, e]; rfl
          rw [e2, e]
          exact ⟨⟨a1, a2⟩, b, c⟩
    have eS : lfR W p h0 len r (i + 1) = hoS W p (h0 + i) r L := by rw [hL]; rfl
    rw [eS]
    simp only [rch_st h6 hb hv hK hk]
    cases k with
    | zero =>
      have e0 : hoS W p (h0 + i) r L 0 = awS W p (h0 + i) r L 0 := rfl
      rw [e0]
      rcases A 0 hk with ⟨a, b⟩ | ⟨a, b, c⟩
      · refine Or.inl ⟨a, fun l => ?_⟩
        rintro (⟨l1, h1, -, -⟩ | ⟨j, l1, l2, e, -⟩)
        · exact b _ h1
        · omega
      · refine Or.inr ⟨a, Or.inl ⟨_, b, rfl, a.1⟩, fun l => ?_⟩
        rintro (⟨l1, h1, e1, -⟩ | ⟨j, l1, l2, e, -⟩)
        · have := c _ h1; omega
        · omega
    | succ j =>
      have hlj := hls (r j) (r (j + 1)) (h0 + i + 1) (hrn j (by omega)) (hrn (j + 1) hk)
      have e0 : hoS W p (h0 + i) r L (j + 1) = if awS W p (h0 + i) r L j < 9999 ∧ 0 < awS W p (h0 + i) r L j then min (awS W p (h0 + i) r L (j + 1)) (awS W p (h0 + i) r L j + lsN W (r j) (r (j + 1)) (h0 + i + 1)) else awS W p (h0 + i) r L (j + 1) := rfl
      rw [e0]
      rcases A j (by omega) with ⟨a, b⟩ | ⟨a, b, c⟩
      · rw [if_neg (by omega)]
        rcases A (j + 1) hk with ⟨a2, b2⟩ | ⟨a2, b2, c2⟩
        · refine Or.inl ⟨a2, fun l => ?_⟩
          rintro (⟨l1, h1, -, -⟩ | ⟨j2, l1, l2, e, h1, -⟩)
          · exact b2 _ h1
          · obtain rfl : j = j2 := by omega
            exact b _ h1
        · refine Or.inr ⟨a2, Or.inl ⟨_, b2, rfl, a2.1⟩, fun l => ?_⟩
          rintro (⟨l1, h1, e1, -⟩ | ⟨j2, l1, l2, e, h1, -⟩)
          · have := c2 _ h1; omega
          · obtain rfl : j = j2 := by omega
            exact absurd h1 (b _)
      · rw [if_pos (by omega)]
        rcases A (j + 1) hk with ⟨a2, b2⟩ | ⟨a2, b2, c2⟩
        · rw [a2, Nat.min_eq_right (by omega)]
          refine Or.inr ⟨⟨by omega, by omega⟩, Or.inr ⟨j, _, _, rfl, b, rfl, a.1, rfl⟩, fun l => ?_⟩
          rintro (⟨l1, h1, -, -⟩ | ⟨j2, l1, l2, e, h1, e1, -, e3⟩)
          · exact absurd h1 (b2 _)
          · obtain rfl : j = j2 := by omega
            have := c _ h1; omega
        · refine Or.inr ⟨⟨by omega, by omega⟩, ?_, fun l => ?_⟩
          · by_cases q : awS W p (h0 + i) r L (j + 1) ≤ awS W p (h0 + i) r L j + lsN W (r j) (r (j + 1)) (h0 + i + 1)
            · rw [Nat.min_eq_left q]; exact Or.inl ⟨_, b2, rfl, a2.1⟩
            · rw [Nat.min_eq_right (by omega)]; exact Or.inr ⟨j, _, _, rfl, b, rfl, a.1, rfl⟩
          · rintro (⟨l1, h1, e1, -⟩ | ⟨j2, l1, l2, e, h1, e1, -, e3⟩)
            · have := c2 _ h1; omega
            · obtain rfl : j = j2 := by omega
              have := c _ h1; omega
/-- a row is done in the hour h0 + i -/
def dnR (W : zI) (p h0 len : Nat) (r : Nat → Nat) (K i : Nat) : Prop := awS W p (h0 + i) r (lfR W p h0 len r i) K = 0
theorem dn_fin (h6 : no ≤ 6) (hb : (W 20 p).toNatClampNeg = born) (hv : rwV no born K r) (hK : K ≤ most) (hm : most ≤ 3) (hbn : born < no) (hl : (W 18 p).toNatClampNeg = len) (hl0 : 0 < len) (hl6 : len ≤ 60) (hls : ∀ a b h, a < no → b < no → lsN W a b h ≤ 22) {i : Nat} (hal : ∀ i2, i2 < i → ∀ n c, ¬ fin W p h0 most no i2 n c) : dnR W p h0 len r K i ↔ fin W p h0 most no i K (cdR r K) := by
  have q := lf_ok h6 hb hv hK hm hbn hl hl0 hl6 hls i hal K (Nat.le_refl _)
  unfold dnR awS
  constructor
  · intro h
    rcases q with ⟨a, b⟩ | ⟨a, b, c⟩
    · rw [if_neg (fun q => by omega)] at h; omega
    · by_cases hw : (lfR W p h0 len r i K < 9999 ∧ 0 < lfR W p h0 len r i K) ∧ wkO W p (r K) (h0 + i) = true
      · rw [if_pos hw] at h
        have e : lfR W p h0 len r i K = 1 := by omega
        exact ⟨r K, by rw [← e]; exact b, hw.2⟩
      · rw [if_neg hw] at h; omega
  · rintro ⟨o, h1, h2⟩
    have eo : o = r K := by
      have q := rch_o h6 _ _ _ _ _ h1
      cases K with
      | zero => rw [(q.1 rfl).1, hb]; exact hv.1.symm
      | succ m => rw [(q.2 m rfl).2]; exact (cdR_o h6 hv m (by omega)).2
    subst eo
    rcases q with ⟨a, b⟩ | ⟨a, b, c⟩
    · exact absurd h1 (b _)
    · have := c _ h1
      have e : lfR W p h0 len r i K = 1 := by omega
      rw [if_pos ⟨⟨by omega, by omega⟩, h2⟩, e]
end DPR
