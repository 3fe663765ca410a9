set_option maxRecDepth 100000
/-! PURE: one piece, the cheapest by an hour: how it may stand -/
section CHP
variable {W : zI} {T U : Nat → Nat → Nat → Nat → Prop} {p h0 h most no n o l x len born K c : Nat} {r : Nat → Nat}
def pyN (W : zI) (o : Nat) : Nat := (W 7 o).toNatClampNeg
/-- what is paid is little -/
def pyf (W : zI) (no : Nat) : Prop := ∀ o, o < no → ∃ v, v ≤ 99 ∧ W 7 o = nI v
theorem pyf_b (hy : pyf W no) (ho : o < no) : W 7 o = nI (pyN W o) ∧ pyN W o ≤ 99 := by
  obtain ⟨v, hv, e⟩ := hy o ho
  unfold pyN
  rw [e, nI_clamp (by omega)]
  exact ⟨rfl, hv⟩
/-- a way by an office more (pay and way in one number) -/
def hdX (x b : Nat) : Nat := x / 512 * 512 + (x % 512 * 8 + b)
/-- within an hour: it works or it doesn't -/
def mdT (W : zI) (p h : Nat) (U : Nat → Nat → Nat → Nat → Prop) : Nat → Nat → Nat → Nat → Prop := fun n o l x => U n o l x ∨ (wkO W p o h = true ∧ ∃ x1, U n o (l + 1) x1 ∧ x = x1 + 512 * pyN W o)
/-- how it may stand behind the hour -/
def nxP (W : zI) (p h most no : Nat) (U : Nat → Nat → Nat → Nat → Prop) : Nat → Nat → Nat → Nat → Prop := fun n o l x =>
  ∃ n1 o1 l2 x2, mdT W p h U n1 o1 l2 x2 ∧ 0 < l2 ∧ ((n = n1 ∧ o = o1 ∧ l = l2 ∧ x = x2) ∨ (n = n1 + 1 ∧ n1 < most ∧ o < no ∧ o ≠ o1 ∧ l = l2 + lsN W o1 o (h + 1) ∧ x = hdX x2 o))
/-- it is done in the hour -/
def fxP (W : zI) (p h : Nat) (U : Nat → Nat → Nat → Nat → Prop) : Nat → Nat → Prop := fun n x => ∃ o x1, U n o 1 x1 ∧ wkO W p o h = true ∧ x = x1 + 512 * pyN W o
def rcc (W : zI) (p h0 most no : Nat) : Nat → Nat → Nat → Nat → Nat → Prop
  | 0 => fun n o l x => n = 0 ∧ o = (W 20 p).toNatClampNeg ∧ l = (W 18 p).toNatClampNeg ∧ x = 0
  | i + 1 => nxP W p (h0 + i) most no (rcc W p h0 most no i)
def fiC (W : zI) (p h0 most no i n x : Nat) : Prop := fxP W p (h0 + i) (rcc W p h0 most no i) n x
/-- what is better: less pay, less handings, the way that comes first -/
def btC (n x n2 x2 : Nat) : Prop := x / 512 < x2 / 512 ∨ (x / 512 = x2 / 512 ∧ (n < n2 ∨ (n = n2 ∧ x ≤ x2)))
/-- what the search says of H hours -/
def chp (W : zI) (p h0 most no H n x : Nat) : Prop := (∃ i, i < H ∧ fiC W p h0 most no i n x) ∧ ∀ i n2 x2, i < H → fiC W p h0 most no i n2 x2 → btC n x n2 x2
theorem chp_u {H n2 x2 : Nat} (h : chp W p h0 most no H n x) (g : chp W p h0 most no H n2 x2) : n = n2 ∧ x = x2 := by
  obtain ⟨⟨i, hi, a⟩, b⟩ := h
  obtain ⟨⟨j, hj, e⟩, f⟩ := g
  have q1 := b j n2 x2 hj e
  have q2 := f i n x hi a
  unfold btC at q1 q2
  omega
theorem rcc_b (hk : knf W no) (hy : pyf W no) (hb : (W 20 p).toNatClampNeg = born) (hbn : born < no) (h6 : no ≤ 6) (hl : (W 18 p).toNatClampNeg = len) (hl0 : 0 < len) (hm : most ≤ 2) : ∀ i n o l x, rcc W p h0 most no i n o l x → (n ≤ most ∧ vr no born n (x % 512) ∧ o = dgR born n (x % 512) n) ∧ o < no ∧ (0 < l ∧ l ≤ len + 22 * n) ∧ x / 512 ≤ 99 * i := by
  intro i
  induction i with
  | zero =>
    rintro n o l x ⟨rfl, e2, e3, rfl⟩
    rw [hb] at e2
    rw [hl] at e3
    subst e2; subst e3
    exact ⟨⟨by omega, vr_0, rfl⟩, hbn, ⟨hl0, by omega⟩, by omega⟩
  | succ i ih =>
    rintro n o l x ⟨n1, o1, l2, x2, hmd, h1, r⟩
    have key : (n1 ≤ most ∧ vr no born n1 (x2 % 512) ∧ o1 = dgR born n1 (x2 % 512) n1) ∧ o1 < no ∧ l2 ≤ len + 22 * n1 ∧ x2 / 512 ≤ 99 * (i + 1) := by
      rcases hmd with q | ⟨-, x1, q, rfl⟩
      · obtain ⟨a, b, ⟨c1, c2⟩, d⟩ := ih _ _ _ _ q
        exact ⟨a, b, c2, by omega⟩
      · obtain ⟨a, b, ⟨c1, c2⟩, d⟩ := ih _ _ _ _ q
        have := (pyf_b hy b).2
        rw [show (x1 + 512 * pyN W o1) % 512 = x1 % 512 by omega]
        exact ⟨a, b, by omega, by omega⟩
    obtain ⟨⟨b1, b2, b3⟩, b4, b5, b6⟩ := key
    rcases r with ⟨rfl, rfl, rfl, rfl⟩ | ⟨rfl, r2, r3, r4, rfl, rfl⟩
    · exact ⟨⟨b1, b2, b3⟩, b4, ⟨h1, b5⟩, b6⟩
    · have lb := (lst_b (h := h0 + i + 1) hk b4 r3).2
      have hc := b2.1
      have hc2 : 8 ^ n1 ≤ 8 ^ 1 := Nat.pow_le_pow_right (by omega) (by omega)
      have hx : hdX x2 o % 512 = 8 * (x2 % 512) + o := by unfold hdX; omega
      have hx2 : hdX x2 o / 512 = x2 / 512 := by unfold hdX; omega
      rw [hx, hx2]
      exact ⟨⟨by omega, vr_s b2 h6 r3 (by rw [← b3]; exact r4), (dgR_l (by omega)).symm⟩, r3, ⟨by omega, by omega⟩, b6⟩
/-- the least pay along a row: what is left l at the stage k; 1000000: it isn't reached -/
def awC (W : zI) (p h : Nat) (r : Nat → Nat) (P : Nat → Nat → Nat) (k l : Nat) : Nat := if wkO W p (r k) h = true ∧ l < 104 then min (P k l) (P k (l + 1) + pyN W (r k)) else P k l
def hoC (W : zI) (p h : Nat) (r : Nat → Nat) (P : Nat → Nat → Nat) : Nat → Nat → Nat
  | 0 => fun l => awC W p h r P 0 l
  | k + 1 => fun l => if lsN W (r k) (r (k + 1)) (h + 1) < l then min (awC W p h r P (k + 1) l) (awC W p h r P k (l - lsN W (r k) (r (k + 1)) (h + 1))) else awC W p h r P (k + 1) l
theorem hoC_s {P : Nat → Nat → Nat} {k l : Nat} : hoC W p h r P (k + 1) l = if lsN W (r k) (r (k + 1)) (h + 1) < l then min (awC W p h r P (k + 1) l) (awC W p h r P k (l - lsN W (r k) (r (k + 1)) (h + 1))) else awC W p h r P (k + 1) l := rfl
theorem hoC_z {P : Nat → Nat → Nat} {k : Nat} : hoC W p h r P k 0 = awC W p h r P k 0 := by
  cases k with
  | zero => rfl
  | succ k => rw [hoC_s, if_neg (Nat.not_lt_zero _)]
def lfC (W : zI) (p h0 len : Nat) (r : Nat → Nat) : Nat → Nat → Nat → Nat
  | 0 => fun k l => if k = 0 ∧ l = len then 0 else 1000000
  | i + 1 => hoC W p (h0 + i) r (lfC W p h0 len r i)
def bsC (W : zI) (p h0 len : Nat) (r : Nat → Nat) (K : Nat) : Nat → Nat
  | 0 => 1000000
  | i + 1 => min (bsC W p h0 len r K i) (awC W p (h0 + i) r (lfC W p h0 len r i) K 0)
/-- what a row comes to in H hours -/
def wvC (W : zI) (p h0 H len born K c : Nat) : Nat := bsC W p h0 len (dgR born K c) K H
theorem bsC_le : ∀ i, bsC W p h0 len r K i ≤ 1000000 := by
  intro i
  induction i with
  | zero => exact Nat.le_refl _
  | succ i ih => exact Nat.le_trans (Nat.min_le_left _ _) ih
theorem aw_c {P : Nat → Nat → Nat} {k l : Nat} (hP : ∀ k l, P k l ≤ 1000000) : awC W p h r P k l ≤ 1000000 := by
  have := hP k l
  unfold awC
  split <;> omega
theorem lfC_le : ∀ i k l, lfC W p h0 len r i k l ≤ 1000000 := by
  intro i
  induction i with
  | zero => intro k l; show (if k = 0 ∧ l = len then 0 else 1000000) ≤ 1000000; split <;> omega
  | succ i ih =>
    intro k l
    show hoC W p (h0 + i) r (lfC W p h0 len r i) k l ≤ 1000000
    cases k with
    | zero => exact aw_c ih
    | succ k =>
      have := aw_c (W := W) (p := p) (h := h0 + i) (r := r) (k := k + 1) (l := l) ih
      rw [hoC_s]
      split
      · exact Nat.le_trans (Nat.min_le_left _ _) this
      · exact this
theorem lfC_0 (hl0 : 0 < len) (hw : ∀ h, wkO W p (r K) h = false) : ∀ i, lfC W p h0 len r i K 0 = 1000000 := by
  intro i
  induction i with
  | zero => show (if K = 0 ∧ 0 = len then 0 else 1000000) = 1000000; rw [if_neg (by omega)]
  | succ i ih =>
    have e : awC W p (h0 + i) r (lfC W p h0 len r i) K 0 = 1000000 := by
      unfold awC
      rw [if_neg (fun q => by rw [hw] at q; exact absurd q.1 (by decide))]
      exact ih
    show hoC W p (h0 + i) r (lfC W p h0 len r i) K 0 = 1000000
    rw [hoC_z]
    exact e
theorem wvC_nz {H : Nat} (hl0 : 0 < len) (hz : zbit (W 9 (dgR born K c K)) (W 17 p) = false) : wvC W p h0 H len born K c = 1000000 := by
  have hw : ∀ h, wkO W p (dgR born K c K) h = false := fun h => by unfold wkO; rw [hz, Bool.and_false]
  unfold wvC
  induction H with
  | zero => rfl
  | succ i ih =>
    have e : awC W p (h0 + i) (dgR born K c) (lfC W p h0 len (dgR born K c) i) K 0 = 1000000 := by
      unfold awC
      rw [if_neg (fun q => by rw [hw] at q; exact absurd q.1 (by decide))]
      exact lfC_0 hl0 hw i
    show min _ _ = 1000000
    rw [ih, e]
    rfl
/-- along a row: within an hour -/
theorem md_ok {P : Nat → Nat → Nat} {k : Nat} (hc : cdR r k < 512) (hy : pyN W (r k) ≤ 99) (hlb : ∀ l x, U k (r k) l x → l ≤ 104)
    (h1 : ∀ l, 1 ≤ l → l ≤ 104 → P k l < 1000000 → U k (r k) l (512 * P k l + cdR r k)) (h2 : ∀ l x, 1 ≤ l → U k (r k) l x → x % 512 = cdR r k → P k l ≤ x / 512) :
    (∀ l, 1 ≤ l → l ≤ 104 → awC W p h r P k l < 1000000 → mdT W p h U k (r k) l (512 * awC W p h r P k l + cdR r k)) ∧ (∀ l x, 1 ≤ l → mdT W p h U k (r k) l x → x % 512 = cdR r k → awC W p h r P k l ≤ x / 512) := by
  refine ⟨fun l a b q => ?_, fun l x a q e => ?_⟩
  · unfold awC at q ⊢
    split at q
    · next hw =>
      rw [if_pos hw]
      by_cases g : P k l ≤ P k (l + 1) + pyN W (r k)
      · rw [Nat.min_eq_left g] at q ⊢
        exact Or.inl (h1 l a b q)
      · rw [Nat.min_eq_right (by omega)] at q ⊢
        exact Or.inr ⟨hw.1, _, h1 (l + 1) (by omega) (by omega) (by omega), by omega⟩
    · next hw =>
      rw [if_neg hw]
      exact Or.inl (h1 l a b q)
  · rcases q with q | ⟨hw, x1, q, rfl⟩
    · have := h2 l x a q e
      unfold awC
      split <;> omega
    · have := h2 (l + 1) x1 (by omega) q (by omega)
      have := hlb (l + 1) x1 q
      unfold awC
      rw [if_pos ⟨hw, by omega⟩]
      omega
theorem lfC_ok (hk : knf W no) (hy : pyf W no) (h6 : no ≤ 6) (hb : (W 20 p).toNatClampNeg = born) (hbn : born < no) (hl : (W 18 p).toNatClampNeg = len) (hl0 : 0 < len) (hl6 : len ≤ 60) (hv : rwV no born K r) (hK : K ≤ most) (hm : most ≤ 2) : ∀ i k, k ≤ K →
    (∀ l, 1 ≤ l → l ≤ 104 → lfC W p h0 len r i k l < 1000000 → rcc W p h0 most no i k (r k) l (512 * lfC W p h0 len r i k l + cdR r k)) ∧ (∀ l x, 1 ≤ l → rcc W p h0 most no i k (r k) l x → x % 512 = cdR r k → lfC W p h0 len r i k l ≤ x / 512) := by
  have hrn : ∀ k, k ≤ K → r k < no := fun k hk => by
    cases k with
    | zero => rw [hv.1]; exact hbn
    | succ j => exact (hv.2 j (by omega)).1
  have hcd : ∀ k, k ≤ K → cdR r k < 8 ^ k := fun k => by
    induction k with
    | zero => intro _; exact Nat.one_pos
    | succ k ih =>
      intro q
      have := ih (by omega)
      have := hrn (k + 1) q
      rw [cdR, Nat.pow_succ]
      omega
  have hcd2 : ∀ k, k ≤ K → cdR r k < 64 := fun k q => by
    have := hcd k q
    have : 8 ^ k ≤ 8 ^ 2 := Nat.pow_le_pow_right (by omega) (by omega)
    omega
  intro i
  induction i with
  | zero =>
    intro k hk2
    refine ⟨fun l a b q => ?_, fun l x a q e => ?_⟩
    · have e0 : lfC W p h0 len r 0 k l = if k = 0 ∧ l = len then 0 else 1000000 := rfl
      rw [e0] at q ⊢
      by_cases g : k = 0 ∧ l = len
      · rw [if_pos g]
        obtain ⟨rfl, rfl⟩ := g
        exact ⟨rfl, by rw [hb]; exact hv.1, hl.symm, rfl⟩
      · rw [if_neg g] at q
        omega
    · have e0 : lfC W p h0 len r 0 k l = if k = 0 ∧ l = len then 0 else 1000000 := rfl
      rw [e0, if_pos ⟨q.1, q.2.2.1.trans hl⟩]
      exact Nat.zero_le _
  | succ i ih =>
    have M : ∀ k, k ≤ K → _ := fun k hk2 => md_ok (p := p) (h := h0 + i) (U := rcc W p h0 most no i) (P := lfC W p h0 len r i) (k := k) (by have := hcd2 k hk2; omega) (pyf_b hy (hrn k hk2)).2 (fun l x q => by have := (rcc_b hk hy hb hbn h6 hl hl0 hm _ _ _ _ _ q).2.2.1.2; omega) (ih k hk2).1 (ih k hk2).2
    intro k hk2
    have eS : lfC W p h0 len r (i + 1) = hoC W p (h0 + i) r (lfC W p h0 len r i) := rfl
    rw [eS]
    cases k with
    | zero =>
      have e0 : ∀ l, hoC W p (h0 + i) r (lfC W p h0 len r i) 0 l = awC W p (h0 + i) r (lfC W p h0 len r i) 0 l := fun _ => rfl
      refine ⟨fun l a b q => ?_, fun l x a q e => ?_⟩
      · rw [e0] at q ⊢
        exact ⟨_, _, _, _, (M 0 hk2).1 l a b q, a, Or.inl ⟨rfl, rfl, rfl, rfl⟩⟩
      · rw [e0]
        obtain ⟨n1, o1, l2, x2, q1, q2, ⟨e1, e2, e3, e4⟩ | ⟨e1, -⟩⟩ := q
        · subst e1 e3 e4
          rw [← e2] at q1
          exact (M 0 hk2).2 l x a q1 e
        · omega
    | succ j =>
      have hlj := (lst_b (h := h0 + i + 1) hk (hrn j (by omega)) (hrn (j + 1) hk2)).2
      have e0 : ∀ l, hoC W p (h0 + i) r (lfC W p h0 len r i) (j + 1) l = if lsN W (r j) (r (j + 1)) (h0 + i + 1) < l then min (awC W p (h0 + i) r (lfC W p h0 len r i) (j + 1) l) (awC W p (h0 + i) r (lfC W p h0 len r i) j (l - lsN W (r j) (r (j + 1)) (h0 + i + 1))) else awC W p (h0 + i) r (lfC W p h0 len r i) (j + 1) l := fun _ => rfl
      have hc1 := hcd2 j (by omega)
      have hr1 := hrn (j + 1) hk2
      have ecd : cdR r (j + 1) = 8 * cdR r j + r (j + 1) := rfl
      refine ⟨fun l a b q => ?_, fun l x a q e => ?_⟩
      · rw [e0] at q ⊢
        by_cases g : lsN W (r j) (r (j + 1)) (h0 + i + 1) < l ∧ ¬ awC W p (h0 + i) r (lfC W p h0 len r i) (j + 1) l ≤ awC W p (h0 + i) r (lfC W p h0 len r i) j (l - lsN W (r j) (r (j + 1)) (h0 + i + 1))
        · rw [if_pos g.1, Nat.min_eq_right (by omega)] at q ⊢
          have := (M j (by omega)).1 _ (by omega) (by omega) q
          refine ⟨_, _, _, _, this, by omega, Or.inr ⟨rfl, by omega, hr1, (hv.2 j (by omega)).2, by omega, ?_⟩⟩
          unfold hdX
          omega
        · have e1 : (if lsN W (r j) (r (j + 1)) (h0 + i + 1) < l then min (awC W p (h0 + i) r (lfC W p h0 len r i) (j + 1) l) (awC W p (h0 + i) r (lfC W p h0 len r i) j (l - lsN W (r j) (r (j + 1)) (h0 + i + 1))) else awC W p (h0 + i) r (lfC W p h0 len r i) (j + 1) l) = awC W p (h0 + i) r (lfC W p h0 len r i) (j + 1) l := by
            split
            · exact Nat.min_eq_left (by omega)
            · rfl
          rw [e1] at q ⊢
          exact ⟨_, _, _, _, (M (j + 1) hk2).1 l a b q, a, Or.inl ⟨rfl, rfl, rfl, rfl⟩⟩
      · rw [e0]
        obtain ⟨n1, o1, l2, x2, q1, q2, ⟨e1, e2, e3, e4⟩ | ⟨e1, f1, f2, f3, f4, f5⟩⟩ := q
        · subst e1 e3 e4
          rw [← e2] at q1
          have := (M (j + 1) hk2).2 l x a q1 e
          split <;> omega
        · obtain rfl : j = n1 := by omega
          have hx2 : x2 % 512 < 64 ∧ o1 = dgR born j (x2 % 512) j := by
            have g : vr no born j (x2 % 512) ∧ o1 = dgR born j (x2 % 512) j := by
              rcases q1 with q1 | ⟨-, x1, q1, rfl⟩
              · exact (rcc_b hk hy hb hbn h6 hl hl0 hm _ _ _ _ _ q1).1.2
              · rw [show (x1 + 512 * pyN W o1) % 512 = x1 % 512 by omega]
                exact (rcc_b hk hy hb hbn h6 hl hl0 hm _ _ _ _ _ q1).1.2
            have : 8 ^ j ≤ 8 ^ 2 := Nat.pow_le_pow_right (by omega) (by omega)
            exact ⟨by have := g.1.1; omega, g.2⟩
          have ec : x2 % 512 = cdR r j ∧ x2 / 512 = x / 512 := by
            rw [f5] at e
            rw [f5]
            unfold hdX at e ⊢
            omega
          have eo : o1 = r j := by
            rw [hx2.2, ec.1]
            cases j with
            | zero => rw [dgR_0]; exact hv.1.symm
            | succ m => unfold dgR; rw [if_neg (by omega), Nat.sub_self, Nat.pow_zero, Nat.div_one]; exact (cdR_o h6 hv m (by omega)).2
          rw [eo] at q1 f4
          have := (M j (by omega)).2 l2 x2 q2 q1 ec.1
          rw [if_pos (by omega), show l - lsN W (r j) (r (j + 1)) (h0 + i + 1) = l2 by omega]
          omega
theorem bsC_ok (hk : knf W no) (hy : pyf W no) (h6 : no ≤ 6) (hb : (W 20 p).toNatClampNeg = born) (hbn : born < no) (hl : (W 18 p).toNatClampNeg = len) (hl0 : 0 < len) (hl6 : len ≤ 60) (hv : rwV no born K r) (hK : K ≤ most) (hm : most ≤ 2) : ∀ H,
    ((lfC W p h0 len r H K 0 < 1000000 → ∃ i, i < H ∧ fiC W p h0 most no i K (512 * lfC W p h0 len r H K 0 + cdR r K)) ∧ (bsC W p h0 len r K H < 1000000 → ∃ i, i < H ∧ fiC W p h0 most no i K (512 * bsC W p h0 len r K H + cdR r K))) ∧ ∀ i x, i < H → fiC W p h0 most no i K x → x % 512 = cdR r K → bsC W p h0 len r K H ≤ x / 512 := by
  intro H
  induction H with
  | zero =>
    refine ⟨⟨fun q => ?_, fun q => absurd q (Nat.lt_irrefl _)⟩, fun i x q => absurd q (Nat.not_lt_zero _)⟩
    have e0 : lfC W p h0 len r 0 K 0 = if K = 0 ∧ 0 = len then 0 else 1000000 := rfl
    rw [e0, if_neg (by omega)] at q
    omega
  | succ i ih =>
    have L := lfC_ok (h0 := h0) hk hy h6 hb hbn hl hl0 hl6 hv hK hm i K (Nat.le_refl _)
    have hrK : r K < no := by
      cases K with
      | zero => rw [hv.1]; exact hbn
      | succ j => exact (hv.2 j (by omega)).1
    have eL : lfC W p h0 len r (i + 1) K 0 = awC W p (h0 + i) r (lfC W p h0 len r i) K 0 := by
      show hoC W p (h0 + i) r (lfC W p h0 len r i) K 0 = _
      exact hoC_z
    have A : awC W p (h0 + i) r (lfC W p h0 len r i) K 0 < 1000000 → ∃ j, j < i + 1 ∧ fiC W p h0 most no j K (512 * awC W p (h0 + i) r (lfC W p h0 len r i) K 0 + cdR r K) := by
      intro q
      unfold awC at q ⊢
      rw [Nat.zero_add] at q ⊢
      by_cases g : (wkO W p (r K) (h0 + i) = true ∧ 0 < 104) ∧ ¬ lfC W p h0 len r i K 0 ≤ lfC W p h0 len r i K 1 + pyN W (r K)
      · rw [if_pos g.1, Nat.min_eq_right (by omega)] at q ⊢
        refine ⟨i, Nat.lt_succ_self _, r K, _, L.1 1 (by omega) (by omega) (by omega), g.1.1, by omega⟩
      · have e1 : (if wkO W p (r K) (h0 + i) = true ∧ 0 < 104 then min (lfC W p h0 len r i K 0) (lfC W p h0 len r i K 1 + pyN W (r K)) else lfC W p h0 len r i K 0) = lfC W p h0 len r i K 0 := by
          split
          · next g2 => exact Nat.min_eq_left (Nat.le_of_not_lt fun q => g ⟨g2, by omega⟩)
          · rfl
        rw [e1] at q ⊢
        obtain ⟨j, hj, f⟩ := ih.1.1 q
        exact ⟨j, by omega, f⟩
    have eB : bsC W p h0 len r K (i + 1) = min (bsC W p h0 len r K i) (awC W p (h0 + i) r (lfC W p h0 len r i) K 0) := rfl
    refine ⟨⟨fun q => by rw [eL] at q ⊢; exact A q, fun q => ?_⟩, fun j x hj f e => ?_⟩
    · rw [eB] at q ⊢
      by_cases g : bsC W p h0 len r K i ≤ awC W p (h0 + i) r (lfC W p h0 len r i) K 0
      · rw [Nat.min_eq_left g] at q ⊢
        obtain ⟨j, hj, f⟩ := ih.1.2 q
        exact ⟨j, by omega, f⟩
      · rw [Nat.min_eq_right (by omega)] at q ⊢
        exact A q
    · rw [eB]
      by_cases g : j = i
      · subst g
        obtain ⟨o, x1, f1, f2, rfl⟩ := f
        have hx := (rcc_b hk hy hb hbn h6 hl hl0 hm _ _ _ _ _ f1).1
        have em : (x1 + 512 * pyN W o) % 512 = x1 % 512 := by omega
        have eo : o = r K := by
          rw [hx.2.2, ← em, e]
          cases K with
          | zero => rw [dgR_0]; exact hv.1.symm
          | succ m => unfold dgR; rw [if_neg (by omega), Nat.sub_self, Nat.pow_zero, Nat.div_one]; exact (cdR_o h6 hv m (by omega)).2
        subst eo
        have := L.2 1 x1 (by omega) f1 (by omega)
        have e2 : awC W p (h0 + j) r (lfC W p h0 len r j) K 0 = min (lfC W p h0 len r j K 0) (lfC W p h0 len r j K (0 + 1) + pyN W (r K)) := if_pos ⟨f2, by omega⟩
        rw [e2]
        have e3 : lfC W p h0 len r j K (0 + 1) = lfC W p h0 len r j K 1 := rfl
        omega
      · have := ih.2 j x (by omega) f e
        omega
/-- the best of all rows is what the search says -/
theorem bsI_chp {b bK bc H : Nat} (h : bsI no born 1000000 (wvC W p h0 H len born) (most + 1) 0 b bK bc) (hk : knf W no) (hy : pyf W no) (h6 : no ≤ 6) (hb : (W 20 p).toNatClampNeg = born) (hm : most ≤ 2) (hbn : born < no) (hl : (W 18 p).toNatClampNeg = len) (hl0 : 0 < len) (hl6 : len ≤ 60) (hH : H ≤ 400) :
    (b = 1000000 ∧ ∀ i, i < H → ∀ n x, ¬ fiC W p h0 most no i n x) ∨ (b < 1000000 ∧ (bK ≤ most ∧ vr no born bK bc) ∧ chp W p h0 most no H bK (512 * b + bc)) := by
  have key : ∀ i n x, i < H → fiC W p h0 most no i n x → (vr no born n (x % 512) ∧ n ≤ most) ∧ wvC W p h0 H len born n (x % 512) ≤ x / 512 ∧ x / 512 < 1000000 := by
    intro i n x hi hf
    obtain ⟨o, x1, f1, f2, e⟩ := id hf
    obtain ⟨⟨a1, a2, a3⟩, a4, a5, a6⟩ := rcc_b hk hy hb hbn h6 hl hl0 hm _ _ _ _ _ f1
    have := (pyf_b hy a4).2
    have em : x % 512 = x1 % 512 := by omega
    rw [← em] at a2
    refine ⟨⟨a2, a1⟩, (bsC_ok hk hy h6 hb hbn hl hl0 hl6 a2.2 a1 hm H).2 i x hi hf (cdR_K a2.1).symm, by omega⟩
  by_cases e : b = 1000000
  · refine Or.inl ⟨e, fun i hi n x hf => ?_⟩
    obtain ⟨⟨a1, a2⟩, a3, a4⟩ := key i n x hi hf
    have := h.1.2 n (x % 512) ⟨a1, Or.inl (by omega)⟩
    omega
  · have hlt : b < 1000000 := by have := h.1.1; omega
    obtain ⟨⟨s1, s2⟩, e1, s3⟩ := h.2 hlt
    have hbk : bK ≤ most := by omega
    have hc : bc < 512 := by
      have := s1.1
      have : 8 ^ bK ≤ 8 ^ 2 := Nat.pow_le_pow_right (by omega) (by omega)
      omega
    refine Or.inr ⟨hlt, ⟨hbk, s1⟩, ?_, fun i n x hi hf => ?_⟩
    · have g := (bsC_ok (h0 := h0) hk hy h6 hb hbn hl hl0 hl6 s1.2 hbk hm H).1.2 (by show wvC W p h0 H len born bK bc < 1000000; omega)
      rw [cdR_K s1.1] at g
      have e2 : bsC W p h0 len (dgR born bK bc) bK H = b := e1
      rw [e2] at g
      exact g
    · obtain ⟨⟨a1, a2⟩, a3, a4⟩ := key i n x hi hf
      have q1 := h.1.2 n (x % 512) ⟨a1, Or.inl (by omega)⟩
      unfold btC
      rw [show (512 * b + bc) / 512 = b by omega]
      by_cases g : b < x / 512
      · exact Or.inl g
      · have q2 := s3 n (x % 512) ⟨a1, Or.inl (by omega)⟩ (by omega)
        exact Or.inr ⟨by omega, by omega⟩
end CHP
