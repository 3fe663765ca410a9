set_option maxRecDepth 100000
/-! PURE, part 5: what is told of the calls' functions -/
section PURE5
variable {I D W : zI} {no n np : Nat} {s : zS}
theorem cpyN_n {X : zI} {a b c : Nat} {s : zS} (h : c ≠ a) : ∀ k, cpyN X a b s k c = X c := by
  intro k
  induction k with
  | zero => rfl
  | succ k ih => rw [cpyN, zw_n _ _ _ _ h]; exact ih
theorem fstN_n {D : zI} {o c : Nat} (h : c ≠ 12) : ∀ k, fstN D o k c = D c := by
  intro k
  induction k with
  | zero => rfl
  | succ k ih => rw [fstN, zw_n _ _ _ _ h]; exact ih
theorem knwN_n {D : zI} {o c : Nat} (h : c ≠ 13) : ∀ k, knwN D o k c = D c := by
  intro k
  induction k with
  | zero => rfl
  | succ k ih => rw [knwN, zw_n _ _ _ _ h, zw_n _ _ _ _ h]; exact ih
theorem opn0_0 {D : zI} {o : Nat} {z f l y m c : Int32} : opn0 D o z f l y m c 0 = D 0 := by
  unfold opn0
  rw [zw_n _ _ _ _ (by decide), zw_n _ _ _ _ (by decide), zw_n _ _ _ _ (by decide), zw_n _ _ _ _ (by decide), zw_n _ _ _ _ (by decide), zw_n _ _ _ _ (by decide), zw_n _ _ _ _ (by decide), zw_n _ _ _ _ (by decide)]
theorem opnS_3 {D : zI} {o : Nat} {z f l y m c : Int32} : opnS D o z f l y m c 0 3 = nI (o + 1) := zw_s _ _ _ _
theorem stKn_n {D : zI} {a b c : Nat} {v : Int32} (h : c ≠ 13) : stKn D a b v c = D c := by
  unfold stKn
  rw [zw_n _ _ _ _ h, zw_n _ _ _ _ h]
theorem shD_n {D : zI} {o c : Nat} {y m f t : Int32} (h : c ≠ 13) : ∀ i, shD D o y m f t i c = D c := by
  intro i
  induction i with
  | zero => rfl
  | succ i ih =>
    rw [shD]
    split
    · rw [stKn_n h]; exact ih
    · exact ih
theorem dkC_le {W : zI} {no : Nat} {c : Int32} {h : Nat} : dkC W no c h ≤ no := cntB_le _ _
theorem dkS_1 {W : zI} {no : Nat} {c : Int32} {h : Nat} : ∀ i, (dkS W no c h i).1 ≤ i := by
  intro i
  induction i with
  | zero => exact Nat.le_refl _
  | succ i ih =>
    rw [dkS]
    show _ + bI _ ≤ _
    have := bI_lt (decide (dkC W no c (h + i) = 0))
    omega
theorem dkS_3 {W : zI} {no : Nat} {c : Int32} {h : Nat} : ∀ i, (dkS W no c h i).2.2.1 ≤ no := by
  intro i
  induction i with
  | zero => exact Nat.zero_le _
  | succ i ih =>
    rw [dkS]
    show (if _ then _ else _) ≤ _
    split
    · exact ih
    · exact dkC_le
theorem dkS_4 {W : zI} {no : Nat} {c : Int32} {h : Nat} : ∀ i, (dkS W no c h i).2.2.2 ≤ h + i := by
  intro i
  induction i with
  | zero => exact Nat.le_refl _
  | succ i ih =>
    rw [dkS]
    dsimp only
    split
    · exact Nat.le_trans ih (by omega)
    · omega
theorem fstB_up {f : Nat → Bool} {q a : Nat} (h : fstB f a = some q) : ∀ b, a ≤ b → fstB f b = some q := by
  intro b
  induction b with
  | zero => intro hb; obtain rfl : a = 0 := by omega
            exact h
  | succ b ih =>
    intro hb
    by_cases e : a = b + 1
    · subst e; exact h
    · rw [fstB, ih (by omega)]
theorem jdN_up {rd : Int32} {t : zK4} {h a : Nat} {x : Nat × Nat} (hx : jdN W no rd t h a = some x) : ∀ b, a ≤ b → jdN W no rd t h b = some x := by
  intro b
  induction b with
  | zero => intro hb; obtain rfl : a = 0 := by omega
            exact hx
  | succ b ih =>
    intro hb
    by_cases e : a = b + 1
    · subst e; exact hx
    · rw [jdN, ih (by omega)]
theorem wrks_0 : (wrks W n s).1 0 = s 0 := wrkN_0 n
theorem lieN_b {p o : Nat} : ∀ (f h : Nat) (l s : Int32) (w : Bool) (k : Nat) (x : Nat × Nat), lieN W p o f h l s w k = some x → x.1 ≤ h + f := by
  intro f
  induction f with
  | zero => intro h l s w k x hx; exact absurd hx (by simp [lieN])
  | succ f ih =>
    intro h l s w k x hx
    rw [lieN] at hx
    have up : ∀ {l s w k}, lieN W p o f (h + 1) l s w k = some x → x.1 ≤ h + (f + 1) := fun hx => by have := ih _ _ _ _ _ _ hx; omega
    split at hx
    · exact up hx
    · split at hx
      · split at hx
        · cases hx; show h + 1 ≤ _; omega
        · split at hx
          · exact up hx
          · split at hx
            · exact up hx
            · exact up hx
      · exact up hx
theorem minF_mem {f : Nat → Option Nat} : ∀ (n : Nat) (b : Nat × Nat), minF f n = some b → b.1 < n ∧ f b.1 = some b.2 := by
  intro n
  induction n with
  | zero => intro b hb; exact absurd hb (by simp [minF])
  | succ n ih =>
    intro b hb
    rw [minF] at hb
    split at hb
    · have := ih b hb; exact ⟨by omega, this.2⟩
    · next v hv =>
      split at hb
      · cases hb; exact ⟨Nat.lt_succ_self _, hv⟩
      · next c hc =>
        split at hb
        · cases hb; have := ih _ hc; exact ⟨by omega, this.2⟩
        · cases hb; exact ⟨Nat.lt_succ_self _, hv⟩
theorem zw_zw {α : Type} {f : Nat → Nat → α} {a k : Nat} {v w : α} : zw (zw f a k v) a k w = zw f a k w := by
  unfold zw
  rw [zu_s, zu_zu, zu_zu]
theorem zw_id {α : Type} {f : Nat → Nat → α} {a k : Nat} {v : α} (h : f a k = v) : zw f a k v = f := by
  unfold zw
  rw [← h, zu_id, zu_id]
theorem wld_row {D2 : zI} {a : Nat} (h : D2 a = D a) : wld D2 a = wld D a := by
  funext k
  unfold wld
  rw [h]
theorem wf_eq {W2 : zI} (h : wf W no n) (h0 : W2 0 = W 0) (h1 : W2 20 = W 20) (h2 : W2 21 = W 21) : wf W2 no n := by
  unfold wf at h ⊢
  rw [h0, h1, h2]
  exact h
theorem sf_eq {W2 : zI} (h : sf W no n s) (h0 : W2 0 = W 0) (h2 : W2 21 = W 21) : sf W2 no n s := by
  unfold sf at h ⊢
  rw [h0, h2]
  exact h
theorem ru_eq {W2 : zI} {ro : Option (List Nat)} (h : ruM W ro) (h0 : W2 26 = W 26) (h2 : W2 25 = W 25) : ruM W2 ro := by
  unfold ruM at h ⊢
  cases ro with
  | none => dsimp only at h ⊢; rw [h0]; exact h
  | some e => dsimp only at h ⊢; rw [h0, h2]; exact h
theorem endN_sf {ro : Option (List Nat)} (hw : wf W no n) : ∀ (f t : Nat) (s s2 : zS), sf W no n s → s 0 = nI t → t + f ≤ 2399 → endN W ro no n f s = some s2 → sf W no n s2 := by
  intro f
  induction f with
  | zero =>
    intro t s s2 hs h0 ht h
    rw [endN] at h
    split at h
    · cases h; exact hs
    · cases h
  | succ f ih =>
    intro t s s2 hs h0 ht h
    rw [endN] at h
    split at h
    · cases h; exact hs
    · exact ih (t + 1) _ s2 (sf_hrS hs hw h0 (by omega)) (hrS_0 h0) (by omega) h
theorem pEnd_sf {ro : Option (List Nat)} {s2 : zS} (hw : wf W no n) (hs : sf W no n s) (h : pEnd W ro no n s = some s2) : sf W no n s2 := by
  obtain ⟨t, ht, h0⟩ := hs.now
  unfold pEnd at h
  rw [h0, nI_clamp (by omega)] at h
  exact endN_sf hw _ t s s2 hs h0 (by omega) h
theorem pEnd_b {ro : Option (List Nat)} {s2 : zS} (hw : wf W no n) (hs : sf W no n s) (h : pEnd W ro no n s = some s2) : ∃ t, t ≤ 2399 ∧ s2 0 = nI t := (pEnd_sf hw hs h).now
theorem slp_n {o dd c : Nat} (h : c ≠ 12) : slpD D o dd c = D c := zw_n _ _ _ _ h
theorem mrc_n {o c : Nat} {h : Int32} (h1 : c ≠ 10) (h2 : c ≠ 11) : mrcD D o h c = D c := by
  unfold mrcD
  rw [zw_n _ _ _ _ h2, zw_n _ _ _ _ h1]
theorem maxF_mem {f : Nat → Option Nat} : ∀ (n : Nat) (b : Nat × Nat), maxF f n = some b → b.1 < n ∧ f b.1 = some b.2 := by
  intro n
  induction n with
  | zero => intro b hb; exact absurd hb (by simp [maxF])
  | succ n ih =>
    intro b hb
    rw [maxF] at hb
    split at hb
    · have := ih b hb; exact ⟨by omega, this.2⟩
    · next v hv =>
      split at hb
      · cases hb; exact ⟨Nat.lt_succ_self _, hv⟩
      · next c hc =>
        split at hb
        · cases hb; have := ih _ hc; exact ⟨by omega, this.2⟩
        · cases hb; exact ⟨Nat.lt_succ_self _, hv⟩
theorem wst_b {ro : Option (List Nat)} {o f i v : Nat} (hw : wf (wld D) no n) (hsf : sf (wld D) no n (D 23)) (h : wstO D ro no n o f i = some v) : v ≤ 2399 := by
  unfold wstO at h
  split at h
  · obtain ⟨s2, h1, h2⟩ := Option.map_eq_some_iff.mp h
    obtain ⟨t, ht, e⟩ := pEnd_b (wf_eq hw (wld_row (slp_n (by decide))) (wld_row (slp_n (by decide))) (wld_row (slp_n (by decide)))) (sf_eq hsf (wld_row (slp_n (by decide))) (wld_row (slp_n (by decide)))) h1
    rw [e, nI_clamp (by omega)] at h2
    omega
  · cases h
theorem brgN_n {x c : Nat} (h : c ≠ 13) : ∀ k, brgN D x k c = D c := by
  intro k
  induction k with
  | zero => rfl
  | succ k ih =>
    rw [brgN]
    split
    · rw [stKn_n h]; exact ih
    · exact ih
theorem brg_W {x c : Nat} (h : c ≠ 13) (k : Nat) : wld (brgN D x k) c = wld D c := wld_row (brgN_n h k)
/-- pairs that are offices -/
def prs (D : zI) (no np : Nat) : Prop := ∀ k, k < np → ∃ a b, a < no ∧ b < no ∧ D 51 k = nI a ∧ D 52 k = nI b
theorem brgN_hi {x j : Nat} (hp : prs D no np) (h6 : no ≤ 6) (hj : 36 ≤ j) : ∀ k, k ≤ np → brgN D x k 13 j = D 13 j := by
  intro k
  induction k with
  | zero => exact fun _ => rfl
  | succ k ih =>
    intro hk
    rw [brgN]
    split
    · obtain ⟨a, b, ha6, hb6, ha, hb⟩ := hp k (by omega)
      rw [ha, hb, nI_clamp (by omega), nI_clamp (by omega)]
      unfold stKn
      rw [zw_a, zu_n _ _ _ (by omega), zw_a, zu_n _ _ _ (by omega)]
      exact ih (by omega)
    · exact ih (by omega)
theorem cpy_at {X : zI} {a b : Nat} {s : zS} {j : Nat} : ∀ k, j < k → cpyN X a b s k a (b + j) = s j := by
  intro k
  induction k with
  | zero => exact fun h => absurd h (by omega)
  | succ k ih =>
    intro hj
    rw [cpyN, zw_a]
    by_cases e : j = k
    · subst e; rw [zu_s]
    · rw [zu_n _ _ _ (by omega)]; exact ih (by omega)
theorem cpy_out {X : zI} {a b : Nat} {s : zS} {j : Nat} : ∀ k, (j < b ∨ b + k ≤ j) → cpyN X a b s k a j = X a j := by
  intro k
  induction k with
  | zero => exact fun _ => rfl
  | succ k ih =>
    intro hj
    rw [cpyN, zw_a, zu_n _ _ _ (by omega)]
    exact ih (by omega)
theorem brg_back {x : Nat} (hp : prs D no np) (h6 : no ≤ 6) : cpyN (brgN D x np) 13 0 (D 13) 36 = D := by
  funext a
  by_cases e : a = 13
  · subst e
    funext j
    by_cases hj : j < 36
    · have := cpy_at (X := brgN D x np) (a := 13) (b := 0) (s := D 13) (j := j) 36 hj
      rwa [Nat.zero_add] at this
    · rw [cpy_out 36 (by omega)]
      exact brgN_hi hp h6 (by omega) np (Nat.le_refl _)
  · rw [cpyN_n e]
    exact brgN_n e np
theorem whE_b {ro : Option (List Nat)} {h x : Nat} {s2 : zS} (hw : wf (wld D) no n) (hi9 : ∀ j, 127 ≤ j → D 23 j = 0) (hh : h ≤ 2399) (e : whE D ro no n np h x = some s2) : ∃ t, t ≤ 2399 ∧ s2 0 = nI t := by
  have hw2 : wf (wld (brgN D x np)) no n := wf_eq hw (brg_W (by decide) np) (brg_W (by decide) np) (brg_W (by decide) np)
  exact pEnd_b hw2 (sf_begS hw2 hi9 hh) e
theorem shl1 {k : Nat} (h : k ≤ 9) : nI 1 <<< (nI k &&& 31) = nI (2 ^ k) := by
  obtain rfl | rfl | rfl | rfl | rfl | rfl | rfl | rfl | rfl | rfl : k = 0 ∨ k = 1 ∨ k = 2 ∨ k = 3 ∨ k = 4 ∨ k = 5 ∨ k = 6 ∨ k = 7 ∨ k = 8 ∨ k = 9 := by omega
  all_goals decide +kernel
theorem p2_lt {k : Nat} (h : k ≤ 9) : 2 ^ k ≤ 512 := by
  have := Nat.pow_le_pow_right (show 0 < 2 by omega) h
  omega
theorem whB_mem {f : Nat → Option Nat} {g : Nat → Int32} : ∀ (n : Nat) (b : Nat × Nat), whB f g n = some b → b.1 < n ∧ f b.1 = some b.2 := by
  intro n
  induction n with
  | zero => intro b hb; exact absurd hb (by simp [whB])
  | succ n ih =>
    intro b hb
    rw [whB] at hb
    split at hb
    · have := ih b hb; exact ⟨by omega, this.2⟩
    · next v hv =>
      split at hb
      · cases hb; exact ⟨Nat.lt_succ_self _, hv⟩
      · next c hc =>
        have up : some c = some b → b.1 < n + 1 ∧ f b.1 = some b.2 := fun e => by cases e; have := ih _ hc; exact ⟨by omega, this.2⟩
        split at hb
        · cases hb; exact ⟨Nat.lt_succ_self _, hv⟩
        · split at hb
          · split at hb
            · exact up hb
            · cases hb; exact ⟨Nat.lt_succ_self _, hv⟩
          · exact up hb
theorem whO_b {ro : Option (List Nat)} {c : Int32} {h x v : Nat} (hw : wf (wld D) no n) (hi9 : ∀ j, 127 ≤ j → D 23 j = 0) (hh : h ≤ 2399) (e : whO D ro no n np c h x = some v) : v ≤ 2399 := by
  unfold whO at e
  split at e
  · obtain ⟨s2, h1, h2⟩ := Option.map_eq_some_iff.mp e
    obtain ⟨t, ht, e2⟩ := whE_b hw hi9 hh h1
    rw [e2, nI_clamp (by omega)] at h2
    omega
  · cases e
theorem maxI_mem {g : Nat → Int32} : ∀ (n : Nat) (b : Nat × Int32), maxI g n = some b → b.1 < n ∧ b.2 = g b.1 := by
  intro n
  induction n with
  | zero => intro b hb; exact absurd hb (by simp [maxI])
  | succ n ih =>
    intro b hb
    rw [maxI] at hb
    split at hb
    · cases hb; exact ⟨Nat.lt_succ_self _, rfl⟩
    · next c hc =>
      split at hb
      · cases hb; have := ih _ hc; exact ⟨by omega, this.2⟩
      · cases hb; exact ⟨Nat.lt_succ_self _, rfl⟩
theorem lcm_le {x y : Int32} : lg_cmp x.toInt64 y.toInt64 ≤ 0 ↔ x ≤ y := by
  rw [← Int32.not_lt, lg_ge, Int32.le_iff_toInt_le, Int32.toInt_toInt64, Int32.toInt_toInt64, Int.not_lt]
theorem maxI_0 {g : Nat → Int32} : ∀ n, 0 < n → ∃ b, maxI g n = some b := by
  intro n hn
  cases n with
  | zero => omega
  | succ n =>
    rw [maxI]
    cases maxI g n with
    | none => exact ⟨_, rfl⟩
    | some b => dsimp only; split <;> exact ⟨_, rfl⟩
theorem lrem_lt {x y : Int64} (h : ¬ y = 0) : (x - x / y * y).toInt.natAbs < y.toInt.natAbs := by
  have h0 : y.toInt ≠ 0 := fun e => h (Int64.toInt_inj.mp e)
  have h1 : (Int.tmod x.toInt y.toInt).natAbs < y.toInt.natAbs := by
    rw [Int.natAbs_tmod]
    exact Nat.mod_lt _ (Nat.pos_of_ne_zero fun e => h0 (Int.natAbs_eq_zero.mp e))
  have h2 : (x - x / y * y).toInt = Int.tmod x.toInt y.toInt := by
    rw [Int64.toInt_sub, Int64.toInt_mul, Int64.toInt_div, Int.bmod_mul_bmod, Int.sub_bmod_bmod, Int.mul_comm, ← Int.tmod_def]
    have hy1 := Int64.toInt_lt y
    have hy2 := Int64.le_toInt y
    exact Int.bmod_eq_of_le (by omega) (by omega)
  rw [h2]
  exact h1
theorem gcdL_up : ∀ (f g : Nat) (x y : Int64), y.toInt.natAbs < f → y.toInt.natAbs < g → gcdL f x y = gcdL g x y := by
  intro f
  induction f with
  | zero => intro g x y h; omega
  | succ f ih =>
    intro g x y h hg
    cases g with
    | zero => omega
    | succ g =>
      rw [gcdL, gcdL]
      split
      · rfl
      · next h0 =>
        have h1 := lrem_lt (x := x) h0
        exact ih g _ _ (by omega) (by omega)
theorem gcdL_ne : ∀ (f : Nat) (x y : Int64), y.toInt.natAbs < f → (x ≠ 0 ∨ y ≠ 0) → gcdL f x y ≠ 0 := by
  intro f
  induction f with
  | zero => intro x y h; omega
  | succ f ih =>
    intro x y h h2
    rw [gcdL]
    split
    · next e => exact h2.resolve_right fun q => q e
    · next e =>
      have h1 := lrem_lt (x := x) e
      exact ih _ _ (by omega) (Or.inl e)
theorem cmn_ne {a b : Int64} (h : b ≠ 0) : ¬ cmn a b = 0 := gcdL_ne _ _ _ (Nat.lt_succ_self _) (Or.inr h)
theorem lg_0 {x y : Int64} : lg_cmp x y = 0 ↔ x = y := by
  have h1 := lg_le (x := x) (y := y)
  have h2 := lg_ge (x := x) (y := y)
  constructor
  · intro e
    rw [e] at h1 h2
    have a1 := h1.mp (by decide)
    have a2 : ¬ y.toInt < x.toInt := fun q => absurd (h2.mpr q) (by decide)
    exact Int64.toInt_inj.mp (by omega)
  · rintro rfl
    have a1 := h1.mpr (Int.le_refl _)
    have a2 : ¬ 0 < lg_cmp x x := fun q => absurd (h2.mp q) (by omega)
    exact Int32.le_antisymm (Int32.not_lt.mp a2) (Int32.not_lt.mp a1)
theorem rkN_le : ∀ h, rkN s h ≤ h := by
  intro h
  induction h with
  | zero => exact Nat.le_refl _
  | succ h ih => rw [rkN]; split <;> omega
theorem p100_ne : ∀ m, m ≤ 8 → p100 m ≠ 0 := by
  intro m hm
  obtain rfl | rfl | rfl | rfl | rfl | rfl | rfl | rfl | rfl : m = 0 ∨ m = 1 ∨ m = 2 ∨ m = 3 ∨ m = 4 ∨ m = 5 ∨ m = 6 ∨ m = 7 ∨ m = 8 := by omega
  all_goals decide +kernel
theorem mn8 {b : Nat} (hb : b ≤ 60) : mn (nI 8) (nI b) = nI (min 8 b) := by
  unfold mn
  by_cases h : b < 8
  · rw [if_pos (nI_lt h (by omega)), Nat.min_eq_right (by omega)]
  · rw [if_neg (nI_nlt (by omega) (by omega)), Nat.min_eq_left (by omega)]
theorem opnS_n {o a : Nat} {z f l y m c : Int32} (h0 : a ≠ 0) (h : a < 4 ∨ 13 < a) : opnS D o z f l y m c a = D a := by
  unfold opnS
  rw [zw_n _ _ _ _ h0, zw_n _ _ _ _ (by omega), knwN_n (by omega), fstN_n (by omega)]
  unfold opn0
  rw [zw_n _ _ _ _ (by omega), zw_n _ _ _ _ (by omega), zw_n _ _ _ _ (by omega), zw_n _ _ _ _ (by omega), zw_n _ _ _ _ (by omega), zw_n _ _ _ _ (by omega), zw_n _ _ _ _ (by omega), zw_n _ _ _ _ (by omega)]
theorem opnS_0 {o : Nat} {z f l y m c : Int32} : opnS D o z f l y m c 0 = zu (D 0) 3 (nI (o + 1)) := by
  unfold opnS
  rw [zw_a, zw_n _ _ _ _ (by decide), knwN_n (by decide), fstN_n (by decide), opn0_0]
theorem kn1_n {o a : Nat} {v : Int32} (h : a ≠ 13) : ∀ k, kn1 D o v k a = D a := by
  intro k
  induction k with
  | zero => rfl
  | succ k ih => rw [kn1, stKn_n h]; exact ih
theorem sitZ_n {a z : Nat} {l c v : Int32} (h0 : a ≠ 0) (h : a < 4 ∨ 13 < a) : sitZ D no l c v z a = D a := by
  unfold sitZ
  rw [kn1_n (by omega), opnS_n h0 h]
theorem sitZ_0 {z : Nat} {l c v : Int32} : sitZ D no l c v z 0 = zu (D 0) 3 (nI (no + 1)) := by
  unfold sitZ
  rw [kn1_n (by decide), opnS_0]
theorem sitD_n {a : Nat} {l c v : Int32} (h0 : a ≠ 0) (h : a < 4 ∨ 13 < a) : ∀ z, sitD D no l c v z a = D a := by
  intro z
  induction z with
  | zero => rfl
  | succ z ih => rw [sitD, zw_n _ _ _ _ h0, sitZ_n h0 h]; exact ih
theorem sitD_0 {l c v : Int32} (h3 : D 0 3 = nI no) : ∀ z, sitD D no l c v z 0 = D 0 := by
  intro z
  induction z with
  | zero => rfl
  | succ z ih => rw [sitD, zw_a, sitZ_0, zu_zu, ih, ← h3, zu_id]
theorem wf_up {W2 : zI} (h : wf W no n) (h3 : W2 0 3 = nI (no + 1)) (h16 : W2 0 16 = W 0 16) (h1 : W2 20 = W 20) (h2 : W2 21 = W 21) (h6 : no < 6) : wf W2 (no + 1) n := by
  obtain ⟨⟨a1, a2⟩, ⟨b1, b2⟩, c1, c2⟩ := h
  refine ⟨⟨h3, by omega⟩, ⟨h16.trans b1, b2⟩, fun p hp => ?_, fun p hp => ?_⟩
  · obtain ⟨k, hk, e⟩ := c1 p hp
    exact ⟨k, by omega, by rw [h1]; exact e⟩
  · rw [h2]
    rcases c2 p hp with e | ⟨k, hk, e⟩
    · exact Or.inl e
    · exact Or.inr ⟨k, by omega, e⟩
theorem sit_wf {l c v : Int32} {z : Nat} (hw : wf (wld D) no n) (h6 : no < 6) : wf (wld (sitZ (sitD D no l c v z) no l c v z)) (no + 1) n := by
  have h3 : D 0 3 = nI no := hw.o3
  refine wf_up hw ?_ ?_ (wld_row (by rw [sitZ_n (by decide) (by decide), sitD_n (by decide) (by decide)])) (wld_row (by rw [sitZ_n (by decide) (by decide), sitD_n (by decide) (by decide)])) h6
  · show sitZ _ _ _ _ _ _ 0 3 = _
    rw [sitZ_0, zu_s]
  · show sitZ _ _ _ _ _ _ 0 16 = D 0 16
    rw [sitZ_0, zu_n _ _ _ (by decide), sitD_0 h3]
theorem sit_23 {l c v : Int32} {z : Nat} : sitZ (sitD D no l c v z) no l c v z 23 = D 23 := by rw [sitZ_n (by decide) (by decide), sitD_n (by decide) (by decide)]
theorem sit_ru {l c v : Int32} {z : Nat} {ro : Option (List Nat)} (h : ruM (wld D) ro) : ruM (wld (sitZ (sitD D no l c v z) no l c v z)) ro := ru_eq h (wld_row (by rw [sitZ_n (by decide) (by decide), sitD_n (by decide) (by decide)])) (wld_row (by rw [sitZ_n (by decide) (by decide), sitD_n (by decide) (by decide)]))
theorem sitO_b {l c v : Int32} {z h y : Nat} {ro : Option (List Nat)} (hw : wf (wld D) no n) (hi9 : ∀ j, 127 ≤ j → D 23 j = 0) (h6 : no < 6) (hh : h ≤ 2399) (e : sitO D ro no n l c v h z = some y) : y ≤ 2399 := by
  obtain ⟨s2, h1, h2⟩ := Option.map_eq_some_iff.mp e
  obtain ⟨t, ht, e2⟩ := pEnd_b (sit_wf hw h6) (sf_begS (sit_wf hw h6) hi9 hh) h1
  rw [e2, nI_clamp (by omega)] at h2
  omega
theorem tgD_n {o a : Nat} (h : a ≠ 0 ∧ a ≠ 8 ∧ a ≠ 9 ∧ a ≠ 20 ∧ a ≠ 26) : tgD D no n o a = D a := by
  unfold tgD
  rw [zw_n _ _ _ _ h.1, zw_n _ _ _ _ h.2.1, zw_n _ _ _ _ h.2.2.1, zw_n _ _ _ _ h.2.2.2.2, zu_n _ _ _ h.2.2.2.1]
theorem tgD_0 {o : Nat} : tgD D no n o 0 = zu (D 0) 37 (nI 1) := by
  unfold tgD
  rw [zw_a, zw_n _ _ _ _ (by decide), zw_n _ _ _ _ (by decide), zw_n _ _ _ _ (by decide), zu_n _ _ _ (by decide)]
theorem tgD_20 {o : Nat} : tgD D no n o 20 = fun p => if p < n then nI o else D 20 p := by
  unfold tgD
  rw [zw_n _ _ _ _ (by decide), zw_n _ _ _ _ (by decide), zw_n _ _ _ _ (by decide), zw_n _ _ _ _ (by decide), zu_s]
theorem tgD_26 {o : Nat} : tgD D no n o 26 0 = nI 0 := by
  unfold tgD
  rw [zw_n _ _ _ _ (by decide), zw_n _ _ _ _ (by decide), zw_n _ _ _ _ (by decide), zw_s]
theorem tg_wf {o : Nat} (hw : wf (wld D) no n) (ho : o < no) : wf (wld (tgD D no n o)) no n := by
  obtain ⟨⟨a1, a2⟩, ⟨b1, b2⟩, c1, c2⟩ := hw
  refine ⟨⟨?_, a2⟩, ⟨?_, b2⟩, fun p hp => ⟨o, ho, ?_⟩, fun p hp => ?_⟩
  · show tgD D no n o 0 3 = _
    rw [tgD_0, zu_n _ _ _ (by decide)]; exact a1
  · show tgD D no n o 0 16 = _
    rw [tgD_0, zu_n _ _ _ (by decide)]; exact b1
  · show tgD D no n o 20 p = _
    rw [tgD_20]; exact if_pos hp
  · rw [wld_row (tgD_n (by decide))]; exact c2 p hp
theorem tg_ru {o : Nat} : ruM (wld (tgD D no n o)) none := tgD_26 (D := D) (no := no) (n := n) (o := o)
theorem zw_zu {f : zI} {a k : Nat} {g : zS} {v : Int32} : zw (zu f a g) a k v = zu f a (zu g k v) := by
  unfold zw
  rw [zu_s, zu_zu]
theorem plc_ge {x : Int32} {no j : Nat} : ∀ (p w : Nat) (b : zS), p ≤ j → plc x no p w b j = b j := by
  intro p
  induction p with
  | zero => exact fun _ _ _ => rfl
  | succ p ih =>
    intro w b h
    rw [plc]
    split
    · rw [ih _ _ (by omega), zu_n _ _ _ (by omega)]
    · exact ih _ _ (by omega)
theorem plc_zu {x : Int32} {no j : Nat} {v : Int32} : ∀ (p w : Nat) (b : zS), p ≤ j → zu (plc x no p w b) j v = plc x no p w (zu b j v) := by
  intro p
  induction p with
  | zero => exact fun _ _ _ => rfl
  | succ p ih =>
    intro w b h
    rw [plc, plc]
    split
    · rw [ih _ _ (by omega), zu_com (by omega)]
    · exact ih _ _ (by omega)
theorem plc_0 {x : Int32} {no : Nat} : ∀ (p : Nat) (b : zS) (j : Nat), plc x no p 0 b j = if j < p then (if zbit x (nI j) = true then nI 0 else b j) else b j := by
  intro p
  induction p with
  | zero => exact fun _ _ => rfl
  | succ p ih =>
    intro b j
    rw [plc, Nat.zero_div, Nat.zero_mod]
    split
    · next hb =>
      rw [ih]
      by_cases e : j = p
      · subst e; rw [if_neg (by omega), zu_s, if_pos (by omega), if_pos hb]
      · rw [zu_n _ _ _ e]
        by_cases h : j < p
        · rw [if_pos h, if_pos (show j < p + 1 by omega)]
        · rw [if_neg h, if_neg (by omega)]
    · next hb =>
      rw [ih]
      by_cases e : j = p
      · subst e; rw [if_neg (by omega), if_pos (by omega), if_neg hb]
      · by_cases h : j < p
        · rw [if_pos h, if_pos (show j < p + 1 by omega)]
        · rw [if_neg h, if_neg (by omega)]
theorem plc_b {x : Int32} {no : Nat} (h0 : 0 < no) {b : zS} {n : Nat} (hb : ∀ j, j < n → ∃ k, k < no ∧ b j = nI k) : ∀ (p w : Nat) (c : zS), (∀ j, j < n → ∃ k, k < no ∧ c j = nI k) → ∀ j, j < n → ∃ k, k < no ∧ plc x no p w c j = nI k := by
  intro p
  induction p with
  | zero => exact fun _ _ h => h
  | succ p ih =>
    intro w c hc
    rw [plc]
    split
    · refine ih _ _ fun j hj => ?_
      by_cases e : j = p
      · subst e; exact ⟨w % no, Nat.mod_lt _ h0, zu_s _ _ _⟩
      · rw [zu_n _ _ _ e]; exact hc j hj
    · exact ih _ _ hc
theorem hmD_n {x : Int32} {a w : Nat} (h : a ≠ 20) (h2 : a ≠ 26) : hmD D x no n w a = D a := by
  unfold hmD
  rw [zu_n _ _ _ h, zw_n _ _ _ _ h2]
theorem hm_ru {x : Int32} {w : Nat} : ruM (wld (hmD D x no n w)) none := by
  show hmD D x no n w 26 0 = _
  unfold hmD
  rw [zu_n _ _ _ (by decide), zw_s]
theorem hm_wf {x : Int32} {w : Nat} (hw : wf (wld D) no n) (h0 : 0 < no) : wf (wld (hmD D x no n w)) no n := by
  obtain ⟨⟨a1, a2⟩, ⟨b1, b2⟩, c1, c2⟩ := hw
  refine ⟨⟨?_, a2⟩, ⟨?_, b2⟩, fun p hp => ?_, fun p hp => ?_⟩
  · show hmD D x no n w 0 3 = _
    rw [hmD_n (by decide) (by decide)]; exact a1
  · show hmD D x no n w 0 16 = _
    rw [hmD_n (by decide) (by decide)]; exact b1
  · show ∃ k, k < no ∧ hmD D x no n w 20 p = nI k
    unfold hmD
    rw [zu_s]
    exact plc_b h0 (b := D 20) (n := n) c1 n w (D 20) c1 p hp
  · rw [wld_row (hmD_n (by decide) (by decide))]; exact c2 p hp
theorem hmE_b {x : Int32} {h w : Nat} {v : Nat} (hw : wf (wld D) no n) (h0 : 0 < no) (hi9 : ∀ j, 127 ≤ j → D 23 j = 0) (hh : h ≤ 2399) (e : endO (hmE D x no n h w) = some v) : v ≤ 2399 := by
  obtain ⟨s2, h1, h2⟩ := Option.map_eq_some_iff.mp e
  obtain ⟨t, ht, e2⟩ := pEnd_b (hm_wf hw h0) (sf_begS (hm_wf hw h0) hi9 hh) h1
  rw [e2, nI_clamp (by omega)] at h2
  omega
end PURE5
