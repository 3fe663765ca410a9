set_option maxRecDepth 100000
/-! pure: an hour of the search, place by place -/
section ONE2
variable {A B : zS} {W : zI} {T U : Nat → Nat → Nat → Nat → Prop} {p h0 h most no n o l c j : Nat}
/-- the places of A below j, with their codes -/
def plU (A : zS) (j : Nat) : Nat → Nat → Nat → Nat → Prop := fun n o l c => (pl n o l < j ∧ o < 6 ∧ l < 128) ∧ c < 2 ^ 30 ∧ A (pl n o l) = nI c
theorem plU_n (ho : o < 6) (hl : l < 128) (hA : A (pl n o l) = -1) : ∀ n2 o2 l2 c2, plU A (pl n o l) n2 o2 l2 c2 ↔ plU A (pl n o l + 1) n2 o2 l2 c2 := by
  intro n2 o2 l2 c2
  constructor
  · rintro ⟨⟨h1, h2, h3⟩, h4, h5⟩
    exact ⟨⟨by omega, h2, h3⟩, h4, h5⟩
  · rintro ⟨⟨h1, h2, h3⟩, h4, h5⟩
    refine ⟨⟨?_, h2, h3⟩, h4, h5⟩
    by_cases e : pl n2 o2 l2 = pl n o l
    · rw [e, hA] at h5
      exact absurd h5.symm (nI_m1 (by omega))
    · omega
theorem plU_c (ho : o < 6) (hl : l < 128) (hc : c < 2 ^ 30) (hA : A (pl n o l) = nI c) : ∀ n2 o2 l2 c2, (plU A (pl n o l) n2 o2 l2 c2 ∨ (n2 = n ∧ o2 = o ∧ l2 = l ∧ c2 = c)) ↔ plU A (pl n o l + 1) n2 o2 l2 c2 := by
  intro n2 o2 l2 c2
  constructor
  · rintro (⟨⟨h1, h2, h3⟩, h4, h5⟩ | ⟨e1, e2, e3, e4⟩)
    · exact ⟨⟨by omega, h2, h3⟩, h4, h5⟩
    · rw [e1, e2, e3, e4]
      exact ⟨⟨by omega, ho, hl⟩, hc, hA⟩
  · rintro ⟨⟨h1, h2, h3⟩, h4, h5⟩
    by_cases e : pl n2 o2 l2 = pl n o l
    · obtain ⟨e1, e2, e3⟩ := pl_inj h2 ho h3 hl e
      rw [e, hA] at h5
      exact Or.inr ⟨e1, e2, e3, ((nI_eq (by omega) (by omega)).mp h5).symm⟩
    · exact Or.inl ⟨⟨by omega, h2, h3⟩, h4, h5⟩
/-- what comes of the places U in the hour h -/
def nxT (W : zI) (p h most no : Nat) (U : Nat → Nat → Nat → Nat → Prop) : Nat → Nat → Nat → Nat → Prop := fun n o l c =>
  ∃ n1 o1 l1 l2 c1, U n1 o1 l1 c1 ∧ l1 = l2 + (if wkO W p o1 h = true then 1 else 0) ∧ 0 < l2 ∧ ((n = n1 ∧ o = o1 ∧ l = l2 ∧ c = c1) ∨ (n = n1 + 1 ∧ n1 < most ∧ o < no ∧ o ≠ o1 ∧ l = l2 + lsN W o1 o (h + 1) ∧ c = 8 * c1 + o))
def fxT (W : zI) (p h : Nat) (U : Nat → Nat → Nat → Nat → Prop) : Nat → Nat → Prop := fun n c => ∃ o, U n o 1 c ∧ wkO W p o h = true
theorem nxT_i (e : ∀ n o l c, U n o l c ↔ T n o l c) : ∀ n o l c, nxT W p h most no U n o l c ↔ nxT W p h most no T n o l c := by
  have : U = T := by
    funext n o l c
    exact propext (e n o l c)
  rw [this]
  exact fun _ _ _ _ => Iff.rfl
theorem fxT_i (e : ∀ n o l c, U n o l c ↔ T n o l c) : ∀ n c, fxT W p h U n c ↔ fxT W p h T n c := by
  have : U = T := by
    funext n o l c
    exact propext (e n o l c)
  rw [this]
  exact fun _ _ => Iff.rfl
/-- a place more, from which one goes on -/
theorem nxT_c {l2 : Nat} (hl : l = l2 + (if wkO W p o h = true then 1 else 0)) (h0 : 0 < l2) (e : ∀ n2 o2 l2 c2, (U n2 o2 l2 c2 ∨ (n2 = n ∧ o2 = o ∧ l2 = l ∧ c2 = c)) ↔ T n2 o2 l2 c2) :
    ∀ n3 o3 l3 c3, gT (nxT W p h most no U) n o l2 c most (fun b => lsN W o b (h + 1)) no n3 o3 l3 c3 ↔ nxT W p h most no T n3 o3 l3 c3 := by
  intro n3 o3 l3 c3
  have hT : T n o l c := (e n o l c).mp (Or.inr ⟨rfl, rfl, rfl, rfl⟩)
  constructor
  · rintro ((⟨n1, o1, l1, l4, c1, hu, r⟩ | ⟨e1, e2, e3, e4⟩) | ⟨b, hb, hbo, hm, e1, e2, e3, e4⟩)
    · exact ⟨n1, o1, l1, l4, c1, (e _ _ _ _).mp (Or.inl hu), r⟩
    · exact ⟨n, o, l, l2, c, hT, hl, h0, Or.inl ⟨e1, e2, e3, e4⟩⟩
    · refine ⟨n, o, l, l2, c, hT, hl, h0, Or.inr ⟨e1, hm, by omega, by omega, ?_, ?_⟩⟩
      · rw [e2]; exact e3
      · rw [e2]; exact e4
  · rintro ⟨n1, o1, l1, l4, c1, ht, e1, h1, r⟩
    rcases (e n1 o1 l1 c1).mpr ht with hu | ⟨f1, f2, f3, f4⟩
    · exact Or.inl (Or.inl ⟨n1, o1, l1, l4, c1, hu, e1, h1, r⟩)
    · subst f1; subst f2; subst f3; subst f4
      obtain rfl : l4 = l2 := Nat.add_right_cancel (e1.symm.trans hl)
      rcases r with r | ⟨e1, e2, e3, e4, e5, e6⟩
      · exact Or.inl (Or.inr r)
      · exact Or.inr ⟨o3, e3, e4, e2, e1, rfl, e5, e6⟩
/-- a place more, whose way comes to its end -/
theorem nxT_0 (hl : l = 1) (hw : wkO W p o h = true) (e : ∀ n2 o2 l2 c2, (U n2 o2 l2 c2 ∨ (n2 = n ∧ o2 = o ∧ l2 = l ∧ c2 = c)) ↔ T n2 o2 l2 c2) :
    ∀ n3 o3 l3 c3, nxT W p h most no U n3 o3 l3 c3 ↔ nxT W p h most no T n3 o3 l3 c3 := by
  intro n3 o3 l3 c3
  constructor
  · rintro ⟨n1, o1, l1, l4, c1, hu, r⟩
    exact ⟨n1, o1, l1, l4, c1, (e _ _ _ _).mp (Or.inl hu), r⟩
  · rintro ⟨n1, o1, l1, l4, c1, ht, e1, h1, r⟩
    rcases (e n1 o1 l1 c1).mpr ht with hu | ⟨f1, f2, f3, f4⟩
    · exact ⟨n1, o1, l1, l4, c1, hu, e1, h1, r⟩
    · rw [f2, if_pos hw] at e1
      omega
theorem fxT_c (hl : l = 1) (hw : wkO W p o h = true) (e : ∀ n2 o2 l2 c2, (U n2 o2 l2 c2 ∨ (n2 = n ∧ o2 = o ∧ l2 = l ∧ c2 = c)) ↔ T n2 o2 l2 c2) : ∀ n3 c3, (fxT W p h U n3 c3 ∨ (n3 = n ∧ c3 = c)) ↔ fxT W p h T n3 c3 := by
  intro n3 c3
  constructor
  · rintro (⟨o1, hu, hw1⟩ | ⟨e1, e2⟩)
    · exact ⟨o1, (e _ _ _ _).mp (Or.inl hu), hw1⟩
    · exact ⟨o, (e _ _ _ _).mp (Or.inr ⟨e1, rfl, hl.symm, e2⟩), hw⟩
  · rintro ⟨o1, ht, hw1⟩
    rcases (e _ _ _ _).mpr ht with hu | ⟨f1, f2, f3, f4⟩
    · exact Or.inl ⟨o1, hu, hw1⟩
    · exact Or.inr ⟨f1, f4⟩
theorem fxT_0 {l2 : Nat} (hl : l = l2 + (if wkO W p o h = true then 1 else 0)) (h0 : 0 < l2) (e : ∀ n2 o2 l2 c2, (U n2 o2 l2 c2 ∨ (n2 = n ∧ o2 = o ∧ l2 = l ∧ c2 = c)) ↔ T n2 o2 l2 c2) : ∀ n3 c3, fxT W p h U n3 c3 ↔ fxT W p h T n3 c3 := by
  intro n3 c3
  constructor
  · rintro ⟨o1, hu, hw1⟩
    exact ⟨o1, (e _ _ _ _).mp (Or.inl hu), hw1⟩
  · rintro ⟨o1, ht, hw1⟩
    rcases (e _ _ _ _).mpr ht with hu | ⟨f1, f2, f3, f4⟩
    · exact ⟨o1, hu, hw1⟩
    · rw [← f2, if_pos hw1] at hl
      omega
/-- the best end so far -/
def oneS (x y : Int32) (F : Nat → Nat → Prop) : Prop := (x = -1 ∧ ∀ n c, ¬ F n c) ∨ ∃ n c, (n < 4 ∧ c < 2 ^ 30) ∧ x = nI n ∧ y = nI c ∧ F n c ∧ ∀ n2 c2, F n2 c2 → n < n2 ∨ (n = n2 ∧ c ≤ c2)
theorem oneS_i {x y : Int32} {F F2 : Nat → Nat → Prop} (h : oneS x y F) (e : ∀ n c, F n c ↔ F2 n c) : oneS x y F2 := by
  have : F = F2 := by
    funext n c
    exact propext (e n c)
  rw [← this]
  exact h
/-- how it may stand, in bounds -/
def bdT (most no : Nat) (T : Nat → Nat → Nat → Nat → Prop) : Prop := ∀ n o l c, T n o l c → n ≤ most ∧ o < no ∧ (0 < l ∧ l < 128) ∧ c < 2 ^ 20
theorem plU_r (hA : tbl A T) (hm : most ≤ 3) (h : plU A (pl (most + 1) 0 0) n o l c) : T n o l c ∧ ∀ c2, T n o l c2 → c ≤ c2 := by
  obtain ⟨⟨h1, h2, h3⟩, h4, h5⟩ := h
  have hn : n < 4 := by unfold pl at h1; omega
  rcases hA n o l hn h2 h3 with ⟨a, -⟩ | ⟨c1, b1, b2, b3, b4⟩
  · rw [a] at h5
    exact absurd h5.symm (nI_m1 (by omega))
  · rw [b2] at h5
    obtain rfl := (nI_eq (by omega) (by omega)).mp h5
    exact ⟨b3, b4⟩
theorem plU_m (hA : tbl A T) (hb : bdT most no T) (h6 : no ≤ 6) (hm : most ≤ 3) (h : T n o l c) : ∃ c1, c1 ≤ c ∧ plU A (pl (most + 1) 0 0) n o l c1 := by
  obtain ⟨b1, b2, ⟨b3, b4⟩, b5⟩ := hb n o l c h
  rcases hA n o l (by omega) (by omega) b4 with ⟨-, a⟩ | ⟨c1, q1, q2, q3, q4⟩
  · exact absurd h (a c)
  · refine ⟨c1, q4 c h, ⟨?_, by omega, b4⟩, q1, q2⟩
    unfold pl
    omega
/-- a table of less says the same, where all the rest is dearer -/
theorem tbl_dom {T2 : Nat → Nat → Nat → Nat → Prop} (h : tbl B T2) (s : ∀ n o l c, T2 n o l c → T n o l c) (dm : ∀ n o l c, T n o l c → ∃ c2, c2 ≤ c ∧ T2 n o l c2) : tbl B T := by
  intro n o l h0 h1 h2
  rcases h n o l h0 h1 h2 with ⟨a, b⟩ | ⟨c, b1, b2, b3, b4⟩
  · refine Or.inl ⟨a, fun c q => ?_⟩
    obtain ⟨c2, -, q2⟩ := dm n o l c q
    exact b c2 q2
  · refine Or.inr ⟨c, b1, b2, s _ _ _ _ b3, fun c2 q => ?_⟩
    obtain ⟨c3, l3, q3⟩ := dm n o l c2 q
    exact Nat.le_trans (b4 c3 q3) l3
theorem tbl_next (hA : tbl A T) (hb : bdT most no T) (h6 : no ≤ 6) (hm : most ≤ 3) (hB : tbl B (nxT W p h most no (plU A (pl (most + 1) 0 0)))) : tbl B (nxT W p h most no T) := by
  refine tbl_dom hB ?_ ?_
  · rintro n o l c ⟨n1, o1, l1, l2, c1, hu, r⟩
    exact ⟨n1, o1, l1, l2, c1, (plU_r hA hm hu).1, r⟩
  · rintro n o l c ⟨n1, o1, l1, l2, c1, ht, e1, h1, r⟩
    obtain ⟨c2, hc, hu⟩ := plU_m hA hb h6 hm ht
    rcases r with ⟨r1, r2, r3, r4⟩ | ⟨r1, r2, r3, r4, r5, r6⟩
    · exact ⟨c2, by omega, n1, o1, l1, l2, c2, hu, e1, h1, Or.inl ⟨r1, r2, r3, rfl⟩⟩
    · exact ⟨8 * c2 + o, by omega, n1, o1, l1, l2, c2, hu, e1, h1, Or.inr ⟨r1, r2, r3, r4, r5, rfl⟩⟩
theorem oneS_fin {x y : Int32} (hA : tbl A T) (hb : bdT most no T) (h6 : no ≤ 6) (hm : most ≤ 3) (h9 : oneS x y (fxT W p h (plU A (pl (most + 1) 0 0)))) : oneS x y (fxT W p h T) := by
  rcases h9 with ⟨a, b⟩ | ⟨n, c, b0, b1, b2, ⟨o, hu, hw⟩, b4⟩
  · refine Or.inl ⟨a, fun n c => ?_⟩
    rintro ⟨o, ht, hw⟩
    obtain ⟨c2, -, hu⟩ := plU_m hA hb h6 hm ht
    exact b n c2 ⟨o, hu, hw⟩
  · refine Or.inr ⟨n, c, b0, b1, b2, ⟨o, (plU_r hA hm hu).1, hw⟩, fun n2 c2 q => ?_⟩
    obtain ⟨o2, ht, hw2⟩ := q
    obtain ⟨c3, hc, hu2⟩ := plU_m hA hb h6 hm ht
    rcases b4 n2 c3 ⟨o2, hu2, hw2⟩ with q | ⟨q1, q2⟩
    · exact Or.inl q
    · exact Or.inr ⟨q1, by omega⟩
/-- what is lost is little -/
def knf (W : zI) (no : Nat) : Prop := (∃ v, v ≤ 20 ∧ W 0 14 = nI v) ∧ ∀ a b, a < no → b < no → ∃ v, v ≤ 9 ∧ W 13 (6 * a + b) = nI v
theorem lst_b (hk : knf W no) {a b : Nat} (ha : a < no) (hb : b < no) : lst W a b h = nI (lsN W a b h) ∧ lsN W a b h ≤ 22 := by
  obtain ⟨⟨v, hv, ev⟩, g⟩ := hk
  obtain ⟨u, hu, eu⟩ := g a b ha hb
  have key : ∃ k, k ≤ 22 ∧ lst W a b h = nI k := by
    unfold lst
    split
    · exact ⟨0, by omega, rfl⟩
    · rw [ev, eu]
      have e : mx (nI 0) (nI v - nI u) = nI (v - u) := by
        unfold mx
        by_cases q : u ≤ v
        · rw [pk_sub q]
          by_cases q2 : v - u = 0
          · rw [q2]; split <;> rfl
          · rw [if_pos (nI_lt (by omega) (by omega))]
        · have := pk_sneg (a := v) (b := u) (by omega) (by omega)
          rw [if_neg (fun q3 => by
            have q4 : (0 : Int32) < nI v - nI u := q3
            rw [Int32.lt_iff_toInt_lt] at q4 this
            omega), Nat.sub_eq_zero_of_le (by omega)]
      rw [e]
      split
      · exact ⟨v - u + 2, by omega, nI_add _ _⟩
      · exact ⟨v - u, by omega, by rw [show (nI 0 : Int32) = 0 from rfl, Int32.add_zero]⟩
  obtain ⟨k, hk, ek⟩ := key
  unfold lsN
  rw [ek, nI_clamp (by omega)]
  exact ⟨rfl, hk⟩
theorem rch_b (hk : knf W no) {b len : Nat} (hb : b < no) (h6 : no ≤ 6) (e20 : W 20 p = nI b) (e18 : W 18 p = nI len) (hl0 : 0 < len) (hl : len ≤ 60) : ∀ i n o l c, rch W p h0 most no i n o l c → n ≤ most ∧ o < no ∧ (0 < l ∧ l ≤ len + 22 * n) ∧ c < 8 ^ n := by
  intro i
  induction i with
  | zero =>
    rintro n o l c ⟨rfl, e2, e3, rfl⟩
    rw [e20, nI_clamp (by omega)] at e2
    rw [e18, nI_clamp (by omega)] at e3
    subst e2; subst e3
    exact ⟨by omega, hb, ⟨hl0, by omega⟩, by omega⟩
  | succ i ih =>
    rintro n o l c ⟨n1, o1, l1, l2, c1, hr, e1, h1, r⟩
    obtain ⟨b1, b2, ⟨b3, b4⟩, b5⟩ := ih n1 o1 l1 c1 hr
    rcases r with ⟨rfl, rfl, rfl, rfl⟩ | ⟨rfl, r2, r3, r4, rfl, rfl⟩
    · refine ⟨b1, b2, ⟨h1, ?_⟩, b5⟩
      split at e1 <;> omega
    · have lb := (lst_b (h := h0 + i + 1) hk b2 r3).2
      refine ⟨by omega, r3, ⟨by omega, ?_⟩, ?_⟩
      · split at e1 <;> omega
      · rw [Nat.pow_succ]; omega
theorem rch_bd (hk : knf W no) {b len : Nat} (hb : b < no) (h6 : no ≤ 6) (e20 : W 20 p = nI b) (e18 : W 18 p = nI len) (hl0 : 0 < len) (hl : len ≤ 60) (hm : most ≤ 3) (i : Nat) : bdT most no (rch W p h0 most no i) := by
  intro n o l c q
  obtain ⟨b1, b2, ⟨b3, b4⟩, b5⟩ := rch_b hk hb h6 e20 e18 hl0 hl i n o l c q
  have : 8 ^ n ≤ 8 ^ 3 := Nat.pow_le_pow_right (by omega) (by omega)
  exact ⟨b1, b2, ⟨b3, by omega⟩, by omega⟩
end ONE2
