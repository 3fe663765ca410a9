set_option maxRecDepth 100000
/-! PURE: the cheapest by an hour, place by place (tables of longs) -/
theorem lgN_lt {a b : Nat} (ha : a < 2 ^ 63) (hb : b < 2 ^ 63) : lg_cmp (lN a) (lN b) < 0 ↔ a < b := by
  have h1 := pk_lLT hb ha
  have h2 := pk_lEQ ha hb
  unfold lg_cmp
  by_cases e : b < a
  · rw [if_pos (show lN a > lN b from h1.mpr e)]
    exact ⟨fun q => absurd q (by decide), fun q => by omega⟩
  · rw [if_neg (show ¬ lN a > lN b from fun q => e (h1.mp q))]
    by_cases e2 : a = b
    · rw [if_pos (h2.mpr e2)]
      exact ⟨fun q => absurd q (by decide), fun q => by omega⟩
    · rw [if_neg (fun q => e2 (h2.mp q))]
      exact ⟨fun _ => by omega, fun _ => by decide⟩
theorem lgN_gt {a b : Nat} (ha : a < 2 ^ 63) (hb : b < 2 ^ 63) : 0 < lg_cmp (lN a) (lN b) ↔ b < a := by
  have h1 := pk_lLT hb ha
  unfold lg_cmp
  by_cases e : b < a
  · rw [if_pos (show lN a > lN b from h1.mpr e)]
    exact ⟨fun _ => e, fun _ => by decide⟩
  · rw [if_neg (show ¬ lN a > lN b from fun q => e (h1.mp q))]
    refine ⟨fun q => ?_, fun q => absurd q e⟩
    split at q <;> exact absurd q (by decide)
theorem lgN_eq {a b : Nat} (ha : a < 2 ^ 63) (hb : b < 2 ^ 63) : lg_cmp (lN a) (lN b) = 0 ↔ a = b := by
  have h1 := pk_lLT hb ha
  have h2 := pk_lEQ ha hb
  unfold lg_cmp
  by_cases e : b < a
  · rw [if_pos (show lN a > lN b from h1.mpr e)]
    exact ⟨fun q => absurd q (by decide), fun q => by omega⟩
  · rw [if_neg (show ¬ lN a > lN b from fun q => e (h1.mp q))]
    by_cases e2 : a = b
    · rw [if_pos (h2.mpr e2)]
      exact ⟨fun _ => e2, fun _ => rfl⟩
    · rw [if_neg (fun q => e2 (h2.mp q))]
      exact ⟨fun q => absurd q (by decide), fun q => absurd q e2⟩
theorem lN_m1 {k : Nat} (h : k < 2 ^ 63) : ¬ lN k = -1 := fun e => by
  have := congrArg Int64.toInt e
  rw [pk_lT h, show (-1 : Int64).toInt = -1 from by decide] at this
  omega
section CHM
variable {A B : Nat → Int64} {W : zI} {T U : Nat → Nat → Nat → Nat → Prop} {p h0 h most no n o l x j : Nat}
/-- the table A says of each place the least number by which it is reached; -1: it is not -/
def tblL (A : Nat → Int64) (T : Nat → Nat → Nat → Nat → Prop) : Prop := ∀ n o l, n < 4 → o < 6 → l < 128 → (A (pl n o l) = -1 ∧ ∀ x, ¬ T n o l x) ∨ ∃ x, x < 2 ^ 40 ∧ A (pl n o l) = lN x ∧ T n o l x ∧ ∀ x2, T n o l x2 → x ≤ x2
theorem tblL_0 (h : ∀ j, j < 3072 → A j = -1) : tblL A (fun _ _ _ _ => False) := fun n o l h0 h1 h2 => Or.inl ⟨h _ (pl_lt h0 h1 h2), fun _ q => q⟩
theorem tblL_eq {T2 : Nat → Nat → Nat → Nat → Prop} (h : tblL A T) (e : ∀ n o l c, T n o l c ↔ T2 n o l c) : tblL A T2 := by
  have : T = T2 := by
    funext n o l c
    exact propext (e n o l c)
  rw [← this]
  exact h
/-- a number more is written down: v stands where A said -1, or it is the less -/
theorem tblL_l (h : tblL A T) {v : Int64} (h0 : n < 4) (h1 : o < 6) (h2 : l < 128) (hx : x < 2 ^ 40) (hv : (A (pl n o l) = -1 ∧ v = lN x) ∨ ∃ y, y < 2 ^ 40 ∧ A (pl n o l) = lN y ∧ v = lN (min y x)) : tblL (zu A (pl n o l) v) (fun n2 o2 l2 x2 => T n2 o2 l2 x2 ∨ (n2 = n ∧ o2 = o ∧ l2 = l ∧ x2 = x)) := by
  intro n2 o2 l2 g0 g1 g2
  by_cases e : pl n2 o2 l2 = pl n o l
  · obtain ⟨rfl, rfl, rfl⟩ := pl_inj g1 h1 g2 h2 e
    right
    rw [zu_s]
    rcases h n2 o2 l2 g0 g1 g2 with ⟨a1, a2⟩ | ⟨c1, b1, b2, b3, b4⟩
    · have ev : v = lN x := by
        rcases hv with ⟨-, e⟩ | ⟨y, hy, e, -⟩
        · exact e
        · rw [a1] at e
          exact absurd e.symm (lN_m1 (by omega))
      refine ⟨x, hx, ev, Or.inr ⟨rfl, rfl, rfl, rfl⟩, fun c2 q => ?_⟩
      rcases q with q | ⟨-, -, -, rfl⟩
      · exact absurd q (a2 c2)
      · exact Nat.le_refl _
    · have ev : v = lN (min c1 x) := by
        rcases hv with ⟨e, -⟩ | ⟨y, hy, e, ev⟩
        · rw [b2] at e
          exact absurd e (lN_m1 (by omega))
        · rw [b2] at e
          rw [(pk_lEQ (by omega) (by omega)).mp e]
          exact ev
      refine ⟨min c1 x, by omega, ev, ?_, fun c2 q => ?_⟩
      · by_cases q : c1 ≤ x
        · rw [Nat.min_eq_left q]; exact Or.inl b3
        · rw [Nat.min_eq_right (by omega)]; exact Or.inr ⟨rfl, rfl, rfl, rfl⟩
      · rcases q with q | ⟨-, -, -, rfl⟩
        · have := b4 c2 q; omega
        · exact Nat.min_le_right _ _
  · rw [zu_n _ _ _ e]
    rcases h n2 o2 l2 g0 g1 g2 with ⟨a1, a2⟩ | ⟨c1, b1, b2, b3, b4⟩
    · refine Or.inl ⟨a1, fun c2 q => ?_⟩
      rcases q with q | ⟨rfl, rfl, rfl, -⟩
      · exact a2 c2 q
      · exact e rfl
    · refine Or.inr ⟨c1, b1, b2, Or.inl b3, fun c2 q => ?_⟩
      rcases q with q | ⟨rfl, rfl, rfl, -⟩
      · exact b4 c2 q
      · exact absurd rfl e
theorem tblL_at (h : tblL A T) (h0 : n < 4) (h1 : o < 6) (h2 : l < 128) : A (pl n o l) = -1 ∨ ∃ y, y < 2 ^ 40 ∧ A (pl n o l) = lN y := by
  rcases h n o l h0 h1 h2 with ⟨a, -⟩ | ⟨c, b1, b2, -⟩
  · exact Or.inl a
  · exact Or.inr ⟨c, b1, b2⟩
/-- the places that come of one: it stays, or it is handed to one of the first i offices -/
def gP (T : Nat → Nat → Nat → Nat → Prop) (n o l x most : Nat) (ls : Nat → Nat) (i : Nat) : Nat → Nat → Nat → Nat → Prop := fun n2 o2 l2 x2 =>
  (T n2 o2 l2 x2 ∨ (n2 = n ∧ o2 = o ∧ l2 = l ∧ x2 = x)) ∨ ∃ b, b < i ∧ b ≠ o ∧ n < most ∧ n2 = n + 1 ∧ o2 = b ∧ l2 = l + ls b ∧ x2 = hdX x b
theorem gP_0 {ls : Nat → Nat} : ∀ n2 o2 l2 x2, (T n2 o2 l2 x2 ∨ (n2 = n ∧ o2 = o ∧ l2 = l ∧ x2 = x)) ↔ gP T n o l x most ls 0 n2 o2 l2 x2 := by
  intro n2 o2 l2 x2
  constructor
  · exact Or.inl
  · rintro (h | ⟨b, hb, -⟩)
    · exact h
    · exact absurd hb (Nat.not_lt_zero _)
theorem gP_m {i j : Nat} {ls : Nat → Nat} (h : ¬ n < most) : ∀ n2 o2 l2 x2, gP T n o l x most ls i n2 o2 l2 x2 ↔ gP T n o l x most ls j n2 o2 l2 x2 := by
  intro n2 o2 l2 x2
  constructor
  all_goals
    rintro (q | ⟨b, -, -, q, -⟩)
    · exact Or.inl q
    · exact absurd q h
theorem gP_o {i : Nat} {ls : Nat → Nat} (e : i = o) : ∀ n2 o2 l2 x2, gP T n o l x most ls i n2 o2 l2 x2 ↔ gP T n o l x most ls (i + 1) n2 o2 l2 x2 := by
  intro n2 o2 l2 x2
  constructor
  · rintro (q | ⟨b, hb, q⟩)
    · exact Or.inl q
    · exact Or.inr ⟨b, by omega, q⟩
  · rintro (q | ⟨b, hb, hb2, q⟩)
    · exact Or.inl q
    · exact Or.inr ⟨b, by omega, hb2, q⟩
theorem gP_s {i : Nat} {ls : Nat → Nat} (h : n < most) (ho : i ≠ o) : ∀ n2 o2 l2 x2, (gP T n o l x most ls i n2 o2 l2 x2 ∨ (n2 = n + 1 ∧ o2 = i ∧ l2 = l + ls i ∧ x2 = hdX x i)) ↔ gP T n o l x most ls (i + 1) n2 o2 l2 x2 := by
  intro n2 o2 l2 x2
  constructor
  · rintro ((q | ⟨b, hb, q⟩) | ⟨q1, q2, q3, q4⟩)
    · exact Or.inl q
    · exact Or.inr ⟨b, by omega, q⟩
    · exact Or.inr ⟨i, by omega, ho, h, q1, q2, q3, q4⟩
  · rintro (q | ⟨b, hb, hb2, hm, q1, q2, q3, q4⟩)
    · exact Or.inl (Or.inl q)
    · by_cases e : b = i
      · subst e; exact Or.inr ⟨q1, q2, q3, q4⟩
      · exact Or.inl (Or.inr ⟨b, by omega, hb2, hm, q1, q2, q3, q4⟩)
/-- the places of A below j, with their numbers -/
def plL (A : Nat → Int64) (j : Nat) : Nat → Nat → Nat → Nat → Prop := fun n o l x => (pl n o l < j ∧ o < 6 ∧ l < 128) ∧ x < 2 ^ 40 ∧ A (pl n o l) = lN x
theorem plL_n (hA : A (pl n o l) = -1) : ∀ n2 o2 l2 x2, plL A (pl n o l) n2 o2 l2 x2 ↔ plL A (pl n o l + 1) n2 o2 l2 x2 := by
  intro n2 o2 l2 x2
  constructor
  · rintro ⟨⟨h1, h2, h3⟩, h4, h5⟩
    exact ⟨⟨by omega, h2, h3⟩, h4, h5⟩
  · rintro ⟨⟨h1, h2, h3⟩, h4, h5⟩
    refine ⟨⟨?_, h2, h3⟩, h4, h5⟩
    by_cases e : pl n2 o2 l2 = pl n o l
    · rw [e, hA] at h5
      exact absurd h5.symm (lN_m1 (by omega))
    · omega
theorem plL_c (ho : o < 6) (hl : l < 128) (hx : x < 2 ^ 40) (hA : A (pl n o l) = lN x) : ∀ n2 o2 l2 x2, (plL A (pl n o l) n2 o2 l2 x2 ∨ (n2 = n ∧ o2 = o ∧ l2 = l ∧ x2 = x)) ↔ plL A (pl n o l + 1) n2 o2 l2 x2 := by
  intro n2 o2 l2 x2
  constructor
  · rintro (⟨⟨h1, h2, h3⟩, h4, h5⟩ | ⟨e1, e2, e3, e4⟩)
    · exact ⟨⟨by omega, h2, h3⟩, h4, h5⟩
    · rw [e1, e2, e3, e4]
      exact ⟨⟨by omega, ho, hl⟩, hx, hA⟩
  · rintro ⟨⟨h1, h2, h3⟩, h4, h5⟩
    by_cases e : pl n2 o2 l2 = pl n o l
    · obtain ⟨e1, e2, e3⟩ := pl_inj h2 ho h3 hl e
      rw [e, hA] at h5
      exact Or.inr ⟨e1, e2, e3, ((pk_lEQ (by omega) (by omega)).mp h5).symm⟩
    · exact Or.inl ⟨⟨by omega, h2, h3⟩, h4, h5⟩
theorem plL_o (hT : tblL A T) (hb : ∀ n o l c, T n o l c → o < no) (h6 : no ≤ 6) (hn : n < 4) : ∀ n2 o2 l2 c2, plL A (pl n no 0) n2 o2 l2 c2 ↔ plL A (pl (n + 1) 0 0) n2 o2 l2 c2 := by
  intro n2 o2 l2 c2
  constructor
  · rintro ⟨⟨h1, h2, h3⟩, h4, h5⟩
    refine ⟨⟨?_, h2, h3⟩, h4, h5⟩
    unfold pl at h1 ⊢
    omega
  · rintro ⟨⟨h1, h2, h3⟩, h4, h5⟩
    refine ⟨⟨?_, h2, h3⟩, h4, h5⟩
    have hn2 : n2 ≤ n := by unfold pl at h1; omega
    rcases hT n2 o2 l2 (by omega) h2 h3 with ⟨a, -⟩ | ⟨c, -, -, q, -⟩
    · rw [a] at h5
      exact absurd h5.symm (lN_m1 (by omega))
    · have := hb _ _ _ _ q
      unfold pl
      omega
/-- what one place gives -/
def goP (W : zI) (h most no n o l x : Nat) : Nat → Nat → Nat → Nat → Prop := fun n2 o2 l2 x2 => (n2 = n ∧ o2 = o ∧ l2 = l ∧ x2 = x) ∨ ∃ b, b < no ∧ b ≠ o ∧ n < most ∧ n2 = n + 1 ∧ o2 = b ∧ l2 = l + lsN W o b (h + 1) ∧ x2 = hdX x b
theorem gP_go : ∀ n2 o2 l2 x2, gP T n o l x most (fun b => lsN W o b (h + 1)) no n2 o2 l2 x2 ↔ (T n2 o2 l2 x2 ∨ goP W h most no n o l x n2 o2 l2 x2) := by
  intro n2 o2 l2 x2
  unfold gP goP
  exact or_assoc
theorem nxP_add (h0 : 0 < l) (e : ∀ n2 o2 l2 x2, (U n2 o2 l2 x2 ∨ (n2 = n ∧ o2 = o ∧ l2 = l ∧ x2 = x)) ↔ T n2 o2 l2 x2) : ∀ n3 o3 l3 x3, nxP W p h most no T n3 o3 l3 x3 ↔ (nxP W p h most no U n3 o3 l3 x3 ∨ goP W h most no n o l x n3 o3 l3 x3 ∨ (wkO W p o h = true ∧ 1 < l ∧ goP W h most no n o (l - 1) (x + 512 * pyN W o) n3 o3 l3 x3)) := by
  intro n3 o3 l3 x3
  have hT : T n o l x := (e n o l x).mp (Or.inr ⟨rfl, rfl, rfl, rfl⟩)
  constructor
  · rintro ⟨n1, o1, l2, x2, q | ⟨hw, x1, q, rfl⟩, h1, r⟩
    · rcases (e _ _ _ _).mpr q with q | ⟨rfl, rfl, rfl, rfl⟩
      · exact Or.inl ⟨n1, o1, l2, x2, Or.inl q, h1, r⟩
      · refine Or.inr (Or.inl ?_)
        rcases r with r | ⟨e1, e2, e3, e4, e5, e6⟩
        · exact Or.inl r
        · exact Or.inr ⟨o3, e3, e4, e2, e1, rfl, e5, e6⟩
    · rcases (e _ _ _ _).mpr q with q | ⟨rfl, rfl, e3, rfl⟩
      · exact Or.inl ⟨n1, o1, l2, _, Or.inr ⟨hw, x1, q, rfl⟩, h1, r⟩
      · refine Or.inr (Or.inr ⟨hw, by omega, ?_⟩)
        rw [show l - 1 = l2 by omega]
        rcases r with r | ⟨e1, e2, e3, e4, e5, e6⟩
        · exact Or.inl r
        · exact Or.inr ⟨o3, e3, e4, e2, e1, rfl, e5, e6⟩
  · rintro (⟨n1, o1, l2, x2, q, h1, r⟩ | q | ⟨hw, hl, q⟩)
    · refine ⟨n1, o1, l2, x2, ?_, h1, r⟩
      rcases q with q | ⟨hw, x1, q, e1⟩
      · exact Or.inl ((e _ _ _ _).mp (Or.inl q))
      · exact Or.inr ⟨hw, x1, (e _ _ _ _).mp (Or.inl q), e1⟩
    · refine ⟨n, o, l, x, Or.inl hT, h0, ?_⟩
      rcases q with q | ⟨b, e1, e2, e3, e4, rfl, e5, e6⟩
      · exact Or.inl q
      · exact Or.inr ⟨e4, e3, e1, e2, e5, e6⟩
    · refine ⟨n, o, l - 1, x + 512 * pyN W o, Or.inr ⟨hw, x, by rw [show l - 1 + 1 = l by omega]; exact hT, rfl⟩, by omega, ?_⟩
      rcases q with q | ⟨b, e1, e2, e3, e4, rfl, e5, e6⟩
      · exact Or.inl q
      · exact Or.inr ⟨e4, e3, e1, e2, e5, e6⟩
theorem fxP_add (e : ∀ n2 o2 l2 x2, (U n2 o2 l2 x2 ∨ (n2 = n ∧ o2 = o ∧ l2 = l ∧ x2 = x)) ↔ T n2 o2 l2 x2) : ∀ n3 x3, fxP W p h T n3 x3 ↔ (fxP W p h U n3 x3 ∨ (wkO W p o h = true ∧ l = 1 ∧ n3 = n ∧ x3 = x + 512 * pyN W o)) := by
  intro n3 x3
  constructor
  · rintro ⟨o1, x1, q, hw, rfl⟩
    rcases (e _ _ _ _).mpr q with q | ⟨rfl, rfl, e3, rfl⟩
    · exact Or.inl ⟨o1, x1, q, hw, rfl⟩
    · exact Or.inr ⟨hw, e3.symm, rfl, rfl⟩
  · rintro (⟨o1, x1, q, hw, rfl⟩ | ⟨hw, rfl, rfl, rfl⟩)
    · exact ⟨o1, x1, (e _ _ _ _).mp (Or.inl q), hw, rfl⟩
    · exact ⟨o, x, (e _ _ _ _).mp (Or.inr ⟨rfl, rfl, rfl, rfl⟩), hw, rfl⟩
/-- the best end so far -/
def oneC (x : Int32) (y : Int64) (F : Nat → Nat → Prop) : Prop := (x = -1 ∧ ∀ n c, ¬ F n c) ∨ ∃ n c, (n < 4 ∧ c < 2 ^ 40) ∧ x = nI n ∧ y = lN c ∧ F n c ∧ ∀ n2 c2, F n2 c2 → btC n c n2 c2
theorem oneC_i {x : Int32} {y : Int64} {F F2 : Nat → Nat → Prop} (h : oneC x y F) (e : ∀ n c, F n c ↔ F2 n c) : oneC x y F2 := by
  have : F = F2 := by
    funext n c
    exact propext (e n c)
  rw [← this]
  exact h
/-- one end more -/
theorem oneC_1 {x0 : Int32} {y0 : Int64} {F : Nat → Nat → Prop} (h : oneC x0 y0 F) (hn : n < 4) (hx : x < 2 ^ 40) (hm : x0 = -1 ∨ ∃ n1 c1, (n1 < 4 ∧ c1 < 2 ^ 40) ∧ x0 = nI n1 ∧ y0 = lN c1 ∧ (x / 512 < c1 / 512 ∨ (x / 512 = c1 / 512 ∧ (n < n1 ∨ (n = n1 ∧ x < c1))))) : oneC (nI n) (lN x) (fun n2 x2 => F n2 x2 ∨ (n2 = n ∧ x2 = x)) := by
  refine Or.inr ⟨n, x, ⟨hn, hx⟩, rfl, rfl, Or.inr ⟨rfl, rfl⟩, fun n2 c2 q => ?_⟩
  rcases q with q | ⟨rfl, rfl⟩
  · rcases h with ⟨a, b⟩ | ⟨n1, c1, ⟨b1, b2⟩, b3, b4, b5, b6⟩
    · exact absurd q (b _ _)
    · rcases hm with e | ⟨n3, c3, ⟨q1, q2⟩, q3, q4, q5⟩
      · rw [b3] at e
        exact absurd e (nI_m1 (by omega))
      · rw [b3] at q3
        rw [b4] at q4
        obtain rfl := (nI_eq (by omega) (by omega)).mp q3
        obtain rfl := (pk_lEQ (by omega) (by omega)).mp q4
        have := b6 n2 c2 q
        unfold btC at this ⊢
        omega
  · exact Or.inr ⟨rfl, Or.inr ⟨rfl, Nat.le_refl _⟩⟩
theorem oneC_2 {x0 : Int32} {y0 : Int64} {F : Nat → Nat → Prop} (h : oneC x0 y0 F) {n1 c1 : Nat} (q1 : n1 < 4 ∧ c1 < 2 ^ 40) (q3 : x0 = nI n1) (q4 : y0 = lN c1) (q5 : ¬ (x / 512 < c1 / 512 ∨ (x / 512 = c1 / 512 ∧ (n < n1 ∨ (n = n1 ∧ x < c1))))) : oneC x0 y0 (fun n2 x2 => F n2 x2 ∨ (n2 = n ∧ x2 = x)) := by
  rcases h with ⟨a, b⟩ | ⟨n2, c2, ⟨b1, b2⟩, b3, b4, b5, b6⟩
  · rw [q3] at a
    exact absurd a (nI_m1 (by omega))
  · rw [b3] at q3
    rw [b4] at q4
    obtain rfl := (nI_eq (by omega) (by omega)).mp q3
    obtain rfl := (pk_lEQ (by omega) (by omega)).mp q4
    refine Or.inr ⟨n2, c2, ⟨b1, b2⟩, b3, b4, Or.inl b5, fun n3 c3 q => ?_⟩
    rcases q with q | ⟨rfl, rfl⟩
    · exact b6 _ _ q
    · unfold btC
      omega
/-- how it may stand, in bounds -/
def bdP (most no B : Nat) (T : Nat → Nat → Nat → Nat → Prop) : Prop := ∀ n o l x, T n o l x → (n ≤ most ∧ x % 512 < 8 ^ n) ∧ o < no ∧ (0 < l ∧ l ≤ 60 + 22 * n) ∧ x / 512 ≤ B
theorem plL_r (hA : tblL A T) (hm : most ≤ 3) (h : plL A (pl (most + 1) 0 0) n o l x) : T n o l x ∧ ∀ x2, T n o l x2 → x ≤ x2 := by
  obtain ⟨⟨h1, h2, h3⟩, h4, h5⟩ := h
  have hn : n < 4 := by unfold pl at h1; omega
  rcases hA n o l hn h2 h3 with ⟨a, -⟩ | ⟨c1, b1, b2, b3, b4⟩
  · rw [a] at h5
    exact absurd h5.symm (lN_m1 (by omega))
  · rw [b2] at h5
    obtain rfl := (pk_lEQ (by omega) (by omega)).mp h5
    exact ⟨b3, b4⟩
theorem plL_m {Bd : Nat} (hA : tblL A T) (hb : bdP most no Bd T) (h6 : no ≤ 6) (hm : most ≤ 2) (h : T n o l x) : ∃ x1, x1 ≤ x ∧ plL A (pl (most + 1) 0 0) n o l x1 := by
  obtain ⟨⟨b1, b0⟩, b2, ⟨b3, b4⟩, b5⟩ := hb n o l x h
  rcases hA n o l (by omega) (by omega) (by omega) with ⟨-, a⟩ | ⟨c1, q1, q2, q3, q4⟩
  · exact absurd h (a x)
  · refine ⟨c1, q4 x h, ⟨?_, by omega, by omega⟩, q1, q2⟩
    unfold pl
    omega
theorem tblL_dom {T2 : Nat → Nat → Nat → Nat → Prop} (h : tblL B T2) (s : ∀ n o l c, T2 n o l c → T n o l c) (dm : ∀ n o l c, T n o l c → ∃ c2, c2 ≤ c ∧ T2 n o l c2) : tblL B T := by
  intro n o l h0 h1 h2
  rcases h n o l h0 h1 h2 with ⟨a, b⟩ | ⟨c, b1, b2, b3, b4⟩
  · refine Or.inl ⟨a, fun c q => ?_⟩
    obtain ⟨c2, -, q2⟩ := dm n o l c q
    exact b c2 q2
  · refine Or.inr ⟨c, b1, b2, s _ _ _ _ b3, fun c2 q => ?_⟩
    obtain ⟨c3, l3, q3⟩ := dm n o l c2 q
    exact Nat.le_trans (b4 c3 q3) l3
theorem hdX_le {y b : Nat} (h : y ≤ x) (hy : y % 512 < 8) (hb : b < 8) : hdX y b ≤ hdX x b := by
  unfold hdX
  omega
theorem mdT_m (hs : ∀ n o l x, U n o l x → T n o l x) (q : mdT W p h U n o l x) : mdT W p h T n o l x := by
  rcases q with q | ⟨hw, x1, q, e⟩
  · exact Or.inl (hs _ _ _ _ q)
  · exact Or.inr ⟨hw, x1, hs _ _ _ _ q, e⟩
theorem tblL_next {Bd : Nat} (hA : tblL A T) (hb : bdP most no Bd T) (h6 : no ≤ 6) (hm : most ≤ 2) (hB : tblL B (nxP W p h most no (plL A (pl (most + 1) 0 0)))) : tblL B (nxP W p h most no T) := by
  refine tblL_dom hB ?_ ?_
  · rintro n o l x ⟨n1, o1, l2, x2, hu, r⟩
    exact ⟨n1, o1, l2, x2, mdT_m (fun _ _ _ _ q => (plL_r hA (by omega) q).1) hu, r⟩
  · rintro n o l x ⟨n1, o1, l2, x2, ht, h1, r⟩
    have key : ∃ y, (y ≤ x2 ∧ mdT W p h (plL A (pl (most + 1) 0 0)) n1 o1 l2 y) ∧ y % 512 < 8 ^ n1 := by
      rcases ht with q | ⟨hw, x1, q, rfl⟩
      · obtain ⟨y, hy, hu⟩ := plL_m hA hb h6 hm q
        exact ⟨y, ⟨hy, Or.inl hu⟩, (hb _ _ _ _ (plL_r hA (by omega) hu).1).1.2⟩
      · obtain ⟨y, hy, hu⟩ := plL_m hA hb h6 hm q
        have := (hb _ _ _ _ (plL_r hA (by omega) hu).1).1.2
        exact ⟨y + 512 * pyN W o1, ⟨by omega, Or.inr ⟨hw, y, hu, rfl⟩⟩, by omega⟩
    obtain ⟨y, ⟨hy, hu⟩, hc⟩ := key
    rcases r with ⟨r1, r2, r3, r4⟩ | ⟨r1, r2, r3, r4, r5, r6⟩
    · exact ⟨y, by omega, n1, o1, l2, y, hu, h1, Or.inl ⟨r1, r2, r3, rfl⟩⟩
    · have : 8 ^ n1 ≤ 8 ^ 1 := Nat.pow_le_pow_right (by omega) (by omega)
      exact ⟨hdX y o, by rw [r6]; exact hdX_le hy (by omega) (by omega), n1, o1, l2, y, hu, h1, Or.inr ⟨r1, r2, r3, r4, r5, rfl⟩⟩
/-- the best of all ends: those of earlier hours (F), those of this one -/
theorem oneC_fin {Bd : Nat} {x0 : Int32} {y0 : Int64} {F : Nat → Nat → Prop} (hA : tblL A T) (hb : bdP most no Bd T) (h6 : no ≤ 6) (hm : most ≤ 2) (h9 : oneC x0 y0 (fun n x => F n x ∨ fxP W p h (plL A (pl (most + 1) 0 0)) n x)) : oneC x0 y0 (fun n x => F n x ∨ fxP W p h T n x) := by
  have dm : ∀ n x, fxP W p h T n x → ∃ y, y ≤ x ∧ fxP W p h (plL A (pl (most + 1) 0 0)) n y := by
    rintro n x ⟨o, x1, ht, hw, rfl⟩
    obtain ⟨y, hy, hu⟩ := plL_m hA hb h6 hm ht
    exact ⟨y + 512 * pyN W o, by omega, o, y, hu, hw, rfl⟩
  rcases h9 with ⟨a, b⟩ | ⟨n, c, b0, b1, b2, b3, b4⟩
  · refine Or.inl ⟨a, fun n c q => ?_⟩
    rcases q with q | q
    · exact b n c (Or.inl q)
    · obtain ⟨y, -, hu⟩ := dm n c q
      exact b n y (Or.inr hu)
  · refine Or.inr ⟨n, c, b0, b1, b2, ?_, fun n2 c2 q => ?_⟩
    · rcases b3 with q | ⟨o, x1, hu, hw, e⟩
      · exact Or.inl q
      · exact Or.inr ⟨o, x1, (plL_r hA (by omega) hu).1, hw, e⟩
    · rcases q with q | q
      · exact b4 n2 c2 (Or.inl q)
      · obtain ⟨y, hy, hu⟩ := dm n2 c2 q
        have := b4 n2 y (Or.inr hu)
        unfold btC at this ⊢
        have : y / 512 ≤ c2 / 512 := Nat.div_le_div_right hy
        omega
end CHM
