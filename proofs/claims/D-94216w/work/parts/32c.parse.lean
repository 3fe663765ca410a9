set_option maxRecDepth 100000
/-! PURE: the rule's grammar. pz: a parse of the kind k (0..4 ranks, 5 ahead, 6 a thing, 10+r what goes on behind a rank) from a place on: where it failed, or the place behind and the marks -/
abbrev zPR : Type := Nat ⊕ (Nat × List Nat)
def ixL : List Nat → Nat → Option Nat
  | [], _ => none
  | a :: l, c => if a = c then some 0 else (ixL l c).map (· + 1)
def isDg (c : Nat) : Bool := decide (48 ≤ c) && decide (c ≤ 57)
def sgL : List Nat := [107, 108, 111, 119, 114, 99, 115, 98, 113, 112, 102, 110]
def acL (r : Nat) : List Nat := match r with
  | 0 => [124]
  | 1 => [38]
  | 2 => [60, 62, 61]
  | 3 => [43, 45]
  | _ => [42]
theorem ixL_lt : ∀ {l : List Nat} {x j : Nat}, ixL l x = some j → j < l.length ∧ x ∈ l := by
  intro l
  induction l with
  | nil => intro x j h; cases h
  | cons a l ih =>
    intro x j h
    rw [ixL] at h
    split at h
    · next e => cases h; exact ⟨by simp, by simp [e]⟩
    · rcases hq : ixL l x with _ | q
      · rw [hq] at h; cases h
      · rw [hq] at h
        have h8 : some (q + 1) = some j := h
        cases h8
        obtain ⟨h1, h2⟩ := ih hq
        exact ⟨by simp; exact h1, List.mem_cons_of_mem _ h2⟩
/-- which of some stands here -/
def amg (c : Nat → Nat) (to : Nat) (l : List Nat) (p : Nat) : Option Nat := if p < to then ixL l (c p) else none
/-- digits, n at most: the place behind, the number -/
def nmF (c : Nat → Nat) (to : Nat) : Nat → Nat → Nat → Nat × Nat
  | 0, p, v => (p, v)
  | n + 1, p, v => if p < to ∧ isDg (c p) = true then nmF c to n (p + 1) (10 * v + c p - 48) else (p, v)
def pz (c : Nat → Nat) (to : Nat) : Nat → Nat → Nat → Nat → zPR
  | 0, _, _, p => .inl p
  | f + 1, k, ns, p =>
    if k = 6 then
      (if p < to ∧ isDg (c p) = true then .inr ((nmF c to 3 p 0).1, [(nmF c to 3 p 0).2])
       else match amg c to sgL p with
        | some j => .inr (p + 1, [1000 + j])
        | none => if amg c to [40] p = none ∨ ns = 5 then .inl p else
          match pz c to f 0 (ns + 1) (p + 1) with
          | .inl q => .inl q
          | .inr x => if amg c to [41] x.1 = none then .inl x.1 else .inr (x.1 + 1, x.2))
    else if k = 5 then
      match amg c to [33, 45] p with
      | none => pz c to f 6 ns p
      | some j => match pz c to f 5 ns (p + 1) with
        | .inl q => .inl q
        | .inr x => .inr (x.1, x.2 ++ [if j = 0 then 2033 else 2126])
    else if k < 5 then
      match pz c to f (k + 1) ns p with
      | .inl q => .inl q
      | .inr x => match pz c to f (10 + k) ns x.1 with
        | .inl q => .inl q
        | .inr y => .inr (y.1, x.2 ++ y.2)
    else
      match amg c to (acL (k - 10)) p with
      | none => .inr (p, [])
      | some _ => match pz c to f (k - 10 + 1) ns (p + 1) with
        | .inl q => .inl q
        | .inr x => if k = 12 then .inr (x.1, x.2 ++ [2000 + c p]) else
          match pz c to f k ns x.1 with
          | .inl q => .inl q
          | .inr y => .inr (y.1, x.2 ++ [2000 + c p] ++ y.2)
/-- what is left to do at most -/
def mz (to k p : Nat) : Nat := (to - p) * 8 + (7 - k)
section PARSE
variable {c : Nat → Nat} {to : Nat}
theorem amg_lt {l : List Nat} {p j : Nat} (h : amg c to l p = some j) : p < to := by
  unfold amg at h
  split at h
  · assumption
  · cases h
theorem nmF_ge : ∀ n p v, p ≤ (nmF c to n p v).1 ∧ (p ≤ to → (nmF c to n p v).1 ≤ to) := by
  intro n
  induction n with
  | zero => intro p v; exact ⟨Nat.le_refl _, fun h => h⟩
  | succ n ih =>
    intro p v
    rw [nmF]
    split
    · next h => obtain ⟨a, b⟩ := ih (p + 1) (10 * v + c p - 48); exact ⟨by omega, fun _ => b (by omega)⟩
    · exact ⟨Nat.le_refl _, fun h => h⟩
theorem nmF_lt {p : Nat} (h : p < to ∧ isDg (c p) = true) : p < (nmF c to 3 p 0).1 := by
  rw [nmF, if_pos h]
  exact (nmF_ge 2 (p + 1) _).1
/-- where a parse ends -/
theorem pz_pl : ∀ (f k ns p : Nat) (x : Nat × List Nat), p ≤ to → pz c to f k ns p = .inr x → p ≤ x.1 ∧ x.1 ≤ to ∧ (k ≤ 6 → p < x.1) ∧ x.2.length ≤ x.1 - p := by
  intro f
  induction f with
  | zero => intro k ns p x _ h; simp [pz] at h
  | succ f ih =>
    intro k ns p x hp h
    rw [pz] at h
    split at h
    · split at h
      · next hd =>
        cases h
        have h1 := nmF_lt hd
        have h2 := (nmF_ge (c := c) (to := to) 3 p 0).2 hp
        exact ⟨by show _ ≤ (nmF c to 3 p 0).1; omega, h2, fun _ => h1, by show 1 ≤ (nmF c to 3 p 0).1 - p; omega⟩
      · split at h
        · next j hj =>
          cases h
          have := amg_lt hj
          exact ⟨by show p ≤ p + 1; omega, by show p + 1 ≤ to; omega, fun _ => by show p < p + 1; omega, by show 1 ≤ p + 1 - p; omega⟩
        · split at h
          · cases h
          · next hn =>
            have hpl : p < to := by
              cases ha : amg c to [40] p with
              | none => exact absurd (Or.inl ha) hn
              | some j => exact amg_lt ha
            split at h
            · cases h
            · next y hy =>
              obtain ⟨a1, a2, a3, a4⟩ := ih 0 (ns + 1) (p + 1) y (by omega) hy
              split at h
              · cases h
              · next hc =>
                have hq : y.1 < to := by
                  cases ha : amg c to [41] y.1 with
                  | none => exact absurd ha hc
                  | some j => exact amg_lt ha
                cases h
                exact ⟨by show p ≤ y.1 + 1; omega, by show y.1 + 1 ≤ to; omega, fun _ => by show p < y.1 + 1; omega, by show y.2.length ≤ y.1 + 1 - p; omega⟩
    · split at h
      · next hk =>
        split at h
        · obtain ⟨a1, a2, a3, a4⟩ := ih 6 ns p x hp h
          exact ⟨a1, a2, fun _ => a3 (by omega), a4⟩
        · next j hj =>
          have hl := amg_lt hj
          split at h
          · cases h
          · next y hy =>
            obtain ⟨a1, a2, a3, a4⟩ := ih 5 ns (p + 1) y (by omega) hy
            have := a3 (by omega)
            cases h
            exact ⟨by show p ≤ y.1; omega, a2, fun _ => by show p < y.1; omega, by show (y.2 ++ _).length ≤ y.1 - p; rw [List.length_append]; show _ + 1 ≤ _; omega⟩
      · split at h
        · next hk =>
          split at h
          · cases h
          · next y hy =>
            obtain ⟨a1, a2, a3, a4⟩ := ih (k + 1) ns p y hp hy
            have := a3 (by omega)
            split at h
            · cases h
            · next z hz =>
              obtain ⟨b1, b2, b3, b4⟩ := ih (10 + k) ns y.1 z a2 hz
              cases h
              exact ⟨by show p ≤ z.1; omega, b2, fun _ => by show p < z.1; omega, by show (y.2 ++ z.2).length ≤ z.1 - p; rw [List.length_append]; omega⟩
        · next hk5 hk =>
          split at h
          · cases h
            exact ⟨Nat.le_refl _, hp, fun h6 => absurd h6 (by omega), by show 0 ≤ _; omega⟩
          · next j hj =>
            have hl := amg_lt hj
            split at h
            · cases h
            · next y hy =>
              obtain ⟨a1, a2, a3, a4⟩ := ih (k - 10 + 1) ns (p + 1) y (by omega) hy
              have hy1 : p + 1 ≤ y.1 := a1
              have hy2 : y.2.length + 1 ≤ y.1 - p := by omega
              split at h
              · cases h
                exact ⟨by show p ≤ y.1; omega, a2, fun _ => by show p < y.1; omega, by show (y.2 ++ _).length ≤ y.1 - p; rw [List.length_append]; exact hy2⟩
              · split at h
                · cases h
                · next z hz =>
                  obtain ⟨b1, b2, b3, b4⟩ := ih k ns y.1 z a2 hz
                  cases h
                  exact ⟨by show p ≤ z.1; omega, b2, fun _ => by show p < z.1; omega, by show (y.2 ++ _ ++ z.2).length ≤ z.1 - p; rw [List.length_append, List.length_append]; show _ + 1 + _ ≤ _; omega⟩
/-- where a parse fails -/
theorem pz_fl : ∀ (f k ns p q : Nat), p ≤ to → pz c to f k ns p = .inl q → p ≤ q ∧ q ≤ to := by
  intro f
  induction f with
  | zero => intro k ns p q hp h; simp only [pz, Sum.inl.injEq] at h; omega
  | succ f ih =>
    intro k ns p q hp h
    rw [pz] at h
    split at h
    · split at h
      · cases h
      · split at h
        · cases h
        · split at h
          · cases h; omega
          · next hn =>
            have hpl : p < to := by
              cases ha : amg c to [40] p with
              | none => exact absurd (Or.inl ha) hn
              | some j => exact amg_lt ha
            split at h
            · next y hy => cases h; have := ih _ _ _ _ (by omega) hy; omega
            · next y hy =>
              obtain ⟨a1, a2, a3, a4⟩ := pz_pl f 0 (ns + 1) (p + 1) y (by omega) hy
              split at h
              · cases h; omega
              · cases h
    · split at h
      · split at h
        · exact ih _ _ _ _ hp h
        · next j hj =>
          have hl := amg_lt hj
          split at h
          · next y hy => cases h; have := ih _ _ _ _ (by omega) hy; omega
          · cases h
      · split at h
        · split at h
          · next y hy => cases h; exact ih _ _ _ _ hp hy
          · next y hy =>
            obtain ⟨a1, a2, a3, a4⟩ := pz_pl f _ ns p y hp hy
            split at h
            · next z hz => cases h; have := ih _ _ _ _ a2 hz; omega
            · cases h
        · split at h
          · cases h
          · next j hj =>
            have hl := amg_lt hj
            split at h
            · next y hy => cases h; have := ih _ _ _ _ (by omega) hy; omega
            · next y hy =>
              obtain ⟨a1, a2, a3, a4⟩ := pz_pl f _ ns (p + 1) y (by omega) hy
              split at h
              · cases h
              · split at h
                · next z hz => cases h; have := ih _ _ _ _ a2 hz; omega
                · cases h
/-- the fuel doesn't matter -/
theorem pz_fu : ∀ (f g k ns p : Nat), p ≤ to → (k ≤ 6 ∨ (10 ≤ k ∧ k ≤ 14)) → mz to k p < f → mz to k p < g → pz c to f k ns p = pz c to g k ns p := by
  intro f
  induction f with
  | zero => intro g k ns p _ _ h; omega
  | succ f ih =>
    intro g k ns p hp hk hf hg
    cases g with
    | zero => omega
    | succ g =>
      have mzd : ∀ k2 p2, p2 ≤ to → p < p2 → mz to k2 p2 < mz to k p := fun k2 p2 h1 h2 => by
        unfold mz
        omega
      have mzk : ∀ k2, k < k2 → k2 ≤ 6 → mz to k2 p < mz to k p := fun k2 h1 h2 => by unfold mz; omega
      rw [pz, pz]
      split
      · split
        · rfl
        · split
          · rfl
          · split
            · rfl
            · next hn =>
              have hpl : p < to := by
                cases ha : amg c to [40] p with
                | none => exact absurd (Or.inl ha) hn
                | some j => exact amg_lt ha
              have := mzd 0 (p + 1) (by omega) (by omega)
              rw [ih g 0 (ns + 1) (p + 1) (by omega) (Or.inl (by omega)) (by omega) (by omega)]
      · split
        · next h5 =>
          split
          · have := mzk 6 (by omega) (by omega)
            exact ih g 6 ns p hp (Or.inl (by omega)) (by omega) (by omega)
          · next j hj =>
            have hl := amg_lt hj
            have := mzd 5 (p + 1) (by omega) (by omega)
            rw [ih g 5 ns (p + 1) (by omega) (Or.inl (by omega)) (by omega) (by omega)]
        · split
          · next h5 =>
            have := mzk (k + 1) (by omega) (by omega)
            rw [ih g (k + 1) ns p hp (Or.inl (by omega)) (by omega) (by omega)]
            split
            · rfl
            · next y hy =>
              obtain ⟨a1, a2, a3, a4⟩ := pz_pl g (k + 1) ns p y hp hy
              have := mzd (10 + k) y.1 a2 (a3 (by omega))
              rw [ih g (10 + k) ns y.1 a2 (Or.inr (by omega)) (by omega) (by omega)]
          · next h6 h5 h4 =>
            split
            · rfl
            · next j hj =>
              have hl := amg_lt hj
              have := mzd (k - 10 + 1) (p + 1) (by omega) (by omega)
              rw [ih g (k - 10 + 1) ns (p + 1) (by omega) (Or.inl (by omega)) (by omega) (by omega)]
              split
              · rfl
              · next y hy =>
                obtain ⟨a1, a2, a3, a4⟩ := pz_pl g (k - 10 + 1) ns (p + 1) y (by omega) hy
                split
                · rfl
                · have := mzd k y.1 a2 (by omega)
                  rw [ih g k ns y.1 a2 (Or.inr (by omega)) (by omega) (by omega)]
/-- a parse, with fuel enough -/
def pzz (c : Nat → Nat) (to k ns p : Nat) : zPR := pz c to (mz to k p + 1) k ns p
/-- what is parsed is a rule: what goes on behind a rank makes one out of one -/
theorem pz_E : ∀ (f k ns p : Nat) (x : Nat × List Nat), (k ≤ 6 ∨ (10 ≤ k ∧ k ≤ 14)) → (∀ j, c j < 256) → pz c to f k ns p = .inr x → (k ≤ 6 → ∃ g, isE g x.2) ∧ (10 ≤ k → ∀ a g, isE g a → ∃ g2, isE g2 (a ++ x.2)) := by
  have op : ∀ (k p j : Nat), 10 ≤ k → k ≤ 14 → amg c to (acL (k - 10)) p = some j → (c p = 124 ∨ c p = 38 ∨ c p = 60 ∨ c p = 62 ∨ c p = 61 ∨ c p = 43 ∨ c p = 45 ∨ c p = 42) := by
    intro k p j h1 h2 h
    unfold amg at h
    split at h
    · obtain rfl | rfl | rfl | rfl | rfl : k = 10 ∨ k = 11 ∨ k = 12 ∨ k = 13 ∨ k = 14 := by omega
      · have h9 : c p ∈ [124] := (ixL_lt h).2
        simp at h9; omega
      · have h9 : c p ∈ [38] := (ixL_lt h).2
        simp at h9; omega
      · have h9 : c p ∈ [60, 62, 61] := (ixL_lt h).2
        simp at h9; omega
      · have h9 : c p ∈ [43, 45] := (ixL_lt h).2
        simp at h9; omega
      · have h9 : c p ∈ [42] := (ixL_lt h).2
        simp at h9; omega
    · cases h
  have bn : ∀ {o : Nat} {a b : List Nat} {g g2 : Nat}, (o = 124 ∨ o = 38 ∨ o = 60 ∨ o = 62 ∨ o = 61 ∨ o = 43 ∨ o = 45 ∨ o = 42) → isE g a → isE g2 b → ∃ g3, isE g3 (a ++ (b ++ [2000 + o])) := by
    intro o a b g g2 ho ha hb
    refine ⟨max g g2 + 1, Or.inr (Or.inr (Or.inr ⟨o, a, b, ho, isE_le (Nat.le_max_left _ _) ha, isE_le (Nat.le_max_right _ _) hb, ?_⟩))⟩
    rw [List.append_assoc]
  intro f
  induction f with
  | zero => intro k ns p x _ _ h; simp [pz] at h
  | succ f ih =>
    intro k ns p x hk hc h
    rw [pz] at h
    split at h
    · next h6 =>
      refine ⟨fun _ => ?_, fun h10 => absurd h10 (by omega)⟩
      split at h
      · cases h
        refine ⟨1, Or.inl ⟨_, ?_, rfl⟩⟩
        have d : ∀ n p v m, v < m → (nmF c to n p v).2 < m * 10 ^ n := by
          intro n
          induction n with
          | zero => intro p v m hv; simpa [nmF] using hv
          | succ n ih =>
            intro p v m hv
            rw [nmF]
            split
            · next hd =>
              have h1 : 48 ≤ c p ∧ c p ≤ 57 := by
                have := hd.2
                unfold isDg at this
                simp only [Bool.and_eq_true, decide_eq_true_eq] at this
                exact this
              have := ih (p + 1) (10 * v + c p - 48) (m * 10) (by omega)
              rw [Nat.pow_succ]
              rw [show m * (10 ^ n * 10) = m * 10 * 10 ^ n by rw [Nat.mul_comm (10 ^ n) 10, ← Nat.mul_assoc]]
              exact this
            · refine Nat.lt_of_lt_of_le hv ?_
              exact Nat.le_mul_of_pos_right _ (Nat.pow_pos (by omega))
        have := d 3 p 0 1 (by omega)
        show (nmF c to 3 p 0).2 ≤ 999
        omega
      · split at h
        · next j hj =>
          cases h
          refine ⟨1, Or.inr (Or.inl ⟨j, ?_, rfl⟩)⟩
          unfold amg at hj
          split at hj
          · have h9 : j < 12 := (ixL_lt hj).1
            omega
          · cases hj
        · split at h
          · cases h
          · split at h
            · cases h
            · next y hy =>
              split at h
              · cases h
              · cases h
                exact (ih 0 _ _ _ (Or.inl (by omega)) hc hy).1 (by omega)
    · split at h
      · next h5 =>
        refine ⟨fun _ => ?_, fun h10 => absurd h10 (by omega)⟩
        split at h
        · exact (ih 6 _ _ _ (Or.inl (by omega)) hc h).1 (by omega)
        · split at h
          · cases h
          · next y hy =>
            obtain ⟨g, hg⟩ := (ih 5 _ _ _ (Or.inl (by omega)) hc hy).1 (by omega)
            cases h
            refine ⟨g + 1, Or.inr (Or.inr (Or.inl ⟨_, hg, ?_⟩))⟩
            dsimp only
            split
            · exact Or.inr rfl
            · exact Or.inl rfl
      · split at h
        · next h6 h5 h4 =>
          refine ⟨fun _ => ?_, fun h10 => absurd h10 (by omega)⟩
          split at h
          · cases h
          · next y hy =>
            obtain ⟨g, hg⟩ := (ih (k + 1) _ _ _ (Or.inl (by omega)) hc hy).1 (by omega)
            split at h
            · cases h
            · next z hz =>
              cases h
              exact (ih (10 + k) _ _ _ (Or.inr (by omega)) hc hz).2 (by omega) _ g hg
        · next h6 h5 h4 =>
          refine ⟨fun h => absurd h (by omega), fun _ a g ha => ?_⟩
          split at h
          · cases h
            exact ⟨g, by rw [List.append_nil]; exact ha⟩
          · next j hj =>
            have ho := op k p j (by omega) (by omega) hj
            split at h
            · cases h
            · next y hy =>
              obtain ⟨g2, hg2⟩ := (ih (k - 10 + 1) _ _ _ (Or.inl (by omega)) hc hy).1 (by omega)
              obtain ⟨g3, hg3⟩ := bn ho ha hg2
              split at h
              · cases h
                exact ⟨g3, hg3⟩
              · split at h
                · cases h
                · next z hz =>
                  cases h
                  obtain ⟨g4, hg4⟩ := (ih k _ _ _ (Or.inr (by omega)) hc hz).2 (by omega) _ g3 hg3
                  refine ⟨g4, ?_⟩
                  dsimp only
                  rw [← List.append_assoc]
                  exact hg4
/-! pzz, a case at a time -/
theorem pzz_g {k ns p : Nat} (hp : p ≤ to) (hk : k ≤ 6 ∨ (10 ≤ k ∧ k ≤ 14)) : pzz c to k ns p = pz c to (mz to k p + 1 + 1) k ns p := pz_fu _ _ k ns p hp hk (by omega) (by omega)
theorem pz_z {g k ns p : Nat} (hp : p ≤ to) (hk : k ≤ 6 ∨ (10 ≤ k ∧ k ≤ 14)) (h : mz to k p < g) : pz c to g k ns p = pzz c to k ns p := pz_fu _ _ k ns p hp hk h (by omega)
theorem mz_d {k k2 p p2 : Nat} (h1 : p2 ≤ to) (h2 : p < p2) : mz to k2 p2 < mz to k p := by
  unfold mz
  omega
theorem mz_k {k k2 p : Nat} (h1 : k < k2) (h2 : k2 ≤ 6) : mz to k2 p < mz to k p := by
  unfold mz
  omega
theorem z6_dig {ns p : Nat} (h : p < to ∧ isDg (c p) = true) : pzz c to 6 ns p = .inr ((nmF c to 3 p 0).1, [(nmF c to 3 p 0).2]) := by
  rw [pzz, pz, if_pos rfl, if_pos h]
theorem z6_sgn {ns p j : Nat} (h : ¬ (p < to ∧ isDg (c p) = true)) (h2 : amg c to sgL p = some j) : pzz c to 6 ns p = .inr (p + 1, [1000 + j]) := by
  rw [pzz, pz, if_pos rfl, if_neg h, h2]
theorem z6_no {ns p : Nat} (h : ¬ (p < to ∧ isDg (c p) = true)) (h2 : amg c to sgL p = none) (h3 : amg c to [40] p = none ∨ ns = 5) : pzz c to 6 ns p = .inl p := by
  rw [pzz, pz, if_pos rfl, if_neg h, h2]
  exact if_pos h3
theorem z6_sub {ns p : Nat} (hp : p ≤ to) (h : ¬ (p < to ∧ isDg (c p) = true)) (h2 : amg c to sgL p = none) (h3 : ¬ (amg c to [40] p = none ∨ ns = 5)) : pzz c to 6 ns p = match pzz c to 0 (ns + 1) (p + 1) with
      | .inl q => .inl q
      | .inr x => if amg c to [41] x.1 = none then .inl x.1 else .inr (x.1 + 1, x.2) := by
  have hpl : p < to := by
    cases ha : amg c to [40] p with
    | none => exact absurd (Or.inl ha) h3
    | some j => exact amg_lt ha
  rw [pzz_g hp (Or.inl (by omega)), pz, if_pos rfl, if_neg h, h2]
  dsimp only
  rw [if_neg h3, pz_z (by omega) (Or.inl (by omega)) (by have := mz_d (to := to) (k := 6) (k2 := 0) (p := p) (p2 := p + 1) (by omega) (by omega); omega)]
theorem z5_n {ns p : Nat} (hp : p ≤ to) (h : amg c to [33, 45] p = none) : pzz c to 5 ns p = pzz c to 6 ns p := by
  rw [pzz_g hp (Or.inl (by omega)), pz, if_neg (by omega), if_pos rfl, h]
  exact pz_z hp (Or.inl (by omega)) (by have := mz_k (to := to) (k := 5) (k2 := 6) (p := p) (by omega) (by omega); omega)
theorem z5_s {ns p j : Nat} (h : amg c to [33, 45] p = some j) : pzz c to 5 ns p = match pzz c to 5 ns (p + 1) with
      | .inl q => .inl q
      | .inr x => .inr (x.1, x.2 ++ [if j = 0 then 2033 else 2126]) := by
  have hpl := amg_lt h
  rw [pzz_g (by omega) (Or.inl (by omega)), pz, if_neg (by omega), if_pos rfl, h]
  dsimp only
  rw [pz_z (by omega) (Or.inl (by omega)) (by have := mz_d (to := to) (k := 5) (k2 := 5) (p := p) (p2 := p + 1) (by omega) (by omega); omega)]
theorem zr_s {k ns p : Nat} (hp : p ≤ to) (hk : k < 5) : pzz c to k ns p = match pzz c to (k + 1) ns p with
      | .inl q => .inl q
      | .inr x => match pzz c to (10 + k) ns x.1 with
        | .inl q => .inl q
        | .inr y => .inr (y.1, x.2 ++ y.2) := by
  have m1 := mz_k (to := to) (k := k) (k2 := k + 1) (p := p) (by omega) (by omega)
  rw [pzz_g hp (Or.inl (by omega)), pz, if_neg (by omega), if_neg (by omega), if_pos hk, pz_z (g := mz to k p + 1) hp (Or.inl (by omega)) (by omega)]
  cases hx : pzz c to (k + 1) ns p with
  | inl q => rfl
  | inr x =>
    obtain ⟨a1, a2, a3, a4⟩ := pz_pl _ _ _ _ _ hp hx
    have m2 := mz_d (to := to) (k := k) (k2 := 10 + k) (p := p) (p2 := x.1) a2 (a3 (by omega))
    dsimp only
    rw [pz_z a2 (Or.inr (by omega)) (by omega)]
theorem zl_n {r ns p : Nat} (hr : r ≤ 4) (h : amg c to (acL r) p = none) : pzz c to (10 + r) ns p = .inr (p, []) := by
  rw [pzz, pz, if_neg (by omega), if_neg (by omega), if_neg (by omega), show 10 + r - 10 = r by omega, h]
theorem zl_s {r ns p j : Nat} (hr : r ≤ 4) (h : amg c to (acL r) p = some j) : pzz c to (10 + r) ns p = match pzz c to (r + 1) ns (p + 1) with
        | .inl q => .inl q
        | .inr x => if r = 2 then .inr (x.1, x.2 ++ [2000 + c p]) else
          match pzz c to (10 + r) ns x.1 with
          | .inl q => .inl q
          | .inr y => .inr (y.1, x.2 ++ [2000 + c p] ++ y.2) := by
  have hpl := amg_lt h
  have m1 := mz_d (to := to) (k := 10 + r) (k2 := r + 1) (p := p) (p2 := p + 1) (by omega) (by omega)
  rw [pzz_g (by omega) (Or.inr (by omega)), pz, if_neg (by omega), if_neg (by omega), if_neg (by omega), show 10 + r - 10 = r by omega, h]
  dsimp only
  rw [pz_z (g := mz to (10 + r) p + 1) (by omega) (Or.inl (by omega)) (by omega)]
  cases hx : pzz c to (r + 1) ns (p + 1) with
  | inl q => rfl
  | inr x =>
    obtain ⟨a1, a2, a3, a4⟩ := pz_pl _ _ _ _ _ (show p + 1 ≤ to by omega) hx
    have m2 := mz_d (to := to) (k := 10 + r) (k2 := 10 + r) (p := p) (p2 := x.1) a2 (by omega)
    dsimp only
    by_cases h2 : r = 2
    · rw [if_pos (by omega), if_pos h2]
    · rw [if_neg (by omega), if_neg h2, pz_z a2 (Or.inr (by omega)) (by omega)]
theorem ixL_n {l : List Nat} {x : Nat} (h : ∀ j, j < l.length → l.getD j 0 ≠ x) : ixL l x = none := by
  induction l with
  | nil => rfl
  | cons a l ih =>
    rw [ixL, if_neg (show ¬ a = x from h 0 (by simp)), ih (fun j hj => h (j + 1) (by simpa using hj))]
    rfl
theorem ixL_s {l : List Nat} {x : Nat} : ∀ {q : Nat}, q < l.length → (∀ j, j < q → l.getD j 0 ≠ x) → l.getD q 0 = x → ixL l x = some q := by
  induction l with
  | nil => intro q hq; exact absurd hq (by simp)
  | cons a l ih =>
    intro q hq h1 h2
    cases q with
    | zero => rw [ixL, if_pos (show a = x from h2)]
    | succ q =>
      rw [ixL, if_neg (show ¬ a = x from h1 0 (by omega)), ih (q := q) (by simpa using hq) (fun j hj => h1 (j + 1) (by omega)) h2]
      rfl
end PARSE
