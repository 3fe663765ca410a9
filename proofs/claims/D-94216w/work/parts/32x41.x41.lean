set_option maxRecDepth 100000
/-! THE COMPONENT, part 41: the reader of a rule: small methods, what it makes -/
section X41C
variable {G : zG} {d C Sl : Nat} {I : zI} {L : zL} {P : zR} {S : zT} {Q : zQ} {c : Nat → Nat} {to r p : Nat}
/-- a byte of the text -/
def sb (x : Nat) : Int32 := (nI x).toInt8.toInt32
theorem sb_le : ∀ x, x < 128 → sb x = nI x := by decide +kernel
theorem sb_lt : ∀ x, x < 256 → 128 ≤ x → sb x < 0 := by decide +kernel
theorem sb_eq {x y : Nat} (hx : x < 256) (hy : y < 128) : sb x = nI y ↔ x = y := by
  by_cases h : x < 128
  · rw [sb_le x h]; exact nI_eq (by omega) (by omega)
  · refine ⟨fun e => ?_, fun e => by omega⟩
    have := sb_lt x hx (by omega)
    rw [e] at this
    exact absurd this (nI_pos (by omega))
def hrV (c : Nat → Nat) (to p : Nat) : Int32 := if p < to then sb (c p) else -1
theorem hr_eq (hc : ∀ j, c j < 256) {y : Nat} (hy : y < 128) : hrV c to p = nI y ↔ p < to ∧ c p = y := by
  unfold hrV
  by_cases h : p < to
  · rw [if_pos h, sb_eq (hc p) hy]; exact ⟨fun e => ⟨h, e⟩, fun e => e.2⟩
  · rw [if_neg h]; exact ⟨fun e => absurd e.symm (nI_m1 (by omega)), fun e => absurd e.1 h⟩
theorem hr_dg (hc : ∀ j, c j < 256) : (48 ≤ (hrV c to p).toInt ∧ (hrV c to p).toInt ≤ 57) ↔ (p < to ∧ isDg (c p) = true) := by
  unfold hrV isDg
  by_cases h : p < to
  · rw [if_pos h]
    by_cases h1 : c p < 128
    · rw [sb_le _ h1, z_ti (by omega)]
      simp only [Bool.and_eq_true, decide_eq_true_eq]
      omega
    · have := Int32.lt_iff_toInt_lt.mp (sb_lt _ (hc p) (by omega))
      rw [show (0 : Int32).toInt = 0 by decide] at this
      simp only [Bool.and_eq_true, decide_eq_true_eq]
      omega
  · rw [if_neg h, show (-1 : Int32).toInt = -1 by decide]
    omega
theorem amg_1 {y : Nat} : amg c to [y] p = none ↔ ¬ (p < to ∧ c p = y) := by
  unfold amg ixL ixL
  by_cases h : p < to
  · rw [if_pos h]
    by_cases e : y = c p
    · rw [if_pos e]; simp [h, e]
    · rw [if_neg e]; simp [h]; exact fun q => e q.symm
  · rw [if_neg h]; simp [h]
theorem amg_1s {y : Nat} (h : p < to) (e : c p = y) : amg c to [y] p = some 0 := by
  unfold amg ixL
  rw [if_pos h, if_pos e.symm]
/-- the reader at a place -/
def rdX (c : Nat → Nat) (to r : Nat) (I : zI) (P : zR) (S : zT) (p : Nat) : Prop := (S r = some (.inl 7) ∧ P r 3 = some 100 ∧ 7000 ≤ r) ∧ (I r 1 = nI to ∧ I r 2 = nI p ∧ to ≤ 40) ∧ (S 100 = some (.inl 0) ∧ P 100 7 = some 301 ∧ S 301 = some (.inr (.byte, 60))) ∧ (∀ j, j < to → I 301 j = sb (c j)) ∧ ∃ N, 7000 ≤ N ∧ ∀ a, N ≤ a → S a = none
/-- what reading leaves alone -/
def fN (r : Nat) (I : zI) (L : zL) (P : zR) (S : zT) (I2 : zI) (L2 : zL) (P2 : zR) (S2 : zT) : Prop := (∀ b, (b < 7000 ∨ S b ≠ none) → (b ≠ r → I2 b = I b) ∧ L2 b = L b ∧ P2 b = P b ∧ S2 b = S b) ∧ (∀ k, k ≠ 2 → I2 r k = I r k) ∧ ∃ N, 7000 ≤ N ∧ ∀ a, N ≤ a → S2 a = none
section FNS
variable {I2 I3 : zI} {L2 L3 : zL} {P2 P3 : zR} {S2 S3 : zT} {a q : Nat}
theorem fN.rf (h : ∃ N, 7000 ≤ N ∧ ∀ a, N ≤ a → S a = none) : fN r I L P S I L P S := ⟨fun _ _ => ⟨fun _ => rfl, rfl, rfl, rfl⟩, fun _ _ => rfl, h⟩
theorem fN.tr (f : fN r I L P S I2 L2 P2 S2) (g : fN r I2 L2 P2 S2 I3 L3 P3 S3) : fN r I L P S I3 L3 P3 S3 := by
  obtain ⟨f1, f2, -⟩ := f
  obtain ⟨g1, g2, g3⟩ := g
  refine ⟨fun b hb => ?_, fun k hk => (g2 k hk).trans (f2 k hk), g3⟩
  obtain ⟨a1, a2, a3, a4⟩ := f1 b hb
  obtain ⟨b1, b2, b3, b4⟩ := g1 b (hb.imp id fun h => by rw [a4]; exact h)
  exact ⟨fun h => (b1 h).trans (a1 h), b2.trans a2, b3.trans a3, b4.trans a4⟩
theorem fN.at {v : Int32} (f : fN r I L P S I2 L2 P2 S2) : fN r I L P S (zw I2 r 2 v) L2 P2 S2 := ⟨fun b hb => ⟨fun h => (zw_n _ _ _ _ h).trans ((f.1 b hb).1 h), (f.1 b hb).2⟩, fun k hk => by rw [zw_a, zu_n _ _ _ hk]; exact f.2.1 k hk, f.2.2⟩
theorem fN.ne (f : fN r I L P S I2 L2 P2 S2) (hs : S2 a = none) {b : Nat} (ha : 7000 ≤ a) (hb : b < 7000 ∨ S b ≠ none) : b ≠ a := fun e => by
  subst e
  rcases hb with h | h
  · omega
  · exact h (by rw [← (f.1 b (Or.inr h)).2.2.2]; exact hs)
/-- a thing is new -/
theorem fN.nw {g1 : Nat → Int32} {g2 : Nat → Int64} {g3 : Nat → Option Nat} {x : Nat ⊕ (FieldType × Nat)} (f : fN r I L P S I2 L2 P2 S2) (ha : 7000 ≤ a) (hs : S2 a = none) (hr : S r ≠ none) : fN r I L P S (zu I2 a g1) (zu L2 a g2) (zu P2 a g3) (zu S2 a (some x)) := by
  obtain ⟨N, n1, n2⟩ := f.2.2
  have hra : r ≠ a := f.ne hs ha (Or.inr hr)
  refine ⟨fun b hb => ?_, fun k hk => by rw [zu_n _ _ _ hra]; exact f.2.1 k hk, max N (a + 1), by omega, fun b hb => by rw [zu_n _ _ _ (by omega)]; exact n2 b (by omega)⟩
  rw [zu_n _ _ _ (f.ne hs ha hb), zu_n _ _ _ (f.ne hs ha hb), zu_n _ _ _ (f.ne hs ha hb), zu_n _ _ _ (f.ne hs ha hb)]
  exact f.1 b hb
/-- a new thing is written -/
theorem fN.wr {I3 : zI} {P3 : zR} (f : fN r I L P S I2 L2 P2 S2) (ha : 7000 ≤ a) (hs : S a = none) (hr : S r ≠ none) (hI : ∀ b, b ≠ a → I3 b = I2 b) (hP : ∀ b, b ≠ a → P3 b = P2 b) : fN r I L P S I3 L2 P3 S2 := by
  have ne : ∀ b, (b < 7000 ∨ S b ≠ none) → b ≠ a := fun b hb e => by
    subst e
    rcases hb with h | h
    · omega
    · exact h hs
  refine ⟨fun b hb => ?_, fun k hk => by rw [hI r (ne r (Or.inr hr))]; exact f.2.1 k hk, f.2.2⟩
  rw [hI b (ne b hb), hP b (ne b hb)]
  exact f.1 b hb
theorem rdX.fr (h : rdX c to r I P S p) (f : fN r I L P S I2 L2 P2 S2) (e : I2 r 2 = nI q) : rdX c to r I2 P2 S2 q := by
  obtain ⟨⟨a1, a2, a3⟩, ⟨b1, b2, b3⟩, ⟨c1, c2, c3⟩, d1, -⟩ := h
  have fr := f.1 r (Or.inr (by rw [a1]; simp))
  have f100 := f.1 100 (Or.inl (by decide))
  have f301 := f.1 301 (Or.inl (by decide))
  exact ⟨⟨fr.2.2.2.trans a1, by rw [fr.2.2.1]; exact a2, a3⟩, ⟨(f.2.1 1 (by decide)).trans b1, e, b3⟩, ⟨f100.2.2.2.trans c1, by rw [f100.2.2.1]; exact c2, f301.2.2.2.trans c3⟩, fun j hj => by rw [f301.1 (by omega)]; exact d1 j hj, f.2.2⟩
theorem rdX.nn (h : rdX c to r I P S p) : S r ≠ none := by rw [h.1.1]; simp
theorem rdX.at (h : rdX c to r I P S p) : rdX c to r (zw I r 2 (nI q)) P S q := h.fr (L := fun _ _ => 0) ((fN.rf h.2.2.2.2).at) (zw_s _ _ _ _)
theorem rdX.nw {g1 : Nat → Int32} {g3 : Nat → Option Nat} {x : Nat ⊕ (FieldType × Nat)} (h : rdX c to r I P S p) (ha : 7000 ≤ a) (hs : S a = none) : rdX c to r (zu I a g1) (zu P a g3) (zu S a (some x)) p :=
  h.fr (L := fun _ _ => 0) ((fN.rf h.2.2.2.2).nw (g2 := fun _ => 0) ha hs h.nn) (by rw [zu_n _ _ _ ((fN.rf (I := I) (L := fun _ _ => 0) (P := P) (r := r) h.2.2.2.2).ne hs ha (Or.inr h.nn))]; exact h.2.1.2.1)
end FNS
/-- the tree of a rule, its nodes among T -/
def nQ (T : Nat → Prop) (I : zI) (P : zR) (S : zT) : Nat → Nat → List Nat → Prop
  | 0, _, _ => False
  | f + 1, r, c => (7000 ≤ r ∧ T r) ∧ ((S r = some (.inl 11) ∧ ∃ v, v ≤ 999 ∧ I r 0 = nI v ∧ c = [v]) ∨ (S r = some (.inl 12) ∧ ∃ k, k ≤ 11 ∧ I r 0 = nI (sgL.getD k 0) ∧ c = [1000 + k]) ∨
      (S r = some (.inl 8) ∧ ∃ q a, P r 0 = some q ∧ nQ T I P S f q a ∧ c = a ++ [2126]) ∨ (S r = some (.inl 9) ∧ ∃ q a, P r 0 = some q ∧ nQ T I P S f q a ∧ c = a ++ [2033]) ∨
      (S r = some (.inl 13) ∧ ∃ op q1 q2 a b, (op = 124 ∨ op = 38 ∨ op = 60 ∨ op = 62 ∨ op = 61 ∨ op = 43 ∨ op = 45 ∨ op = 42) ∧ I r 0 = nI op ∧ P r 1 = some q1 ∧ P r 2 = some q2 ∧ nQ T I P S f q1 a ∧ nQ T I P S f q2 b ∧ c = a ++ b ++ [2000 + op]))
theorem nQ.map {T T2 : Nat → Prop} {I2 : zI} {P2 : zR} {S2 : zT} (hf : ∀ a, 7000 ≤ a → T a → S a ≠ none → T2 a ∧ I2 a = I a ∧ P2 a = P a ∧ S2 a = S a) : ∀ {f r : Nat} {c : List Nat}, nQ T I P S f r c → nQ T2 I2 P2 S2 f r c := by
  intro f
  induction f with
  | zero => exact fun h => h
  | succ f ih =>
    rintro r c ⟨⟨h7, hT⟩, h⟩
    have e : T2 r ∧ I2 r = I r ∧ P2 r = P r ∧ S2 r = S r := hf r h7 hT (by
      rcases h with ⟨q, -⟩ | ⟨q, -⟩ | ⟨q, -⟩ | ⟨q, -⟩ | ⟨q, -⟩ <;> rw [q] <;> simp)
    refine ⟨⟨h7, e.1⟩, ?_⟩
    rw [e.2.1, e.2.2.1, e.2.2.2]
    rcases h with h | h | ⟨h1, q, a, h2, h3, h4⟩ | ⟨h1, q, a, h2, h3, h4⟩ | ⟨h1, op, q1, q2, a, b, h2, h3, h4, h5, h6, h7, h8⟩
    · exact Or.inl h
    · exact Or.inr (Or.inl h)
    · exact Or.inr (Or.inr (Or.inl ⟨h1, q, a, h2, ih h3, h4⟩))
    · exact Or.inr (Or.inr (Or.inr (Or.inl ⟨h1, q, a, h2, ih h3, h4⟩)))
    · exact Or.inr (Or.inr (Or.inr (Or.inr ⟨h1, op, q1, q2, a, b, h2, h3, h4, h5, ih h6, ih h7, h8⟩)))
theorem nQ.nR {T : Nat → Prop} : ∀ {f r : Nat} {c : List Nat}, nQ T I P S f r c → nR I P S f r c := by
  intro f
  induction f with
  | zero => exact fun h => h
  | succ f ih =>
    rintro r c ⟨⟨h7, hT⟩, h⟩
    refine ⟨h7, ?_⟩
    rcases h with h | h | ⟨h1, q, a, h2, h3, h4⟩ | ⟨h1, q, a, h2, h3, h4⟩ | ⟨h1, op, q1, q2, a, b, h2, h3, h4, h5, h6, h7, h8⟩
    · exact Or.inl h
    · exact Or.inr (Or.inl h)
    · exact Or.inr (Or.inr (Or.inl ⟨h1, q, a, h2, ih h3, h4⟩))
    · exact Or.inr (Or.inr (Or.inr (Or.inl ⟨h1, q, a, h2, ih h3, h4⟩)))
    · exact Or.inr (Or.inr (Or.inr (Or.inr ⟨h1, op, q1, q2, a, b, h2, h3, h4, h5, ih h6, ih h7, h8⟩)))
theorem nQ.up {T : Nat → Prop} : ∀ {f r : Nat} {c : List Nat}, nQ T I P S f r c → nQ T I P S (f + 1) r c := by
  intro f
  induction f with
  | zero => exact fun h => absurd h id
  | succ f ih =>
    rintro r c ⟨h7, h⟩
    refine ⟨h7, ?_⟩
    rcases h with h | h | ⟨h1, q, a, h2, h3, h4⟩ | ⟨h1, q, a, h2, h3, h4⟩ | ⟨h1, op, q1, q2, a, b, h2, h3, h4, h5, h6, h7, h8⟩
    · exact Or.inl h
    · exact Or.inr (Or.inl h)
    · exact Or.inr (Or.inr (Or.inl ⟨h1, q, a, h2, ih h3, h4⟩))
    · exact Or.inr (Or.inr (Or.inr (Or.inl ⟨h1, q, a, h2, ih h3, h4⟩)))
    · exact Or.inr (Or.inr (Or.inr (Or.inr ⟨h1, op, q1, q2, a, b, h2, h3, h4, h5, ih h6, ih h7, h8⟩)))
theorem nQ.le {T : Nat → Prop} {f g h : Nat} {l : List Nat} (q : nQ T I P S f h l) (e : f ≤ g) : nQ T I P S g h l := by
  induction g with
  | zero => obtain rfl : f = 0 := by omega
            exact q
  | succ g ih => by_cases e2 : f = g + 1
                 · subst e2; exact q
                 · exact (ih (by omega)).up
set_option maxHeartbeats 4000000 in
theorem c_X8_here (hP : rdX c to r I P S p) (hp : p ≤ to) (k : Q (.inl (some (.int (hrV c to p)))) I L P S) : Zm G mX8_here 0 C Sl [.ref r] I L P S Q := by
  have h40 := hP.2.1.2.2
  refine Z_entry (lv := [_]) (Nat.le_of_ble_eq_true rfl) rfl ?_
  refine Z_aload_n dX8_here_0 rfl ?_
  refine Z_getI hP.1.1 fX8_31_7 dX8_here_1 rfl ?_
  refine Z_re (y := nI (p)) hP.2.1.2.1 ?_
  refine Z_aload_n dX8_here_4 rfl ?_
  refine Z_getI hP.1.1 fX8_28_7 dX8_here_5 rfl ?_
  refine Z_re (y := nI (to)) hP.2.1.1 ?_
  refine Z_icmpgeN 26 dX8_here_8 rfl (by omega) (by omega) (fun c8 => ?_) (fun c8 => ?_)
  · have e9 : hrV c to p = -1 := if_neg (by omega)
    refine Z_iconst (-1) dX8_here_26 rfl ?_
    refine Z_ireturn dX8_here_27 rfl rfl ?_
    rw [e9] at k
    exact k
  · have e9 : hrV c to p = sb (c p) := if_pos (by omega)
    refine Z_aload_n dX8_here_11 rfl ?_
    refine Z_getR (r := 100) hP.1.1 fX8_3_7 dX8_here_12 rfl hP.1.2.1 ?_
    refine Z_getRN (r := 301) hP.2.2.1.1 fX8_34_0 dX8_here_15 rfl hP.2.2.1.2.1 ?_
    refine Z_aload_n dX8_here_18 rfl ?_
    refine Z_getI hP.1.1 fX8_31_7 dX8_here_19 rfl ?_
    refine Z_re (y := nI (p)) hP.2.1.2.1 ?_
    refine Z_bald hP.2.2.1.2.2 (zix_nI (by omega) (by decide)) dX8_here_22 ?_
    refine Z_re (hP.2.2.2.1 p (by omega)) ?_
    refine Z_goto 27 dX8_here_23 rfl ?_
    refine Z_ireturn dX8_here_27 rfl rfl ?_
    rw [e9] at k
    exact k
set_option maxHeartbeats 4000000 in
theorem c_X8_passes (hP : rdX c to r I P S p) (hp : p ≤ to) (hc : ∀ j, c j < 256) {y : Nat} (hy : y < 128) (kt : p < to → c p = y → Q (.inl (some (.int (nI 1)))) (zw I r 2 (nI (p + 1))) L P S) (kf : ¬ (p < to ∧ c p = y) → Q (.inl (some (.int (nI 0)))) I L P S) : Zm G mX8_passes 1 C Sl [.ref r, .int (nI y)] I L P S Q := by
  have h40 := hP.2.1.2.2
  refine Z_entry (lv := [_, _]) (Nat.le_of_ble_eq_true rfl) rfl ?_
  refine Z_aload_n dX8_passes_0 rfl ?_
  refine Z_call0 (d' := 0) (zCal_V gX8_43 nX8_here (by decide) dX8_passes_1) pX8_here hP.1.1 zkl7 [] rfl rfl (Nat.le_of_ble_eq_true rfl) (by omega) (c_X8_here hP hp ?_)
  refine Z_iload_n dX8_passes_4 rfl ?_
  refine Z_icmpeq 10 dX8_passes_5 rfl (fun c5 => ?_) (fun c5 => ?_)
  · have q := (hr_eq hc hy).mp c5
    refine Z_aload_n dX8_passes_10 rfl ?_
    refine Z_dup dX8_passes_11 rfl ?_
    refine Z_getI hP.1.1 fX8_31_7 dX8_passes_12 rfl ?_
    refine Z_re (y := nI (p)) hP.2.1.2.1 ?_
    refine Z_iconst (nI 1) dX8_passes_15 rfl ?_
    refine Z_iaddN dX8_passes_16 ?_
    refine Z_putI hP.1.1 fX8_31_7 dX8_passes_17 rfl rfl rfl ?_
    refine Z_iconst (nI 1) dX8_passes_20 rfl ?_
    refine Z_ireturn dX8_passes_21 rfl rfl ?_
    exact kt q.1 q.2
  · have q : ¬ (p < to ∧ c p = y) := fun q => c5 ((hr_eq hc hy).mpr q)
    refine Z_iconst (nI 0) dX8_passes_8 rfl ?_
    refine Z_ireturn dX8_passes_9 rfl rfl ?_
    exact kf q
set_option maxHeartbeats 8000000 in
theorem c_X8_isSign (hc : ∀ j, c j < 256) (kt : ∀ j, amg c to sgL p = some j → Q (.inl (some (.int (nI 1)))) I L P S) (kf : amg c to sgL p = none → Q (.inl (some (.int (nI 0)))) I L P S) : Zm G mX8_isSign 0 C Sl [.ref r, .int (hrV c to p)] I L P S Q := by
  refine Z_entry (lv := [_, _]) (Nat.le_of_ble_eq_true rfl) rfl ?_
  refine Z_iload_n dX8_isSign_0 rfl ?_
  by_cases hin : p < to ∧ 98 ≤ c p ∧ c p ≤ 119
  · have e1 : hrV c to p = nI (c p) := (hr_eq hc (by omega)).mpr ⟨hin.1, rfl⟩
    have ea : amg c to sgL p = ixL sgL (c p) := if_pos hin.1
    rw [ea] at kt kf
    rw [e1]
    obtain ⟨x, hx⟩ : ∃ x, x = c p := ⟨_, rfl⟩
    rw [← hx] at kt kf hin ⊢
    clear e1 ea hx
    obtain rfl | rfl | rfl | rfl | rfl | rfl | rfl | rfl | rfl | rfl | rfl | rfl | rfl | rfl | rfl | rfl | rfl | rfl | rfl | rfl | rfl | rfl : x = 98 ∨ x = 99 ∨ x = 100 ∨ x = 101 ∨ x = 102 ∨ x = 103 ∨ x = 104 ∨ x = 105 ∨ x = 106 ∨ x = 107 ∨ x = 108 ∨ x = 109 ∨ x = 110 ∨ x = 111 ∨ x = 112 ∨ x = 113 ∨ x = 114 ∨ x = 115 ∨ x = 116 ∨ x = 117 ∨ x = 118 ∨ x = 119 := by omega
    · refine Z_tableIn 104 dX8_isSign_1 (by decide) (by decide) rfl rfl ?_
      refine Z_iconst (nI 1) dX8_isSign_104 rfl ?_
      refine Z_ireturn dX8_isSign_105 rfl rfl ?_
      exact kt 7 rfl
    · refine Z_tableIn 104 dX8_isSign_1 (by decide) (by decide) rfl rfl ?_
      refine Z_iconst (nI 1) dX8_isSign_104 rfl ?_
      refine Z_ireturn dX8_isSign_105 rfl rfl ?_
      exact kt 5 rfl
    · refine Z_tableIn 106 dX8_isSign_1 (by decide) (by decide) rfl rfl ?_
      refine Z_iconst (nI 0) dX8_isSign_106 rfl ?_
      refine Z_ireturn dX8_isSign_107 rfl rfl ?_
      exact kf rfl
    · refine Z_tableIn 106 dX8_isSign_1 (by decide) (by decide) rfl rfl ?_
      refine Z_iconst (nI 0) dX8_isSign_106 rfl ?_
      refine Z_ireturn dX8_isSign_107 rfl rfl ?_
      exact kf rfl
    · refine Z_tableIn 104 dX8_isSign_1 (by decide) (by decide) rfl rfl ?_
      refine Z_iconst (nI 1) dX8_isSign_104 rfl ?_
      refine Z_ireturn dX8_isSign_105 rfl rfl ?_
      exact kt 10 rfl
    · refine Z_tableIn 106 dX8_isSign_1 (by decide) (by decide) rfl rfl ?_
      refine Z_iconst (nI 0) dX8_isSign_106 rfl ?_
      refine Z_ireturn dX8_isSign_107 rfl rfl ?_
      exact kf rfl
    · refine Z_tableIn 106 dX8_isSign_1 (by decide) (by decide) rfl rfl ?_
      refine Z_iconst (nI 0) dX8_isSign_106 rfl ?_
      refine Z_ireturn dX8_isSign_107 rfl rfl ?_
      exact kf rfl
    · refine Z_tableIn 106 dX8_isSign_1 (by decide) (by decide) rfl rfl ?_
      refine Z_iconst (nI 0) dX8_isSign_106 rfl ?_
      refine Z_ireturn dX8_isSign_107 rfl rfl ?_
      exact kf rfl
    · refine Z_tableIn 106 dX8_isSign_1 (by decide) (by decide) rfl rfl ?_
      refine Z_iconst (nI 0) dX8_isSign_106 rfl ?_
      refine Z_ireturn dX8_isSign_107 rfl rfl ?_
      exact kf rfl
    · refine Z_tableIn 104 dX8_isSign_1 (by decide) (by decide) rfl rfl ?_
      refine Z_iconst (nI 1) dX8_isSign_104 rfl ?_
      refine Z_ireturn dX8_isSign_105 rfl rfl ?_
      exact kt 0 rfl
    · refine Z_tableIn 104 dX8_isSign_1 (by decide) (by decide) rfl rfl ?_
      refine Z_iconst (nI 1) dX8_isSign_104 rfl ?_
      refine Z_ireturn dX8_isSign_105 rfl rfl ?_
      exact kt 1 rfl
    · refine Z_tableIn 106 dX8_isSign_1 (by decide) (by decide) rfl rfl ?_
      refine Z_iconst (nI 0) dX8_isSign_106 rfl ?_
      refine Z_ireturn dX8_isSign_107 rfl rfl ?_
      exact kf rfl
    · refine Z_tableIn 104 dX8_isSign_1 (by decide) (by decide) rfl rfl ?_
      refine Z_iconst (nI 1) dX8_isSign_104 rfl ?_
      refine Z_ireturn dX8_isSign_105 rfl rfl ?_
      exact kt 11 rfl
    · refine Z_tableIn 104 dX8_isSign_1 (by decide) (by decide) rfl rfl ?_
      refine Z_iconst (nI 1) dX8_isSign_104 rfl ?_
      refine Z_ireturn dX8_isSign_105 rfl rfl ?_
      exact kt 2 rfl
    · refine Z_tableIn 104 dX8_isSign_1 (by decide) (by decide) rfl rfl ?_
      refine Z_iconst (nI 1) dX8_isSign_104 rfl ?_
      refine Z_ireturn dX8_isSign_105 rfl rfl ?_
      exact kt 9 rfl
    · refine Z_tableIn 104 dX8_isSign_1 (by decide) (by decide) rfl rfl ?_
      refine Z_iconst (nI 1) dX8_isSign_104 rfl ?_
      refine Z_ireturn dX8_isSign_105 rfl rfl ?_
      exact kt 8 rfl
    · refine Z_tableIn 104 dX8_isSign_1 (by decide) (by decide) rfl rfl ?_
      refine Z_iconst (nI 1) dX8_isSign_104 rfl ?_
      refine Z_ireturn dX8_isSign_105 rfl rfl ?_
      exact kt 4 rfl
    · refine Z_tableIn 104 dX8_isSign_1 (by decide) (by decide) rfl rfl ?_
      refine Z_iconst (nI 1) dX8_isSign_104 rfl ?_
      refine Z_ireturn dX8_isSign_105 rfl rfl ?_
      exact kt 6 rfl
    · refine Z_tableIn 106 dX8_isSign_1 (by decide) (by decide) rfl rfl ?_
      refine Z_iconst (nI 0) dX8_isSign_106 rfl ?_
      refine Z_ireturn dX8_isSign_107 rfl rfl ?_
      exact kf rfl
    · refine Z_tableIn 106 dX8_isSign_1 (by decide) (by decide) rfl rfl ?_
      refine Z_iconst (nI 0) dX8_isSign_106 rfl ?_
      refine Z_ireturn dX8_isSign_107 rfl rfl ?_
      exact kf rfl
    · refine Z_tableIn 106 dX8_isSign_1 (by decide) (by decide) rfl rfl ?_
      refine Z_iconst (nI 0) dX8_isSign_106 rfl ?_
      refine Z_ireturn dX8_isSign_107 rfl rfl ?_
      exact kf rfl
    · refine Z_tableIn 104 dX8_isSign_1 (by decide) (by decide) rfl rfl ?_
      refine Z_iconst (nI 1) dX8_isSign_104 rfl ?_
      refine Z_ireturn dX8_isSign_105 rfl rfl ?_
      exact kt 3 rfl
  · have en : amg c to sgL p = none := by
      unfold amg
      by_cases h : p < to
      · rw [if_pos h]
        cases hj : ixL sgL (c p) with
        | none => rfl
        | some j =>
          have hm := (ixL_lt hj).2
          refine absurd ⟨h, ?_⟩ hin
          simp only [sgL, List.mem_cons, List.not_mem_nil, or_false] at hm
          omega
      · exact if_neg h
    refine Z_tableOut 106 dX8_isSign_1 ?_ rfl ?_
    · unfold hrV
      by_cases h : p < to
      · rw [if_pos h]
        by_cases h1 : c p < 128
        · rw [sb_le _ h1]
          simp only [Int32.lt_iff_toInt_lt, Int32.le_iff_toInt_le, z_ti (show c p < 2 ^ 31 by omega)]
          omega
        · have := Int32.lt_iff_toInt_lt.mp (sb_lt _ (hc p) (by omega))
          rw [show (0 : Int32).toInt = 0 by decide] at this
          omega
      · rw [if_neg h]
        decide
    · refine Z_iconst (nI 0) dX8_isSign_106 rfl ?_
      refine Z_ireturn dX8_isSign_107 rfl rfl ?_
      exact kf en
set_option maxHeartbeats 4000000 in
theorem c_X12_init {a : Nat} (hS : S a = some (.inl 11)) {v : Int32} (k : Q (.inl none) (zw I a 0 v) L P S) : Zm G mX12_init 1 C Sl [.ref a, .int v] I L P S Q := by
  refine Z_entry (lv := [_, _]) (Nat.le_of_ble_eq_true rfl) rfl ?_
  refine Z_aload_n dX12_init_0 rfl ?_
  refine Z_objInit q719 dX12_init_1 (Nat.le_of_ble_eq_true rfl) ?_
  refine Z_aload_n dX12_init_4 rfl ?_
  refine Z_iload_n dX12_init_5 rfl ?_
  refine Z_putFI hS wX12_7_11 rfl dX12_init_6 rfl rfl rfl ?_
  refine Z_return dX12_init_9 rfl ?_
  exact k
theorem sg_chr : ∀ k, k ≤ 11 → narrow .char (.int (nI (sgL.getD k 0))) = .int (nI (sgL.getD k 0)) ∧ fits .char (.int (nI (sgL.getD k 0))) = true := by decide +kernel
set_option maxHeartbeats 4000000 in
theorem c_X13_init {a : Nat} (hS : S a = some (.inl 12)) {j : Nat} (hj : j ≤ 11) (k : Q (.inl none) (zw I a 0 (nI (sgL.getD j 0))) L P S) : Zm G mX13_init 1 C Sl [.ref a, .int (nI (sgL.getD j 0))] I L P S Q := by
  refine Z_entry (lv := [_, _]) (Nat.le_of_ble_eq_true rfl) rfl ?_
  refine Z_aload_n dX13_init_0 rfl ?_
  refine Z_objInit q733 dX13_init_1 (Nat.le_of_ble_eq_true rfl) ?_
  refine Z_aload_n dX13_init_4 rfl ?_
  refine Z_iload_n dX13_init_5 rfl ?_
  refine Z_putFI hS wX13_7_12 rfl dX13_init_6 rfl (sg_chr j hj).1 (sg_chr j hj).2 ?_
  refine Z_return dX13_init_9 rfl ?_
  exact k
set_option maxHeartbeats 4000000 in
theorem c_X9_init8 {a : Nat} (hS : S a = some (.inl 8)) {h : Nat} (k : Q (.inl none) (I) L (zw P a 0 (some h)) S) : Zm G mX9_init 1 C Sl [.ref a, .ref h] I L P S Q := by
  refine Z_entry (lv := [_, _]) (Nat.le_of_ble_eq_true rfl) rfl ?_
  refine Z_aload_n dX9_init_0 rfl ?_
  refine Z_objInit q677 dX9_init_1 (Nat.le_of_ble_eq_true rfl) ?_
  refine Z_aload_n dX9_init_4 rfl ?_
  refine Z_aload_n dX9_init_5 rfl ?_
  refine Z_putFR hS wX9_7_8 rfl dX9_init_6 rfl ?_
  refine Z_return dX9_init_9 rfl ?_
  exact k
set_option maxHeartbeats 4000000 in
theorem c_X9_init9 {a : Nat} (hS : S a = some (.inl 9)) {h : Nat} (k : Q (.inl none) (I) L (zw P a 0 (some h)) S) : Zm G mX9_init 1 C Sl [.ref a, .ref h] I L P S Q := by
  refine Z_entry (lv := [_, _]) (Nat.le_of_ble_eq_true rfl) rfl ?_
  refine Z_aload_n dX9_init_0 rfl ?_
  refine Z_objInit q677 dX9_init_1 (Nat.le_of_ble_eq_true rfl) ?_
  refine Z_aload_n dX9_init_4 rfl ?_
  refine Z_aload_n dX9_init_5 rfl ?_
  refine Z_putFR hS wX9_7_9 rfl dX9_init_6 rfl ?_
  refine Z_return dX9_init_9 rfl ?_
  exact k
set_option maxHeartbeats 4000000 in
theorem c_X10_init {a : Nat} (hS : S a = some (.inl 9)) {h : Nat} (k : Q (.inl none) (I) L (zw P a 0 (some h)) S) : Zm G mX10_init 2 C Sl [.ref a, .ref h] I L P S Q := by
  refine Z_entry (lv := [_, _]) (Nat.le_of_ble_eq_true rfl) rfl ?_
  refine Z_aload_n dX10_init_0 rfl ?_
  refine Z_aload_n dX10_init_1 rfl ?_
  refine Z_call0 (d' := 1) (zCal_I q676 q97 q674 q675 rfl nX9_init (by decide) dX10_init_2) pX9_init hS zkl9 [_] rfl rfl (Nat.le_of_ble_eq_true rfl) (by omega) (c_X9_init9 hS ?_)
  refine Z_return dX10_init_5 rfl ?_
  exact k
set_option maxHeartbeats 4000000 in
theorem c_X14_init {a : Nat} (hS : S a = some (.inl 13)) {v : Int32} {h g : Nat} (k : Q (.inl none) (zw I a 0 v) L (zw (zw P a 1 (some h)) a 2 (some g)) S) : Zm G mX14_init 1 C Sl [.ref a, .int v, .ref h, .ref g] I L P S Q := by
  refine Z_entry (lv := [_, _, _, _]) (Nat.le_of_ble_eq_true rfl) rfl ?_
  refine Z_aload_n dX14_init_0 rfl ?_
  refine Z_objInit q743 dX14_init_1 (Nat.le_of_ble_eq_true rfl) ?_
  refine Z_aload_n dX14_init_4 rfl ?_
  refine Z_iload_n dX14_init_5 rfl ?_
  refine Z_putFI hS wX14_7_13 rfl dX14_init_6 rfl rfl rfl ?_
  refine Z_aload_n dX14_init_9 rfl ?_
  refine Z_aload_n dX14_init_10 rfl ?_
  refine Z_putFR hS wX14_13_13 rfl dX14_init_11 rfl ?_
  refine Z_aload_n dX14_init_14 rfl ?_
  refine Z_aload_n dX14_init_15 rfl ?_
  refine Z_putFR hS wX14_17_13 rfl dX14_init_16 rfl ?_
  refine Z_return dX14_init_19 rfl ?_
  exact k
end X41C
