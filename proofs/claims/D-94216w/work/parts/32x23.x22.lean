set_option maxRecDepth 100000
/-! THE COMPONENT, part 22: offices are opened -/
section X22C
variable {G : zG} {d C Sl : Nat} {I D W : zI} {R : List Int64} {L : zL} {P : zR} {S : zT} {Q : zQ} {no n np : Nat} {s : zS} {oh ph : Nat → Nat} {ro : Option (List Nat)}
theorem fstN_at {o j : Nat} : ∀ k, fstN D o k 12 j = if 100 * o ≤ j ∧ j < 100 * o + k then nI 0 else D 12 j := by
  intro k
  induction k with
  | zero => rw [if_neg (by omega)]; rfl
  | succ k ih =>
    rw [fstN, zw_a]
    by_cases e : j = 100 * o + k
    · subst e; rw [zu_s, if_pos (by omega), nb0]
    · rw [zu_n _ _ _ e, ih]
      by_cases h : 100 * o ≤ j ∧ j < 100 * o + k
      · rw [if_pos h, if_pos (by omega)]
      · rw [if_neg h, if_neg (by omega)]
theorem knwN_at {o x y : Nat} (ho : o < 6) (hx : x < 6) (hy : y < 6) : ∀ k, k ≤ 6 → knwN D o k 13 (6 * x + y) = if (x = o ∧ y < k) ∨ (y = o ∧ x < k) then nI 0 else D 13 (6 * x + y) := by
  intro k
  induction k with
  | zero => intro _; rw [if_neg (by omega)]; rfl
  | succ k ih =>
    intro hk
    rw [knwN, zw_a]
    by_cases e1 : 6 * x + y = 6 * k + o
    · rw [e1, zu_s, if_pos (by omega)]
    · rw [zu_n _ _ _ e1, zw_a]
      by_cases e2 : 6 * x + y = 6 * o + k
      · rw [e2, zu_s, if_pos (by omega)]
      · rw [zu_n _ _ _ e2, ih (by omega)]
        by_cases h : (x = o ∧ y < k) ∨ (y = o ∧ x < k)
        · rw [if_pos h, if_pos (by omega)]
        · rw [if_neg h, if_neg (by omega)]
theorem wld_is {I : zI} {a k : Nat} (h : wAt a k = true) : wld I a k = I a k := if_pos h
section OPN
variable {o q : Nat} {z f l y m c : Int32}
theorem opnS_r {a : Nat} (ha : 4 ≤ a) (hb : a ≤ 11) : opnS D o z f l y m c a = opn0 D o z f l y m c a := by
  unfold opnS
  rw [zw_n _ _ _ _ (by omega), zw_n _ _ _ _ (by omega), knwN_n (by omega), fstN_n (by omega)]
theorem opnS_o (h : q ≠ o) {a : Nat} (ha : 4 ≤ a) (hb : a ≤ 11) : opnS D o z f l y m c a q = D a q := by
  rw [opnS_r ha hb]
  unfold opn0
  obtain rfl | rfl | rfl | rfl | rfl | rfl | rfl | rfl : a = 4 ∨ a = 5 ∨ a = 6 ∨ a = 7 ∨ a = 8 ∨ a = 9 ∨ a = 10 ∨ a = 11 := by omega
  all_goals simp [zw, zu, h]
theorem opnS_12 {j : Nat} : opnS D o z f l y m c 12 j = if 100 * o ≤ j ∧ j < 100 * o + 100 then nI 0 else D 12 j := by
  unfold opnS
  rw [zw_n _ _ _ _ (by decide), zw_n _ _ _ _ (by decide), knwN_n (by decide), fstN_at]
  rfl
theorem opnS_13 {x w : Nat} (ho : o < 6) (hx : x < 6) (hw : w < 6) : opnS D o z f l y m c 13 (6 * x + w) = if x = o ∧ w = o then nI 9 else if x = o ∨ w = o then nI 0 else D 13 (6 * x + w) := by
  unfold opnS
  rw [zw_n _ _ _ _ (by decide), zw_a]
  by_cases e : 6 * x + w = 6 * o + o
  · rw [e, zu_s, if_pos (by omega)]
  · rw [zu_n _ _ _ e, if_neg (by omega), knwN_at ho hx hw 6 (Nat.le_refl _)]
    have e3 : fstN (opn0 D o z f l y m c) o 100 13 = D 13 := fstN_n (by decide) 100
    rw [e3]
    by_cases h : x = o ∨ w = o
    · rw [if_pos h, if_pos (by omega)]
    · rw [if_neg h, if_neg (by omega)]
/-- an office more, in a world at h -/
theorem wRw.add {h a : Nat} {I2 : zI} {L2 : zL} {P2 : zR} {S2 : zT} (g : wRw S P I h (wld D) no oh) (h6 : no < 6) (ho : ∀ o, o < no → 6000 ≤ oh o ∧ oh o ≠ a ∧ oh o ≠ a + 8 ∧ oh o + 8 ≠ a) (ha : 6000 ≤ a) (hh : h + 8 < 6000) (hA : oOk S2 P2 a) (gA : oNw I2 a z f l y m c (nI 0) (nI 0) (fun _ => nI 0)) (F : frO a I L P S I2 L2 P2 S2) : wRw S2 (zw P2 (h + 1) no (some a)) (zw (zw I2 (h + 3 + no) no (nI 9)) h 1 (nI (no + 1))) h (wld (opnS D no z f l y m c)) (no + 1) (zu oh no a) := by
  obtain ⟨⟨g1, g2, g3⟩, r, w⟩ := g
  have lo : ∀ b, b < 6000 → I2 b = I b ∧ P2 b = P b := fun b hb => ⟨(F b (by omega) (by omega)).1.1, (F b (by omega) (by omega)).2.1⟩
  have e0 : opnS D no z f l y m c 0 = zu (D 0) 3 (nI (no + 1)) := opnS_0
  refine ⟨⟨zw_s _ _ _ _, ?_, ?_⟩, fun x y2 hx hy => ?_, fun o2 ho2 => ?_⟩
  · rw [wld_is rfl, e0, zu_n _ _ _ (by decide), zw_a, zu_n _ _ _ (by decide), zw_n _ _ _ _ (by omega), (lo h (by omega)).1]; exact g2
  · rw [wld_is rfl, e0, zu_n _ _ _ (by decide), zw_a, zu_n _ _ _ (by decide), zw_n _ _ _ _ (by omega), (lo h (by omega)).1]; exact g3
  · rw [zw_n _ _ _ _ (by omega)]
    rw [wld_is (a := 13) rfl, opnS_13 h6 hx hy]
    by_cases e : x = no ∧ y2 = no
    · obtain ⟨rfl, rfl⟩ := e
      rw [zw_s, if_pos ⟨by omega, by omega⟩, if_pos ⟨rfl, rfl⟩]
    · rw [if_neg e]
      have e2 : zw I2 (h + 3 + no) no (nI 9) (h + 3 + x) y2 = I (h + 3 + x) y2 := by
        by_cases ex : x = no
        · subst ex; rw [zw_a, zu_n _ _ _ (fun q => e ⟨rfl, q⟩), (lo _ (by omega)).1]
        · rw [zw_n _ _ _ _ (by omega), (lo _ (by omega)).1]
      rw [e2, r x y2 hx hy, wld_is (a := 13) rfl]
      by_cases h1 : x = no ∨ y2 = no
      · rw [if_neg (by omega), if_pos h1]
        split <;> rfl
      · rw [if_neg h1]
        by_cases h2 : x < no ∧ y2 < no
        · rw [if_pos h2, if_pos (by omega)]
        · rw [if_neg h2, if_neg (by omega)]
  · by_cases e : o2 = no
    · subst e
      rw [zu_s]
      refine ⟨zw_s _ _ _ _, hA.o rfl rfl (zw_n _ _ _ _ (by omega)), ?_⟩
      obtain ⟨q1, q2, q3⟩ := gA
      unfold oRw
      rw [zw_n _ _ _ _ (by omega), zw_n _ _ _ _ (by omega), zw_n (b := a + 8) _ _ _ _ (by omega), zw_n (b := a + 8) _ _ _ _ (by omega)]
      refine ⟨?_, ?_, fun dd hd => ?_⟩
      · rw [wld_is (a := 4) rfl, wld_is (a := 5) rfl, wld_is (a := 6) rfl, wld_is (a := 7) rfl, opnS_r (by decide) (by decide), opnS_r (by decide) (by decide), opnS_r (by decide) (by decide), opnS_r (by decide) (by decide)]
        unfold opn0
        simp [zw, zu]
        exact q1
      · rw [wld_is (a := 8) rfl, wld_is (a := 9) rfl, wld_is (a := 10) rfl, wld_is (a := 11) rfl, opnS_r (by decide) (by decide), opnS_r (by decide) (by decide), opnS_r (by decide) (by decide), opnS_r (by decide) (by decide)]
        unfold opn0
        simp [zw, zu]
        exact q2
      · rw [wld_is (a := 12) rfl, opnS_12, if_pos (by omega)]; exact q3 dd hd
    · obtain ⟨x1, x2, x3⟩ := w o2 (by omega)
      obtain ⟨k0, k1, k2, k3⟩ := ho o2 (by omega)
      rw [zu_n _ _ _ e]
      refine ⟨by rw [zw_a, zu_n _ _ _ e, (lo _ (by omega)).2]; exact x1, (x2.fr F k1 k2 k3).o rfl rfl (zw_n _ _ _ _ (by omega)), ?_⟩
      unfold oRw at x3 ⊢
      rw [zw_n _ _ _ _ (by omega), zw_n _ _ _ _ (by omega), zw_n (b := oh o2 + 8) _ _ _ _ (by omega), zw_n (b := oh o2 + 8) _ _ _ _ (by omega), (F _ k1 k2).1.1, (F (oh o2 + 8) k3 (by omega)).1.1]
      refine ⟨?_, ?_, fun dd hd => ?_⟩
      · rw [wld_is (a := 4) rfl, wld_is (a := 5) rfl, wld_is (a := 6) rfl, wld_is (a := 7) rfl, opnS_o e (by decide) (by decide), opnS_o e (by decide) (by decide), opnS_o e (by decide) (by decide), opnS_o e (by decide) (by decide)]
        exact x3.1
      · rw [wld_is (a := 8) rfl, wld_is (a := 9) rfl, wld_is (a := 10) rfl, wld_is (a := 11) rfl, opnS_o e (by decide) (by decide), opnS_o e (by decide) (by decide), opnS_o e (by decide) (by decide), opnS_o e (by decide) (by decide)]
        exact x3.2.1
      · rw [wld_is (a := 12) rfl, opnS_12, if_neg (by omega)]; exact x3.2.2 dd hd
/-- the world's offices: one more -/
theorem xR.add {I2 : zI} {L2 : zL} {P2 : zR} {S2 : zT} (g : xR D R no n np ro oh ph I L P S) (h6 : no < 6) (hA : oOk S2 P2 (6000 + 16 * no)) (gA : oNw I2 (6000 + 16 * no) z f l y m c (nI 0) (nI 0) (fun _ => nI 0)) (F : frO (6000 + 16 * no) I L P S I2 L2 P2 S2) : xR (opnS D no z f l y m c) R (no + 1) n np ro oh ph (zw (zw I2 (200 + 3 + no) no (nI 9)) 200 1 (nI (no + 1))) L2 (zw P2 (200 + 1) no (some (6000 + 16 * no))) S2 := by
  obtain ⟨⟨⟨x0, a2⟩, ⟨b1, b2⟩, ⟨c1, c2⟩, ⟨d1, d2⟩, d3, d4, d5⟩, ⟨gs, hro⟩, ⟨⟨h29, h50⟩, hrw⟩, ⟨htx, hpr, hkp⟩, ⟨⟨t1, t2⟩, ⟨t3, t4⟩, N, t5, t6⟩, hoh, hph⟩ := g
  have b2' := b2.add h6 (fun o ho => by have := hoh o; omega) (by omega) (by omega) hA gA F
  have eo : zu oh no (6000 + 16 * no) = oh := by
    funext k
    by_cases e : k = no
    · subst e; rw [zu_s, hoh]
    · rw [zu_n _ _ _ e]
  rw [eo] at b2'
  have hS : ∀ b, b ≠ 6000 + 16 * no → b ≠ 6000 + 16 * no + 8 → S2 b = S b := fun b h1 h2 => (F b h1 h2).2.2
  have hI : ∀ b, b ≠ 200 → ¬ (203 ≤ b ∧ b ≤ 208) → ¬ (6000 ≤ b ∧ b < 6200) → zw (zw I2 (200 + 3 + no) no (nI 9)) 200 1 (nI (no + 1)) b = I b := fun b h1 h2 h3 => by
    rw [zw_n _ _ _ _ h1, zw_n _ _ _ _ (by omega)]; exact (F b (by omega) (by omega)).1.1
  have hP : ∀ b, b ≠ 201 → ¬ (6000 ≤ b ∧ b < 6200) → zw P2 (200 + 1) no (some (6000 + 16 * no)) b = P b := fun b h1 h2 => by
    rw [zw_n _ _ _ _ (by omega)]; exact (F b (by omega) (by omega)).2.1
  have hL : ∀ b, ¬ (6000 ≤ b ∧ b < 6200) → L2 b = L b := fun b h2 => (F b (by omega) (by omega)).1.2
  have lo : ∀ a, a < 6000 → S2 a = S a := fun a ha => hS a (by omega) (by omega)
  have i100 := hI 100 (by decide) (by decide) (by decide)
  have p100 := hP 100 (by decide) (by decide)
  have Dn : ∀ a, a ≠ 0 → (a < 4 ∨ 13 < a) → opnS D no z f l y m c a = D a := fun a h1 h2 => opnS_n h1 h2
  have D0 : ∀ k, k ≠ 3 → opnS D no z f l y m c 0 k = D 0 k := fun k hk => by rw [opnS_0, zu_n _ _ _ hk]
  have hW : ∀ a p, 17 ≤ a → a ≤ 22 → wld (opnS D no z f l y m c) a p = wld D a p := fun a p h1 h2 => wld_at (by rw [Dn a (by omega) (by omega)])
  obtain ⟨x1, x2, x3, x4, x5, x6, x7, x8⟩ := x0
  have gx : xO S2 (zw P2 (200 + 1) no (some (6000 + 16 * no))) := ⟨(lo _ (by decide)).trans x1, (lo _ (by decide)).trans x2, fun k q hq => ⟨(lo _ (by have := xAr_lt hq; omega)).trans (x3 k q hq).1, by rw [p100]; exact (x3 k q hq).2⟩, by rw [p100]; exact x4,
    x5.eq (fun a h1 h2 => lo a (by omega)) (by rw [hP 200 (by decide) (by decide)]) (by rw [hP 200 (by decide) (by decide)]) (hP _ (by decide) (by decide)), x6.eq (fun a h1 h2 => lo a (by omega)) (by rw [hP 220 (by decide) (by decide)]) (by rw [hP 220 (by decide) (by decide)]) (hP _ (by decide) (by decide)), x7.eq (fun a h1 h2 _ => lo a (by omega)) (hP _ (by decide) (by decide)), x8.eq (fun a h1 h2 _ => lo a (by omega)) (hP _ (by decide) (by decide))⟩
  refine ⟨⟨⟨gx, by rw [i100]; exact a2⟩, ⟨gx.2.2.2.2.1, b2'⟩, ⟨gx.2.2.2.2.2.2.1, ?_⟩, ⟨wf_up d1 (by rw [wld_is rfl, opnS_0, zu_s]) (wld_at (D0 16 (by decide))) (wld_row (Dn _ (by decide) (by decide))) (wld_row (Dn _ (by decide) (by decide))) h6, xf_pt d2 hW⟩, d3, fun o _ => by rw [hoh]; omega, d5⟩, ⟨?_, ?_⟩, ⟨⟨by rw [i100, D0 29 (by decide)]; exact h29, by rw [i100]; exact h50⟩, ⟨by rw [i100]; exact hrw.1, by rw [hL 302 (by decide)]; exact hrw.2⟩⟩, ⟨fun k hk => ?_, fun k hk => ?_, ?_⟩, ⟨⟨fun a h1 h2 => ?_, fun a h1 h2 => ?_⟩, ⟨fun o h1 h2 => ?_, fun p h1 h2 => ?_⟩, N, t5, fun a ha => by rw [hS a (by omega) (by omega)]; exact t6 a ha⟩, hoh, hph⟩
  · intro p hp
    obtain ⟨q1, q2, q3⟩ := c2.wq hW (wld_at (D0 37 (by decide))) p hp
    have := hph p
    have := d1.2.1.2
    exact ⟨by rw [hP 110 (by decide) (by decide)]; exact q1, (hS _ (by omega) (by omega)).trans q2, by rw [hI (ph p) (by omega) (by omega) (by omega)]; exact q3⟩
  · rw [Dn 23 (by decide) (by decide)]
    exact gs.fr fun k hk => hI _ (by omega) (by omega) (by omega)
  · cases ro with
    | none => show zw P2 (200 + 1) no _ 200 5 = none; rw [hP 200 (by decide) (by decide)]; exact hro
    | some c =>
      obtain ⟨r, f, q1, q2, q3⟩ := hro
      exact ⟨r, f, by rw [hP 200 (by decide) (by decide)]; exact q1, q2, q3.fr fun a ha _ => ⟨hI a (by omega) (by omega) (by omega), hP a (by omega) (by omega), hS a (by omega) (by omega)⟩⟩
  · rw [D0 29 (by decide)] at hk
    rw [hI 301 (by decide) (by decide) (by decide), Dn 28 (by decide) (by decide)]; exact htx k hk
  · rw [hI 303 (by decide) (by decide) (by decide), hI 304 (by decide) (by decide) (by decide), hI 305 (by decide) (by decide) (by decide), Dn 51 (by decide) (by decide), Dn 52 (by decide) (by decide), Dn 53 (by decide) (by decide)]; exact hpr k hk
  · intro i hi
    rw [Dn 56 (by decide) (by decide), Dn 57 (by decide) (by decide), hI 307 (by decide) (by decide) (by decide), hP 306 (by decide) (by decide)]
    rcases hkp i hi with q | ⟨h, m, ⟨q1, q2, q3⟩, q4, q5⟩
    · exact Or.inl q
    · exact Or.inr ⟨h, m, ⟨q1, q2, q3.eq (fun a h1 h2 _ => hS a (by omega) (by omega)) (hP h (by omega) (by omega))⟩, q4, q5.fr fun k hk => hI _ (by omega) (by omega) (by omega)⟩
  · rw [zw_a, zu_n _ _ _ (by omega), (F 201 (by omega) (by omega)).2.1]; exact t1 a (by omega) h2
  · rw [hP 110 (by decide) (by decide)]; exact t2 a h1 h2
  · rw [hS _ (by omega) (by omega), hS _ (by omega) (by omega)]; exact t3 o (by omega) h2
  · rw [hS _ (by omega) (by omega)]; exact t4 p h1 h2
end OPN
/-- people and crafts -/
def ppl (c : Int32) : Bool := !decide (c < 0) && (rB (c / nI 64) 1 9 && rB (c - c / nI 64 * nI 64) 1 63)
theorem pos_nI {c : Int32} (h : ¬ c < 0) : ∃ k, k < 2 ^ 31 ∧ c = nI k := by
  have h1 : 0 ≤ c.toInt := by
    have := Int32.le_iff_toInt_le.mp (Int32.not_lt.mp h)
    have e : (0 : Int32).toInt = 0 := by decide
    rw [e] at this
    exact this
  have h2 := Int32.toInt_lt c
  obtain ⟨k, hk, e⟩ := z_rng (n := 2 ^ 31 - 1) (x := c) h1 (by omega) (by decide)
  exact ⟨k, by omega, e⟩
theorem ppl_f0 {c : Int32} (h : c ≤ 0) : ppl c = false := by
  unfold ppl
  by_cases h0 : c < 0
  · simp [h0]
  · obtain ⟨k, hk, rfl⟩ := pos_nI h0
    have : k = 0 := by
      have e := Int32.le_iff_toInt_le.mp h
      rw [z_ti (by omega), show (0 : Int32).toInt = 0 by decide] at e
      omega
    subst this
    decide
theorem ppl_m {c : Int32} (h0 : ¬ c < 0) : rB (c - c / nI 64 * nI 64) 1 63 = decide (0 < c - c / nI 64 * nI 64) := by
  obtain ⟨k, hk, rfl⟩ := pos_nI h0
  rw [pk_rem hk (by decide) (by decide)]
  unfold rB
  rw [z_ti (by omega)]
  have : k % 64 < 64 := Nat.mod_lt _ (by decide)
  by_cases e : k % 64 = 0
  · rw [e]; decide
  · rw [decide_eq_true (show (1 : Int) ≤ ((k % 64 : Nat) : Int) ∧ ((k % 64 : Nat) : Int) ≤ 63 by omega), decide_eq_true]
    rw [Int32.lt_iff_toInt_lt, z_ti (by omega), show (0 : Int32).toInt = 0 by decide]
    omega
set_option maxHeartbeats 4000000 in
theorem c_X1_arePeople {c : Int32} (kt : ppl c = true → Q (.inl (some (.int (nI 1)))) I L P S) (kf : ppl c = false → Q (.inl (some (.int (nI 0)))) I L P S) : Zm G mX1_arePeople 1 C Sl [.int c] I L P S Q := by
  refine Z_entry (lv := [_]) (Nat.le_of_ble_eq_true rfl) rfl ?_
  refine Z_iload_n dX1_arePeople_0 rfl ?_
  refine Z_ifle 28 dX1_arePeople_1 rfl (fun c1 => ?_) (fun c1 => ?_)
  · refine Z_iconst (nI 0) dX1_arePeople_28 rfl ?_
    refine Z_ireturn dX1_arePeople_29 rfl rfl ?_
    exact kf (ppl_f0 c1)
  · refine Z_iload_n dX1_arePeople_4 rfl ?_
    refine Z_bipush (nI 64) dX1_arePeople_5 rfl ?_
    refine Z_idiv dX1_arePeople_7 (by decide) ?_
    refine Z_iconst (nI 1) dX1_arePeople_8 rfl ?_
    refine Z_bipush (nI 9) dX1_arePeople_9 rfl ?_
    refine Z_callS0 (d' := 0) (zCal_S gX1_3 nX1_in (by decide) dX1_arePeople_11) pX1_in [_, _, _] rfl rfl (Nat.le_of_ble_eq_true rfl) (by omega) (c_X1_in (fun h11a h11b => ?_) (fun h11 => ?_))
    · have r11 : rB (c / nI 64) 1 9 = true := rB_t h11a h11b
      refine Z_ifeq 28 dX1_arePeople_14 rfl (fun h => absurd h (by decide)) (fun _ => ?_)
      refine Z_iload_n dX1_arePeople_17 rfl ?_
      refine Z_bipush (nI 64) dX1_arePeople_18 rfl ?_
      refine Z_irem dX1_arePeople_20 (by decide) ?_
      refine Z_ifle 28 dX1_arePeople_21 rfl (fun c21 => ?_) (fun c21 => ?_)
      · refine Z_iconst (nI 0) dX1_arePeople_28 rfl ?_
        refine Z_ireturn dX1_arePeople_29 rfl rfl ?_
        have n1 : ¬ c < 0 := fun e => c1 (Int32.le_of_lt e)
        exact kf (by unfold ppl; rw [ppl_m n1, decide_eq_false (fun e => Int32.not_le.mpr e c21)]; simp)
      · refine Z_iconst (nI 1) dX1_arePeople_24 rfl ?_
        refine Z_goto 29 dX1_arePeople_25 rfl ?_
        refine Z_ireturn dX1_arePeople_29 rfl rfl ?_
        have n1 : ¬ c < 0 := fun e => c1 (Int32.le_of_lt e)
        exact kt (by unfold ppl; rw [ppl_m n1, r11, decide_eq_true (Int32.not_le.mp c21)]; simp [n1])
    · have r11 : rB (c / nI 64) 1 9 = false := rB_f h11
      refine Z_ifeq 28 dX1_arePeople_14 rfl (fun _ => ?_) (fun h => absurd h (by decide))
      refine Z_iconst (nI 0) dX1_arePeople_28 rfl ?_
      refine Z_ireturn dX1_arePeople_29 rfl rfl ?_
      have n1 : ¬ c < 0 := fun e => c1 (Int32.le_of_lt e)
      exact kf (by unfold ppl; rw [r11]; simp)
set_option maxHeartbeats 4000000 in
theorem c_X2_add {h a : Nat} (hO : wdO S P h) (h1 : I h 1 = nI no) (h6 : no < 6) (hA : S a = some (.inl 5)) (k : Q (.inl (some (.int (nI no)))) (zw (zw I (h + 3 + no) no (nI 9)) h 1 (nI (no + 1))) L (zw P (h + 1) no (some a)) S) : Zm G mX2_add 0 C Sl [.ref h, .ref a] I L P S Q := by
  refine Z_entry (lv := [_, _]) (Nat.le_of_ble_eq_true rfl) rfl ?_
  refine Z_aload_n dX2_add_0 rfl ?_
  refine Z_getR (r := (h + 1)) hO.1 fX2_11_1 dX2_add_1 rfl hO.2.1.2 ?_
  refine Z_aload_n dX2_add_4 rfl ?_
  refine Z_getI hO.1 fX2_29_1 dX2_add_5 rfl ?_
  refine Z_re (y := nI (no)) h1 ?_
  refine Z_aload_n dX2_add_8 rfl ?_
  refine Z_aast hO.2.1.1 (by simp [zTys]) hA zkl5 (zix_nI (by omega) (by decide)) dX2_add_9 ?_
  refine Z_aload_n dX2_add_10 rfl ?_
  refine Z_getR (r := (h + 2)) hO.1 fX2_26_1 dX2_add_11 rfl ((congrFun (zw_n _ _ _ _ (by omega)) 4).trans hO.2.2.1.2) ?_
  refine Z_aload_n dX2_add_14 rfl ?_
  refine Z_getI hO.1 fX2_29_1 dX2_add_15 rfl ?_
  refine Z_re (y := nI (no)) h1 ?_
  refine Z_aald (r := (h + 3 + no)) hO.2.2.1.1 (by simp [zTys]) rfl (zix_nI (by omega) (by decide)) ((congrFun (zw_n _ _ _ _ (by omega)) no).trans (hO.2.2.2 no h6).2) dX2_add_18 ?_
  refine Z_aload_n dX2_add_19 rfl ?_
  refine Z_getI hO.1 fX2_29_1 dX2_add_20 rfl ?_
  refine Z_re (y := nI (no)) h1 ?_
  refine Z_bipush (nI 9) dX2_add_23 rfl ?_
  refine Z_iast (hO.2.2.2 no (by omega)).1 (zix_nI (by omega) (by decide)) dX2_add_25 ?_
  refine Z_aload_n dX2_add_26 rfl ?_
  refine Z_dup dX2_add_27 rfl ?_
  refine Z_getI hO.1 fX2_29_1 dX2_add_28 rfl ?_
  refine Z_re (y := nI (no)) ((congrFun (zw_n _ _ _ _ (by omega)) 1).trans h1) ?_
  refine Z_iconst (nI 1) dX2_add_31 rfl ?_
  refine Z_iaddN dX2_add_32 ?_
  refine Z_putI hO.1 fX2_29_1 dX2_add_33 rfl rfl rfl ?_
  refine Z_aload_n dX2_add_36 rfl ?_
  refine Z_getI hO.1 fX2_29_1 dX2_add_37 rfl ?_
  refine Z_re (y := nI (no + 1)) (zw_s _ _ _ _) ?_
  refine Z_iconst (nI 1) dX2_add_40 rfl ?_
  refine Z_isubN dX2_add_41 (by omega) ?_
  refine Z_ireturn dX2_add_42 rfl rfl ?_
  exact k
theorem frO.X {a : Nat} {I2 : zI} {L2 : zL} {P2 : zR} {S2 : zT} (f : frO a I L P S I2 L2 P2 S2) (ha : 6000 ≤ a) : frX I L P S I2 L2 P2 S2 := fun b hb => f b (by omega) (by omega)
theorem ppl_e {c : Int32} {b : Bool} : (!decide (c < 0) && (rB (c / nI 64) 1 9 && (rB (c - c / nI 64 * nI 64) 1 63 && b))) = (ppl c && b) := by
  unfold ppl; simp only [Bool.and_assoc]
set_option maxHeartbeats 4000000 in
theorem o_xoffice (hX : xR D R no n np ro oh ph I L P S) {t l y c : Int32} (k : ∀ no2 I2 L2 P2 S2, xR (fOffice D R t l y c).2.1 (fOffice D R t l y c).2.2 no2 n np ro oh ph I2 L2 P2 S2 → frX I L P S I2 L2 P2 S2 → Q (.inl (some (.int (fOffice D R t l y c).1))) I2 L2 P2 S2) : Zm G mX1_office 2 (C + 2) (Sl + 109) [.ref 100, .int t, .int l, .int y, .int c] I L P S Q := by
  obtain ⟨e, ⟨g, hro⟩, ⟨⟨h29, h50⟩, hrw⟩, ⟨htx, hpr, hkp⟩, htl, hoh, hph⟩ := hX
  have hX : xR D R no n np ro oh ph I L P S := ⟨e, ⟨g, hro⟩, ⟨⟨h29, h50⟩, hrw⟩, ⟨htx, hpr, hkp⟩, htl, hoh, hph⟩
  have hx := e.x
  have hO := e.wd
  have hR := e.wr
  have hT := e.st
  have hPc := e.pc
  have hw := e.hw
  have hf := e.hx
  have hb := e.b
  have hn := e.nn
  have n8 := hw.n8
  have h6 := hw.o6
  have hn8 := hw.n8
  have hno : noD D = no := by rw [noD, show D 0 3 = nI no from hw.o3, nI_clamp (by omega)]
  have hnn : nD D = n := by rw [nD, show D 0 16 = nI n from hw.n16, nI_clamp (by omega)]
  have hM := hR.1
  refine Z_entry (lv := [_, _, _, _, _]) (Nat.le_of_ble_eq_true rfl) rfl ?_
  refine Z_iload_n dX1_office_0 rfl ?_
  refine Z_iconst (nI 0) dX1_office_1 rfl ?_
  refine Z_sipush (nI 575) dX1_office_2 rfl ?_
  refine Z_callS0 (d' := 0) (zCal_S gX1_3 nX1_in (by decide) dX1_office_5) pX1_in [_, _, _] rfl rfl (Nat.le_of_ble_eq_true rfl) (by omega) (c_X1_in (fun h5a h5b => ?_) (fun h5 => ?_))
  · have r5 : rB (t) 0 575 = true := rB_t h5a h5b
    refine Z_ifeq 51 dX1_office_8 rfl (fun h => absurd h (by decide)) (fun _ => ?_)
    refine Z_iload_n dX1_office_11 rfl ?_
    refine Z_iconst (nI 1) dX1_office_12 rfl ?_
    refine Z_bipush (nI 16) dX1_office_13 rfl ?_
    refine Z_callS0 (d' := 0) (zCal_S gX1_3 nX1_in (by decide) dX1_office_15) pX1_in [_, _, _] rfl rfl (Nat.le_of_ble_eq_true rfl) (by omega) (c_X1_in (fun h15a h15b => ?_) (fun h15 => ?_))
    · have r15 : rB (l) 1 16 = true := rB_t h15a h15b
      refine Z_ifeq 51 dX1_office_18 rfl (fun h => absurd h (by decide)) (fun _ => ?_)
      refine Z_iload_n dX1_office_21 rfl ?_
      refine Z_iconst (nI 1) dX1_office_22 rfl ?_
      refine Z_bipush (nI 99) dX1_office_23 rfl ?_
      refine Z_callS0 (d' := 0) (zCal_S gX1_3 nX1_in (by decide) dX1_office_25) pX1_in [_, _, _] rfl rfl (Nat.le_of_ble_eq_true rfl) (by omega) (c_X1_in (fun h25a h25b => ?_) (fun h25 => ?_))
      · have r25 : rB (y) 1 99 = true := rB_t h25a h25b
        refine Z_ifeq 51 dX1_office_28 rfl (fun h => absurd h (by decide)) (fun _ => ?_)
        refine Z_iload dX1_office_31 rfl ?_
        refine Z_callS0 (d' := 1) (zCal_S gX1_108 nX1_arePeople (by decide) dX1_office_33) pX1_arePeople [_] rfl rfl (Nat.le_of_ble_eq_true rfl) (by omega) (c_X1_arePeople (fun r36 => ?_) (fun r36 => ?_))
        · refine Z_ifeq 51 dX1_office_36 rfl (fun h => absurd h (by decide)) (fun _ => ?_)
          refine Z_aload_n dX1_office_39 rfl ?_
          refine Z_getR (r := 200) hx.1 fX1_52_0 dX1_office_40 rfl hx.2.2.2.1.1 ?_
          refine Z_getI hO.1 fX1_19_1 dX1_office_43 rfl ?_
          refine Z_re (y := nI (no)) hR.1.1 ?_
          refine Z_bipush (nI 6) dX1_office_46 rfl ?_
          have h6c : no ≤ 6 := h6
          refine Z_icmpneN 53 dX1_office_48 rfl (by omega) (by omega) (fun c48 => ?_) (fun c48 => ?_)
          · refine Z_aload_n dX1_office_53 rfl ?_
            refine Z_getR (r := 200) hx.1 fX1_52_0 dX1_office_54 rfl hx.2.2.2.1.1 ?_
            have hS0 := (htl.2.1.1 no (Nat.le_refl _) (by omega)).1
            have hS8 := (htl.2.1.1 no (Nat.le_refl _) (by omega)).2
            have h6b : no < 6 := by omega
            refine Zj.less (C := C + 1 + 1) (Sl := Sl + 100 + 9) ?_ (Nat.le_refl _) (by omega) (by omega)
            refine Z_new (6000 + 16 * no) hS0 wX1_112 dX1_office_57 ?_
            refine Z_dup dX1_office_60 rfl ?_
            refine Z_iload_n dX1_office_61 rfl ?_
            refine Z_bipush (nI 24) dX1_office_62 rfl ?_
            refine Z_idiv dX1_office_64 (by decide) ?_
            refine Z_iload_n dX1_office_65 rfl ?_
            refine Z_bipush (nI 24) dX1_office_66 rfl ?_
            refine Z_irem dX1_office_68 (by decide) ?_
            refine Z_iload_n dX1_office_69 rfl ?_
            refine Z_iload_n dX1_office_70 rfl ?_
            refine Z_iload dX1_office_71 rfl ?_
            refine Z_bipush (nI 64) dX1_office_73 rfl ?_
            refine Z_idiv dX1_office_75 (by decide) ?_
            refine Z_iload dX1_office_76 rfl ?_
            refine Z_bipush (nI 64) dX1_office_78 rfl ?_
            refine Z_irem dX1_office_80 (by decide) ?_
            refine Z_call (d' := 1) (C := C) (C' := 1) (Sl := Sl) (S' := 100) (zCal_I q336 q88 q334 q335 rfl nX6_init (by decide) dX1_office_81) pX6_init (by simp [zu]) zkl5 [_, _, _, _, _, _] rfl rfl (Nat.le_of_ble_eq_true rfl) (by omega) (by omega) (by omega) (c_X6_init (zu_s _ _ _) (by rw [zu_n _ _ _ (by omega)]; exact hS8) ⟨by rw [zu_s]; rfl, by rw [zu_s]; rfl⟩ (fun I2 L2 P2 S2 hA gA fA => ?_))
            have F := (frO.nw (I := I) (L := L) (P := P) (S := S) (f := fun _ => 0) (f2 := fun _ => 0) (f3 := fun _ => none) (x := some (.inl 5))).tr fA
            have hO : wdO S2 P2 200 := hO.eq (fun a h1 h2 => (F a (by omega) (by omega)).2.2) (by rw [(F 200 (by omega) (by omega)).2.1]) (by rw [(F 200 (by omega) (by omega)).2.1]) (F 202 (by omega) (by omega)).2.1
            refine Z_call0 (d' := 0) (zCal_V gX1_117 nX2_add (by decide) dX1_office_84) pX2_add hO.1 zkl1 [_] rfl rfl (Nat.le_of_ble_eq_true rfl) (by omega) (c_X2_add hO (by rw [(F 200 (by omega) (by omega)).1.1]; exact hR.1.1) h6b hA.1 ?_)
            refine Z_ireturn dX1_office_87 rfl rfl ?_
            have v3 : (nI no).toNatClampNeg = no := nI_clamp (by omega)
            have c48b : ¬ nI no = nI 6 := fun e => c48 ((nI_eq (by omega) (by decide)).mp e)
            have h39 : D 0 3 = nI no := hw.o3
            have c48c : ¬ D 0 3 = nI 6 := fun e => c48b (h39.symm.trans e)
            exact xO_k (D2 := opnS D no (t / nI 24) (t - t / nI 24 * nI 24) l y (c / nI 64) (c - c / nI 64 * nI 64)) (R2 := R) (by rw [fOffice, if_pos (by rw [ppl_e, r5, r15, r25, r36, decide_eq_false c48c]; rfl), h39, v3]) (fun I2 L2 P2 S2 => k (no + 1) I2 L2 P2 S2) (hX.add h6b hA gA F) (((F.X (by omega)).i fun b hb => by rw [zw_n _ _ _ _ (by omega), zw_n _ _ _ _ (by omega)]).sp (by omega))
          · have c48z : D 0 3 = nI 6 := by rw [show D 0 3 = nI no from hw.o3, c48]
            refine Z_iconst (-1) dX1_office_51 rfl ?_
            refine Z_ireturn dX1_office_52 rfl rfl ?_
            exact xO_k (by simp [fOffice, show D 0 3 = nI no from hw.o3, nI_eq, ppl_e, r5, r15, r25, r36, c48]) (fun I2 L2 P2 S2 => k no I2 L2 P2 S2) hX frX.rf
        · refine Z_ifeq 51 dX1_office_36 rfl (fun _ => ?_) (fun h => absurd h (by decide))
          refine Z_iconst (-1) dX1_office_51 rfl ?_
          refine Z_ireturn dX1_office_52 rfl rfl ?_
          exact xO_k (by simp [fOffice, show D 0 3 = nI no from hw.o3, nI_eq, ppl_e, r5, r15, r25, r36]) (fun I2 L2 P2 S2 => k no I2 L2 P2 S2) hX frX.rf
      · have r25 : rB (y) 1 99 = false := rB_f h25
        refine Z_ifeq 51 dX1_office_28 rfl (fun _ => ?_) (fun h => absurd h (by decide))
        refine Z_iconst (-1) dX1_office_51 rfl ?_
        refine Z_ireturn dX1_office_52 rfl rfl ?_
        exact xO_k (by simp [fOffice, show D 0 3 = nI no from hw.o3, nI_eq, ppl_e, r5, r15, r25]) (fun I2 L2 P2 S2 => k no I2 L2 P2 S2) hX frX.rf
    · have r15 : rB (l) 1 16 = false := rB_f h15
      refine Z_ifeq 51 dX1_office_18 rfl (fun _ => ?_) (fun h => absurd h (by decide))
      refine Z_iconst (-1) dX1_office_51 rfl ?_
      refine Z_ireturn dX1_office_52 rfl rfl ?_
      exact xO_k (by simp [fOffice, show D 0 3 = nI no from hw.o3, nI_eq, ppl_e, r5, r15]) (fun I2 L2 P2 S2 => k no I2 L2 P2 S2) hX frX.rf
  · have r5 : rB (t) 0 575 = false := rB_f h5
    refine Z_ifeq 51 dX1_office_8 rfl (fun _ => ?_) (fun h => absurd h (by decide))
    refine Z_iconst (-1) dX1_office_51 rfl ?_
    refine Z_ireturn dX1_office_52 rfl rfl ?_
    exact xO_k (by simp [fOffice, show D 0 3 = nI no from hw.o3, nI_eq, ppl_e, r5]) (fun I2 L2 P2 S2 => k no I2 L2 P2 S2) hX frX.rf
end X22C
