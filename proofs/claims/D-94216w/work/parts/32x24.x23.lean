set_option maxRecDepth 100000
/-! THE COMPONENT, part 23: pieces are opened -/
section X23C
variable {G : zG} {d C Sl : Nat} {I D W : zI} {R : List Int64} {L : zL} {P : zR} {S : zT} {Q : zQ} {no n np : Nat} {s : zS} {oh ph : Nat → Nat} {ro : Option (List Nat)}
theorem xO.lo {S2 : zT} {P2 : zR} (g : xO S P) (lo : ∀ a, a < 6000 → S2 a = S a) (hP : ∀ a, (a = 100 ∨ a = 200 ∨ a = 202 ∨ a = 220 ∨ a = 222 ∨ a = 240 ∨ a = 270) → P2 a = P a) : xO S2 P2 := by
  obtain ⟨x1, x2, x3, x4, x5, x6, x7, x8⟩ := g
  have p100 := hP 100 (by decide)
  exact ⟨(lo _ (by decide)).trans x1, (lo _ (by decide)).trans x2, fun k q hq => ⟨(lo _ (by have := xAr_lt hq; omega)).trans (x3 k q hq).1, by rw [p100]; exact (x3 k q hq).2⟩, by rw [p100]; exact x4,
    x5.eq (fun a h1 h2 => lo a (by omega)) (by rw [hP 200 (by decide)]) (by rw [hP 200 (by decide)]) (hP _ (by decide)), x6.eq (fun a h1 h2 => lo a (by omega)) (by rw [hP 220 (by decide)]) (by rw [hP 220 (by decide)]) (hP _ (by decide)), x7.eq (fun a h1 h2 _ => lo a (by omega)) (hP _ (by decide)), x8.eq (fun a h1 h2 _ => lo a (by omega)) (hP _ (by decide))⟩
theorem sRw.lay {h : Nat} {b l : Int32} (g : sRw n I h s) (hn : n < 8) (hb : W 20 n = b) (hl : W 18 n = l) : sRw (n + 1) (zw (zw (zw I (h + 4) n b) (h + 5) n l) (h + 7) n (-1)) h (layS W s n) := by
  obtain ⟨⟨a0, a1, a2, a3⟩, r, c, e⟩ := g
  have z0 : ∀ k, zw (zw (zw I (h + 4) n b) (h + 5) n l) (h + 7) n (-1) h k = I h k := fun k => by rw [zw_n _ _ _ _ (by omega), zw_n _ _ _ _ (by omega), zw_n _ _ _ _ (by omega)]
  have zc : ∀ k p, p ≠ n → zw (zw (zw I (h + 4) n b) (h + 5) n l) (h + 7) n (-1) (h + k) p = I (h + k) p := fun k p hp => by
    have one : ∀ (J : zI) (x : Nat) (v : Int32), zw J x n v (h + k) p = J (h + k) p := fun J x v => by
      by_cases ex : h + k = x
      · rw [← ex, zw_a, zu_n _ _ _ hp]
      · rw [zw_n _ _ _ _ ex]
    rw [one, one, one]
  have v := layS_v (W := W) (s := s) hn
  refine ⟨⟨?_, ?_, ?_, ?_⟩, fun k p h4 h11 hp => ?_, fun k p hk hp hp8 => ?_, fun j hj => ?_⟩
  · rw [z0, layS_n (by omega)]; exact a0
  · rw [z0, layS_n (by omega)]; exact a1
  · rw [z0, sumI, v.2.2.2.1, sumI_c n (g := fun p => s (51 + p)) (fun p hp => layS_n (by omega)), a2]
    show _ = _ + (0 : Int32)
    rw [Int32.add_zero]
  · rw [z0, sumI, v.2.2.2.2, sumI_c n (g := fun p => s (59 + p)) (fun p hp => layS_n (by omega)), a3]
    show _ = _ + (0 : Int32)
    rw [Int32.add_zero]
  · by_cases ep : p = n
    · subst ep
      have q := c k p
      obtain ⟨e1, rfl⟩ | ⟨e1, rfl⟩ | ⟨e1, rfl⟩ | ⟨e1, rfl⟩ | ⟨e1, rfl⟩ | ⟨e1, rfl⟩ | ⟨e1, rfl⟩ | ⟨e1, rfl⟩ := sBs_k k h4 h11 <;> rw [e1]
      · rw [v.1.1, zw_n _ _ _ _ (by omega), zw_n _ _ _ _ (by omega), zw_s, hb]
      · rw [v.1.2.1, zw_n _ _ _ _ (by omega), zw_s, hl]
      · rw [v.1.2.2.1, zw_n _ _ _ _ (by omega), zw_n _ _ _ _ (by omega), zw_n _ _ _ _ (by omega)]; exact q (by omega) (Nat.le_refl _) hn
      · rw [v.2.1, zw_s]
      · rw [v.1.2.2.2, zw_n _ _ _ _ (by omega), zw_n _ _ _ _ (by omega), zw_n _ _ _ _ (by omega)]; exact q (by omega) (Nat.le_refl _) hn
      · rw [v.2.2.1, zw_n _ _ _ _ (by omega), zw_n _ _ _ _ (by omega), zw_n _ _ _ _ (by omega)]; exact q (by omega) (Nat.le_refl _) hn
      · rw [v.2.2.2.1, zw_n _ _ _ _ (by omega), zw_n _ _ _ _ (by omega), zw_n _ _ _ _ (by omega)]; exact q (by omega) (Nat.le_refl _) hn
      · rw [v.2.2.2.2, zw_n _ _ _ _ (by omega), zw_n _ _ _ _ (by omega), zw_n _ _ _ _ (by omega)]; exact q (by omega) (Nat.le_refl _) hn
    · have hk := sBs_k k h4 h11
      rw [zc k p ep, layS_n (by omega)]; exact r k p h4 h11 (by omega)
  · rw [zc k p (by omega)]; exact c k p hk (by omega) hp8
  · rw [layS_n (by omega)] at hj
    rw [zw_n _ _ _ _ (by omega), zw_n _ _ _ _ (by omega), zw_n _ _ _ _ (by omega), layS_n (by omega)]; exact e j hj
def pNw (I : zI) (q : Nat) (c l a k e b : Int32) : Prop := (I q 0 = c ∧ I q 1 = l ∧ I q 2 = a) ∧ I q 3 = k ∧ I q 4 = e ∧ I q 5 = b
def pceD (D : zI) (n : Nat) (f l a b q : Int32) : zI := zw (zu (pce0 D n f l a b q) 23 (layS (wld (pce0 D n f l a b q)) (D 23) n)) 0 16 (nI (n + 1))
section PCE
variable {f l a q : Int32} {k : Nat}
theorem pceD_n {j : Nat} {b : Int32} (h0 : j ≠ 0) (h : j < 17 ∨ 23 < j) : pceD D n f l a b q j = D j := by
  unfold pceD pce0
  rw [zw_n _ _ _ _ h0, zu_n _ _ _ (by omega)]
  repeat rw [zw_n _ _ _ _ (by omega)]
theorem pceD_0 {b : Int32} : pceD D n f l a b q 0 = zu (D 0) 16 (nI (n + 1)) := by
  unfold pceD pce0
  rw [zw_a, zu_n _ _ _ (by decide)]
  repeat rw [zw_n _ _ _ _ (by decide)]
theorem pceD_r {j p : Nat} {b : Int32} (h1 : 17 ≤ j) (h2 : j ≤ 22) (hp : p ≠ n) : pceD D n f l a b q j p = D j p := by
  unfold pceD pce0
  rw [zw_n _ _ _ _ (by omega), zu_n _ _ _ (by omega)]
  have one : ∀ (J : zI) (x : Nat) (v : Int32), zw J x n v j p = J j p := fun J x v => by
    by_cases ex : j = x
    · rw [← ex, zw_a, zu_n _ _ _ hp]
    · rw [zw_n _ _ _ _ ex]
  repeat rw [one]
theorem pceD_v {b : Int32} : (pceD D n f l a b q 17 n = f - f / nI 6 * nI 6 ∧ pceD D n f l a b q 18 n = l ∧ pceD D n f l a b q 19 n = a) ∧ pceD D n f l a b q 20 n = b ∧ pceD D n f l a b q 21 n = q ∧ pceD D n f l a b q 22 n = f / nI 6 := by
  unfold pceD pce0
  simp [zw, zu]
/-- a piece more -/
theorem xR.pce {I1 : zI} {b : Int32} (g : xR D R no n np ro oh ph I L P S) (h8 : n < 8) (h37 : D 0 37 = 0) (hkb : k < no) (hb : b = nI k) (hq : q = -1 ∨ ∃ k, k < no ∧ q = nI k) (hl : ∃ m, 1 ≤ m ∧ m ≤ 60 ∧ l = nI m) (ha : ∃ m, m < 2 ^ n ∧ a = nI m) (he : ∃ m, 1 ≤ m ∧ m ≤ 60 ∧ f / nI 6 = nI m) (hc : ∃ m, m < 6 ∧ f - f / nI 6 * nI 6 = nI m)
    (gP : pNw I1 (6200 + n) (f - f / nI 6 * nI 6) l a q (f / nI 6) b) (F : ∀ j, j ≠ 6200 + n → I1 j = I j) :
    xR (pceD D n f l a b q) R no (n + 1) np ro oh ph (zw (zw (zw (zw I1 100 1 (nI (n + 1))) (240 + 4) n b) (240 + 5) n l) (240 + 7) n (-1)) (zu L (6200 + n) fun _ => 0) (zw (zu P (6200 + n) fun _ => none) 110 n (some (6200 + n))) (zu S (6200 + n) (some (.inl 6))) := by
  obtain ⟨⟨⟨x0, a2⟩, ⟨b1, b2⟩, ⟨c1, c2⟩, ⟨d1, d2⟩, d3, d4, d5⟩, ⟨gs, hro⟩, ⟨⟨h29, h50⟩, hrw⟩, ⟨htx, hpr, hkp⟩, ⟨⟨t1, t2⟩, ⟨t3, t4⟩, N, t5, t6⟩, hoh, hph⟩ := g
  have h6 : no ≤ 6 := d1.1.2
  have hS : ∀ j, j ≠ 6200 + n → zu S (6200 + n) (some (.inl 6)) j = S j := fun j h => zu_n _ _ _ h
  have hI : ∀ j, j ≠ 100 → ¬ (240 ≤ j ∧ j ≤ 254) → j ≠ 6200 + n → zw (zw (zw (zw I1 100 1 (nI (n + 1))) (240 + 4) n b) (240 + 5) n l) (240 + 7) n (-1) j = I j := fun j h1 h2 h3 => by
    rw [zw_n _ _ _ _ (by omega), zw_n _ _ _ _ (by omega), zw_n _ _ _ _ (by omega), zw_n _ _ _ _ h1]; exact F j h3
  have i100 : ∀ j, j ≠ 1 → zw (zw (zw (zw I1 100 1 (nI (n + 1))) (240 + 4) n b) (240 + 5) n l) (240 + 7) n (-1) 100 j = I 100 j := fun j h => by
    rw [zw_n _ _ _ _ (by omega), zw_n _ _ _ _ (by omega), zw_n _ _ _ _ (by omega), zw_a, zu_n _ _ _ h, F 100 (by omega)]
  have hP : ∀ j, j ≠ 110 → j ≠ 6200 + n → zw (zu P (6200 + n) fun _ => none) 110 n (some (6200 + n)) j = P j := fun j h1 h2 => by
    rw [zw_n _ _ _ _ h1, zu_n _ _ _ h2]
  have lo : ∀ j, j < 6000 → zu S (6200 + n) (some (.inl 6)) j = S j := fun j hj => hS j (by omega)
  have Dn : ∀ j, j ≠ 0 → (j < 17 ∨ 23 < j) → pceD D n f l a b q j = D j := fun j h1 h2 => pceD_n h1 h2
  have D0 : ∀ j, j ≠ 16 → pceD D n f l a b q 0 j = D 0 j := fun j hj => by rw [pceD_0, zu_n _ _ _ hj]
  have D16 : pceD D n f l a b q 0 16 = nI (n + 1) := by rw [pceD_0, zu_s]
  have gx := x0.lo (S2 := zu S (6200 + n) (some (.inl 6))) (P2 := zw (zu P (6200 + n) fun _ => none) 110 n (some (6200 + n))) lo (fun j hj => hP j (by omega) (by omega))
  obtain ⟨v1, v2, v3, v4⟩ := pceD_v (D := D) (n := n) (f := f) (l := l) (a := a) (q := q) (b := b)
  refine ⟨⟨⟨gx, ?_⟩, ⟨gx.2.2.2.2.1, ?_⟩, ⟨gx.2.2.2.2.2.2.1, ?_⟩, ⟨⟨⟨(D0 3 (by decide)).trans d1.1.1, h6⟩, ⟨D16, h8⟩, fun p hp => ?_, fun p hp => ?_⟩, fun p hp => ?_⟩, d3, d4, fun p _ => by rw [hph]; omega⟩, ⟨?_, ?_⟩, ⟨⟨by rw [i100 8 (by decide), D0 29 (by decide)]; exact h29, by rw [i100 14 (by decide)]; exact h50⟩, ⟨by rw [i100 10 (by decide)]; exact hrw.1, by rw [zu_n _ _ _ (by omega)]; exact hrw.2⟩⟩, ⟨fun k hk => ?_, fun k hk => ?_, ?_⟩, ⟨⟨fun a h1 h2 => ?_, fun a h1 h2 => ?_⟩, ⟨fun o h1 h2 => ?_, fun p h1 h2 => ?_⟩, N, t5, fun a ha => by rw [hS a (by omega)]; exact t6 a ha⟩, hoh, hph⟩
  · rw [zw_n _ _ _ _ (by omega), zw_n _ _ _ _ (by omega), zw_n _ _ _ _ (by omega), zw_s]
  · obtain ⟨w1, w2, w3⟩ := b2.wq (W2 := wld (pceD D n f l a b q)) (fun x p h1 h2 => wld_at (by rw [Dn x (by omega) (by omega)])) (wld_at (D0 14 (by decide))) (wld_at (D0 15 (by decide)))
    have i200 := hI 200 (by decide) (by decide) (by omega)
    refine ⟨by rw [i200]; exact w1, fun x y hx hy => by rw [hI _ (by omega) (by omega) (by omega)]; exact w2 x y hx hy, fun o ho => ?_⟩
    obtain ⟨q1, ⟨q2, q3, q4⟩, q5⟩ := w3 o ho
    have := hoh o
    refine ⟨by rw [hP _ (by decide) (by omega)]; exact q1, ⟨(hS _ (by omega)).trans q2, (hS _ (by omega)).trans q3, by rw [hP _ (by omega) (by omega)]; exact q4⟩, ?_⟩
    unfold oRw
    rw [hI (oh o) (by omega) (by omega) (by omega), hI (oh o + 8) (by omega) (by omega) (by omega)]
    exact q5
  · intro p hp
    have e37 : wld (pceD D n f l a b q) 0 37 = 0 := (D0 37 (by decide)).trans h37
    have ea : askd (wld (pceD D n f l a b q)) p = pceD D n f l a b q 21 p := by unfold askd; rw [if_pos e37]; rfl
    rw [ea, hph]
    by_cases ep : p = n
    · subst ep
      refine ⟨by rw [zw_s], zu_s _ _ _, ?_⟩
      rw [zw_n _ _ _ _ (by omega), zw_n _ _ _ _ (by omega), zw_n _ _ _ _ (by omega), zw_n _ _ _ _ (by omega)]
      rw [wld_is (a := 17) rfl, wld_is (a := 18) rfl, wld_is (a := 19) rfl, wld_is (a := 22) rfl, wld_is (a := 20) rfl, v1.1, v1.2.1, v1.2.2, v2, v3, v4]
      exact gP
    · obtain ⟨q1, q2, q3⟩ := c2 p (by omega)
      have ea0 : askd (wld D) p = D 21 p := by unfold askd; rw [if_pos (show wld D 0 37 = 0 from h37)]; rfl
      rw [hph] at q1 q2 q3
      rw [ea0] at q3
      refine ⟨by rw [zw_a, zu_n _ _ _ ep, zu_n _ _ _ (by omega)]; exact q1, (hS _ (by omega)).trans q2, ?_⟩
      rw [hI (6200 + p) (by omega) (by omega) (by omega)]
      rw [wld_is (a := 17) rfl, wld_is (a := 18) rfl, wld_is (a := 19) rfl, wld_is (a := 22) rfl, wld_is (a := 20) rfl, pceD_r (by decide) (by decide) ep, pceD_r (by decide) (by decide) ep, pceD_r (by decide) (by decide) ep, pceD_r (by decide) (by decide) ep, pceD_r (by decide) (by decide) ep, pceD_r (by decide) (by decide) ep]
      exact q3
  · show ∃ k2, k2 < no ∧ pceD D n f l a b q 20 p = nI k2
    by_cases ep : p = n
    · subst ep; exact ⟨k, hkb, v2.trans hb⟩
    · rw [pceD_r (by decide) (by decide) ep]; exact d1.2.2.1 p (by omega)
  · show pceD D n f l a b q 21 p = -1 ∨ ∃ k, k < no ∧ pceD D n f l a b q 21 p = nI k
    by_cases ep : p = n
    · subst ep; rw [v3]; exact hq
    · rw [pceD_r (by decide) (by decide) ep]; exact d1.2.2.2 p (by omega)
  · show (∃ A, A < 2 ^ p ∧ pceD D n f l a b q 19 p = nI A) ∧ (∃ l2, 1 ≤ l2 ∧ l2 ≤ 60 ∧ pceD D n f l a b q 18 p = nI l2) ∧ (∃ e, 1 ≤ e ∧ e ≤ 60 ∧ pceD D n f l a b q 22 p = nI e) ∧ ∃ c, c < 6 ∧ pceD D n f l a b q 17 p = nI c
    by_cases ep : p = n
    · subst ep; rw [v1.1, v1.2.1, v1.2.2, v4]; exact ⟨ha, hl, he, hc⟩
    · rw [pceD_r (by decide) (by decide) ep, pceD_r (by decide) (by decide) ep, pceD_r (by decide) (by decide) ep, pceD_r (by decide) (by decide) ep]; exact d2 p (by omega)
  · have e23 : pceD D n f l a b q 23 = layS (wld (pce0 D n f l a b q)) (D 23) n := by unfold pceD; rw [zw_n _ _ _ _ (by decide), zu_s]
    rw [e23]
    refine sRw.lay (gs.fr fun j hj => ?_) h8 ?_ ?_
    · rw [zw_n _ _ _ _ (by omega)]; exact F _ (by omega)
    · show pce0 D n f l a b q 20 n = b
      unfold pce0; simp [zw, zu]
    · show pce0 D n f l a b q 18 n = l
      unfold pce0; simp [zw, zu]
  · cases ro with
    | none => show zw _ _ _ _ 200 5 = none; rw [hP 200 (by decide) (by omega)]; exact hro
    | some c =>
      obtain ⟨r, f, q1, q2, q3⟩ := hro
      exact ⟨r, f, by rw [hP 200 (by decide) (by omega)]; exact q1, q2, q3.fr fun a ha _ => ⟨hI a (by omega) (by omega) (by omega), hP a (by omega) (by omega), hS a (by omega)⟩⟩
  · rw [D0 29 (by decide)] at hk
    rw [hI 301 (by decide) (by decide) (by omega), Dn 28 (by decide) (by decide)]; exact htx k hk
  · rw [hI 303 (by decide) (by decide) (by omega), hI 304 (by decide) (by decide) (by omega), hI 305 (by decide) (by decide) (by omega), Dn 51 (by decide) (by decide), Dn 52 (by decide) (by decide), Dn 53 (by decide) (by decide)]; exact hpr k hk
  · intro i hi
    rw [Dn 56 (by decide) (by decide), Dn 57 (by decide) (by decide), hI 307 (by decide) (by decide) (by omega), hP 306 (by decide) (by omega)]
    rcases hkp i hi with q | ⟨h, m, ⟨q1, q2, q3⟩, q4, q5⟩
    · exact Or.inl q
    · exact Or.inr ⟨h, m, ⟨q1, q2, q3.eq (fun a h1 h2 _ => hS a (by omega)) (hP h (by omega) (by omega))⟩, q4, q5.fr fun k hk => hI _ (by omega) (by omega) (by omega)⟩
  · rw [hP 201 (by decide) (by omega)]; exact t1 a h1 h2
  · rw [zw_a, zu_n _ _ _ (by omega), zu_n _ _ _ (by omega)]; exact t2 a (by omega) h2
  · rw [hS _ (by omega), hS _ (by omega)]; exact t3 o h1 h2
  · rw [hS _ (by omega)]; exact t4 p (by omega) h2
end PCE
/-- how often a piece asks, times six, and its craft -/
def sx6 (f : Int32) : Bool := !decide (f < 0) && rB (f / nI 6) 1 60
theorem sx6_e {f : Int32} {b : Bool} : (!decide (f < 0) && (rB (f / nI 6) 1 60 && b)) = (sx6 f && b) := by
  unfold sx6; simp only [Bool.and_assoc]
theorem sx6_t {f : Int32} (h1 : 6 ≤ f.toInt) (h2 : f.toInt ≤ 365) : sx6 f = true ∧ (∃ m, 1 ≤ m ∧ m ≤ 60 ∧ f / nI 6 = nI m) ∧ ∃ m, m < 6 ∧ f - f / nI 6 * nI 6 = nI m := by
  obtain ⟨k, hk, rfl⟩ := z_rng (n := 365) (x := f) (by omega) (by omega) (by decide)
  rw [z_ti (by omega)] at h1
  have q1 : nI k / nI 6 = nI (k / 6) := pk_div (by omega) (by decide) (by decide)
  have q2 : nI k - nI k / nI 6 * nI 6 = nI (k % 6) := pk_rem (by omega) (by decide) (by decide)
  refine ⟨?_, ⟨k / 6, by omega, by omega, q1⟩, ⟨k % 6, by omega, q2⟩⟩
  unfold sx6 rB
  rw [q1, z_ti (by omega), decide_eq_true (show (1 : Int) ≤ ((k / 6 : Nat) : Int) ∧ ((k / 6 : Nat) : Int) ≤ 60 by omega), decide_eq_false]
  · rfl
  · intro e
    have := Int32.lt_iff_toInt_lt.mp e
    rw [z_ti (by omega), show (0 : Int32).toInt = 0 by decide] at this
    omega
theorem sx6_f {f : Int32} (h : ¬ (6 ≤ f.toInt ∧ f.toInt ≤ 365)) : sx6 f = false := by
  unfold sx6
  by_cases h0 : f < 0
  · simp [h0]
  · obtain ⟨k, hk, rfl⟩ := pos_nI h0
    rw [z_ti (by omega)] at h
    have q1 : nI k / nI 6 = nI (k / 6) := pk_div (by omega) (by decide) (by decide)
    unfold rB
    rw [q1, z_ti (by omega), decide_eq_false (show ¬ ((1 : Int) ≤ ((k / 6 : Nat) : Int) ∧ ((k / 6 : Nat) : Int) ≤ 60) by omega)]
    simp
set_option maxHeartbeats 4000000 in
theorem c_X7_init {q : Nat} (hS : S q = some (.inl 6)) {c l a b k e : Int32} (kk : ∀ I2, pNw I2 q c l a k e b → (∀ j, j ≠ q → I2 j = I j) → Q (.inl none) I2 L P S) : Zm G mX7_init 1 C Sl [.ref q, .int c, .int l, .int a, .int b, .int k, .int e] I L P S Q := by
  refine Z_entry (lv := [_, _, _, _, _, _, _]) (Nat.le_of_ble_eq_true rfl) rfl ?_
  refine Z_aload_n dX7_init_0 rfl ?_
  refine Z_objInit q558 dX7_init_1 (Nat.le_of_ble_eq_true rfl) ?_
  refine Z_aload_n dX7_init_4 rfl ?_
  refine Z_iload_n dX7_init_5 rfl ?_
  refine Z_putFI hS wX7_7_6 rfl dX7_init_6 rfl rfl rfl ?_
  refine Z_aload_n dX7_init_9 rfl ?_
  refine Z_iload_n dX7_init_10 rfl ?_
  refine Z_putFI hS wX7_13_6 rfl dX7_init_11 rfl rfl rfl ?_
  refine Z_aload_n dX7_init_14 rfl ?_
  refine Z_iload_n dX7_init_15 rfl ?_
  refine Z_putFI hS wX7_16_6 rfl dX7_init_16 rfl rfl rfl ?_
  refine Z_aload_n dX7_init_19 rfl ?_
  refine Z_iload dX7_init_20 rfl ?_
  refine Z_putFI hS wX7_19_6 rfl dX7_init_22 rfl rfl rfl ?_
  refine Z_aload_n dX7_init_25 rfl ?_
  refine Z_iload dX7_init_26 rfl ?_
  refine Z_putFI hS wX7_22_6 rfl dX7_init_28 rfl rfl rfl ?_
  refine Z_aload_n dX7_init_31 rfl ?_
  refine Z_iload dX7_init_32 rfl ?_
  refine Z_putFI hS wX7_25_6 rfl dX7_init_34 rfl rfl rfl ?_
  refine Z_return dX7_init_37 rfl ?_
  exact kk _ ⟨⟨by simp [zw, zu], by simp [zw, zu], by simp [zw, zu]⟩, by simp [zw, zu], by simp [zw, zu], by simp [zw, zu]⟩ (fun j hj => by simp [zw, zu, hj])
set_option maxHeartbeats 4000000 in
theorem o_xpiece (hX : xR D R no n np ro oh ph I L P S) (h37 : D 0 37 = 0) {f l a b q : Int32} (k : ∀ n2 I2 L2 P2 S2, xR (fPiece D R f l a b q).2.1 (fPiece D R f l a b q).2.2 no n2 np ro oh ph I2 L2 P2 S2 → frX I L P S I2 L2 P2 S2 → Q (.inl (some (.int (fPiece D R f l a b q).1))) I2 L2 P2 S2) : Zm G mX1_piece 2 (C + 1) (Sl + 6) [.ref 100, .int f, .int l, .int a, .int b, .int q] I L P S Q := by
  obtain ⟨e, ⟨g, hro⟩, ⟨⟨h29, h50⟩, hrw⟩, ⟨htx, hpr, hkp⟩, htl, hoh, hph⟩ := hX
  have hX : xR D R no n np ro oh ph I L P S := ⟨e, ⟨g, hro⟩, ⟨⟨h29, h50⟩, hrw⟩, ⟨htx, hpr, hkp⟩, htl, hoh, hph⟩
  have hx := e.x
  have hO := e.wd
  have hR := e.wr
  have hT := e.st
  have hPc := e.pc
  have hw := e.hw
  have hf := e.hx
  have hb := e.b
  have hn := e.nn
  have n8 := hw.n8
  have h6 := hw.o6
  have hn8 := hw.n8
  have hno : noD D = no := by rw [noD, show D 0 3 = nI no from hw.o3, nI_clamp (by omega)]
  have hnn : nD D = n := by rw [nD, show D 0 16 = nI n from hw.n16, nI_clamp (by omega)]
  have hM := hR.1
  refine Z_entry (lv := [_, _, _, _, _, _]) (Nat.le_of_ble_eq_true rfl) rfl ?_
  refine Z_iload_n dX1_piece_0 rfl ?_
  refine Z_bipush (nI 6) dX1_piece_1 rfl ?_
  refine Z_sipush (nI 365) dX1_piece_3 rfl ?_
  refine Z_callS0 (d' := 0) (zCal_S gX1_3 nX1_in (by decide) dX1_piece_6) pX1_in [_, _, _] rfl rfl (Nat.le_of_ble_eq_true rfl) (by omega) (c_X1_in (fun h6a h6b => ?_) (fun h6n => ?_))
  · obtain ⟨r6, heq, hcq⟩ := sx6_t h6a h6b
    refine Z_ifeq 71 dX1_piece_9 rfl (fun h => absurd h (by decide)) (fun _ => ?_)
    refine Z_iload_n dX1_piece_12 rfl ?_
    refine Z_iconst (nI 1) dX1_piece_13 rfl ?_
    refine Z_bipush (nI 60) dX1_piece_14 rfl ?_
    refine Z_callS0 (d' := 0) (zCal_S gX1_3 nX1_in (by decide) dX1_piece_16) pX1_in [_, _, _] rfl rfl (Nat.le_of_ble_eq_true rfl) (by omega) (c_X1_in (fun h16a h16b => ?_) (fun h16 => ?_))
    · have r16 : rB (l) 1 60 = true := rB_t h16a h16b
      refine Z_ifeq 71 dX1_piece_19 rfl (fun h => absurd h (by decide)) (fun _ => ?_)
      refine Z_iload_n dX1_piece_22 rfl ?_
      refine Z_iconst (nI 0) dX1_piece_23 rfl ?_
      refine Z_iconst (nI 1) dX1_piece_24 rfl ?_
      refine Z_aload_n dX1_piece_25 rfl ?_
      refine Z_getI hx.1 fX1_105_0 dX1_piece_26 rfl ?_
      refine Z_re (y := nI (n)) hn ?_
      refine Z_ishl dX1_piece_29 ?_
      refine Z_iconst (nI 1) dX1_piece_30 rfl ?_
      refine Z_isub dX1_piece_31 ?_
      refine Z_callS0 (d' := 0) (zCal_S gX1_3 nX1_in (by decide) dX1_piece_32) pX1_in [_, _, _] rfl rfl (Nat.le_of_ble_eq_true rfl) (by omega) (c_X1_in (fun h32a h32b => ?_) (fun h32 => ?_))
      · have r32 : rB a 0 ((nI 1 <<< (D 0 16 &&& 31)) - nI 1).toInt = true := rB_t h32a (by rw [show D 0 16 = nI n from hw.n16]; exact h32b)
        rw [shl1 (by omega)] at h32b
        refine Z_ifeq 71 dX1_piece_35 rfl (fun h => absurd h (by decide)) (fun _ => ?_)
        refine Z_aload_n dX1_piece_38 rfl ?_
        refine Z_iload dX1_piece_39 rfl ?_
        refine Z_call0 (d' := 1) (zCal_V gX1_121 nX1_isOffice (by decide) dX1_piece_41) pX1_isOffice hx.1 zkl0 [_] rfl rfl (Nat.le_of_ble_eq_true rfl) (by omega) (c_X1_isOffice hx hR.1.1 h6 (fun k41 hk41 e41 => ?_) (fun h41 => ?_))
        · subst e41
          have r41 : oB D (nI k41) = true := rB_t (by rw [z_ti (by omega)]; omega) (by rw [z_ti (by omega), hno]; omega)
          have v41 : (nI k41).toNatClampNeg = k41 := nI_clamp (by omega)
          refine Z_ifeq 71 dX1_piece_44 rfl (fun h => absurd h (by decide)) (fun _ => ?_)
          refine Z_iload dX1_piece_47 rfl ?_
          refine Z_iconst (-1) dX1_piece_49 rfl ?_
          refine Z_icmpeq 62 dX1_piece_50 rfl (fun c50 => ?_) (fun c50 => ?_)
          · refine Z_aload_n dX1_piece_62 rfl ?_
            refine Z_getI hx.1 fX1_105_0 dX1_piece_63 rfl ?_
            refine Z_re (y := nI (n)) hn ?_
            refine Z_bipush (nI 8) dX1_piece_66 rfl ?_
            refine Z_icmpneN 73 dX1_piece_68 rfl (by omega) (by omega) (fun c68 => ?_) (fun c68 => ?_)
            · refine Z_aload_n dX1_piece_73 rfl ?_
              refine Z_getR (r := 110) hx.1 fX1_47_0 dX1_piece_74 rfl (hx.2.2.1 0 _ rfl).2 ?_
              refine Z_aload_n dX1_piece_77 rfl ?_
              refine Z_getI hx.1 fX1_105_0 dX1_piece_78 rfl ?_
              refine Z_re (y := nI (n)) hn ?_
              have hS0 := htl.2.1.2 n (Nat.le_refl _) (by omega)
              have hlq : ∃ m, 1 ≤ m ∧ m ≤ 60 ∧ l = nI m := by
                obtain ⟨m, hm, e9⟩ := z_rng (n := 60) (by have := (rB_i r16).1; omega) (rB_i r16).2 (by decide)
                have := (rB_i r16).1
                rw [e9, z_ti (by omega)] at this
                exact ⟨m, by omega, hm, e9⟩
              have haq : ∃ m, m < 2 ^ n ∧ a = nI m := by
                have := p2_lt (k := n) (by omega)
                have p0 : 0 < 2 ^ n := Nat.two_pow_pos n
                rw [nI_s1 (by omega)] at h32b
                obtain ⟨m, hm, e9⟩ := z_rng (n := 2 ^ n - 1) h32a (by omega) (by omega)
                exact ⟨m, by omega, e9⟩
              refine Z_new (6200 + n) hS0 wX1_45 dX1_piece_81 ?_
              refine Z_dup dX1_piece_84 rfl ?_
              refine Z_iload_n dX1_piece_85 rfl ?_
              refine Z_bipush (nI 6) dX1_piece_86 rfl ?_
              refine Z_irem dX1_piece_88 (by decide) ?_
              refine Z_iload_n dX1_piece_89 rfl ?_
              refine Z_iload_n dX1_piece_90 rfl ?_
              refine Z_iload dX1_piece_91 rfl ?_
              refine Z_iload dX1_piece_93 rfl ?_
              refine Z_iload_n dX1_piece_95 rfl ?_
              refine Z_bipush (nI 6) dX1_piece_96 rfl ?_
              refine Z_idiv dX1_piece_98 (by decide) ?_
              refine Z_call0 (d' := 1) (zCal_I q557 q95 q555 q556 rfl nX7_init (by decide) dX1_piece_99) pX7_init (by simp [zu]) zkl6 [_, _, _, _, _, _] rfl rfl (Nat.le_of_ble_eq_true rfl) (by omega) (c_X7_init (zu_s _ _ _) (fun I1 gP FP => ?_))
              have FP : ∀ j, j ≠ 6200 + n → I1 j = I j := fun j hj => (FP j hj).trans (zu_n _ _ _ hj)
              have hx := hx.lo (S2 := (zu S (6200 + n) (some (.inl 6)))) (P2 := (zu P (6200 + n) fun _ => none)) (fun j hj => zu_n _ _ _ (by omega)) (fun j hj => zu_n _ _ _ (by omega))
              refine Z_aast (hx.2.2.1 0 _ rfl).1 (by simp [zTys]) (by simp [zu]) zkl6 (zix_nI (by first | omega | (dsimp only; omega)) (by decide)) dX1_piece_102 ?_
              refine Z_aload_n dX1_piece_103 rfl ?_
              refine Z_dup dX1_piece_104 rfl ?_
              refine Z_getI hx.1 fX1_105_0 dX1_piece_105 rfl ?_
              refine Z_re (y := nI (n)) ((congrFun (FP 100 (by omega)) 1).trans hn) ?_
              refine Z_iconst (nI 1) dX1_piece_108 rfl ?_
              refine Z_iaddN dX1_piece_109 ?_
              refine Z_putI hx.1 fX1_105_0 dX1_piece_110 rfl rfl rfl ?_
              have hx := hx.lo (S2 := (zu S (6200 + n) (some (.inl 6)))) (P2 := zw (zu P (6200 + n) fun _ => none) 110 n (some (6200 + n))) (fun j hj => rfl) (fun j hj => zw_n _ _ _ _ (by omega))
              have hT := hx.2.2.2.2.2.2.1
              have hnn2 := hn
              refine Z_aload_n dX1_piece_113 rfl ?_
              refine Z_getR (r := 240) hx.1 fX1_62_0 dX1_piece_114 rfl hx.2.2.2.1.2.2.1 ?_
              refine Z_aload_n dX1_piece_117 rfl ?_
              refine Z_getI hx.1 fX1_105_0 dX1_piece_118 rfl ?_
              refine Z_re (y := nI (n + 1)) (zw_s _ _ _ _) ?_
              refine Z_iconst (nI 1) dX1_piece_121 rfl ?_
              refine Z_isubN dX1_piece_122 (by omega) ?_
              refine Z_call0 (d' := 0) (zCal_V gX1_193 nX3_fresh (by decide) dX1_piece_123) pX3_fresh hT.1 zkl2 [_] rfl rfl (Nat.le_of_ble_eq_true rfl) (by omega) (c_X3_fresh hx hT (by omega) (zw_s _ _ _ _) (zu_s _ _ _) (by omega) ((congrFun (zw_n _ _ _ _ (by omega)) 5).trans gP.2.2.2) ((congrFun (zw_n _ _ _ _ (by omega)) 1).trans gP.1.2.1) ?_)
              refine Z_aload_n dX1_piece_126 rfl ?_
              refine Z_getI hx.1 fX1_105_0 dX1_piece_127 rfl ?_
              refine Z_re (y := nI (n + 1)) ((congrFun (by rw [zw_n _ _ _ _ (by decide), zw_n _ _ _ _ (by decide), zw_n _ _ _ _ (by decide)]) 1).trans (zw_s I1 100 1 (nI (n + 1)))) ?_
              refine Z_iconst (nI 1) dX1_piece_130 rfl ?_
              refine Z_isubN dX1_piece_131 (by omega) ?_
              refine Z_ireturn dX1_piece_132 rfl rfl ?_
              have v16 : (D 0 16).toNatClampNeg = n := by rw [show D 0 16 = nI n from hw.n16, nI_clamp (by omega)]
              have c68b : ¬ D 0 16 = nI 8 := fun e => c68 ((nI_eq (by omega) (by decide)).mp ((show D 0 16 = nI n from hw.n16).symm.trans e))
              have p16 : D 0 16 + nI 1 = nI (n + 1) := by rw [show D 0 16 = nI n from hw.n16, nI_add]
              have q16 : D 0 16 = nI (n + 1 - 1) := hw.n16
              have hq5 : q = -1 ∨ ∃ k, k < no ∧ q = nI k := Or.inl c50
              exact xO_k (D2 := pceD D n f l a (nI k41) (q)) (R2 := R) (by rw [fPiece, if_pos (by rw [sx6_e, r6, r16, r32, r41, decide_eq_true c50, decide_eq_false c68b]; rfl), v16, p16, show D 0 16 = nI n from hw.n16]; rfl) (fun I2 L2 P2 S2 => k (n + 1) I2 L2 P2 S2) (hX.pce (by omega) h37 hk41 rfl hq5 hlq haq heq hcq gP FP) (fun j hj => ⟨⟨by rw [zw_n _ _ _ _ (by omega), zw_n _ _ _ _ (by omega), zw_n _ _ _ _ (by omega), zw_n _ _ _ _ (by omega)]; exact FP j (by omega), zu_n _ _ _ (by omega)⟩, by rw [zw_n _ _ _ _ (by omega), zu_n _ _ _ (by omega)], zu_n _ _ _ (by omega)⟩)
            · have c68z : D 0 16 = nI 8 := by rw [show D 0 16 = nI n from hw.n16, c68]
              refine Z_iconst (-1) dX1_piece_71 rfl ?_
              refine Z_ireturn dX1_piece_72 rfl rfl ?_
              exact xO_k (by simp [fPiece, sx6_e, r6, r16, r32, r41, v41, c50, c68z, -Int32.toInt_sub]) (fun I2 L2 P2 S2 => k n I2 L2 P2 S2) hX frX.rf
          · refine Z_aload_n dX1_piece_53 rfl ?_
            refine Z_iload dX1_piece_54 rfl ?_
            refine Z_call0 (d' := 1) (zCal_V gX1_121 nX1_isOffice (by decide) dX1_piece_56) pX1_isOffice hx.1 zkl0 [_] rfl rfl (Nat.le_of_ble_eq_true rfl) (by omega) (c_X1_isOffice hx hR.1.1 h6 (fun k56 hk56 e56 => ?_) (fun h56 => ?_))
            · subst e56
              have r56 : oB D (nI k56) = true := rB_t (by rw [z_ti (by omega)]; omega) (by rw [z_ti (by omega), hno]; omega)
              have v56 : (nI k56).toNatClampNeg = k56 := nI_clamp (by omega)
              refine Z_ifeq 71 dX1_piece_59 rfl (fun h => absurd h (by decide)) (fun _ => ?_)
              refine Z_aload_n dX1_piece_62 rfl ?_
              refine Z_getI hx.1 fX1_105_0 dX1_piece_63 rfl ?_
              refine Z_re (y := nI (n)) hn ?_
              refine Z_bipush (nI 8) dX1_piece_66 rfl ?_
              refine Z_icmpneN 73 dX1_piece_68 rfl (by omega) (by omega) (fun c68 => ?_) (fun c68 => ?_)
              · refine Z_aload_n dX1_piece_73 rfl ?_
                refine Z_getR (r := 110) hx.1 fX1_47_0 dX1_piece_74 rfl (hx.2.2.1 0 _ rfl).2 ?_
                refine Z_aload_n dX1_piece_77 rfl ?_
                refine Z_getI hx.1 fX1_105_0 dX1_piece_78 rfl ?_
                refine Z_re (y := nI (n)) hn ?_
                have hS0 := htl.2.1.2 n (Nat.le_refl _) (by omega)
                have hlq : ∃ m, 1 ≤ m ∧ m ≤ 60 ∧ l = nI m := by
                  obtain ⟨m, hm, e9⟩ := z_rng (n := 60) (by have := (rB_i r16).1; omega) (rB_i r16).2 (by decide)
                  have := (rB_i r16).1
                  rw [e9, z_ti (by omega)] at this
                  exact ⟨m, by omega, hm, e9⟩
                have haq : ∃ m, m < 2 ^ n ∧ a = nI m := by
                  have := p2_lt (k := n) (by omega)
                  have p0 : 0 < 2 ^ n := Nat.two_pow_pos n
                  rw [nI_s1 (by omega)] at h32b
                  obtain ⟨m, hm, e9⟩ := z_rng (n := 2 ^ n - 1) h32a (by omega) (by omega)
                  exact ⟨m, by omega, e9⟩
                refine Z_new (6200 + n) hS0 wX1_45 dX1_piece_81 ?_
                refine Z_dup dX1_piece_84 rfl ?_
                refine Z_iload_n dX1_piece_85 rfl ?_
                refine Z_bipush (nI 6) dX1_piece_86 rfl ?_
                refine Z_irem dX1_piece_88 (by decide) ?_
                refine Z_iload_n dX1_piece_89 rfl ?_
                refine Z_iload_n dX1_piece_90 rfl ?_
                refine Z_iload dX1_piece_91 rfl ?_
                refine Z_iload dX1_piece_93 rfl ?_
                refine Z_iload_n dX1_piece_95 rfl ?_
                refine Z_bipush (nI 6) dX1_piece_96 rfl ?_
                refine Z_idiv dX1_piece_98 (by decide) ?_
                refine Z_call0 (d' := 1) (zCal_I q557 q95 q555 q556 rfl nX7_init (by decide) dX1_piece_99) pX7_init (by simp [zu]) zkl6 [_, _, _, _, _, _] rfl rfl (Nat.le_of_ble_eq_true rfl) (by omega) (c_X7_init (zu_s _ _ _) (fun I1 gP FP => ?_))
                have FP : ∀ j, j ≠ 6200 + n → I1 j = I j := fun j hj => (FP j hj).trans (zu_n _ _ _ hj)
                have hx := hx.lo (S2 := (zu S (6200 + n) (some (.inl 6)))) (P2 := (zu P (6200 + n) fun _ => none)) (fun j hj => zu_n _ _ _ (by omega)) (fun j hj => zu_n _ _ _ (by omega))
                refine Z_aast (hx.2.2.1 0 _ rfl).1 (by simp [zTys]) (by simp [zu]) zkl6 (zix_nI (by first | omega | (dsimp only; omega)) (by decide)) dX1_piece_102 ?_
                refine Z_aload_n dX1_piece_103 rfl ?_
                refine Z_dup dX1_piece_104 rfl ?_
                refine Z_getI hx.1 fX1_105_0 dX1_piece_105 rfl ?_
                refine Z_re (y := nI (n)) ((congrFun (FP 100 (by omega)) 1).trans hn) ?_
                refine Z_iconst (nI 1) dX1_piece_108 rfl ?_
                refine Z_iaddN dX1_piece_109 ?_
                refine Z_putI hx.1 fX1_105_0 dX1_piece_110 rfl rfl rfl ?_
                have hx := hx.lo (S2 := (zu S (6200 + n) (some (.inl 6)))) (P2 := zw (zu P (6200 + n) fun _ => none) 110 n (some (6200 + n))) (fun j hj => rfl) (fun j hj => zw_n _ _ _ _ (by omega))
                have hT := hx.2.2.2.2.2.2.1
                have hnn2 := hn
                refine Z_aload_n dX1_piece_113 rfl ?_
                refine Z_getR (r := 240) hx.1 fX1_62_0 dX1_piece_114 rfl hx.2.2.2.1.2.2.1 ?_
                refine Z_aload_n dX1_piece_117 rfl ?_
                refine Z_getI hx.1 fX1_105_0 dX1_piece_118 rfl ?_
                refine Z_re (y := nI (n + 1)) (zw_s _ _ _ _) ?_
                refine Z_iconst (nI 1) dX1_piece_121 rfl ?_
                refine Z_isubN dX1_piece_122 (by omega) ?_
                refine Z_call0 (d' := 0) (zCal_V gX1_193 nX3_fresh (by decide) dX1_piece_123) pX3_fresh hT.1 zkl2 [_] rfl rfl (Nat.le_of_ble_eq_true rfl) (by omega) (c_X3_fresh hx hT (by omega) (zw_s _ _ _ _) (zu_s _ _ _) (by omega) ((congrFun (zw_n _ _ _ _ (by omega)) 5).trans gP.2.2.2) ((congrFun (zw_n _ _ _ _ (by omega)) 1).trans gP.1.2.1) ?_)
                refine Z_aload_n dX1_piece_126 rfl ?_
                refine Z_getI hx.1 fX1_105_0 dX1_piece_127 rfl ?_
                refine Z_re (y := nI (n + 1)) ((congrFun (by rw [zw_n _ _ _ _ (by decide), zw_n _ _ _ _ (by decide), zw_n _ _ _ _ (by decide)]) 1).trans (zw_s I1 100 1 (nI (n + 1)))) ?_
                refine Z_iconst (nI 1) dX1_piece_130 rfl ?_
                refine Z_isubN dX1_piece_131 (by omega) ?_
                refine Z_ireturn dX1_piece_132 rfl rfl ?_
                have v16 : (D 0 16).toNatClampNeg = n := by rw [show D 0 16 = nI n from hw.n16, nI_clamp (by omega)]
                have c68b : ¬ D 0 16 = nI 8 := fun e => c68 ((nI_eq (by omega) (by decide)).mp ((show D 0 16 = nI n from hw.n16).symm.trans e))
                have p16 : D 0 16 + nI 1 = nI (n + 1) := by rw [show D 0 16 = nI n from hw.n16, nI_add]
                have q16 : D 0 16 = nI (n + 1 - 1) := hw.n16
                have hq5 : nI k56 = -1 ∨ ∃ k, k < no ∧ nI k56 = nI k := Or.inr ⟨k56, hk56, rfl⟩
                exact xO_k (D2 := pceD D n f l a (nI k41) (nI k56)) (R2 := R) (by rw [fPiece, if_pos (by rw [sx6_e, r6, r16, r32, r41, r56, Bool.or_true, decide_eq_false c68b]; rfl), v16, p16, show D 0 16 = nI n from hw.n16]; rfl) (fun I2 L2 P2 S2 => k (n + 1) I2 L2 P2 S2) (hX.pce (by omega) h37 hk41 rfl hq5 hlq haq heq hcq gP FP) (fun j hj => ⟨⟨by rw [zw_n _ _ _ _ (by omega), zw_n _ _ _ _ (by omega), zw_n _ _ _ _ (by omega), zw_n _ _ _ _ (by omega)]; exact FP j (by omega), zu_n _ _ _ (by omega)⟩, by rw [zw_n _ _ _ _ (by omega), zu_n _ _ _ (by omega)], zu_n _ _ _ (by omega)⟩)
              · have c68z : D 0 16 = nI 8 := by rw [show D 0 16 = nI n from hw.n16, c68]
                refine Z_iconst (-1) dX1_piece_71 rfl ?_
                refine Z_ireturn dX1_piece_72 rfl rfl ?_
                exact xO_k (by simp [fPiece, sx6_e, r6, r16, r32, r41, v41, c50, r56, v56, c68z, -Int32.toInt_sub]) (fun I2 L2 P2 S2 => k n I2 L2 P2 S2) hX frX.rf
            · have r56 : oB D q = false := rB_f (fun q => h56 ⟨q.1, by have := q.2; rw [hno] at this; omega⟩)
              refine Z_ifeq 71 dX1_piece_59 rfl (fun _ => ?_) (fun h => absurd h (by decide))
              refine Z_iconst (-1) dX1_piece_71 rfl ?_
              refine Z_ireturn dX1_piece_72 rfl rfl ?_
              exact xO_k (by simp [fPiece, sx6_e, r6, r16, r32, r41, v41, c50, r56, -Int32.toInt_sub]) (fun I2 L2 P2 S2 => k n I2 L2 P2 S2) hX frX.rf
        · have r41 : oB D b = false := rB_f (fun q => h41 ⟨q.1, by have := q.2; rw [hno] at this; omega⟩)
          refine Z_ifeq 71 dX1_piece_44 rfl (fun _ => ?_) (fun h => absurd h (by decide))
          refine Z_iconst (-1) dX1_piece_71 rfl ?_
          refine Z_ireturn dX1_piece_72 rfl rfl ?_
          exact xO_k (by simp [fPiece, sx6_e, r6, r16, r32, r41, -Int32.toInt_sub]) (fun I2 L2 P2 S2 => k n I2 L2 P2 S2) hX frX.rf
      · have r32 : rB a 0 ((nI 1 <<< (D 0 16 &&& 31)) - nI 1).toInt = false := rB_f (by rw [show D 0 16 = nI n from hw.n16]; exact h32)
        refine Z_ifeq 71 dX1_piece_35 rfl (fun _ => ?_) (fun h => absurd h (by decide))
        refine Z_iconst (-1) dX1_piece_71 rfl ?_
        refine Z_ireturn dX1_piece_72 rfl rfl ?_
        exact xO_k (by simp [fPiece, sx6_e, r6, r16, r32, -Int32.toInt_sub]) (fun I2 L2 P2 S2 => k n I2 L2 P2 S2) hX frX.rf
    · have r16 : rB (l) 1 60 = false := rB_f h16
      refine Z_ifeq 71 dX1_piece_19 rfl (fun _ => ?_) (fun h => absurd h (by decide))
      refine Z_iconst (-1) dX1_piece_71 rfl ?_
      refine Z_ireturn dX1_piece_72 rfl rfl ?_
      exact xO_k (by simp [fPiece, sx6_e, r6, r16, -Int32.toInt_sub]) (fun I2 L2 P2 S2 => k n I2 L2 P2 S2) hX frX.rf
  · have r6 := sx6_f h6n
    refine Z_ifeq 71 dX1_piece_9 rfl (fun _ => ?_) (fun h => absurd h (by decide))
    refine Z_iconst (-1) dX1_piece_71 rfl ?_
    refine Z_ireturn dX1_piece_72 rfl rfl ?_
    exact xO_k (by simp [fPiece, sx6_e, r6, -Int32.toInt_sub]) (fun I2 L2 P2 S2 => k n I2 L2 P2 S2) hX frX.rf
end X23C
