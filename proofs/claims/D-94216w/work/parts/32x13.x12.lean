set_option maxRecDepth 100000
/-! THE COMPONENT, part 12: a row is told; what is understood otherwise; dark hours -/
section X12C
variable {G : zG} {d C Sl : Nat} {I D W : zI} {R : List Int64} {L : zL} {P : zR} {S : zT} {Q : zQ} {no n np : Nat} {s : zS} {oh ph : Nat → Nat} {ro : Option (List Nat)}
/-- what may be changed by what is only tried -/
def tmpX (a : Nat) : Prop := a = 300 ∨ (220 ≤ a ∧ a ≤ 228) ∨ (270 ≤ a ∧ a ≤ 284)
def fX (I : zI) (L : zL) (P : zR) (S : zT) (I2 : zI) (L2 : zL) (P2 : zR) (S2 : zT) : Prop := (∀ a, (a < 7000 ∨ S a ≠ none) → S2 a = S a ∧ (¬ tmpX a → P2 a = P a ∧ (a ≠ 100 → I2 a = I a) ∧ (a ≠ 302 → L2 a = L a))) ∧ ((∀ k, k ≠ 10 → I2 100 k = I 100 k) ∧ (∀ k, k ≠ 5 → P2 220 k = P 220 k) ∧ P2 222 = P 222 ∧ P2 270 = P 270) ∧ ∃ N, 7000 ≤ N ∧ ∀ a, N ≤ a → S2 a = none
section FX
variable {I2 I3 : zI} {L2 L3 : zL} {P2 P3 : zR} {S2 S3 : zT} {R2 : List Int64}
theorem fX.rf (h : ∃ N, 7000 ≤ N ∧ ∀ a, N ≤ a → S a = none) : fX I L P S I L P S := ⟨fun _ _ => ⟨rfl, fun _ => ⟨rfl, fun _ => rfl, fun _ => rfl⟩⟩, ⟨fun _ _ => rfl, fun _ _ => rfl, rfl, rfl⟩, h⟩
theorem fX.tr (f : fX I L P S I2 L2 P2 S2) (g : fX I2 L2 P2 S2 I3 L3 P3 S3) : fX I L P S I3 L3 P3 S3 := by
  obtain ⟨a, ⟨b1, b2, b3, b4⟩, -⟩ := f
  obtain ⟨c, ⟨e1, e2, e3, e4⟩, n⟩ := g
  refine ⟨fun x hx => ?_, ⟨fun k hk => (e1 k hk).trans (b1 k hk), fun k hk => (e2 k hk).trans (b2 k hk), e3.trans b3, e4.trans b4⟩, n⟩
  obtain ⟨a1, a2⟩ := a x hx
  obtain ⟨c1, c2⟩ := c x (hx.imp id fun h => by rw [a1]; exact h)
  exact ⟨c1.trans a1, fun ht => ⟨(c2 ht).1.trans (a2 ht).1, fun h1 => ((c2 ht).2.1 h1).trans ((a2 ht).2.1 h1), fun h1 => ((c2 ht).2.2 h1).trans ((a2 ht).2.2 h1)⟩⟩
theorem fX.i (f : fX I L P S I2 L2 P2 S2) (h : ∀ a, ¬ tmpX a → a ≠ 100 → (a < 7000 ∨ S a ≠ none) → I3 a = I2 a) (h1 : ∀ k, k ≠ 10 → I3 100 k = I2 100 k) : fX I L P S I3 L2 P2 S2 := by
  obtain ⟨a, ⟨b1, b2, b3, b4⟩, n⟩ := f
  refine ⟨fun x hx => ⟨(a x hx).1, fun ht => ⟨((a x hx).2 ht).1, fun h9 => (h x ht h9 hx).trans (((a x hx).2 ht).2.1 h9), ((a x hx).2 ht).2.2⟩⟩, ⟨fun k hk => (h1 k hk).trans (b1 k hk), b2, b3, b4⟩, n⟩
theorem fX.p (f : fX I L P S I2 L2 P2 S2) (h : ∀ a, ¬ tmpX a → (a < 7000 ∨ S a ≠ none) → P3 a = P2 a) (h1 : ∀ k, k ≠ 5 → P3 220 k = P2 220 k) (h2 : P3 222 = P2 222) (h3 : P3 270 = P2 270) : fX I L P S I2 L2 P3 S2 := by
  obtain ⟨a, ⟨b1, b2, b3, b4⟩, n⟩ := f
  exact ⟨fun x hx => ⟨(a x hx).1, fun ht => ⟨(h x ht hx).trans ((a x hx).2 ht).1, ((a x hx).2 ht).2⟩⟩, ⟨b1, fun k hk => (h1 k hk).trans (b2 k hk), h2.trans b3, h3.trans b4⟩, n⟩
theorem fX.fH (f : fX I L P S I2 L2 P2 S2) (h : fH 270 I2 I3) (hp : f3 P2 P3) : fX I L P S I3 L2 P3 S2 := (f.i (fun a ht _ _ => h a (fun e => ht (Or.inl e)) (fun e => ht (Or.inr (Or.inr (by omega))))) (fun k _ => by rw [h 100 (by decide) (by decide)])).p (fun a ht _ => hp a (fun e => ht (Or.inl e))) (fun k _ => by rw [hp 220 (by decide)]) (hp _ (by decide)) (hp _ (by decide))
/-- a row is told: only that -/
def fR (I : zI) (L : zL) (I2 : zI) (L2 : zL) : Prop := (∀ a, a ≠ 100 → I2 a = I a) ∧ (∀ k, k ≠ 10 → I2 100 k = I 100 k) ∧ ∀ a, a ≠ 302 → L2 a = L a
theorem fR.rf : fR I L I L := ⟨fun _ _ => rfl, fun _ _ => rfl, fun _ _ => rfl⟩
theorem fR.tr (f : fR I L I2 L2) (g : fR I2 L2 I3 L3) : fR I L I3 L3 := ⟨fun a h => (g.1 a h).trans (f.1 a h), fun a h => (g.2.1 a h).trans (f.2.1 a h), fun a h => (g.2.2 a h).trans (f.2.2 a h)⟩
theorem fR.z {v : Int32} (f : fR I L I2 L2) : fR I L (zw I2 100 10 v) L2 := ⟨fun a h => (zw_n _ _ _ _ h).trans (f.1 a h), fun k h => by rw [zw_a, zu_n _ _ _ h]; exact f.2.1 k h, f.2.2⟩
theorem fX.fR (f : fX I L P S I2 L2 P2 S2) (g : fR I2 L2 I3 L3) : fX I L P S I3 L3 P2 S2 := by
  obtain ⟨a, ⟨b1, b2⟩, n⟩ := f
  exact ⟨fun x hx => ⟨(a x hx).1, fun ht => ⟨((a x hx).2 ht).1, fun h9 => (g.1 x h9).trans (((a x hx).2 ht).2.1 h9), fun h9 => (g.2.2 x h9).trans (((a x hx).2 ht).2.2 h9)⟩⟩, ⟨fun k hk => (g.2.1 k hk).trans (b1 k hk), b2⟩, n⟩
theorem fX.frX (f : fX I L P S I2 L2 P2 S2) : frX I L P S I2 L2 P2 S2 := fun a ha => by
  obtain ⟨a1, a2⟩ := f.1 a (Or.inl (by omega))
  obtain ⟨b1, b2, b3⟩ := a2 (by unfold tmpX; omega)
  exact ⟨⟨b2 (by omega), b3 (by omega)⟩, b1, a1⟩
theorem hE.fR {w h : Nat} (e : hE W no n oh ph w h I P S) (f : fR I L I2 L2) : hE W no n oh ph w h I2 P S := by
  obtain ⟨⟨a1, a2⟩, ⟨b1, b2⟩, ⟨c1, c2⟩, d1, d2, d3, d4⟩ := e
  exact ⟨⟨a1, (f.2.1 1 (by decide)).trans a2⟩, ⟨b1, b2.fI (fun a ha => f.1 a (by omega)) d3⟩, ⟨c1, c2.fr fun p hp => f.1 _ (by have := d4 p hp; omega)⟩, d1, d2, d3, d4⟩
theorem rwX.z : rwX (zw I 100 10 (nI 0)) L [] := ⟨⟨zw_s _ _ _ _, by simp⟩, fun i hi => absurd hi (by simp)⟩
theorem rwX.tl (h : rwX I L R) (h2 : R.length < 32) (v : Int64) : rwX (zw I 100 10 (nI (R.length + 1))) (zw L 302 R.length v) (R ++ [v]) := by
  refine ⟨⟨by rw [zw_s, List.length_append]; rfl, by simp; omega⟩, fun k hk => ?_⟩
  rw [zw_a]
  by_cases e : k = R.length
  · subst e; rw [zu_s]; simp
  · rw [zu_n _ _ _ e, h.2 k (by simp at hk; omega)]
    simp [List.getElem?_append_left (show k < R.length by simp at hk; omega)]
theorem sRw.fr2 {n h : Nat} {I I2 : zI} {s : zS} (g : sRw n I h s) (he : ∀ k, k = 0 ∨ (4 ≤ k ∧ k ≤ 12) → I2 (h + k) = I (h + k)) : sRw n I2 h s := by
  obtain ⟨⟨a0, a1, a2, a3⟩, b, c, e⟩ := g
  have h0 := he 0 (Or.inl rfl)
  rw [Nat.add_zero] at h0
  refine ⟨⟨by rw [h0]; exact a0, by rw [h0]; exact a1, by rw [h0]; exact a2, by rw [h0]; exact a3⟩, fun k p h4 h11 hp => by rw [he k (by omega)]; exact b k p h4 h11 hp, fun k p hk hp hp8 => by rw [he k (by omega)]; exact c k p hk hp hp8, fun j hj => by rw [he 12 (by omega)]; exact e j hj⟩
theorem xAr_lt {k : Nat} {q : FieldType × Nat × Nat} (h : xAr k = some q) : 110 ≤ q.2.2 ∧ q.2.2 ≤ 110 ∨ 301 ≤ q.2.2 ∧ q.2.2 ≤ 307 := by
  unfold xAr at h
  split at h <;> first | (cases h; simp; done) | cases h
theorem sAr_lt {k : Nat} {q : FieldType × Nat} (h : sAr k = some q) : k ≤ 14 := by
  unfold sAr at h
  split at h <;> first | omega | cases h
theorem wdO.eq {h : Nat} (g : wdO S P h) (hS : ∀ a, h ≤ a → a ≤ h + 8 → S2 a = S a) (e0 : P2 h 0 = P h 0) (e4 : P2 h 4 = P h 4) (e2 : P2 (h + 2) = P (h + 2)) : wdO S2 P2 h :=
  ⟨(hS h (by omega) (by omega)).trans g.1, ⟨(hS _ (by omega) (by omega)).trans g.2.1.1, e0.trans g.2.1.2⟩, ⟨(hS _ (by omega) (by omega)).trans g.2.2.1.1, e4.trans g.2.2.1.2⟩, fun a ha => ⟨(hS _ (by omega) (by omega)).trans (g.2.2.2 a ha).1, by rw [e2]; exact (g.2.2.2 a ha).2⟩⟩
theorem stO.eq {h : Nat} (g : stO S P h) (hS : ∀ a, h ≤ a → a ≤ h + 14 → S a ≠ none → S2 a = S a) (e : P2 h = P h) : stO S2 P2 h :=
  ⟨(hS h (by omega) (by omega) (by rw [g.1]; simp)).trans g.1, fun k q hq => ⟨(hS _ (by omega) (by have := sAr_lt hq; omega) (g.h k hq)).trans (g.2.1 k q hq).1, by rw [e]; exact (g.2.1 k q hq).2⟩, by rw [e]; exact g.2.2⟩
theorem xR.go (g : xR D R no n np ro oh ph I L P S) (f : fX I L P S I2 L2 P2 S2) (hr : rwX I2 L2 R2) : xR D R2 no n np ro oh ph I2 L2 P2 S2 := by
  obtain ⟨⟨⟨⟨x1, x2, x3, x4, x5, x6, x7, x8⟩, a2⟩, ⟨b1, b2⟩, ⟨c1, c2⟩, d1, d3, d4, d5⟩, ⟨gs, hro⟩, ⟨⟨h29, h50⟩, -⟩, ⟨htx, hpr, hkp⟩, ⟨⟨t1, t2⟩, ⟨t3, t4⟩, -⟩, hoh, hph⟩ := g
  obtain ⟨fa, ⟨f1, f2, f3, f4⟩, fn⟩ := f
  have lo : ∀ a, a < 7000 → S2 a = S a := fun a ha => (fa a (Or.inl ha)).1
  have pl : ∀ a, a < 7000 → ¬ tmpX a → P2 a = P a := fun a ha ht => ((fa a (Or.inl ha)).2 ht).1
  have il : ∀ a, a < 7000 → ¬ tmpX a → a ≠ 100 → I2 a = I a := fun a ha ht h => ((fa a (Or.inl ha)).2 ht).2.1 h
  have p100 := pl 100 (by decide) (by unfold tmpX; omega)
  have p200 := pl 200 (by decide) (by unfold tmpX; omega)
  have tk : ∀ a, 7000 ≤ a → ¬ tmpX a := fun a ha => by unfold tmpX; omega
  refine ⟨⟨⟨⟨(lo _ (by decide)).trans x1, (lo _ (by decide)).trans x2, fun k q hq => ⟨(lo _ (by have := xAr_lt hq; omega)).trans (x3 k q hq).1, by rw [p100]; exact (x3 k q hq).2⟩, by rw [p100]; exact x4, x5.eq (fun a h1 h2 => lo a (by omega)) (congrFun p200 0) (congrFun p200 4) (pl _ (by decide) (by unfold tmpX; omega)), x6.eq (fun a h1 h2 => lo a (by omega)) (f2 0 (by decide)) (f2 4 (by decide)) f3, x7.eq (fun a h1 h2 _ => lo a (by omega)) (pl _ (by decide) (by unfold tmpX; omega)), x8.eq (fun a h1 h2 _ => lo a (by omega)) f4⟩, (f1 1 (by decide)).trans a2⟩, ⟨b1.eq (fun a h1 h2 => lo a (by omega)) (congrFun p200 0) (congrFun p200 4) (pl _ (by decide) (by unfold tmpX; omega)), ?_⟩, ⟨c1.eq (fun a h1 h2 _ => lo a (by omega)) (pl _ (by decide) (by unfold tmpX; omega)), ?_⟩, d1, d3, d4, d5⟩, ⟨?_, ?_⟩, ⟨⟨(f1 8 (by decide)).trans h29, (f1 14 (by decide)).trans h50⟩, hr⟩, ⟨fun k hk => ?_, fun k hk => ?_, ?_⟩, ⟨⟨fun a h1 h2 => ?_, fun a h1 h2 => ?_⟩, ⟨fun o h1 h2 => ?_, fun p h1 h2 => ?_⟩, fn⟩, hoh, hph⟩
  · obtain ⟨w1, w2, w3⟩ := b2
    have i200 := il 200 (by decide) (by unfold tmpX; omega) (by decide)
    refine ⟨by rw [i200]; exact w1, fun a b ha hb => by rw [il _ (by omega) (by unfold tmpX; omega) (by omega)]; exact w2 a b ha hb, fun o ho => ?_⟩
    obtain ⟨q1, ⟨q2, q3, q4⟩, q5⟩ := w3 o ho
    have := hoh o
    have := d1.1.1.2
    refine ⟨by rw [pl _ (by decide) (by unfold tmpX; omega)]; exact q1, ⟨(lo _ (by omega)).trans q2, (lo _ (by omega)).trans q3, by rw [pl _ (by omega) (by unfold tmpX; omega)]; exact q4⟩, ?_⟩
    unfold oRw
    rw [il (oh o) (by omega) (by unfold tmpX; omega) (by omega), il (oh o + 8) (by omega) (by unfold tmpX; omega) (by omega)]
    exact q5
  · intro p hp
    obtain ⟨q1, q2, q3⟩ := c2 p hp
    have := hph p
    have := d1.1.2.1.2
    refine ⟨by rw [pl _ (by decide) (by unfold tmpX; omega)]; exact q1, (lo _ (by omega)).trans q2, ?_⟩
    rw [il (ph p) (by omega) (by unfold tmpX; omega) (by omega)]
    exact q3
  · exact gs.fr fun k hk => il _ (by omega) (by unfold tmpX; omega) (by omega)
  · cases ro with
    | none => show P2 200 5 = none; rw [p200]; exact hro
    | some c =>
      obtain ⟨r, q, q1, q2, q3⟩ := hro
      exact ⟨r, q, by rw [p200]; exact q1, q2, q3.fr fun a ha hs => ⟨((fa a (Or.inr hs)).2 (tk a ha)).2.1 (by omega), ((fa a (Or.inr hs)).2 (tk a ha)).1, (fa a (Or.inr hs)).1⟩⟩
  · rw [il 301 (by decide) (by unfold tmpX; omega) (by decide)]; exact htx k hk
  · rw [il 303 (by decide) (by unfold tmpX; omega) (by decide), il 304 (by decide) (by unfold tmpX; omega) (by decide), il 305 (by decide) (by unfold tmpX; omega) (by decide)]; exact hpr k hk
  · intro i hi
    rcases hkp i hi with ⟨a, b⟩ | ⟨h, m, ⟨a1, a2, a3⟩, ⟨q1, q2, q3⟩, c⟩
    · exact Or.inl ⟨by rw [pl _ (by decide) (by unfold tmpX; omega)]; exact a, b⟩
    · have sh : ∀ k, k ≤ 14 → S (h + k) ≠ none → I2 (h + k) = I (h + k) := fun k hk hs => ((fa _ (Or.inr hs)).2 (tk _ (by omega))).2.1 (by omega)
      refine Or.inr ⟨h, m, ⟨by rw [pl _ (by decide) (by unfold tmpX; omega)]; exact a1, a2, a3.eq (fun x h1 h2 hs => (fa x (Or.inr hs)).1) ((fa h (Or.inr (by rw [a3.1]; simp))).2 (tk h a2)).1⟩, ⟨q1, q2, by rw [il 307 (by decide) (by unfold tmpX; omega) (by decide)]; exact q3⟩, c.fr2 fun k hk => ?_⟩
      rcases hk with rfl | hk
      · exact sh 0 (by omega) (by rw [Nat.add_zero, a3.1]; simp)
      · exact sh k (by omega) (by
          obtain ⟨q, hq⟩ : ∃ q, sAr k = some q := by
            obtain rfl | rfl | rfl | rfl | rfl | rfl | rfl | rfl | rfl : k = 4 ∨ k = 5 ∨ k = 6 ∨ k = 7 ∨ k = 8 ∨ k = 9 ∨ k = 10 ∨ k = 11 ∨ k = 12 := by omega
            all_goals exact ⟨_, rfl⟩
          exact a3.h k hq)
  · rw [pl _ (by decide) (by unfold tmpX; omega)]; exact t1 a h1 h2
  · rw [pl _ (by decide) (by unfold tmpX; omega)]; exact t2 a h1 h2
  · exact ⟨(lo _ (by omega)).trans (t3 o h1 h2).1, (lo _ (by omega)).trans (t3 o h1 h2).2⟩
  · exact (lo _ (by omega)).trans (t4 p h1 h2)
end FX
end X12C
