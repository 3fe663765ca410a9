set_option maxRecDepth 100000
/-! THE LAW, part 3: what each side leaves of the other; the law's small methods -/
section LAWF
variable {G : zG} {d C Sl : Nat} {I D W : zI} {R : List Int64} {L : zL} {P : zR} {S : zT} {Q : zQ} {no n np : Nat} {s : zS} {oh ph : Nat → Nat} {ro : Option (List Nat)}
/-- where the object's things lie -/
def xDm (a : Nat) : Prop := 100 ≤ a ∧ ¬ (5000 ≤ a ∧ a < 6000)
theorem xR.mf {I2 : zI} {L2 : zL} {P2 : zR} (g : xR D R no n np ro oh ph I L P S) (fI : ∀ a, xDm a → I2 a = I a ∧ L2 a = L a) (fP : ∀ a, xDm a → P2 a = P a) : xR D R no n np ro oh ph I2 L2 P2 S := by
  obtain ⟨⟨⟨a1, a2⟩, ⟨b1, b2⟩, ⟨c1, c2⟩, ⟨d1, d2⟩, d3, d4, d5⟩, ⟨gs, hro⟩, ⟨⟨h29, h50⟩, hrw⟩, ⟨htx, hpr, hkp⟩, ⟨⟨t1, t2⟩, t3, t4⟩, hoh, hph⟩ := g
  have nI2 : ∀ a, 100 ≤ a → a < 5000 → I2 a = I a := fun a h1 h2 => (fI a ⟨h1, by omega⟩).1
  have nP2 : ∀ a, 100 ≤ a → a < 5000 → P2 a = P a := fun a h1 h2 => fP a ⟨h1, by omega⟩
  have hI2 : ∀ a, 6000 ≤ a → I2 a = I a := fun a h1 => (fI a ⟨by omega, by omega⟩).1
  have hP2 : ∀ a, 6000 ≤ a → P2 a = P a := fun a h1 => fP a ⟨by omega, by omega⟩
  have i100 := nI2 100 (by decide) (by decide)
  have p100 := nP2 100 (by decide) (by decide)
  have st : ∀ h, (100 ≤ h ∧ h < 5000 ∨ 6000 ≤ h) → stO S P h → stO S P2 h := fun h hh q => q.eq (fun _ _ _ _ => rfl) (by rcases hh with q | q; exact nP2 h q.1 q.2; exact hP2 h q)
  have wd : ∀ h, 100 ≤ h → h + 8 < 5000 → wdO S P h → wdO S P2 h := fun h h1 h2 q => q.eq (fun _ _ _ => rfl) (by rw [nP2 h h1 (by omega)]) (by rw [nP2 h h1 (by omega)]) (nP2 (h + 2) (by omega) (by omega))
  refine ⟨⟨⟨?_, by rw [i100]; exact a2⟩, ⟨wd 200 (by decide) (by decide) b1, ?_⟩, ⟨st 240 (Or.inl ⟨by decide, by decide⟩) c1, fun x hx => ?_⟩, ⟨d1, d2⟩, d3, d4, d5⟩, ⟨gs.fr (fun k hk2 => nI2 _ (by omega) (by omega)), ?_⟩, ⟨⟨by rw [i100]; exact h29, by rw [i100]; exact h50⟩, ?_⟩, ⟨fun k hk2 => ?_, fun k hk2 => ?_, fun i hi => ?_⟩, ⟨⟨fun a h1 h2 => by rw [nP2 201 (by decide) (by decide)]; exact t1 a h1 h2, fun a h1 h2 => by rw [nP2 110 (by decide) (by decide)]; exact t2 a h1 h2⟩, t3, t4⟩, hoh, hph⟩
  · obtain ⟨x1, x2, x3, x4, x5, x6, x7, x8⟩ := a1
    exact ⟨x1, x2, fun k q hq => ⟨(x3 k q hq).1, by rw [p100]; exact (x3 k q hq).2⟩, by rw [p100]; exact x4, wd 200 (by decide) (by decide) x5, wd 220 (by decide) (by decide) x6, st 240 (Or.inl ⟨by decide, by decide⟩) x7, st 270 (Or.inl ⟨by decide, by decide⟩) x8⟩
  · obtain ⟨x1, x2, x3⟩ := b2
    refine ⟨by rw [nI2 200 (by decide) (by decide)]; exact x1, fun a b ha hb => by rw [nI2 _ (by omega) (by omega)]; exact x2 a b ha hb, fun o ho => ?_⟩
    obtain ⟨y1, ⟨y2, y3, y4⟩, y5⟩ := x3 o ho
    have ho6 : 6000 ≤ oh o := d4 o ho
    refine ⟨by rw [nP2 (200 + 1) (by decide) (by decide)]; exact y1, ⟨y2, y3, by rw [hP2 _ ho6]; exact y4⟩, ?_⟩
    unfold oRw at y5 ⊢
    rw [hI2 _ ho6, hI2 _ (show 6000 ≤ oh o + 8 by omega)]
    exact y5
  · obtain ⟨y1, y2, y3⟩ := c2 x hx
    exact ⟨by rw [nP2 110 (by decide) (by decide)]; exact y1, y2, by rw [hI2 _ (d5 x hx)]; exact y3⟩
  · cases ro with
    | none => show P2 200 5 = none; rw [nP2 200 (by decide) (by decide)]; exact hro
    | some e =>
      obtain ⟨r, f, e1, e2, e3⟩ := hro
      exact ⟨r, f, by rw [nP2 200 (by decide) (by decide)]; exact e1, e2, nR.fr (fun a ha _ => ⟨hI2 a (by omega), hP2 a (by omega), rfl⟩) e3⟩
  · obtain ⟨y1, y2⟩ := hrw
    exact ⟨by rw [i100]; exact y1, fun i hi => by rw [(fI 302 ⟨by decide, by omega⟩).2]; exact y2 i hi⟩
  · rw [nI2 301 (by decide) (by decide)]; exact htx k hk2
  · rw [nI2 303 (by decide) (by decide), nI2 304 (by decide) (by decide), nI2 305 (by decide) (by decide)]; exact hpr k hk2
  · rw [nP2 306 (by decide) (by decide), nI2 307 (by decide) (by decide)]
    rcases hkp i hi with q | ⟨h, m, ⟨q1, q2, q3⟩, q4, q5⟩
    · exact Or.inl q
    · exact Or.inr ⟨h, m, ⟨q1, q2, st h (Or.inr (by omega)) q3⟩, q4, q5.fr (fun k hk2 => hI2 _ (by omega))⟩
theorem mR.x {I2 : zI} {L2 : zL} {P2 : zR} {S2 : zT} (h : mR D R I L P S) (f : frX I L P S I2 L2 P2 S2) : mR D R I2 L2 P2 S2 := by
  obtain ⟨⟨h1, h2, h3⟩, ⟨h4, h5⟩, h6, ⟨h7, h8⟩⟩ := h
  obtain ⟨⟨i0, l0⟩, p0, s0⟩ := f 0 (Or.inl (by decide))
  have ar : ∀ k q, mAr k = some q → k < 100 := fun k q e => by
    unfold mAr at e
    split at e <;> first | omega | cases e
  refine ⟨⟨s0.trans h1, fun k q e => (f k (Or.inl (ar k q e))).2.2.trans (h2 k q e), fun k q e e2 => by rw [p0]; exact h3 k q e e2⟩, ⟨by rw [p0]; exact h4, by rw [p0]; exact h5⟩, ?_, ⟨by rw [i0]; exact h7, fun k hk2 => by rw [(f 2 (Or.inl (by decide))).1.2]; exact h8 k hk2⟩⟩
  rw [← h6]
  funext a k
  unfold mdat
  split
  · next q =>
    have ha : a < 100 := by
      unfold dAt at q
      rcases (Bool.or_eq_true _ _).mp q with q | q
      · unfold wAt at q
        split at q <;> first | omega | cases q
      · split at q <;> first | omega | cases q
    rw [(f a (Or.inl ha)).1.1]
  · rfl
theorem zTx.fr {I2 : zI} {L2 : zL} {P2 : zR} {S2 : zT} (h : zTx S) (f : frX I L P S I2 L2 P2 S2) : zTx S2 := fun a ha => (f a (Or.inr (by omega))).2.2.trans (h a ha)
theorem frX.o {I2 : zI} {L2 : zL} {P2 : zR} {S2 : zT} (h : S 5500 = some (.inr (.long, 1))) (f : frX I L P S I2 L2 P2 S2) : S2 5500 = some (.inr (.long, 1)) := (f 5500 (Or.inr (by decide))).2.2.trans h
theorem xR.mm {I2 : zI} {L2 : zL} {P2 : zR} (g : xR D R no n np ro oh ph I L P S) (f : frM I L I2 L2) (hp : frP P P2) : xR D R no n np ro oh ph I2 L2 P2 S := g.mf (fun a ha => f a ha.1) (fun a ha => hp a (by have := ha.1; omega))
theorem xR.out {v : Int64} (g : xR D R no n np ro oh ph I L P S) : xR D R no n np ro oh ph I (zw L 5500 0 v) P S := g.mf (fun a ha => ⟨rfl, zw_n _ _ _ _ (by have := ha.2; omega)⟩) (fun _ _ => rfl)
theorem mR_o55 {v : Int64} (g : mR D R I L P S) : mR D R I (zw L 5500 0 v) P S := ⟨g.1, g.2.1, g.2.2.1, g.2.2.2.1, fun k hk2 => by rw [zw_n _ _ _ _ (by decide)]; exact g.2.2.2.2 k hk2⟩
set_option maxHeartbeats 4000000 in
theorem c_X0_value (hX : xR D R no n np ro oh ph I L P S) (hsf : sf (wld D) no n (D 23)) {B : Nat} (hkB : hk (D 23) n B) (hB : B < 2 ^ 28) (h37 : ro ≠ none → wld D 0 37 = 0) (hS5 : S 5500 = some (.inr (.long, 1))) {y x : Int32} (k1 : ∀ v, fVal D ro y x = some v → ∀ I2 P2, xR D R no n np ro oh ph I2 L P2 S → frX I L P S I2 L P2 S → Q (.inl (some (.int (nI 0)))) I2 (zw L 5500 0 v.toInt64) P2 S) (k2 : fVal D ro y x = none → Q (.inl (some (.int (nI 1)))) I L P S) : Zm G mX0_value 101 (C + 1) (Sl + 6) [.ref 100, .int y, .int x, .ref 5500] I L P S Q := by
  refine Z_entry (lv := [_, _, _, _, _]) (Nat.le_of_ble_eq_true rfl) rfl ?_
  refine Z_aload_n dX0_value_0 rfl ?_
  refine Z_iconst (nI 0) dX0_value_1 rfl ?_
  refine Z_aload_n dX0_value_2 rfl ?_
  refine Z_iload_n dX0_value_3 rfl ?_
  refine Z_iload_n dX0_value_4 rfl ?_
  refine Z_call (d' := 100) (C := C) (C' := (0 + 1)) (Sl := Sl) (S' := (0 + 6)) (zCal_V gX0_7 nX1_value (by decide) dX0_value_5) pX1_value hX.1.x.1 zkl0 [_, _] rfl rfl (Nat.le_of_ble_eq_true rfl) (by omega) (by omega) (by omega) (o_xvalue hX hsf hkB hB h37 (fun v9 hv9 I2 P2 hX2 hf2 => ?_) (fun hn9 => ?_))
  · refine Z_i2l dX0_value_8 ?_
    refine Z_last hS5 (zix_nI (by decide) (by decide)) dX0_value_9 ?_
    refine Z_goto 17 dX0_value_10 rfl ?_
    refine Z_iconst (nI 0) dX0_value_17 rfl ?_
    refine Z_ireturn dX0_value_18 rfl rfl ?_
    exact k1 v9 hv9 _ _ hX2 hf2
  · refine Zx_catchN (x := ⟨0, 10, 13, 13⟩) (i := 4) rfl (by decide) (by decide) q1191 rfl q1198 dX0_value_13 (Nat.le_of_ble_eq_true rfl) rfl ?_
    refine Z_iconst (nI 1) dX0_value_15 rfl ?_
    refine Z_ireturn dX0_value_16 rfl rfl ?_
    exact k2 hn9
set_option maxHeartbeats 4000000 in
theorem c_X0_of (hX : xR D R no n np ro oh ph I L P S) (hsf : sf (wld D) no n (D 23)) (hS5 : S 5500 = some (.inr (.long, 1))) {y x : Int32} (k1 : ∀ v, fOf D y x = some v → Q (.inl (some (.int (nI 0)))) I (zw L 5500 0 v.toInt64) P S) (k2 : fOf D y x = none → Q (.inl (some (.int (nI 1)))) I L P S) : Zm G mX0_of 7 (C + 1) (Sl + 6) [.ref 100, .int y, .int x, .ref 5500] I L P S Q := by
  refine Z_entry (lv := [_, _, _, _, _]) (Nat.le_of_ble_eq_true rfl) rfl ?_
  refine Z_aload_n dX0_of_0 rfl ?_
  refine Z_iconst (nI 0) dX0_of_1 rfl ?_
  refine Z_aload_n dX0_of_2 rfl ?_
  refine Z_iload_n dX0_of_3 rfl ?_
  refine Z_iload_n dX0_of_4 rfl ?_
  refine Z_call (d' := 6) (C := C) (C' := (0 + 1)) (Sl := Sl) (S' := (0 + 6)) (zCal_V gX0_15 nX1_of (by decide) dX0_of_5) pX1_of hX.1.x.1 zkl0 [_, _] rfl rfl (Nat.le_of_ble_eq_true rfl) (by omega) (by omega) (by omega) (o_xof hX hsf (fun v9 hv9 => ?_) (fun hn9 => ?_))
  · refine Z_i2l dX0_of_8 ?_
    refine Z_last hS5 (zix_nI (by decide) (by decide)) dX0_of_9 ?_
    refine Z_goto 17 dX0_of_10 rfl ?_
    refine Z_iconst (nI 0) dX0_of_17 rfl ?_
    refine Z_ireturn dX0_of_18 rfl rfl ?_
    exact k1 v9 hv9
  · refine Zx_catchN (x := ⟨0, 10, 13, 13⟩) (i := 4) rfl (by decide) (by decide) q1191 rfl q1198 dX0_of_13 (Nat.le_of_ble_eq_true rfl) rfl ?_
    refine Z_iconst (nI 1) dX0_of_15 rfl ?_
    refine Z_ireturn dX0_of_16 rfl rfl ?_
    exact k2 hn9
set_option maxHeartbeats 4000000 in
theorem c_X0_row (hX : xR D R no n np ro oh ph I L P S) (hS5 : S 5500 = some (.inr (.long, 1))) {y x : Int32} (k1 : ∀ v, fRow R y = some v → Q (.inl (some (.int (nI 0)))) I (zw L 5500 0 v) P S) (k2 : fRow R y = none → Q (.inl (some (.int (nI 1)))) I L P S) : Zm G mX0_row 7 (C + 1) (Sl + 6) [.ref 100, .int y, .ref 5500] I L P S Q := by
  refine Z_entry (lv := [_, _, _, _]) (Nat.le_of_ble_eq_true rfl) rfl ?_
  refine Z_aload_n dX0_row_0 rfl ?_
  refine Z_iconst (nI 0) dX0_row_1 rfl ?_
  refine Z_aload_n dX0_row_2 rfl ?_
  refine Z_iload_n dX0_row_3 rfl ?_
  refine Z_call (d' := 6) (C := C) (C' := (0 + 1)) (Sl := Sl) (S' := (0 + 6)) (zCal_V gX0_18 nX1_row (by decide) dX0_row_4) pX1_row hX.1.x.1 zkl0 [_] rfl rfl (Nat.le_of_ble_eq_true rfl) (by omega) (by omega) (by omega) (o_xrow hX (fun v9 hv9 => ?_) (fun hn9 => ?_))
  · refine Z_last hS5 (zix_nI (by decide) (by decide)) dX0_row_7 ?_
    refine Z_goto 14 dX0_row_8 rfl ?_
    refine Z_iconst (nI 0) dX0_row_14 rfl ?_
    refine Z_ireturn dX0_row_15 rfl rfl ?_
    exact k1 v9 hv9
  · refine Zx_catchN1 (x := ⟨0, 8, 11, 13⟩) (j := 3) rfl (by decide) (by decide) q1191 rfl q1198 dX0_row_11 (Nat.le_of_ble_eq_true rfl) rfl ?_
    refine Z_iconst (nI 1) dX0_row_12 rfl ?_
    refine Z_ireturn dX0_row_13 rfl rfl ?_
    exact k2 hn9
end LAWF
