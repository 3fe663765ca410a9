set_option maxRecDepth 100000
/-! THE COMPONENT, part 24: a state is kept -/
section X24C
variable {G : zG} {d C Sl : Nat} {I D W : zI} {R : List Int64} {L : zL} {P : zR} {S : zT} {Q : zQ} {no n np : Nat} {s : zS} {oh ph : Nat → Nat} {ro : Option (List Nat)}
theorem fX.blk {N : Nat} {I2 : zI} {L2 : zL} {P2 : zR} {S2 : zT} (hN : 7000 ≤ N) (h9 : ∀ a, N ≤ a → S a = none) (f : ∀ b, ¬ (N ≤ b ∧ b ≤ N + 14) → (I2 b = I b ∧ L2 b = L b) ∧ P2 b = P b ∧ S2 b = S b) : fX I L P S I2 L2 P2 S2 := by
  have ne : ∀ a, (a < 7000 ∨ S a ≠ none) → ¬ (N ≤ a ∧ a ≤ N + 14) := fun a ha h => by
    rcases ha with q | q
    · omega
    · exact q (h9 a h.1)
  refine ⟨fun a ha => ?_, ⟨fun k _ => by rw [(f 100 (by omega)).1.1], fun k _ => by rw [(f 220 (by omega)).2.1], (f 222 (by omega)).2.1, (f 270 (by omega)).2.1⟩, N + 15, by omega, fun a ha => by rw [(f a (by omega)).2.2]; exact h9 a (by omega)⟩
  obtain ⟨⟨g1, g2⟩, g3, g4⟩ := f a (ne a ha)
  exact ⟨g4, fun _ => ⟨g3, fun _ => g1, fun _ => g2⟩⟩
def kpD (D : zI) (i : Nat) : zI := cpyN (zw D 56 i (D 0 16)) 57 (127 * i) (D 23) 127
theorem kpD_n {i a : Nat} (h1 : a ≠ 56) (h2 : a ≠ 57) : kpD D i a = D a := by
  unfold kpD
  rw [cpyN_n h2, zw_n _ _ _ _ h1]
/-- a state at N is kept -/
theorem xR.kp {i N : Nat} (g : xR D R no n np ro oh ph I L P S) (hi : i < 3) (hN : 7000 ≤ N) (hT : stO S P N) (gs2 : sRw n I N (D 23)) (h60 : (D 23 2).toNatClampNeg ≤ 60) (hk60 : ∀ j, j < 3 → (D 57 (127 * j + 2)).toNatClampNeg ≤ 60) : xR (kpD D i) R no n np ro oh ph (zw I 307 i (nI n)) L (zw P 306 i (some N)) S := by
  obtain ⟨⟨⟨x0, a2⟩, ⟨b1, b2⟩, ⟨c1, c2⟩, ⟨d1, d2⟩, d3, d4, d5⟩, ⟨gs, hro⟩, ⟨⟨h29, h50⟩, hrw⟩, ⟨htx, hpr, hkp⟩, ⟨⟨t1, t2⟩, ⟨t3, t4⟩, N, t5, t6⟩, hoh, hph⟩ := g
  rename_i N0
  have n8 : n ≤ 8 := d1.2.1.2
  have hI : ∀ j, j ≠ 307 → zw I 307 i (nI n) j = I j := fun j h => zw_n _ _ _ _ h
  have hP : ∀ j, j ≠ 306 → zw P 306 i (some N0) j = P j := fun j h => zw_n _ _ _ _ h
  have Dn : ∀ j, j ≠ 56 → j ≠ 57 → kpD D i j = D j := fun j h1 h2 => kpD_n h1 h2
  have hW : wld (kpD D i) = wld D := by
    funext a k
    by_cases e6 : a = 56
    · subst e6; rfl
    · by_cases e7 : a = 57
      · subst e7; rfl
      · exact wld_at (by rw [Dn a e6 e7])
  have gx := x0.lo (S2 := S) (P2 := zw P 306 i (some N0)) (fun _ _ => rfl) (fun j hj => hP j (by omega))
  refine ⟨⟨⟨gx, ?_⟩, ⟨gx.2.2.2.2.1, ?_⟩, ⟨gx.2.2.2.2.2.2.1, ?_⟩, ?_, d3, d4, d5⟩, ⟨?_, ?_⟩, ⟨⟨?_, ?_⟩, ?_⟩, ⟨fun k hk => ?_, fun k hk => ?_, fun j hj => ?_⟩, ⟨⟨fun a h1 h2 => ?_, fun a h1 h2 => ?_⟩, ⟨t3, t4⟩, N, t5, t6⟩, hoh, hph⟩
  · rw [hI 100 (by decide)]; exact a2
  · rw [hW]
    obtain ⟨w1, w2, w3⟩ := b2
    refine ⟨by rw [hI 200 (by decide)]; exact w1, fun x y hx hy => by rw [hI _ (by omega)]; exact w2 x y hx hy, fun o ho => ?_⟩
    obtain ⟨q1, q2, q5⟩ := w3 o ho
    have := hoh o
    refine ⟨by rw [hP _ (by decide)]; exact q1, q2.o rfl rfl (hP _ (by omega)), ?_⟩
    unfold oRw
    rw [hI (oh o) (by omega), hI (oh o + 8) (by omega)]
    exact q5
  · rw [hW]
    intro p hp
    obtain ⟨q1, q2, q3⟩ := c2 p hp
    have := hph p
    exact ⟨by rw [hP _ (by decide)]; exact q1, q2, by rw [hI (ph p) (by omega)]; exact q3⟩
  · rw [hW]; exact ⟨d1, d2⟩
  · rw [Dn 23 (by decide) (by decide)]; exact gs.fr fun k hk => hI _ (by omega)
  · cases ro with
    | none => show zw P 306 i _ 200 5 = none; rw [hP 200 (by decide)]; exact hro
    | some c =>
      obtain ⟨r, f, q1, q2, q3⟩ := hro
      exact ⟨r, f, by rw [hP 200 (by decide)]; exact q1, q2, q3.fr fun a ha _ => ⟨hI a (by omega), hP a (by omega), rfl⟩⟩
  · rw [hI 100 (by decide), Dn 0 (by decide) (by decide)]; exact h29
  · rw [hI 100 (by decide)]; exact h50
  · exact ⟨by rw [hI 100 (by decide)]; exact hrw.1, hrw.2⟩
  · rw [Dn 0 (by decide) (by decide)] at hk
    rw [hI 301 (by decide), Dn 28 (by decide) (by decide)]; exact htx k hk
  · rw [hI 303 (by decide), hI 304 (by decide), hI 305 (by decide), Dn 51 (by decide) (by decide), Dn 52 (by decide) (by decide), Dn 53 (by decide) (by decide)]; exact hpr k hk
  · have e56 : kpD D i 56 = zu (D 56) i (D 0 16) := by unfold kpD; rw [cpyN_n (by decide), zw_a]
    rw [e56]
    by_cases ej : j = i
    · subst ej
      refine Or.inr ⟨N0, n, ⟨zw_s _ _ _ _, hN, hT.eq (fun _ _ _ _ => rfl) (hP N0 (by omega))⟩, ⟨by rw [zu_s]; exact d1.2.1.1, n8, zw_s _ _ _ _⟩, ?_⟩
      refine (gs2.fr fun k hk => hI _ (by omega)).eq n8 h60 fun k hk => ?_
      show kpD D j 57 (127 * j + k) = D 23 k
      unfold kpD
      rw [cpy_at 127 hk]
    · rw [zu_n _ _ _ ej, zw_a, zw_a, zu_n _ _ _ ej, zu_n _ _ _ ej]
      rcases hkp j hj with q | ⟨h, m, ⟨q1, q2, q3⟩, q4, q5⟩
      · exact Or.inl q
      · refine Or.inr ⟨h, m, ⟨q1, q2, q3.eq (fun _ _ _ _ => rfl) (hP h (by omega))⟩, q4, ?_⟩
        refine (q5.fr fun k hk => hI _ (by omega)).eq q4.2.1 (hk60 j hj) fun k hk => ?_
        show kpD D i 57 (127 * j + k) = D 57 (127 * j + k)
        unfold kpD
        rw [cpy_out 127 (by omega), zw_n _ _ _ _ (by decide)]
  · rw [hP 201 (by decide)]; exact t1 a h1 h2
  · rw [hP 110 (by decide)]; exact t2 a h1 h2
set_option maxHeartbeats 4000000 in
theorem o_xkeep (hX : xR D R no n np ro oh ph I L P S) (hsf : sf (wld D) no n (D 23)) (hk60 : ∀ j, j < 3 → (D 57 (127 * j + 2)).toNatClampNeg ≤ 60) {i : Int32} (k : ∀ I2 L2 P2 S2, xR (fKeep D R i).2.1 (fKeep D R i).2.2 no n np ro oh ph I2 L2 P2 S2 → frX I L P S I2 L2 P2 S2 → Q (.inl (some (.int (fKeep D R i).1))) I2 L2 P2 S2) : Zm G mX1_keep 2 (C + 11) (Sl + 146) [.ref 100, .int i] I L P S Q := by
  obtain ⟨e, ⟨g, hro⟩, ⟨⟨h29, h50⟩, hrw⟩, ⟨htx, hpr, hkp⟩, htl, hoh, hph⟩ := hX
  have hX : xR D R no n np ro oh ph I L P S := ⟨e, ⟨g, hro⟩, ⟨⟨h29, h50⟩, hrw⟩, ⟨htx, hpr, hkp⟩, htl, hoh, hph⟩
  have hx := e.x
  have hO := e.wd
  have hR := e.wr
  have hT := e.st
  have hPc := e.pc
  have hw := e.hw
  have hf := e.hx
  have hb := e.b
  have hn := e.nn
  have n8 := hw.n8
  have h6 := hw.o6
  have hn8 := hw.n8
  have hno : noD D = no := by rw [noD, show D 0 3 = nI no from hw.o3, nI_clamp (by omega)]
  have hnn : nD D = n := by rw [nD, show D 0 16 = nI n from hw.n16, nI_clamp (by omega)]
  obtain ⟨b6, hb6, eb6⟩ := hsf.bk
  have h60 : (D 23 2).toNatClampNeg ≤ 60 := by rw [eb6, nI_clamp (by omega)]; exact hb6
  obtain ⟨-, -, -, -, ⟨-, -, hN⟩, -⟩ := id hX
  obtain ⟨N, hN, hN9⟩ := hN
  have hM := hR.1
  refine Z_entry (lv := [_, _]) (Nat.le_of_ble_eq_true rfl) rfl ?_
  refine Z_iload_n dX1_keep_0 rfl ?_
  refine Z_iconst (nI 0) dX1_keep_1 rfl ?_
  refine Z_iconst (nI 2) dX1_keep_2 rfl ?_
  refine Z_callS0 (d' := 0) (zCal_S gX1_3 nX1_in (by decide) dX1_keep_3) pX1_in [_, _, _] rfl rfl (Nat.le_of_ble_eq_true rfl) (by omega) (c_X1_in (fun h3a h3b => ?_) (fun h3 => ?_))
  · have r3 : rB i 0 2 = true := rB_t h3a h3b
    obtain ⟨k3, hk3, e3⟩ := z_rng (n := 2) h3a h3b (by omega)
    subst e3
    have v3 : (nI k3).toNatClampNeg = k3 := nI_clamp (by omega)
    refine Z_ifne 11 dX1_keep_6 rfl (fun _ => ?_) (fun h => absurd h (by decide))
    refine Z_aload_n dX1_keep_11 rfl ?_
    refine Z_getR (r := 306) hx.1 fX1_87_0 dX1_keep_12 rfl (hx.2.2.1 15 _ rfl).2 ?_
    refine Z_iload_n dX1_keep_15 rfl ?_
    refine Zj.less (C := C + 10 + 1) (Sl := Sl + 130 + 16) ?_ (Nat.le_refl _) (by omega) (by omega)
    refine Z_new N (hN9 N (Nat.le_refl _)) wX1_8 dX1_keep_16 ?_
    refine Z_dup dX1_keep_19 rfl ?_
    refine Z_aload_n dX1_keep_20 rfl ?_
    refine Z_call (d' := 1) (C := C) (C' := 10) (Sl := Sl) (S' := 130) (zCal_IN q170 q85 q168 q169 rfl nX3_init (by decide) dX1_keep_21) pX3_init (by simp [zu]) zkl2 [_] rfl rfl (Nat.le_of_ble_eq_true rfl) (by omega) (by omega) (by omega) (c_X3_init (zu_s _ _ _) (fun b h1 h2 => (zu_n _ _ _ (by omega)).trans (hN9 b (by omega))) (fun I2 L2 P2 S2 hTN fN => ?_))
    have FN : (∀ b, ¬ (N ≤ b ∧ b ≤ N + 14) → (I2 b = I b ∧ L2 b = L b) ∧ P2 b = P b ∧ S2 b = S b) := fun b hb => by
      obtain ⟨⟨q1, q2⟩, q3, q4⟩ := fN b hb
      rw [zu_n _ _ _ (by omega)] at q1 q2 q3 q4
      exact ⟨⟨q1, q2⟩, q3, q4⟩
    have hx := hx.lo (S2 := S2) (P2 := P2) (fun j hj => (FN j (by omega)).2.2) (fun j hj => (FN j (by omega)).2.1)
    have hS0 : S2 = S2 := rfl
    refine Z_aload_n dX1_keep_24 rfl ?_
    refine Z_getR (r := 240) hx.1 fX1_62_0 dX1_keep_25 rfl hx.2.2.2.1.2.2.1 ?_
    refine Z_call0 (d' := 1) (zCal_V gX1_272 nX3_as (by decide) dX1_keep_28) pX3_as hTN.1 zkl2 [_] rfl rfl (Nat.le_of_ble_eq_true rfl) (by omega) (c_X3_as hTN hx.2.2.2.2.2.2.1 (g.fr fun k hk => (FN _ (by omega)).1.1) (fun p hp => (hsf.wt hp).imp id And.left) h60 hn8 (by omega) (fun I3 gN f3N => ?_))
    have FX := fX.blk hN hN9 (I2 := I3) (L2 := L2) (P2 := P2) (S2 := S2) (fun b hb => ⟨⟨(f3N b hb).trans (FN b hb).1.1, (FN b hb).1.2⟩, (FN b hb).2⟩)
    have hX3 := hX.go FX (hrw.fX (I2 := I3) (L2 := L2) (by rw [f3N 100 (by omega), (FN 100 (by omega)).1.1]) (FN 302 (by omega)).1.2)
    refine Z_aast (hx.2.2.1 15 _ rfl).1 (by simp [zTys]) hTN.1 zkl2 (zix_nI (by first | omega | (dsimp only; omega)) (by decide)) dX1_keep_31 ?_
    have hx := hx.lo (S2 := S2) (P2 := zw P2 306 k3 (some N)) (fun j hj => rfl) (fun j hj => zw_n _ _ _ _ (by omega))
    refine Z_aload_n dX1_keep_32 rfl ?_
    refine Z_getR (r := 307) hx.1 fX1_91_0 dX1_keep_33 rfl (hx.2.2.1 16 _ rfl).2 ?_
    refine Z_iload_n dX1_keep_36 rfl ?_
    refine Z_aload_n dX1_keep_37 rfl ?_
    refine Z_getI hx.1 fX1_105_0 dX1_keep_38 rfl ?_
    refine Z_re (y := nI (n)) hX3.1.nn ?_
    refine Z_iast (hx.2.2.1 16 _ rfl).1 (zix_nI (by first | omega | (dsimp only; omega)) (by decide)) dX1_keep_41 ?_
    refine Z_iconst (nI 1) dX1_keep_42 rfl ?_
    refine Z_ireturn dX1_keep_43 rfl rfl ?_
    exact xO_k (D2 := kpD D k3) (R2 := R) (by simp [fKeep, kpD, r3, v3]) k (hX3.kp (by omega) hN hTN gN h60 hk60) ((FX.frX.st (by omega)).sp (by omega))
  · have r3 : rB i 0 2 = false := rB_f h3
    refine Z_ifne 11 dX1_keep_6 rfl (fun h => absurd h (by decide)) (fun _ => ?_)
    refine Z_iconst (nI 0) dX1_keep_9 rfl ?_
    refine Z_ireturn dX1_keep_10 rfl rfl ?_
    exact xO_k (D2 := D) (R2 := R) (by simp [fKeep, r3]) k hX frX.rf
end X24C
