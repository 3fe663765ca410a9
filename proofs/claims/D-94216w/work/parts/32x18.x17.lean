set_option maxRecDepth 100000
/-! THE COMPONENT, part 17: how it ends with another office -/
section X17C
variable {G : zG} {d C Sl : Nat} {I D W : zI} {R : List Int64} {L : zL} {P : zR} {S : zT} {Q : zQ} {no n np : Nat} {s : zS} {oh ph : Nat → Nat} {ro : Option (List Nat)}
section FX2
variable {I2 I3 : zI} {L2 L3 : zL} {P2 P3 : zR} {S2 S3 : zT}
theorem fX.o {a : Nat} (f : fX I L P S I2 L2 P2 S2) (g : frO a I2 L2 P2 S2 I3 L3 P3 S3) (ha : 7000 ≤ a) (h1 : S2 a = none) (h8 : S2 (a + 8) = none) : fX I L P S I3 L3 P3 S3 := by
  obtain ⟨q, ⟨b1, b2, b3, b4⟩, N, n1, n2⟩ := f
  have ne : ∀ b, (b < 7000 ∨ S b ≠ none) → b ≠ a ∧ b ≠ a + 8 := fun b hb => by
    refine ⟨fun e => ?_, fun e => ?_⟩ <;> subst e <;> rcases hb with h | h
    · omega
    · exact h (by rw [← (q b (Or.inr h)).1]; exact h1)
    · omega
    · exact h (by rw [← (q (a + 8) (Or.inr h)).1]; exact h8)
  have lo : ∀ b, b < 7000 → (I3 b = I2 b ∧ L3 b = L2 b) ∧ P3 b = P2 b ∧ S3 b = S2 b := fun b hb => g b (by omega) (by omega)
  refine ⟨fun b hb => ?_, ⟨fun k hk => by rw [(lo 100 (by decide)).1.1]; exact b1 k hk, fun k hk => by rw [(lo 220 (by decide)).2.1]; exact b2 k hk, by rw [(lo 222 (by decide)).2.1]; exact b3, by rw [(lo 270 (by decide)).2.1]; exact b4⟩, max N (a + 9), by omega, fun b hb => by rw [(g b (by omega) (by omega)).2.2]; exact n2 b (by omega)⟩
  obtain ⟨⟨g1, g2⟩, g3, g4⟩ := g b (ne b hb).1 (ne b hb).2
  rw [g1, g2, g3, g4]
  exact q b hb
theorem fX.w (f : fX I L P S I2 L2 P2 S2) (hi : fW 220 I2 I3) (hp : fW 220 P2 P3) (h5 : ∀ j, j ≠ 5 → P3 220 j = P2 220 j) (h2 : P3 222 = P2 222) : fX I L P S I3 L2 P3 S2 :=
  (f.i (fun a ht _ _ => hi a (fun e => ht (Or.inr (Or.inl e)))) (fun k _ => by rw [hi 100 (by omega)])).p (fun a ht _ => hp a (fun e => ht (Or.inr (Or.inl e)))) h5 h2 (hp _ (by omega))
end FX2
theorem xO.p {P2 : zR} (g : xO S P) (h : ∀ b, ¬ (220 ≤ b ∧ b ≤ 228) → P2 b = P b) (hw : wdO S P2 220) : xO S P2 := by
  obtain ⟨g1, g2, g3, g4, g5, g6, g7, g8⟩ := g
  have p100 := h 100 (by omega)
  exact ⟨g1, g2, fun k q hq => ⟨(g3 k q hq).1, by rw [p100]; exact (g3 k q hq).2⟩, by rw [p100]; exact g4, g5.w (by rw [h 200 (by omega)]) (by rw [h 200 (by omega)]) (h _ (by omega)), hw, g7.eq (fun _ _ _ _ => rfl) (h _ (by omega)), g8.eq (fun _ _ _ _ => rfl) (h _ (by omega))⟩
/-- another world, at 220, with one other office -/
theorem hE.sub {I2 W2 : zI} {P2 : zR} {a k : Nat} (e : hE W no n oh ph 200 240 I P S) (q1 : wdO S P2 220) (q2 : wRw S P2 I2 220 W no oh) (fI : fW 220 I I2) (fP : fW 220 P P2) (hA : oOk S P a) (ha : 7000 ≤ a) (hr : oRw I a W2 k)
    (hs : ∀ x j, x ≠ 10 → x ≠ 11 → x ≠ 12 → W2 x j = W x j) (h10 : ∀ o, o ≠ k → W2 10 o = W 10 o ∧ W2 11 o = W 11 o) (h12 : ∀ o dd, o ≠ k → dd < 100 → W2 12 (100 * o + dd) = W 12 (100 * o + dd)) : hE W2 no n (zu oh k a) ph 220 240 I2 (zw P2 (220 + 1) k (some a)) S := by
  have hb := e.b
  have h16 : ∀ x p, 17 ≤ x → x ≤ 22 → W2 x p = W x p := fun x p h1 h2 => hs x p (by omega) (by omega) (by omega)
  have np : ∀ b, ¬ (220 ≤ b ∧ b ≤ 228) → zw P2 (220 + 1) k (some a) b = P b := fun b hb => (zw_n _ _ _ _ (by omega)).trans (fP b (by omega))
  have qw : wdO S (zw P2 (220 + 1) k (some a)) 220 := q1.w (by rw [zw_n _ _ _ _ (by omega)]) (by rw [zw_n _ _ _ _ (by omega)]) (zw_n _ _ _ _ (by omega))
  refine ⟨⟨e.x.p np qw, by rw [fI 100 (by omega)]; exact e.nn⟩, ⟨qw, ?_⟩, ⟨e.st.eq (fun _ _ _ _ => rfl) (np _ (by omega)), ?_⟩, ⟨wf_pt e.hw (hs _ _ (by decide) (by decide) (by decide)) (hs _ _ (by decide) (by decide) (by decide)) (fun p => h16 20 p (by decide) (by decide)) (fun p => h16 21 p (by decide) (by decide)), xf_pt e.hx h16⟩, ⟨by omega, by omega, by omega, by omega⟩, fun o ho => ?_, e.hp⟩
  · obtain ⟨⟨w1, w2, w3⟩, w4, w5⟩ := q2
    refine ⟨⟨w1, by rw [hs _ _ (by decide) (by decide) (by decide)]; exact w2, by rw [hs _ _ (by decide) (by decide) (by decide)]; exact w3⟩, fun x y hx hy => by rw [hs _ _ (by decide) (by decide) (by decide)]; exact w4 x y hx hy, fun o ho => ?_⟩
    obtain ⟨x1, x2, x3⟩ := w5 o ho
    have h6o := e.ho o ho
    by_cases eo : o = k
    · subst eo
      refine ⟨by rw [zw_s, zu_s], ?_, ?_⟩
      · rw [zu_s]; exact hA.o rfl rfl ((zw_n _ _ _ _ (by omega)).trans (fP a (by omega)))
      · rw [zu_s]
        unfold oRw at hr ⊢
        rw [fI a (by omega), fI (a + 8) (by omega)]
        exact hr
    · refine ⟨by rw [zw_a, zu_n _ _ _ eo, zu_n _ _ _ eo]; exact x1, by rw [zu_n _ _ _ eo]; exact x2.o rfl rfl (zw_n _ _ _ _ (by omega)), ?_⟩
      rw [zu_n _ _ _ eo]
      unfold oRw at x3 ⊢
      rw [hs 4 o (by decide) (by decide) (by decide), hs 5 o (by decide) (by decide) (by decide), hs 6 o (by decide) (by decide) (by decide), hs 7 o (by decide) (by decide) (by decide), hs 8 o (by decide) (by decide) (by decide), hs 9 o (by decide) (by decide) (by decide), (h10 o eo).1, (h10 o eo).2]
      exact ⟨x3.1, x3.2.1, fun dd hd => by rw [h12 o dd eo hd]; exact x3.2.2 dd hd⟩
  · intro p hp
    obtain ⟨x1, x2, x3⟩ := e.pc.wq (W2 := W2) h16 (hs _ _ (by decide) (by decide) (by decide)) p hp
    have h6p := e.hp p hp
    exact ⟨by rw [np 110 (by omega)]; exact x1, x2, by rw [fI (ph p) (by omega)]; exact x3⟩
  · by_cases eo : o = k
    · subst eo; rw [zu_s]; omega
    · rw [zu_n _ _ _ eo]; exact e.ho o ho
theorem ruX.w {I2 : zI} {P2 : zR} {w : Nat} (h : ruX I P S 200 ro) (h5 : P2 w 5 = P 200 5) (hI : ∀ a, 7000 ≤ a → I2 a = I a) (hP : ∀ a, 7000 ≤ a → P2 a = P a) : ruX I2 P2 S w ro := by
  cases ro with
  | none => exact h5.trans h
  | some c =>
    obtain ⟨r, f, q1, q2, q3⟩ := h
    exact ⟨r, f, h5.trans q1, q2, q3.fr fun a ha _ => ⟨hI a ha, hP a ha, rfl⟩⟩
set_option maxHeartbeats 4000000 in
theorem c_X1_endWith (hX : xR D R no n np ro oh ph I L P S) (hsf : sf (wld D) no n (D 23)) {B : Nat} (hkB : hk (D 23) n B) (hB : B < 2 ^ 28) (h37 : ro ≠ none → wld D 0 37 = 0) {a kk : Nat} (hk : kk < no) (hA : oOk S P a) (ha7 : 7000 ≤ a) {W2 : zI} (hrA : oRw I a W2 kk) (hs2 : ∀ x j, x ≠ 10 → x ≠ 11 → x ≠ 12 → W2 x j = wld D x j) (h10 : ∀ o, o ≠ kk → W2 10 o = wld D 10 o ∧ W2 11 o = wld D 11 o) (h12 : ∀ o dd, o ≠ kk → dd < 100 → W2 12 (100 * o + dd) = wld D 12 (100 * o + dd)) (kt : ∀ s2 t I2 P2, pEnd W2 ro no n (D 23) = some s2 → s2 0 = nI t → t ≤ 2399 → fX I L P S I2 L P2 S → I2 100 = I 100 → Q (.inl (some (.int (nI t)))) I2 L P2 S) (kn : pEnd W2 ro no n (D 23) = none → ∀ I2 P2, fX I L P S I2 L P2 S → I2 100 = I 100 → Q (.inl (some (.int (-2)))) I2 L P2 S) : Zm G mX1_endWith 104 C Sl [.ref 100, .int (nI kk), .ref a] I L P S Q := by
  obtain ⟨e, ⟨g, hro⟩, ⟨⟨h29, h50⟩, hrw⟩, ⟨htx, hpr, hkp⟩, htl, hoh, hph⟩ := hX
  have hX : xR D R no n np ro oh ph I L P S := ⟨e, ⟨g, hro⟩, ⟨⟨h29, h50⟩, hrw⟩, ⟨htx, hpr, hkp⟩, htl, hoh, hph⟩
  have hx := e.x
  have hO := e.wd
  have hR := e.wr
  have hT := e.st
  have hPc := e.pc
  have hw := e.hw
  have hf := e.hx
  have hb := e.b
  have hn := e.nn
  have n8 := hw.n8
  have h6 := hw.o6
  have hn8 := hw.n8
  have hno : noD D = no := by rw [noD, show D 0 3 = nI no from hw.o3, nI_clamp (by omega)]
  have hnn : nD D = n := by rw [nD, show D 0 16 = nI n from hw.n16, nI_clamp (by omega)]
  obtain ⟨b6, hb6, eb6⟩ := hsf.bk
  have h60 : (D 23 2).toNatClampNeg ≤ 60 := by rw [eb6, nI_clamp (by omega)]; exact hb6
  obtain ⟨-, -, -, -, ⟨-, -, hN⟩, -⟩ := id hX
  have hsf2 : sf W2 no n (D 23) := sf_eq hsf (funext fun j => hs2 0 j (by decide) (by decide) (by decide)) (funext fun j => hs2 21 j (by decide) (by decide) (by decide))
  have h372 : ro ≠ none → W2 0 37 = 0 := fun q => (hs2 0 37 (by decide) (by decide) (by decide)).trans (h37 q)
  refine Z_entry (lv := [_, _, _, _]) (Nat.le_of_ble_eq_true rfl) rfl ?_
  refine Z_aload_n dX1_endWith_0 rfl ?_
  refine Z_getR (r := 220) hx.1 fX1_56_0 dX1_endWith_1 rfl hx.2.2.2.1.2.1 ?_
  refine Z_aload_n dX1_endWith_4 rfl ?_
  refine Z_getR (r := 200) hx.1 fX1_52_0 dX1_endWith_5 rfl hx.2.2.2.1.1 ?_
  refine Z_call0 (d' := 1) (zCal_V gX1_346 nX2_as (by decide) dX1_endWith_8) pX2_as hx.2.2.2.2.2.1.1 zkl1 [_] rfl rfl (Nat.le_of_ble_eq_true rfl) (by omega) (c_X2_asB hO hx.2.2.2.2.2.1 hR htl.1.1 h6 e.ho (by decide) (by decide) (fun I2 P2 q1 q2 q3 q4 q5 q6 q7 q8 => ?_))
  refine Z_astore_n (lv' := [_, _, _, _]) dX1_endWith_11 rfl rfl (Nat.le_of_ble_eq_true rfl) ?_
  refine Z_aload_n dX1_endWith_12 rfl ?_
  refine Z_getR (r := (220 + 1)) hx.2.2.2.2.2.1.1 fX1_127_1 dX1_endWith_13 rfl q1.2.1.2 ?_
  refine Z_iload_n dX1_endWith_16 rfl ?_
  refine Z_aload_n dX1_endWith_17 rfl ?_
  refine Z_aast q1.2.1.1 (by simp [zTys]) hA.1 zkl5 (zix_nI (by first | omega | (dsimp only; omega)) (by decide)) dX1_endWith_18 ?_
  have e3 := e.sub q1 q2 q5 q6 hA ha7 hrA hs2 h10 h12
  have hro3 : ruX I2 (zw P2 (220 + 1) kk (some a)) S 220 ro := hro.w (by rw [zw_n _ _ _ _ (by omega)]; exact q4) (fun b hb => q5 b (by omega)) (fun b hb => (zw_n _ _ _ _ (by omega)).trans (q6 b (by omega)))
  have F3 : fX I L P S I2 L (zw P2 (220 + 1) kk (some a)) S := (fX.rf hN).w q5 (q6.st (by omega)) (fun j hj => by rw [zw_n _ _ _ _ (by omega)]; exact q7 j hj) ((zw_n _ _ _ _ (by omega)).trans q8)
  have hx := e3.x
  have hT := e3.st
  refine Z_aload_n dX1_endWith_19 rfl ?_
  refine Z_getR (r := 270) hx.1 fX1_66_0 dX1_endWith_20 rfl hx.2.2.2.1.2.2.2.1 ?_
  refine Z_aload_n dX1_endWith_23 rfl ?_
  refine Z_getR (r := 240) hx.1 fX1_62_0 dX1_endWith_24 rfl hx.2.2.2.1.2.2.1 ?_
  refine Z_call0 (d' := 1) (zCal_V gX1_272 nX3_as (by decide) dX1_endWith_27) pX3_as hx.2.2.2.2.2.2.2.1 zkl2 [_] rfl rfl (Nat.le_of_ble_eq_true rfl) (by omega) (c_X3_as hx.2.2.2.2.2.2.2 hT (g.fr (fun k hk => q5 _ (by omega))) (fun p hp => (hsf.wt hp).imp id And.left) h60 hn8 (by omega) (fun I4 gA fI => ?_))
  have e4 := e3.s270.fr (fH.of fI) (f3.rf (f := zw P2 (220 + 1) kk (some a)))
  refine Z_aload_n dX1_endWith_30 rfl ?_
  refine Z_call0 (d' := 103) (zCal_V gX1_268 nX3_end (by decide) dX1_endWith_31) pX3_end hx.2.2.2.2.2.2.2.1 zkl2 [_] rfl rfl (Nat.le_of_ble_eq_true rfl) (by omega) (c_X3_end e4 gA (hro3.fH (fH.of fI) (f3.rf (f := zw P2 (220 + 1) kk (some a))) (by omega) (by omega)) hsf2 hkB hB h372 (fun s2 t I5 P5 a1 a2 a3 a4 a5 a6 a7 a8 => ?_) (fun a1 I5 P5 a7 a8 => ?_))
  · have FF := F3.fH ((fH.of fI).tr a7) a8
    have e100 : I5 100 = I 100 := (a7 100 (by decide) (by omega)).trans ((fI 100 (by omega)).trans (q5 100 (by omega)))
    refine Z_ireturn dX1_endWith_34 rfl rfl ?_
    exact kt s2 t I5 P5 a1 a2 a3 FF e100
  · have FF := F3.fH ((fH.of fI).tr a7) a8
    have e100 : I5 100 = I 100 := (a7 100 (by decide) (by omega)).trans ((fI 100 (by omega)).trans (q5 100 (by omega)))
    refine Z_ireturn dX1_endWith_34 rfl rfl ?_
    exact kn a1 I5 P5 FF e100
theorem rwX.fX {I2 : zI} {L2 : zL} (h : rwX I L R) (h1 : I2 100 10 = I 100 10) (h2 : L2 302 = L 302) : rwX I2 L2 R := ⟨⟨h1.trans h.1.1, h.1.2⟩, fun i hi => by rw [h2]; exact h.2 i hi⟩
set_option maxHeartbeats 4000000 in
theorem o_xsleeps (hX : xR D R no n np ro oh ph I L P S) (hsf : sf (wld D) no n (D 23)) {B : Nat} (hkB : hk (D 23) n B) (hB : B < 2 ^ 28) (h37 : ro ≠ none → wld D 0 37 = 0) (h12 : ∀ j, D 12 j = 0 ∨ D 12 j = 1) {o q : Int32} (k : ∀ I2 L2 P2 S2, xR (fSleeps D R ro no n o q).2.1 (fSleeps D R ro no n o q).2.2 no n np ro oh ph I2 L2 P2 S2 → frX I L P S I2 L2 P2 S2 → Q (.inl (some (.int (fSleeps D R ro no n o q).1))) I2 L2 P2 S2) : Zm G mX1_sleeps 105 (C + 2) (Sl + 109) [.ref 100, .int o, .int q] I L P S Q := by
  obtain ⟨e, ⟨g, hro⟩, ⟨⟨h29, h50⟩, hrw⟩, ⟨htx, hpr, hkp⟩, htl, hoh, hph⟩ := hX
  have hX : xR D R no n np ro oh ph I L P S := ⟨e, ⟨g, hro⟩, ⟨⟨h29, h50⟩, hrw⟩, ⟨htx, hpr, hkp⟩, htl, hoh, hph⟩
  have hx := e.x
  have hO := e.wd
  have hR := e.wr
  have hT := e.st
  have hPc := e.pc
  have hw := e.hw
  have hf := e.hx
  have hb := e.b
  have hn := e.nn
  have n8 := hw.n8
  have h6 := hw.o6
  have hn8 := hw.n8
  have hno : noD D = no := by rw [noD, show D 0 3 = nI no from hw.o3, nI_clamp (by omega)]
  have hnn : nD D = n := by rw [nD, show D 0 16 = nI n from hw.n16, nI_clamp (by omega)]
  obtain ⟨b6, hb6, eb6⟩ := hsf.bk
  have h60 : (D 23 2).toNatClampNeg ≤ 60 := by rw [eb6, nI_clamp (by omega)]; exact hb6
  obtain ⟨-, -, -, -, ⟨-, -, hN⟩, -⟩ := id hX
  have hM := hR.1
  refine Z_entry (lv := [_, _, _, _, _]) (Nat.le_of_ble_eq_true rfl) rfl ?_
  refine Z_aload_n dX1_sleeps_0 rfl ?_
  refine Z_iload_n dX1_sleeps_1 rfl ?_
  refine Z_call0 (d' := 1) (zCal_V gX1_121 nX1_isOffice (by decide) dX1_sleeps_2) pX1_isOffice hx.1 zkl0 [_] rfl rfl (Nat.le_of_ble_eq_true rfl) (by omega) (c_X1_isOffice hx hR.1.1 h6 (fun k2 hk2 e2 => ?_) (fun h2 => ?_))
  · subst e2
    have r2 : oB D (nI k2) = true := rB_t (by rw [z_ti (by omega)]; omega) (by rw [z_ti (by omega), hno]; omega)
    have v2 : (nI k2).toNatClampNeg = k2 := nI_clamp (by omega)
    refine Z_ifeq 25 dX1_sleeps_5 rfl (fun h => absurd h (by decide)) (fun _ => ?_)
    refine Z_iload_n dX1_sleeps_8 rfl ?_
    refine Z_iconst (nI 0) dX1_sleeps_9 rfl ?_
    refine Z_bipush (nI 99) dX1_sleeps_10 rfl ?_
    refine Z_callS0 (d' := 0) (zCal_S gX1_3 nX1_in (by decide) dX1_sleeps_12) pX1_in [_, _, _] rfl rfl (Nat.le_of_ble_eq_true rfl) (by omega) (c_X1_in (fun h12a h12b => ?_) (fun h12 => ?_))
    · have r12 : rB q 0 99 = true := rB_t h12a h12b
      obtain ⟨k12, hk12, e12⟩ := z_rng (n := 99) h12a h12b (by omega)
      subst e12
      have v12 : (nI k12).toNatClampNeg = k12 := nI_clamp (by omega)
      refine Z_ifeq 25 dX1_sleeps_15 rfl (fun h => absurd h (by decide)) (fun _ => ?_)
      refine Z_aload_n dX1_sleeps_18 rfl ?_
      refine Z_getI hx.1 fX1_105_0 dX1_sleeps_19 rfl ?_
      refine Z_re (y := nI n) hn ?_
      refine Z_ifneN 27 dX1_sleeps_22 rfl (by omega) (fun c22 => ?_) (fun c22 => ?_)
      · have n0 : ¬ D 0 16 = 0 := fun e => c22 ((nI_z (by omega)).mp ((show D 0 16 = nI n from hw.n16).symm.trans e))
        refine Z_aload_n dX1_sleeps_27 rfl ?_
        refine Z_getR (r := 200) hx.1 fX1_52_0 dX1_sleeps_28 rfl hx.2.2.2.1.1 ?_
        refine Z_getR (r := (200 + 1)) hO.1 fX1_127_1 dX1_sleeps_31 rfl hO.2.1.2 ?_
        refine Z_iload_n dX1_sleeps_34 rfl ?_
        refine Z_aald (r := (oh k2)) hO.2.1.1 (by simp [zTys]) rfl (zix_nI (by first | omega | (dsimp only; omega)) (by decide)) (hR.2.2 k2 (by omega)).1 dX1_sleeps_35 ?_
        refine Z_getR (r := ((oh k2) + 8)) (hR.2.2 k2 (by omega)).2.1.1 fX1_137_5 dX1_sleeps_36 rfl (hR.2.2 k2 (by omega)).2.1.2.2 ?_
        refine Z_iload_n dX1_sleeps_39 rfl ?_
        refine Z_zald (hR.2.2 k2 (by omega)).2.1.2.1 (zix_nI (by first | omega | (dsimp only; omega)) (by decide)) dX1_sleeps_40 ?_
        refine Z_re ((hR.2.2 k2 hk2).2.2.2.2 k12 (by omega)) ?_
        refine Z_ifeq 48 dX1_sleeps_41 rfl (fun c41 => ?_) (fun c41 => ?_)
        · have c41b : D 12 (100 * k2 + k12) = 0 := c41
          refine Z_aload_n dX1_sleeps_48 rfl ?_
          refine Z_getR (r := 270) hx.1 fX1_66_0 dX1_sleeps_49 rfl hx.2.2.2.1.2.2.2.1 ?_
          refine Z_aload_n dX1_sleeps_52 rfl ?_
          refine Z_getR (r := 240) hx.1 fX1_62_0 dX1_sleeps_53 rfl hx.2.2.2.1.2.2.1 ?_
          refine Z_call0 (d' := 1) (zCal_V gX1_272 nX3_as (by decide) dX1_sleeps_56) pX3_as hx.2.2.2.2.2.2.2.1 zkl2 [_] rfl rfl (Nat.le_of_ble_eq_true rfl) (by omega) (c_X3_as hx.2.2.2.2.2.2.2 hT g (fun p hp => (hsf.wt hp).imp id And.left) h60 hn8 (by omega) (fun I2 gA fI => ?_))
          have eA := e.s270.fr (fH.of fI) (f3.rf (f := P))
          have hroA := hro.fH (fH.of fI) (f3.rf (f := P)) (by omega) (by omega)
          refine Z_aload_n dX1_sleeps_59 rfl ?_
          refine Z_getR (r := 200) hx.1 fX1_52_0 dX1_sleeps_60 rfl hx.2.2.2.1.1 ?_
          refine Z_call0 (d' := 103) (zCal_V gX1_268 nX3_end (by decide) dX1_sleeps_63) pX3_end hx.2.2.2.2.2.2.2.1 zkl2 [_] rfl rfl (Nat.le_of_ble_eq_true rfl) (by omega) (c_X3_end eA gA hroA hsf hkB hB h37 (fun s1 t1 I3 P3 b1 b2 b3 b4 b5 b6 b7 b8 => ?_) (fun b1 I3 P3 b7 b8 => ?_))
          · have F1 : fX I L P S I3 L P3 S := fX_as hN fI b7 b8
            have r1 : rwX I3 L R := hrw.fX (by rw [b7 100 (by decide) (by omega), fI 100 (by omega)]) rfl
            have hX1 := hX.go F1 r1
            obtain ⟨e1, -, -, -, ⟨-, -, N1, hN1, hN2⟩, -⟩ := id hX1
            have hx := e1.x
            have hO := e1.wd
            have hR := e1.wr
            have hT := e1.st
            refine Z_istore_n (lv' := [_, _, _, _, _]) dX1_sleeps_66 rfl rfl (Nat.le_of_ble_eq_true rfl) ?_
            refine Z_aload_n dX1_sleeps_67 rfl ?_
            refine Z_iload_n dX1_sleeps_68 rfl ?_
            refine Z_aload_n dX1_sleeps_69 rfl ?_
            refine Z_iload_n dX1_sleeps_70 rfl ?_
            refine Z_iload_n dX1_sleeps_71 rfl ?_
            refine Z_call (d' := 3) (C := C) (C' := 2) (Sl := Sl) (S' := 109) (zCal_V gX1_410 nX1_sleeping (by decide) dX1_sleeps_72) pX1_sleeping hx.1 zkl0 [_, _] rfl rfl (Nat.le_of_ble_eq_true rfl) (by omega) (by omega) (by omega) (c_X1_sleeping e1 (W := wld D) (fun j => h12 j) (k := k2) (d := k12) hk2 (by omega) (hN2 N1 (Nat.le_refl _)) (hN2 _ (by omega)) (fun I4 L4 P4 S4 hA hrA fA => ?_))
            have F2 := F1.o fA hN1 (hN2 _ (Nat.le_refl _)) (hN2 _ (by omega))
            have r2w : rwX I4 L4 R := r1.fX (by rw [(fA 100 (by omega) (by omega)).1.1]) (fA 302 (by omega) (by omega)).1.2
            have hX2 := hX.go F2 r2w
            have hx := hX2.1.x
            refine Z_call0 (d' := 104) (zCal_V gX1_414 nX1_endWith (by decide) dX1_sleeps_75) pX1_endWith hx.1 zkl0 [_, _] rfl rfl (Nat.le_of_ble_eq_true rfl) (by omega) (c_X1_endWith hX2 hsf hkB hB h37 hk2 hA hN1 hrA (fun x j q1 q2 q3 => by rw [zw_n _ _ _ _ q3]) (fun o _ => ⟨by rw [zw_n _ _ _ _ (by decide)], by rw [zw_n _ _ _ _ (by decide)]⟩) (fun o dd q1 q2 => by rw [zw_a, zu_n _ _ _ (by omega)]) (fun s2 t2 I5 P5 c1 c2 c3 FE e100 => ?_) (fun c1 I5 P5 FE e100 => ?_))
            · refine Z_istore (lv' := [_, _, _, _, _]) dX1_sleeps_78 rfl rfl (Nat.le_of_ble_eq_true rfl) ?_
              refine Z_iload dX1_sleeps_80 rfl ?_
              refine Z_ifltN 89 dX1_sleeps_82 rfl (by omega) ?_
              refine Z_iload_n dX1_sleeps_85 rfl ?_
              refine Z_ifgeN 95 dX1_sleeps_86 rfl (by omega) ?_
              refine Z_iload dX1_sleeps_95 rfl ?_
              refine Z_iload_n dX1_sleeps_97 rfl ?_
              refine Z_isub dX1_sleeps_98 ?_
              refine Z_ireturn dX1_sleeps_99 rfl rfl ?_
              have c1b := c1
              rw [show (zw (wld D) 12 (100 * k2 + k12) (nI 1)) = wld (slpD D k2 k12) from by unfold slpD; rw [wld_zi rfl]] at c1b
              have hz : fSleeps D R ro no n (nI k2) (nI k12) = (nI t2 - nI t1, D, R) := by
                rw [fSleeps, if_pos (by rw [r2, r12, decide_eq_false n0]; rfl), v2, v12, if_pos c41b]
                rw [b1, c1b]; simp only [dif]; rw [b2, c2]
              exact xO_k hz k (hX.go (F2.tr FE) (r2w.fX (by rw [e100]) rfl)) (F2.tr FE).frX
            · refine Z_istore (lv' := [_, _, _, _, _]) dX1_sleeps_78 rfl rfl (Nat.le_of_ble_eq_true rfl) ?_
              refine Z_iload dX1_sleeps_80 rfl ?_
              refine Z_iflt 89 dX1_sleeps_82 rfl (fun c82 => ?_) (fun c82 => ?_)
              · refine Z_sipush (-9999) dX1_sleeps_89 rfl ?_
                refine Z_goto 99 dX1_sleeps_92 rfl ?_
                refine Z_ireturn dX1_sleeps_99 rfl rfl ?_
                have c1b := c1
                rw [show (zw (wld D) 12 (100 * k2 + k12) (nI 1)) = wld (slpD D k2 k12) from by unfold slpD; rw [wld_zi rfl]] at c1b
                have hz : fSleeps D R ro no n (nI k2) (nI k12) = (-9999, D, R) := by
                  rw [fSleeps, if_pos (by rw [r2, r12, decide_eq_false n0]; rfl), v2, v12, if_pos c41b]
                  rw [b1, c1b]; rfl
                exact xO_k hz k (hX.go (F2.tr FE) (r2w.fX (by rw [e100]) rfl)) (F2.tr FE).frX
              · exact absurd (show (-2 : Int32) < 0 by decide) c82
          · have F1 : fX I L P S I3 L P3 S := fX_as hN fI b7 b8
            have r1 : rwX I3 L R := hrw.fX (by rw [b7 100 (by decide) (by omega), fI 100 (by omega)]) rfl
            have hX1 := hX.go F1 r1
            obtain ⟨e1, -, -, -, ⟨-, -, N1, hN1, hN2⟩, -⟩ := id hX1
            have hx := e1.x
            have hO := e1.wd
            have hR := e1.wr
            have hT := e1.st
            refine Z_istore_n (lv' := [_, _, _, _, _]) dX1_sleeps_66 rfl rfl (Nat.le_of_ble_eq_true rfl) ?_
            refine Z_aload_n dX1_sleeps_67 rfl ?_
            refine Z_iload_n dX1_sleeps_68 rfl ?_
            refine Z_aload_n dX1_sleeps_69 rfl ?_
            refine Z_iload_n dX1_sleeps_70 rfl ?_
            refine Z_iload_n dX1_sleeps_71 rfl ?_
            refine Z_call (d' := 3) (C := C) (C' := 2) (Sl := Sl) (S' := 109) (zCal_V gX1_410 nX1_sleeping (by decide) dX1_sleeps_72) pX1_sleeping hx.1 zkl0 [_, _] rfl rfl (Nat.le_of_ble_eq_true rfl) (by omega) (by omega) (by omega) (c_X1_sleeping e1 (W := wld D) (fun j => h12 j) (k := k2) (d := k12) hk2 (by omega) (hN2 N1 (Nat.le_refl _)) (hN2 _ (by omega)) (fun I4 L4 P4 S4 hA hrA fA => ?_))
            have F2 := F1.o fA hN1 (hN2 _ (Nat.le_refl _)) (hN2 _ (by omega))
            have r2w : rwX I4 L4 R := r1.fX (by rw [(fA 100 (by omega) (by omega)).1.1]) (fA 302 (by omega) (by omega)).1.2
            have hX2 := hX.go F2 r2w
            have hx := hX2.1.x
            refine Z_call0 (d' := 104) (zCal_V gX1_414 nX1_endWith (by decide) dX1_sleeps_75) pX1_endWith hx.1 zkl0 [_, _] rfl rfl (Nat.le_of_ble_eq_true rfl) (by omega) (c_X1_endWith hX2 hsf hkB hB h37 hk2 hA hN1 hrA (fun x j q1 q2 q3 => by rw [zw_n _ _ _ _ q3]) (fun o _ => ⟨by rw [zw_n _ _ _ _ (by decide)], by rw [zw_n _ _ _ _ (by decide)]⟩) (fun o dd q1 q2 => by rw [zw_a, zu_n _ _ _ (by omega)]) (fun s2 t2 I5 P5 c1 c2 c3 FE e100 => ?_) (fun c1 I5 P5 FE e100 => ?_))
            · refine Z_istore (lv' := [_, _, _, _, _]) dX1_sleeps_78 rfl rfl (Nat.le_of_ble_eq_true rfl) ?_
              refine Z_iload dX1_sleeps_80 rfl ?_
              refine Z_ifltN 89 dX1_sleeps_82 rfl (by omega) ?_
              refine Z_iload_n dX1_sleeps_85 rfl ?_
              refine Z_ifge 95 dX1_sleeps_86 rfl (fun c86 => ?_) (fun c86 => ?_)
              · exact absurd c86 (by decide)
              · refine Z_sipush (-9999) dX1_sleeps_89 rfl ?_
                refine Z_goto 99 dX1_sleeps_92 rfl ?_
                refine Z_ireturn dX1_sleeps_99 rfl rfl ?_
                have c1b := c1
                rw [show (zw (wld D) 12 (100 * k2 + k12) (nI 1)) = wld (slpD D k2 k12) from by unfold slpD; rw [wld_zi rfl]] at c1b
                have hz : fSleeps D R ro no n (nI k2) (nI k12) = (-9999, D, R) := by
                  rw [fSleeps, if_pos (by rw [r2, r12, decide_eq_false n0]; rfl), v2, v12, if_pos c41b]
                  rw [b1]; rfl
                exact xO_k hz k (hX.go (F2.tr FE) (r2w.fX (by rw [e100]) rfl)) (F2.tr FE).frX
            · refine Z_istore (lv' := [_, _, _, _, _]) dX1_sleeps_78 rfl rfl (Nat.le_of_ble_eq_true rfl) ?_
              refine Z_iload dX1_sleeps_80 rfl ?_
              refine Z_iflt 89 dX1_sleeps_82 rfl (fun c82 => ?_) (fun c82 => ?_)
              · refine Z_sipush (-9999) dX1_sleeps_89 rfl ?_
                refine Z_goto 99 dX1_sleeps_92 rfl ?_
                refine Z_ireturn dX1_sleeps_99 rfl rfl ?_
                have c1b := c1
                rw [show (zw (wld D) 12 (100 * k2 + k12) (nI 1)) = wld (slpD D k2 k12) from by unfold slpD; rw [wld_zi rfl]] at c1b
                have hz : fSleeps D R ro no n (nI k2) (nI k12) = (-9999, D, R) := by
                  rw [fSleeps, if_pos (by rw [r2, r12, decide_eq_false n0]; rfl), v2, v12, if_pos c41b]
                  rw [b1]; rfl
                exact xO_k hz k (hX.go (F2.tr FE) (r2w.fX (by rw [e100]) rfl)) (F2.tr FE).frX
              · exact absurd (show (-2 : Int32) < 0 by decide) c82
        · have c41b : ¬ D 12 (100 * k2 + k12) = 0 := c41
          refine Z_sipush (-9998) dX1_sleeps_44 rfl ?_
          refine Z_ireturn dX1_sleeps_47 rfl rfl ?_
          exact xO_k (by rw [fSleeps, if_pos (by rw [r2, r12, decide_eq_false n0]; rfl), v2, v12, if_neg c41b]) k hX frX.rf
      · refine Z_iconst (-1) dX1_sleeps_25 rfl ?_
        refine Z_ireturn dX1_sleeps_26 rfl rfl ?_
        exact xO_k (by simp [fSleeps, show D 0 16 = nI n from hw.n16, nI_0, r2, v2, r12, v12, c22]) k hX frX.rf
    · have r12 : rB q 0 99 = false := rB_f h12
      refine Z_ifeq 25 dX1_sleeps_15 rfl (fun _ => ?_) (fun h => absurd h (by decide))
      refine Z_iconst (-1) dX1_sleeps_25 rfl ?_
      refine Z_ireturn dX1_sleeps_26 rfl rfl ?_
      exact xO_k (by simp [fSleeps, show D 0 16 = nI n from hw.n16, nI_0, r2, v2, r12]) k hX frX.rf
  · have r2 : oB D o = false := rB_f (fun q => h2 ⟨q.1, by have := q.2; rw [hno] at this; omega⟩)
    refine Z_ifeq 25 dX1_sleeps_5 rfl (fun _ => ?_) (fun h => absurd h (by decide))
    refine Z_iconst (-1) dX1_sleeps_25 rfl ?_
    refine Z_ireturn dX1_sleeps_26 rfl rfl ?_
    exact xO_k (by simp [fSleeps, show D 0 16 = nI n from hw.n16, nI_0, r2]) k hX frX.rf
set_option maxHeartbeats 4000000 in
theorem o_xmarch (hX : xR D R no n np ro oh ph I L P S) (hsf : sf (wld D) no n (D 23)) {B : Nat} (hkB : hk (D 23) n B) (hB : B < 2 ^ 28) (h37 : ro ≠ none → wld D 0 37 = 0) (h12 : ∀ j, D 12 j = 0 ∨ D 12 j = 1) {o q : Int32} (k : ∀ I2 L2 P2 S2, xR (fMarch D R ro no n o q).2.1 (fMarch D R ro no n o q).2.2 no n np ro oh ph I2 L2 P2 S2 → frX I L P S I2 L2 P2 S2 → Q (.inl (some (.int (fMarch D R ro no n o q).1))) I2 L2 P2 S2) : Zm G mX1_march 105 (C + 2) (Sl + 109) [.ref 100, .int o, .int q] I L P S Q := by
  obtain ⟨e, ⟨g, hro⟩, ⟨⟨h29, h50⟩, hrw⟩, ⟨htx, hpr, hkp⟩, htl, hoh, hph⟩ := hX
  have hX : xR D R no n np ro oh ph I L P S := ⟨e, ⟨g, hro⟩, ⟨⟨h29, h50⟩, hrw⟩, ⟨htx, hpr, hkp⟩, htl, hoh, hph⟩
  have hx := e.x
  have hO := e.wd
  have hR := e.wr
  have hT := e.st
  have hPc := e.pc
  have hw := e.hw
  have hf := e.hx
  have hb := e.b
  have hn := e.nn
  have n8 := hw.n8
  have h6 := hw.o6
  have hn8 := hw.n8
  have hno : noD D = no := by rw [noD, show D 0 3 = nI no from hw.o3, nI_clamp (by omega)]
  have hnn : nD D = n := by rw [nD, show D 0 16 = nI n from hw.n16, nI_clamp (by omega)]
  obtain ⟨b6, hb6, eb6⟩ := hsf.bk
  have h60 : (D 23 2).toNatClampNeg ≤ 60 := by rw [eb6, nI_clamp (by omega)]; exact hb6
  obtain ⟨-, -, -, -, ⟨-, -, hN⟩, -⟩ := id hX
  obtain ⟨N0, hN0, hN9⟩ := hN
  have hM := hR.1
  refine Z_entry (lv := [_, _, _, _, _, _]) (Nat.le_of_ble_eq_true rfl) rfl ?_
  refine Z_aload_n dX1_march_0 rfl ?_
  refine Z_iload_n dX1_march_1 rfl ?_
  refine Z_call0 (d' := 1) (zCal_V gX1_121 nX1_isOffice (by decide) dX1_march_2) pX1_isOffice hx.1 zkl0 [_] rfl rfl (Nat.le_of_ble_eq_true rfl) (by omega) (c_X1_isOffice hx hR.1.1 h6 (fun k2 hk2 e2 => ?_) (fun h2 => ?_))
  · subst e2
    have r2 : oB D (nI k2) = true := rB_t (by rw [z_ti (by omega)]; omega) (by rw [z_ti (by omega), hno]; omega)
    have v2 : (nI k2).toNatClampNeg = k2 := nI_clamp (by omega)
    refine Z_ifeq 22 dX1_march_5 rfl (fun h => absurd h (by decide)) (fun _ => ?_)
    refine Z_iload_n dX1_march_8 rfl ?_
    refine Z_callS0 (d' := 1) (zCal_S gX1_124 nX1_isHour (by decide) dX1_march_9) pX1_isHour [_] rfl rfl (Nat.le_of_ble_eq_true rfl) (by omega) (c_X1_isHour (fun h9a h9b => ?_) (fun h9 => ?_))
    · have r9 : rB q 0 2399 = true := rB_t h9a h9b
      obtain ⟨k9, hk9, e9⟩ := z_rng (n := 2399) h9a h9b (by omega)
      subst e9
      have v9 : (nI k9).toNatClampNeg = k9 := nI_clamp (by omega)
      refine Z_ifeq 22 dX1_march_12 rfl (fun h => absurd h (by decide)) (fun _ => ?_)
      refine Z_aload_n dX1_march_15 rfl ?_
      refine Z_getI hx.1 fX1_105_0 dX1_march_16 rfl ?_
      refine Z_re (y := nI n) hn ?_
      refine Z_ifneN 24 dX1_march_19 rfl (by omega) (fun c19 => ?_) (fun c19 => ?_)
      · have n0 : ¬ D 0 16 = 0 := fun e => c19 ((nI_z (by omega)).mp ((show D 0 16 = nI n from hw.n16).symm.trans e))
        refine Z_aload_n dX1_march_24 rfl ?_
        refine Z_getR (r := 200) hx.1 fX1_52_0 dX1_march_25 rfl hx.2.2.2.1.1 ?_
        refine Z_getR (r := (200 + 1)) hO.1 fX1_127_1 dX1_march_28 rfl hO.2.1.2 ?_
        refine Z_iload_n dX1_march_31 rfl ?_
        refine Z_aald (r := (oh k2)) hO.2.1.1 (by simp [zTys]) rfl (zix_nI (by first | omega | (dsimp only; omega)) (by decide)) (hR.2.2 k2 (by omega)).1 dX1_march_32 ?_
        refine Z_aload_n dX1_march_33 rfl ?_
        refine Z_getR (r := 200) hx.1 fX1_52_0 dX1_march_34 rfl hx.2.2.2.1.1 ?_
        refine Z_getR (r := (200 + 1)) hO.1 fX1_127_1 dX1_march_37 rfl hO.2.1.2 ?_
        refine Z_iload_n dX1_march_40 rfl ?_
        refine Z_aald (r := (oh k2)) hO.2.1.1 (by simp [zTys]) rfl (zix_nI (by first | omega | (dsimp only; omega)) (by decide)) (hR.2.2 k2 (by omega)).1 dX1_march_41 ?_
        refine Z_getI (hR.2.2 k2 (by omega)).2.1.1 fX1_296_5 dX1_march_42 rfl ?_
        refine Z_aload_n dX1_march_45 rfl ?_
        refine Z_getR (r := 200) hx.1 fX1_52_0 dX1_march_46 rfl hx.2.2.2.1.1 ?_
        refine Z_getR (r := (200 + 1)) hO.1 fX1_127_1 dX1_march_49 rfl hO.2.1.2 ?_
        refine Z_iload_n dX1_march_52 rfl ?_
        refine Z_aald (r := (oh k2)) hO.2.1.1 (by simp [zTys]) rfl (zix_nI (by first | omega | (dsimp only; omega)) (by decide)) (hR.2.2 k2 (by omega)).1 dX1_march_53 ?_
        refine Z_getI (hR.2.2 k2 (by omega)).2.1.1 fX1_407_5 dX1_march_54 rfl ?_
        refine Z_callS (d' := 2) (C := C) (C' := 2) (Sl := Sl) (S' := 109) (zCal_S gX1_381 nX1_like (by decide) dX1_march_57) pX1_like [_, _, _] rfl rfl (Nat.le_of_ble_eq_true rfl) (by omega) (by omega) (by omega) (c_X1_like (a := N0) (hR.2.2 k2 hk2).2.1 (hN9 _ (Nat.le_refl _)) (hN9 _ (by omega)) (fun j hj => by rw [(hR.2.2 k2 hk2).2.2.2.2 j hj]; exact h12 _) (fun I4 L4 P4 S4 hA gA fA => ?_))
        have hoR := (hR.2.2 k2 hk2).2.2
        refine Z_astore_n (lv' := [_, _, _, _, _, _]) dX1_march_60 rfl rfl (Nat.le_of_ble_eq_true rfl) ?_
        refine Z_aload_n dX1_march_61 rfl ?_
        refine Z_iload_n dX1_march_62 rfl ?_
        refine Z_putI hA.1 fX1_131_5 dX1_march_63 rfl rfl rfl ?_
        refine Z_aload_n dX1_march_66 rfl ?_
        refine Z_iconst (nI 1) dX1_march_67 rfl ?_
        refine Z_putI hA.1 fX1_134_5 dX1_march_68 rfl rfl rfl ?_
        have fB : frO N0 I L P S (zw (zw I4 N0 6 (nI k9)) N0 7 (nI 1)) L4 P4 S4 := fA.i fun b h1 h2 => by rw [zw_n _ _ _ _ h1, zw_n _ _ _ _ h1]
        obtain ⟨I6, eI6⟩ : ∃ x, x = zw (zw I4 N0 6 (nI k9)) N0 7 (nI 1) := ⟨_, rfl⟩
        rw [← eI6] at fB
        rw [← eI6]
        have F0 := (fX.rf ⟨N0, hN0, hN9⟩).o fB hN0 (hN9 _ (Nat.le_refl _)) (hN9 _ (by omega))
        have r0 : rwX I6 L4 R := hrw.fX (by rw [(fB 100 (by omega) (by omega)).1.1]) (fB 302 (by omega) (by omega)).1.2
        have hX0 := hX.go F0 r0
        obtain ⟨e, ⟨g, hro⟩, -, -, ⟨-, -, hN⟩, -⟩ := id hX0
        have hx := e.x
        have hO := e.wd
        have hR := e.wr
        have hT := e.st
        have hrA : oRw I6 N0 (zw (zw (wld D) 10 k2 (nI k9)) 11 k2 (nI 1)) k2 := by
          obtain ⟨⟨q0, q1, q2, q3⟩, ⟨q4, q5, q6, q7⟩, q8⟩ := gA
          obtain ⟨⟨p0, p1, p2, p3⟩, ⟨p4, p5, p6, p7⟩, p8⟩ := hoR
          rw [eI6]
          refine ⟨⟨?_, ?_, ?_, ?_⟩, ⟨?_, ?_, ?_, ?_⟩, fun dd hd => ?_⟩
          · simp [zw, zu]; exact q0.trans p0
          · simp [zw, zu]; exact q1.trans p1
          · simp [zw, zu]; exact q2.trans p2
          · simp [zw, zu]; exact q3.trans p3
          · simp [zw, zu]; exact q4.trans p4
          · simp [zw, zu]; exact q5.trans p5
          · simp [zw, zu]
          · simp [zw, zu]
          · simp [zw, zu]; exact (q8 dd hd).trans (p8 dd hd)
        refine Z_aload_n dX1_march_71 rfl ?_
        refine Z_getR (r := 270) hx.1 fX1_66_0 dX1_march_72 rfl hx.2.2.2.1.2.2.2.1 ?_
        refine Z_aload_n dX1_march_75 rfl ?_
        refine Z_getR (r := 240) hx.1 fX1_62_0 dX1_march_76 rfl hx.2.2.2.1.2.2.1 ?_
        refine Z_call0 (d' := 1) (zCal_V gX1_272 nX3_as (by decide) dX1_march_79) pX3_as hx.2.2.2.2.2.2.2.1 zkl2 [_] rfl rfl (Nat.le_of_ble_eq_true rfl) (by omega) (c_X3_as hx.2.2.2.2.2.2.2 hT g (fun p hp => (hsf.wt hp).imp id And.left) h60 hn8 (by omega) (fun I2 gA fI => ?_))
        have eA := e.s270.fr (fH.of fI) (f3.rf (f := P4))
        have hroA := hro.fH (fH.of fI) (f3.rf (f := P4)) (by omega) (by omega)
        refine Z_aload_n dX1_march_82 rfl ?_
        refine Z_getR (r := 200) hx.1 fX1_52_0 dX1_march_83 rfl hx.2.2.2.1.1 ?_
        refine Z_call0 (d' := 103) (zCal_V gX1_268 nX3_end (by decide) dX1_march_86) pX3_end hx.2.2.2.2.2.2.2.1 zkl2 [_] rfl rfl (Nat.le_of_ble_eq_true rfl) (by omega) (c_X3_end eA gA hroA hsf hkB hB h37 (fun s1 t1 I3 P3 b1 b2 b3 b4 b5 b6 b7 b8 => ?_) (fun b1 I3 P3 b7 b8 => ?_))
        · have F1 : fX I6 L4 P4 S4 I3 L4 P3 S4 := fX_as hN fI b7 b8
          have F2 := F0.tr F1
          have r2w : rwX I3 L4 R := r0.fX (by rw [b7 100 (by decide) (by omega), fI 100 (by omega)]) rfl
          have hX2 := hX0.go F1 r2w
          have hx := hX2.1.x
          have hA : oOk S4 P3 N0 := hA.f3 b8 (by omega)
          have hN1 := hN0
          have hrA2 : oRw I3 N0 (zw (zw (wld D) 10 k2 (nI k9)) 11 k2 (nI 1)) k2 := by unfold oRw at hrA ⊢; rw [b7 N0 (by omega) (by omega), fI N0 (by omega), b7 (N0 + 8) (by omega) (by omega), fI (N0 + 8) (by omega)]; exact hrA
          refine Z_istore (lv' := [_, _, _, _, _, _]) dX1_march_89 rfl rfl (Nat.le_of_ble_eq_true rfl) ?_
          refine Z_aload_n dX1_march_91 rfl ?_
          refine Z_iload_n dX1_march_92 rfl ?_
          refine Z_aload_n dX1_march_93 rfl ?_
          refine Z_call0 (d' := 104) (zCal_V gX1_414 nX1_endWith (by decide) dX1_march_94) pX1_endWith hx.1 zkl0 [_, _] rfl rfl (Nat.le_of_ble_eq_true rfl) (by omega) (c_X1_endWith hX2 hsf hkB hB h37 hk2 hA hN1 hrA2 (fun x j q1 q2 q3 => by rw [zw_n _ _ _ _ q2, zw_n _ _ _ _ q1]) (fun o q1 => ⟨by rw [zw_n _ _ _ _ (by decide), zw_a, zu_n _ _ _ q1], by rw [zw_a, zu_n _ _ _ q1, zw_n _ _ _ _ (by decide)]⟩) (fun o dd q1 q2 => by rw [zw_n _ _ _ _ (by decide), zw_n _ _ _ _ (by decide)]) (fun s2 t2 I5 P5 c1 c2 c3 FE e100 => ?_) (fun c1 I5 P5 FE e100 => ?_))
          · refine Z_istore (lv' := [_, _, _, _, _, _]) dX1_march_97 rfl rfl (Nat.le_of_ble_eq_true rfl) ?_
            refine Z_iload dX1_march_99 rfl ?_
            refine Z_ifltN 109 dX1_march_101 rfl (by omega) ?_
            refine Z_iload dX1_march_104 rfl ?_
            refine Z_ifgeN 115 dX1_march_106 rfl (by omega) ?_
            refine Z_iload dX1_march_115 rfl ?_
            refine Z_iload dX1_march_117 rfl ?_
            refine Z_isub dX1_march_119 ?_
            refine Z_ireturn dX1_march_120 rfl rfl ?_
            have c1b := c1
            rw [show (zw (zw (wld D) 10 k2 (nI k9)) 11 k2 (nI 1)) = wld (mrcD D k2 (nI k9)) from by unfold mrcD; rw [wld_zi rfl, wld_zi rfl]] at c1b
            have hz : fMarch D R ro no n (nI k2) (nI k9) = (nI t2 - nI t1, D, R) := by
              rw [fMarch, if_pos (by rw [r2, r9, decide_eq_false n0]; rfl), v2]
              rw [b1, c1b]; simp only [dif]; rw [b2, c2]
            exact xO_k hz k (hX.go (F2.tr FE) (r2w.fX (by rw [e100]) rfl)) (F2.tr FE).frX
          · refine Z_istore (lv' := [_, _, _, _, _, _]) dX1_march_97 rfl rfl (Nat.le_of_ble_eq_true rfl) ?_
            refine Z_iload dX1_march_99 rfl ?_
            refine Z_iflt 109 dX1_march_101 rfl (fun c101 => ?_) (fun c101 => ?_)
            · refine Z_sipush (-9999) dX1_march_109 rfl ?_
              refine Z_goto 120 dX1_march_112 rfl ?_
              refine Z_ireturn dX1_march_120 rfl rfl ?_
              have c1b := c1
              rw [show (zw (zw (wld D) 10 k2 (nI k9)) 11 k2 (nI 1)) = wld (mrcD D k2 (nI k9)) from by unfold mrcD; rw [wld_zi rfl, wld_zi rfl]] at c1b
              have hz : fMarch D R ro no n (nI k2) (nI k9) = (-9999, D, R) := by
                rw [fMarch, if_pos (by rw [r2, r9, decide_eq_false n0]; rfl), v2]
                rw [b1, c1b]; rfl
              exact xO_k hz k (hX.go (F2.tr FE) (r2w.fX (by rw [e100]) rfl)) (F2.tr FE).frX
            · exact absurd (show (-2 : Int32) < 0 by decide) c101
        · have F1 : fX I6 L4 P4 S4 I3 L4 P3 S4 := fX_as hN fI b7 b8
          have F2 := F0.tr F1
          have r2w : rwX I3 L4 R := r0.fX (by rw [b7 100 (by decide) (by omega), fI 100 (by omega)]) rfl
          have hX2 := hX0.go F1 r2w
          have hx := hX2.1.x
          have hA : oOk S4 P3 N0 := hA.f3 b8 (by omega)
          have hN1 := hN0
          have hrA2 : oRw I3 N0 (zw (zw (wld D) 10 k2 (nI k9)) 11 k2 (nI 1)) k2 := by unfold oRw at hrA ⊢; rw [b7 N0 (by omega) (by omega), fI N0 (by omega), b7 (N0 + 8) (by omega) (by omega), fI (N0 + 8) (by omega)]; exact hrA
          refine Z_istore (lv' := [_, _, _, _, _, _]) dX1_march_89 rfl rfl (Nat.le_of_ble_eq_true rfl) ?_
          refine Z_aload_n dX1_march_91 rfl ?_
          refine Z_iload_n dX1_march_92 rfl ?_
          refine Z_aload_n dX1_march_93 rfl ?_
          refine Z_call0 (d' := 104) (zCal_V gX1_414 nX1_endWith (by decide) dX1_march_94) pX1_endWith hx.1 zkl0 [_, _] rfl rfl (Nat.le_of_ble_eq_true rfl) (by omega) (c_X1_endWith hX2 hsf hkB hB h37 hk2 hA hN1 hrA2 (fun x j q1 q2 q3 => by rw [zw_n _ _ _ _ q2, zw_n _ _ _ _ q1]) (fun o q1 => ⟨by rw [zw_n _ _ _ _ (by decide), zw_a, zu_n _ _ _ q1], by rw [zw_a, zu_n _ _ _ q1, zw_n _ _ _ _ (by decide)]⟩) (fun o dd q1 q2 => by rw [zw_n _ _ _ _ (by decide), zw_n _ _ _ _ (by decide)]) (fun s2 t2 I5 P5 c1 c2 c3 FE e100 => ?_) (fun c1 I5 P5 FE e100 => ?_))
          · refine Z_istore (lv' := [_, _, _, _, _, _]) dX1_march_97 rfl rfl (Nat.le_of_ble_eq_true rfl) ?_
            refine Z_iload dX1_march_99 rfl ?_
            refine Z_ifltN 109 dX1_march_101 rfl (by omega) ?_
            refine Z_iload dX1_march_104 rfl ?_
            refine Z_ifge 115 dX1_march_106 rfl (fun c106 => ?_) (fun c106 => ?_)
            · exact absurd c106 (by decide)
            · refine Z_sipush (-9999) dX1_march_109 rfl ?_
              refine Z_goto 120 dX1_march_112 rfl ?_
              refine Z_ireturn dX1_march_120 rfl rfl ?_
              have c1b := c1
              rw [show (zw (zw (wld D) 10 k2 (nI k9)) 11 k2 (nI 1)) = wld (mrcD D k2 (nI k9)) from by unfold mrcD; rw [wld_zi rfl, wld_zi rfl]] at c1b
              have hz : fMarch D R ro no n (nI k2) (nI k9) = (-9999, D, R) := by
                rw [fMarch, if_pos (by rw [r2, r9, decide_eq_false n0]; rfl), v2]
                rw [b1]; rfl
              exact xO_k hz k (hX.go (F2.tr FE) (r2w.fX (by rw [e100]) rfl)) (F2.tr FE).frX
          · refine Z_istore (lv' := [_, _, _, _, _, _]) dX1_march_97 rfl rfl (Nat.le_of_ble_eq_true rfl) ?_
            refine Z_iload dX1_march_99 rfl ?_
            refine Z_iflt 109 dX1_march_101 rfl (fun c101 => ?_) (fun c101 => ?_)
            · refine Z_sipush (-9999) dX1_march_109 rfl ?_
              refine Z_goto 120 dX1_march_112 rfl ?_
              refine Z_ireturn dX1_march_120 rfl rfl ?_
              have c1b := c1
              rw [show (zw (zw (wld D) 10 k2 (nI k9)) 11 k2 (nI 1)) = wld (mrcD D k2 (nI k9)) from by unfold mrcD; rw [wld_zi rfl, wld_zi rfl]] at c1b
              have hz : fMarch D R ro no n (nI k2) (nI k9) = (-9999, D, R) := by
                rw [fMarch, if_pos (by rw [r2, r9, decide_eq_false n0]; rfl), v2]
                rw [b1]; rfl
              exact xO_k hz k (hX.go (F2.tr FE) (r2w.fX (by rw [e100]) rfl)) (F2.tr FE).frX
            · exact absurd (show (-2 : Int32) < 0 by decide) c101
      · refine Z_iconst (-1) dX1_march_22 rfl ?_
        refine Z_ireturn dX1_march_23 rfl rfl ?_
        exact xO_k (by simp [fMarch, show D 0 16 = nI n from hw.n16, nI_0, r2, v2, r9, v9, c19]) k hX frX.rf
    · have r9 : rB q 0 2399 = false := rB_f h9
      refine Z_ifeq 22 dX1_march_12 rfl (fun _ => ?_) (fun h => absurd h (by decide))
      refine Z_iconst (-1) dX1_march_22 rfl ?_
      refine Z_ireturn dX1_march_23 rfl rfl ?_
      exact xO_k (by simp [fMarch, show D 0 16 = nI n from hw.n16, nI_0, r2, v2, r9]) k hX frX.rf
  · have r2 : oB D o = false := rB_f (fun q => h2 ⟨q.1, by have := q.2; rw [hno] at this; omega⟩)
    refine Z_ifeq 22 dX1_march_5 rfl (fun _ => ?_) (fun h => absurd h (by decide))
    refine Z_iconst (-1) dX1_march_22 rfl ?_
    refine Z_ireturn dX1_march_23 rfl rfl ?_
    exact xO_k (by simp [fMarch, show D 0 16 = nI n from hw.n16, nI_0, r2]) k hX frX.rf
end X17C
