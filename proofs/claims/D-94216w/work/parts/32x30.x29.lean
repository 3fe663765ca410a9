set_option maxRecDepth 100000
/-! THE COMPONENT, part 29: all in one house -/
section X29C
variable {G : zG} {d C Sl : Nat} {I D W : zI} {R : List Int64} {L : zL} {P : zR} {S : zT} {Q : zQ} {no n np : Nat} {s : zS} {oh ph : Nat → Nat} {ro : Option (List Nat)}
theorem wRw.sub {h a k : Nat} {I3 W3 : zI} {L3 : zL} {P3 : zR} {S3 : zT} (g : wRw S P I h W no oh) (F : frO a I L P S I3 L3 P3 S3) (h6 : no ≤ 6) (ho : ∀ o, o < no → 6000 ≤ oh o ∧ oh o ≠ a ∧ oh o ≠ a + 8 ∧ oh o + 8 ≠ a) (ha : 6000 ≤ a) (hh : h + 8 < 6000) (hA : oOk S3 P3 a) (hr : oRw I3 a W3 k) (hrows : ∀ x o, 4 ≤ x → x ≤ 11 → o ≠ k → W3 x o = W x o) (h12 : ∀ o dd, o ≠ k → dd < 100 → W3 12 (100 * o + dd) = W 12 (100 * o + dd)) (h13 : W3 13 = W 13) (h14 : W3 0 14 = W 0 14) (h15 : W3 0 15 = W 0 15) : wRw S3 (zw P3 (h + 1) k (some a)) I3 h W3 no (zu oh k a) := by
  obtain ⟨⟨w1, w2, w3⟩, w4, w5⟩ := g
  have lo : ∀ b, b < 6000 → I3 b = I b ∧ P3 b = P b := fun b hb => ⟨(F b (by omega) (by omega)).1.1, (F b (by omega) (by omega)).2.1⟩
  refine ⟨by rw [(lo h (by omega)).1, h14, h15]; exact ⟨w1, w2, w3⟩, fun x y hx hy => by rw [(lo _ (by omega)).1, h13]; exact w4 x y hx hy, fun o hoo => ?_⟩
  obtain ⟨x1, x2, x3⟩ := w5 o hoo
  obtain ⟨y0, y1, y2, y3⟩ := ho o hoo
  by_cases e : o = k
  · subst e
    rw [zu_s]
    exact ⟨zw_s _ _ _ _, hA.o rfl rfl (zw_n _ _ _ _ (by omega)), hr⟩
  · rw [zu_n _ _ _ e]
    refine ⟨by rw [zw_a, zu_n _ _ _ e, (lo _ (by omega)).2]; exact x1, (x2.fr F y1 y2 y3).o rfl rfl (zw_n _ _ _ _ (by omega)), ?_⟩
    unfold oRw at x3 ⊢
    rw [(F _ y1 y2).1.1, (F (oh o + 8) y3 (by omega)).1.1, hrows 4 o (by decide) (by decide) e, hrows 5 o (by decide) (by decide) e, hrows 6 o (by decide) (by decide) e, hrows 7 o (by decide) (by decide) e, hrows 8 o (by decide) (by decide) e, hrows 9 o (by decide) (by decide) e, hrows 10 o (by decide) (by decide) e, hrows 11 o (by decide) (by decide) e]
    exact ⟨x3.1, x3.2.1, fun dd hd => by rw [h12 o dd e hd]; exact x3.2.2 dd hd⟩
theorem wRw.fr4 {h : Nat} {I2 : zI} {P2 : zR} {S2 : zT} (g : wRw S P I h W no oh) (f : ∀ b, (b = h ∨ b = h + 1 ∨ (h + 3 ≤ b ∧ b ≤ h + 8) ∨ ∃ o, o < no ∧ (b = oh o ∨ b = oh o + 8)) → I2 b = I b ∧ P2 b = P b ∧ S2 b = S b) : wRw S2 P2 I2 h W no oh := by
  obtain ⟨w1, w4, w5⟩ := g
  refine ⟨by rw [(f h (Or.inl rfl)).1]; exact w1, fun x y hx hy => by rw [(f _ (Or.inr (Or.inr (Or.inl (by omega))))).1]; exact w4 x y hx hy, fun o ho => ?_⟩
  obtain ⟨x1, x2, x3⟩ := w5 o ho
  obtain ⟨y1, y2, y3⟩ := f (oh o) (Or.inr (Or.inr (Or.inr ⟨o, ho, Or.inl rfl⟩)))
  obtain ⟨z1, z2, z3⟩ := f (oh o + 8) (Or.inr (Or.inr (Or.inr ⟨o, ho, Or.inr rfl⟩)))
  refine ⟨by rw [(f (h + 1) (Or.inr (Or.inl rfl))).2.1]; exact x1, x2.o y3 z3 y2, ?_⟩
  unfold oRw
  rw [y1, z1]
  exact x3
theorem va_cpy_o {α : Type} {f g : Nat → α} {m k : Nat} (h : m ≤ k) : va_cpy f g 0 0 m k = g k := by
  unfold va_cpy
  rw [if_neg (by omega)]
section TG
variable {k : Nat}
theorem tg_r {x o : Nat} (h1 : 4 ≤ x) (h2 : x ≤ 13) (h : o ≠ k) : tgD D no n k x o = D x o := by
  unfold tgD
  rw [zw_n _ _ _ _ (by omega)]
  have one : ∀ (J : zI) (y : Nat) (v : Int32), zw J y k v x o = J x o := fun J y v => by
    by_cases ex : x = y
    · rw [← ex, zw_a, zu_n _ _ _ h]
    · rw [zw_n _ _ _ _ ex]
  rw [one, one, zw_n _ _ _ _ (by omega), zu_n _ _ _ (by omega)]
theorem tg_8 : tgD D no n k 8 k = mn (nI 9) (sumI (D 8) no) := by
  unfold tgD
  rw [zw_n _ _ _ _ (by decide), zw_s]
theorem tg_9 : tgD D no n k 9 k = nI 63 := by
  unfold tgD
  rw [zw_n _ _ _ _ (by decide), zw_n _ _ _ _ (by decide), zw_s]
end TG
/-- the pieces of the one house: how far -/
def tgP (D : zI) (k N i : Nat) (I6 : zI) (P6 : zR) (S6 : zT) : Prop := ∀ p, p < i → P6 110 p = some (N + 10 + p) ∧ S6 (N + 10 + p) = some (.inl 6) ∧ pNw I6 (N + 10 + p) (D 17 p) (D 18 p) (D 19 p) (-1) (D 22 p) (nI k)
/-- another world at 220, other pieces -/
theorem xO.new {S2 : zT} {P2 : zR} (g : xO S P) (lo : ∀ a, a < 6000 → S2 a = S a) (po : ∀ a, a < 6000 → a ≠ 110 → ¬ (220 ≤ a ∧ a ≤ 228) → P2 a = P a) (q1 : wdO S2 P2 220) : xO S2 P2 := by
  obtain ⟨x1, x2, x3, x4, x5, x6, x7, x8⟩ := g
  have p100 := po 100 (by decide) (by decide) (by decide)
  exact ⟨(lo _ (by decide)).trans x1, (lo _ (by decide)).trans x2, fun k q hq => ⟨(lo _ (by have := xAr_lt hq; omega)).trans (x3 k q hq).1, by rw [p100]; exact (x3 k q hq).2⟩, by rw [p100]; exact x4,
    x5.eq (fun a h1 h2 => lo a (by omega)) (by rw [po 200 (by decide) (by decide) (by decide)]) (by rw [po 200 (by decide) (by decide) (by decide)]) (po _ (by decide) (by decide) (by decide)), q1, x7.eq (fun a h1 h2 _ => lo a (by omega)) (po _ (by decide) (by decide) (by decide)), x8.eq (fun a h1 h2 _ => lo a (by omega)) (po _ (by decide) (by decide) (by decide))⟩
theorem fX_tg {N : Nat} {I1 I6 I9 : zI} {L6 L9 : zL} {P2 P6 Pf : zR} {S6 : zT} (hN : 7000 ≤ N) (hN9 : ∀ a, N ≤ a → S a = none) (T : ∀ b, b < N → b ≠ 110 → ¬ (220 ≤ b ∧ b ≤ 228) → P6 b = P b) (TI : ∀ b, b < N → ¬ (220 ≤ b ∧ b ≤ 228) → I6 b = I b) (TL : ∀ b, b < N → L6 b = L b) (TS : ∀ b, b < N → S6 b = S b) (p220 : ∀ k, k ≠ 5 → P6 220 k = P 220 k) (p222 : P6 222 = P 222) (h9 : fH 270 I6 I1) (r9 : fR I1 L6 I9 L9) (g9 : f3 P6 P2) (hf : ∃ M, 7000 ≤ M ∧ ∀ a, M ≤ a → S6 a = none) (h110 : Pf 110 = P 110) (hPf : ∀ b, b ≠ 110 → Pf b = P2 b) : fX I L P S I9 L9 Pf S6 := by
  refine ⟨fun a ha => ?_, ⟨fun k hk => ?_, fun k hk => ?_, ?_, ?_⟩, hf⟩
  · have hl : a < N := by
      rcases ha with h | h
      · omega
      · exact Nat.lt_of_not_le fun q => h (hN9 a q)
    refine ⟨TS a hl, fun ht => ⟨?_, fun h1 => ?_, fun h1 => ?_⟩⟩
    · by_cases e : a = 110
      · subst e; exact h110
      · rw [hPf a e, g9 a (fun q => ht (Or.inl q))]; exact T a hl e (fun q => ht (Or.inr (Or.inl q)))
    · rw [r9.1 a h1, h9 a (fun q => ht (Or.inl q)) (fun q => ht (Or.inr (Or.inr q)))]; exact TI a hl (fun q => ht (Or.inr (Or.inl q)))
    · rw [r9.2.2 a h1]; exact TL a hl
  · rw [r9.2.1 k hk, h9 100 (by decide) (by decide)]; exact congrFun (TI 100 (by omega) (by omega)) k
  · rw [hPf _ (by decide), g9 _ (by decide)]; exact p220 k hk
  · rw [hPf _ (by decide), g9 _ (by decide)]; exact p222
  · rw [hPf _ (by decide), g9 _ (by decide)]; exact T 270 (by omega) (by decide) (by decide)
set_option maxHeartbeats 16000000 in
theorem o_xtogether (hX : xR D R no n np ro oh ph I L P S) (hi9 : ∀ j, 127 ≤ j → D 23 j = 0) (h12 : ∀ j, D 12 j = 0 ∨ D 12 j = 1) {o h : Int32} (k : ∀ I2 L2 P2 S2, xR (fTogether D R no n o h).2.1 (fTogether D R no n o h).2.2 no n np ro oh ph I2 L2 P2 S2 → frX I L P S I2 L2 P2 S2 → Q (.inl (some (.int (fTogether D R no n o h).1))) I2 L2 P2 S2) : Zm G mX1_together 105 (C + 11) (Sl + 165) [.ref 100, .int o, .int h] I L P S Q := by
  obtain ⟨e, ⟨g, hro⟩, ⟨⟨h29, h50⟩, hrw⟩, ⟨htx, hpr, hkp⟩, htl, hoh, hph⟩ := hX
  have hX : xR D R no n np ro oh ph I L P S := ⟨e, ⟨g, hro⟩, ⟨⟨h29, h50⟩, hrw⟩, ⟨htx, hpr, hkp⟩, htl, hoh, hph⟩
  have hx := e.x
  have hO := e.wd
  have hR := e.wr
  have hT := e.st
  have hPc := e.pc
  have hw := e.hw
  have hf := e.hx
  have hb := e.b
  have hn := e.nn
  have n8 := hw.n8
  have h6 := hw.o6
  have hn8 := hw.n8
  have hno : noD D = no := by rw [noD, show D 0 3 = nI no from hw.o3, nI_clamp (by omega)]
  have hnn : nD D = n := by rw [nD, show D 0 16 = nI n from hw.n16, nI_clamp (by omega)]
  obtain ⟨-, -, -, -, ⟨-, -, N, hN, hN9⟩, -⟩ := id hX
  have hxo := hx
  have hM := hR.1
  refine Z_entry (lv := [_, _, _, _, _, _, _, _, _]) (Nat.le_of_ble_eq_true rfl) rfl ?_
  refine Z_aload_n dX1_together_0 rfl ?_
  refine Z_iload_n dX1_together_1 rfl ?_
  refine Z_call0 (d' := 1) (zCal_V gX1_121 nX1_isOffice (by decide) dX1_together_2) pX1_isOffice hx.1 zkl0 [_] rfl rfl (Nat.le_of_ble_eq_true rfl) (by omega) (c_X1_isOffice hx hR.1.1 h6 (fun k2 hk2 e2 => ?_) (fun h2 => ?_))
  · subst e2
    have r2 : oB D (nI k2) = true := rB_t (by rw [z_ti (by omega)]; omega) (by rw [z_ti (by omega), hno]; omega)
    have v2 : (nI k2).toNatClampNeg = k2 := nI_clamp (by omega)
    refine Z_ifeq 22 dX1_together_5 rfl (fun h => absurd h (by decide)) (fun _ => ?_)
    refine Z_iload_n dX1_together_8 rfl ?_
    refine Z_callS0 (d' := 1) (zCal_S gX1_124 nX1_isHour (by decide) dX1_together_9) pX1_isHour [_] rfl rfl (Nat.le_of_ble_eq_true rfl) (by omega) (c_X1_isHour (fun h9a h9b => ?_) (fun h9 => ?_))
    · have r9 : rB h 0 2399 = true := rB_t h9a h9b
      obtain ⟨k9, hk9, e9⟩ := z_rng (n := 2399) h9a h9b (by omega)
      subst e9
      have v9 : (nI k9).toNatClampNeg = k9 := nI_clamp (by omega)
      refine Z_ifeq 22 dX1_together_12 rfl (fun h => absurd h (by decide)) (fun _ => ?_)
      refine Z_aload_n dX1_together_15 rfl ?_
      refine Z_getI hx.1 fX1_105_0 dX1_together_16 rfl ?_
      refine Z_re (y := nI (n)) hn ?_
      refine Z_ifneN 24 dX1_together_19 rfl (by omega) (fun c19 => ?_) (fun c19 => ?_)
      · have n0 : ¬ D 0 16 = 0 := fun e => c19 ((nI_z (by omega)).mp ((show D 0 16 = nI n from hw.n16).symm.trans e))
        refine Z_aload_n dX1_together_24 rfl ?_
        refine Z_getR (r := 200) hx.1 fX1_52_0 dX1_together_25 rfl hx.2.2.2.1.1 ?_
        refine Z_getR (r := (200 + 1)) hO.1 fX1_127_1 dX1_together_28 rfl hO.2.1.2 ?_
        refine Z_iload_n dX1_together_31 rfl ?_
        refine Z_aald (r := (oh k2)) hO.2.1.1 (by simp [zTys]) rfl (zix_nI (by first | omega | (dsimp only; omega)) (by decide)) (hR.2.2 k2 hk2).1 dX1_together_32 ?_
        refine Z_astore_n (lv' := [_, _, _, _, _, _, _, _, _]) dX1_together_33 rfl rfl (Nat.le_of_ble_eq_true rfl) ?_
        refine Z_iconst (nI 0) dX1_together_34 rfl ?_
        refine Z_istore (lv' := [_, _, _, _, _, _, _, _, _]) dX1_together_35 rfl rfl (Nat.le_of_ble_eq_true rfl) ?_
        refine Z_iconst (nI 0) dX1_together_37 rfl ?_
        refine Z_istore (lv' := [_, _, _, _, _, _, _, _, _]) dX1_together_38 rfl rfl (Nat.le_of_ble_eq_true rfl) ?_
        have lp40 : ∀ i, i ≤ no → Zj G mX1_together 105 (C + 11) (Sl + 165) 40 [.ref 100, .int (nI k2), .int (nI k9), .ref (oh k2), .int (sumI (D 8) i), .int (nI i), .retAddr 0, .retAddr 0, .retAddr 0] [] I L P S Q := by
          refine zloop (no) (fun i => Zj G mX1_together 105 (C + 11) (Sl + 165) 40 [.ref 100, .int (nI k2), .int (nI k9), .ref (oh k2), .int (sumI (D 8) i), .int (nI i), .retAddr 0, .retAddr 0, .retAddr 0] [] I L P S Q) (fun i hi ih => ?_)
          show Zj _ _ _ _ _ _ _ _ _ _ _ _ _
          refine Z_iload dX1_together_40 rfl ?_
          refine Z_aload_n dX1_together_42 rfl ?_
          refine Z_getR (r := 200) hx.1 fX1_52_0 dX1_together_43 rfl hx.2.2.2.1.1 ?_
          refine Z_getI hO.1 fX1_19_1 dX1_together_46 rfl ?_
          refine Z_re (y := nI (no)) hR.1.1 ?_
          refine Z_icmpgeN 76 dX1_together_49 rfl (by omega) (by omega) (fun c49 => ?_) (fun c49 => ?_)
          · have ei : i = no := by omega
            rw [ei]
            refine Z_aload_n dX1_together_76 rfl ?_
            refine Z_getR (r := 220) hx.1 fX1_56_0 dX1_together_77 rfl hx.2.2.2.1.2.1 ?_
            refine Z_aload_n dX1_together_80 rfl ?_
            refine Z_getR (r := 200) hx.1 fX1_52_0 dX1_together_81 rfl hx.2.2.2.1.1 ?_
            refine Z_call0 (d' := 1) (zCal_V gX1_346 nX2_as (by decide) dX1_together_84) pX2_as hx.2.2.2.2.2.1.1 zkl1 [_] rfl rfl (Nat.le_of_ble_eq_true rfl) (by omega) (c_X2_asB hO hx.2.2.2.2.2.1 hR htl.1.1 h6 e.ho (by decide) (by decide) (fun Ia Pa q1 q2 q3 q4 q5 q6 q7 q8 => ?_))
            have hx := hx.p (fun b hb => q6 b (by omega)) q1
            refine Z_astore (lv' := [_, _, _, _, _, _, _, _, _]) dX1_together_87 rfl rfl (Nat.le_of_ble_eq_true rfl) ?_
            refine Z_aload dX1_together_89 rfl ?_
            refine Z_null dX1_together_91 ?_
            refine Z_putN hx.2.2.2.2.2.1.1 fX1_13_1 dX1_together_92 rfl ?_
            obtain ⟨P1, eP1⟩ : ∃ P1, P1 = zw Pa 220 5 none := ⟨_, rfl⟩
            rw [← eP1]
            have q1b : wdO S P1 220 := by rw [eP1]; exact q1.w (by rw [zw_a, zu_n _ _ _ (by decide)]) (by rw [zw_a, zu_n _ _ _ (by decide)]) (zw_n _ _ _ _ (by decide))
            have q2b : wRw S P1 Ia 220 (wld D) no oh := by
              obtain ⟨w1, w2, w3⟩ := q2
              refine ⟨w1, w2, fun o ho => ?_⟩
              obtain ⟨x1, x2, x3⟩ := w3 o ho
              have := e.ho o ho
              exact ⟨by rw [eP1, zw_n _ _ _ _ (by decide)]; exact x1, x2.o rfl rfl (by rw [eP1, zw_n _ _ _ _ (by omega)]), x3⟩
            have q6b : fW 220 P P1 := by rw [eP1]; exact q6.st (by omega)
            have hx0 := hxo
            have hx := hxo.p (fun b hb => q6b b (by omega)) q1b
            refine Zj.less (C := C + 8 + 1 + 2) (Sl := Sl + 48 + 8 + 109) ?_ (Nat.le_refl _) (by omega) (by omega)
            refine Z_aload dX1_together_95 rfl ?_
            refine Z_getR (r := (220 + 1)) hx.2.2.2.2.2.1.1 fX1_127_1 dX1_together_97 rfl q1b.2.1.2 ?_
            refine Z_iload_n dX1_together_100 rfl ?_
            refine Z_aload_n dX1_together_101 rfl ?_
            refine Z_bipush (nI 9) dX1_together_102 rfl ?_
            refine Z_iload dX1_together_104 rfl ?_
            refine Z_callS0 (d' := 0) (zCal_S gX1_163 nJ5_min (by decide) dX1_together_106) pJ5_min [_, _] rfl rfl (Nat.le_of_ble_eq_true rfl) (by omega) (c_J5_min ?_)
            refine Z_bipush (nI 63) dX1_together_109 rfl ?_
            refine Z_callS (d' := 2) (C := (C + 8 + 1)) (C' := 2) (Sl := (Sl + 48 + 8)) (S' := 109) (zCal_S gX1_381 nX1_like (by decide) dX1_together_111) pX1_like [_, _, _] rfl rfl (Nat.le_of_ble_eq_true rfl) (by omega) (by omega) (by omega) (c_X1_like (a := N) (q2b.2.2 k2 hk2).2.1 (hN9 _ (Nat.le_refl _)) (hN9 _ (by omega)) (fun j hj => by rw [(q2b.2.2 k2 hk2).2.2.2.2 j hj]; exact h12 _) (fun I5 L5 P4 S5 hA gA fA => ?_))
            obtain ⟨⟨y0, y1, y2, y3⟩, ⟨y4, y5, y6, y7⟩, y8⟩ := gA
            obtain ⟨⟨p0, p1, p2, p3⟩, ⟨p4, p5, p6, p7⟩, p8⟩ := (q2b.2.2 k2 hk2).2.2
            have gT : oRw I5 N (wld (tgD D no n k2)) k2 := ⟨⟨y0.trans (p0.trans (congrFun (tgD_n (D := D) (no := no) (n := n) (o := k2) (a := 4) (by decide)) _).symm), y1.trans (p1.trans (congrFun (tgD_n (D := D) (no := no) (n := n) (o := k2) (a := 5) (by decide)) _).symm), y2.trans (p2.trans (congrFun (tgD_n (D := D) (no := no) (n := n) (o := k2) (a := 6) (by decide)) _).symm), y3.trans (p3.trans (congrFun (tgD_n (D := D) (no := no) (n := n) (o := k2) (a := 7) (by decide)) _).symm)⟩, ⟨y4.trans (tg_8 (D := D) (no := no) (n := n) (k := k2)).symm, y5.trans (tg_9 (D := D) (no := no) (n := n) (k := k2)).symm, y6.trans (p6.trans (congrFun (tgD_n (D := D) (no := no) (n := n) (o := k2) (a := 10) (by decide)) _).symm), y7.trans (p7.trans (congrFun (tgD_n (D := D) (no := no) (n := n) (o := k2) (a := 11) (by decide)) _).symm)⟩, fun dd hd => (y8 dd hd).trans ((p8 dd hd).trans (congrFun (tgD_n (D := D) (no := no) (n := n) (o := k2) (a := 12) (by decide)) _).symm)⟩
            have q1c : wdO S5 P4 220 := q1b.eq (fun a h1 h2 => (fA a (by omega) (by omega)).2.2) (by rw [(fA 220 (by omega) (by omega)).2.1]) (by rw [(fA 220 (by omega) (by omega)).2.1]) (fA 222 (by omega) (by omega)).2.1
            have q2c := q2b.sub (W3 := wld (tgD D no n k2)) (k := k2) fA h6 (fun o ho => by have := hoh o; omega) (by omega) (by decide) hA gT (fun x o h1 h2 h => wld_at (tg_r h1 (by omega) h)) (fun o dd h hd => wld_at (congrFun (tgD_n (D := D) (no := no) (n := n) (o := k2) (a := 12) (by decide)) _)) (wld_row (tgD_n (D := D) (no := no) (n := n) (o := k2) (a := 13) (by decide))) (congrFun (tgD_0 (D := D) (no := no) (n := n) (o := k2)) 14) (congrFun (tgD_0 (D := D) (no := no) (n := n) (o := k2)) 15)
            refine Z_aast q1c.2.1.1 (by simp [zTys]) hA.1 zkl5 (zix_nI (by first | omega | (dsimp only; omega)) (by decide)) dX1_together_114 ?_
            obtain ⟨P5, eP5⟩ : ∃ x, x = zw P4 (220 + 1) k2 (some N) := ⟨_, rfl⟩
            rw [← eP5]
            rw [← eP5] at q2c
            have q1d : wdO S5 P5 220 := by rw [eP5]; exact q1c.w (by rw [zw_n _ _ _ _ (by decide)]) (by rw [zw_n _ _ _ _ (by decide)]) (zw_n _ _ _ _ (by decide))
            have T5 : ∀ b, b ≠ N → b ≠ N + 8 → (I5 b = Ia b ∧ L5 b = L b) ∧ S5 b = S b ∧ (b ≠ 221 → P5 b = P1 b) := fun b h2 h3 => by
              obtain ⟨⟨z1, z2⟩, z3, z4⟩ := fA b h2 h3
              exact ⟨⟨z1, z2⟩, z4, fun h => by rw [eP5, zw_n _ _ _ _ h, z3]⟩
            have hx := hx0.new (S2 := S5) (P2 := P5) (fun j hj => (T5 j (by omega) (by omega)).2.1) (fun j hj h1 h2 => ((T5 j (by omega) (by omega)).2.2 (by omega)).trans (q6b j h2)) q1d
            have p5110 : P5 110 = P 110 := ((T5 110 (by omega) (by omega)).2.2 (by decide)).trans (q6b 110 (by decide))
            refine Z_aload_n dX1_together_115 rfl ?_
            refine Z_getR (r := 110) hx.1 fX1_47_0 dX1_together_116 rfl (hx.2.2.1 0 _ rfl).2 ?_
            refine Z_clone (ty := .object "FollowTheSun$Piece") (n := 8) (adn := "[LFollowTheSun$Piece;") (N + 9) ((T5 (N + 9) (by omega) (by omega)).2.1.trans (hN9 _ (by omega))) (hx.2.2.1 0 _ rfl).1 (by simp [zTys]) rfl (by decide) q1150 q1151 q1017 q1018 q1152 q1153 (fun j hj => by show fits _ (zrf _ _) = true; cases P5 110 j <;> rfl) (by decide) dX1_together_119 ?_
            obtain ⟨I7, eI7⟩ : ∃ x, x = zu I5 (N + 9) (I5 110) := ⟨_, rfl⟩
            obtain ⟨L7, eL7⟩ : ∃ x, x = zu L5 (N + 9) (L5 110) := ⟨_, rfl⟩
            obtain ⟨P7, eP7⟩ : ∃ x, x = zu P5 (N + 9) (P5 110) := ⟨_, rfl⟩
            obtain ⟨S7, eS7⟩ : ∃ x, x = zu S5 (N + 9) (some (.inr (.object "FollowTheSun$Piece", 8))) := ⟨_, rfl⟩
            rw [← eI7, ← eL7, ← eP7, ← eS7]
            have T7 : ∀ b, b ≠ N + 9 → (I7 b = I5 b ∧ L7 b = L5 b) ∧ P7 b = P5 b ∧ S7 b = S5 b := fun b h => by rw [eI7, eL7, eP7, eS7, zu_n _ _ _ h, zu_n _ _ _ h, zu_n _ _ _ h, zu_n _ _ _ h]; exact ⟨⟨rfl, rfl⟩, rfl, rfl⟩
            have s7 : S7 (N + 9) = (some (.inr (.object "FollowTheSun$Piece", 8))) := by rw [eS7, zu_s]
            have p7 : P7 (N + 9) = P 110 := by rw [eP7, zu_s]; exact p5110
            have T : ∀ b, b < N → b ≠ 110 → ¬ (220 ≤ b ∧ b ≤ 228) → P7 b = P b := fun b h1 h2 h3 => (T7 b (by omega)).2.1.trans (((T5 b (by omega) (by omega)).2.2 (by omega)).trans (q6b b h3))
            have TI : ∀ b, b < N → ¬ (220 ≤ b ∧ b ≤ 228) → I7 b = I b := fun b h1 h3 => (T7 b (by omega)).1.1.trans ((T5 b (by omega) (by omega)).1.1.trans (q5 b h3))
            have TL : ∀ b, b < N → L7 b = L b := fun b h1 => (T7 b (by omega)).1.2.trans (T5 b (by omega) (by omega)).1.2
            have TS : ∀ b, b < N → S7 b = S b := fun b h1 => (T7 b (by omega)).2.2.trans (T5 b (by omega) (by omega)).2.1
            have TN : ∀ b, N + 10 ≤ b → S7 b = none := fun b h1 => (T7 b (by omega)).2.2.trans ((T5 b (by omega) (by omega)).2.1.trans (hN9 b (by omega)))
            have q1e : wdO S7 P7 220 := q1d.eq (fun a h1 h2 => (T7 a (by omega)).2.2) (by rw [(T7 220 (by omega)).2.1]) (by rw [(T7 220 (by omega)).2.1]) (T7 222 (by omega)).2.1
            have h7r : P7 220 5 = none := by
              rw [(T7 220 (by omega)).2.1, (T5 220 (by omega) (by omega)).2.2 (by decide), eP1, zw_s]
            refine Z_castA (ty := .object "FollowTheSun$Piece") (n := 8) s7 (by simp [zTys]) (by decide) q1154 dX1_together_122 ?_
            refine Z_astore (lv' := [_, _, _, _, _, _, _, _, _]) dX1_together_125 rfl rfl (Nat.le_of_ble_eq_true rfl) ?_
            refine Z_iconst (nI 0) dX1_together_127 rfl ?_
            refine Z_istore (lv' := [_, _, _, _, _, _, _, _, _]) dX1_together_128 rfl rfl (Nat.le_of_ble_eq_true rfl) ?_
            have lp130 : ∀ i, i ≤ n → ∀ I6 L6 P6 S6, (∀ b, b ≠ 110 → b < N + 10 → P6 b = P7 b) → (∀ b, b < N + 10 → (I6 b = I7 b ∧ L6 b = L7 b) ∧ S6 b = S7 b) → (∀ b, N + 10 + i ≤ b → S6 b = none) → tgP D k2 N i I6 P6 S6 → (∀ j, 8 ≤ j → P6 110 j = P 110 j) → Zj G mX1_together 105 (C + (8 - i)) (Sl + 6 * (8 - i)) 130 [.ref 100, .int (nI k2), .int (nI k9), .ref (oh k2), .int (sumI (D 8) no), .ref 220, .ref (N + 9), .int (nI i), .retAddr 0] [] I6 L6 P6 S6 Q := by
              refine zloop (n) (fun i => ∀ I6 L6 P6 S6, (∀ b, b ≠ 110 → b < N + 10 → P6 b = P7 b) → (∀ b, b < N + 10 → (I6 b = I7 b ∧ L6 b = L7 b) ∧ S6 b = S7 b) → (∀ b, N + 10 + i ≤ b → S6 b = none) → tgP D k2 N i I6 P6 S6 → (∀ j, 8 ≤ j → P6 110 j = P 110 j) → Zj G mX1_together 105 (C + (8 - i)) (Sl + 6 * (8 - i)) 130 [.ref 100, .int (nI k2), .int (nI k9), .ref (oh k2), .int (sumI (D 8) no), .ref 220, .ref (N + 9), .int (nI i), .retAddr 0] [] I6 L6 P6 S6 Q) (fun i hi ih => ?_)
              intro I6 L6 P6 S6 u1 u2 u3 u4 u5
              show Zj _ _ _ _ _ _ _ _ _ _ _ _ _
              have q16 : wdO S6 P6 220 := q1e.eq (fun a h1 h2 => (u2 a (by omega)).2) (by rw [u1 220 (by decide) (by omega)]) (by rw [u1 220 (by decide) (by omega)]) (u1 222 (by decide) (by omega))
              have hx := hx0.new (S2 := S6) (P2 := P6) (fun j hj => (u2 j (by omega)).2.trans (TS j (by omega))) (fun j hj h1 h2 => (u1 j h1 (by omega)).trans (T j (by omega) h1 h2)) q16
              have hn6 : I6 100 1 = nI n := (congrFun ((u2 100 (by omega)).1.1.trans (TI 100 (by omega) (by omega))) 1).trans hn
              refine Z_iload dX1_together_130 rfl ?_
              refine Z_aload_n dX1_together_132 rfl ?_
              refine Z_getI hx.1 fX1_105_0 dX1_together_133 rfl ?_
              refine Z_re (y := nI (n)) hn6 ?_
              refine Z_icmpgeN 193 dX1_together_136 rfl (by omega) (by omega) (fun c136 => ?_) (fun c136 => ?_)
              · have ein : i = n := by omega
                have d1 : wld (tgD D no n k2) 0 37 = nI 1 := by
                  show tgD D no n k2 0 37 = _
                  rw [tgD_0, zu_s]
                have e6 : hE (wld (tgD D no n k2)) no n (zu oh k2 N) (fun p => N + 10 + p) 220 240 I6 P6 S6 := by
                  refine ⟨⟨hx, hn6⟩, ⟨q16, q2c.fr4 fun b hb => ?_⟩, ⟨hx.2.2.2.2.2.2.1, fun p hp => ?_⟩, ⟨tg_wf hw hk2, fun p hp => ?_⟩, ⟨by decide, by decide, by decide, by decide⟩, fun o ho => ?_, fun p hp => by show 6000 ≤ N + 10 + p; omega⟩
                  · have hl : b < N + 9 ∧ b ≠ 110 := by
                      rcases hb with h | h | h | ⟨o, ho, h⟩
                      · omega
                      · omega
                      · omega
                      · by_cases eo : o = k2
                        · subst eo; rw [zu_s] at h; omega
                        · rw [zu_n _ _ _ eo, hoh] at h; omega
                    exact ⟨(u2 b (by omega)).1.1.trans (T7 b (by omega)).1.1, (u1 b hl.2 (by omega)).trans (T7 b (by omega)).2.1, (u2 b (by omega)).2.trans (T7 b (by omega)).2.2⟩
                  · obtain ⟨v1, v2, ⟨v3, v4, v5⟩, v6, v7, v8⟩ := u4 p (by omega)
                    refine ⟨v1, v2, ⟨v3.trans (congrFun (tgD_n (D := D) (no := no) (n := n) (o := k2) (a := 17) (by decide)) _).symm, v4.trans (congrFun (tgD_n (D := D) (no := no) (n := n) (o := k2) (a := 18) (by decide)) _).symm, v5.trans (congrFun (tgD_n (D := D) (no := no) (n := n) (o := k2) (a := 19) (by decide)) _).symm⟩, v6.trans ?_, v7.trans (congrFun (tgD_n (D := D) (no := no) (n := n) (o := k2) (a := 22) (by decide)) _).symm, v8.trans ?_⟩
                    · unfold askd
                      rw [d1, if_neg (by decide)]
                    · show _ = tgD D no n k2 20 p
                      rw [tgD_20]
                      exact (if_pos hp).symm
                  · have q := hf p hp
                    have t19 := (congrFun (tgD_n (D := D) (no := no) (n := n) (o := k2) (a := 19) (by decide)) p)
                    have t18 := (congrFun (tgD_n (D := D) (no := no) (n := n) (o := k2) (a := 18) (by decide)) p)
                    have t22 := (congrFun (tgD_n (D := D) (no := no) (n := n) (o := k2) (a := 22) (by decide)) p)
                    have t17 := (congrFun (tgD_n (D := D) (no := no) (n := n) (o := k2) (a := 17) (by decide)) p)
                    exact ⟨q.1.imp fun _ h => ⟨h.1, t19.trans h.2⟩, q.2.1.imp fun _ h => ⟨h.1, h.2.1, t18.trans h.2.2⟩, q.2.2.1.imp fun _ h => ⟨h.1, h.2.1, t22.trans h.2.2⟩, q.2.2.2.imp fun _ h => ⟨h.1, t17.trans h.2⟩⟩
                  · by_cases eo : o = k2
                    · subst eo; rw [zu_s]; omega
                    · rw [zu_n _ _ _ eo]; exact e.ho o ho
                have hro6 : ruX I6 P6 S6 220 none := (congrFun (u1 220 (by decide) (by omega)) 5).trans h7r
                refine Z_aload_n dX1_together_193 rfl ?_
                refine Z_aload_n dX1_together_194 rfl ?_
                refine Z_getR (r := 270) hx.1 fX1_66_0 dX1_together_195 rfl hx.2.2.2.1.2.2.2.1 ?_
                refine Z_iload_n dX1_together_198 rfl ?_
                refine Z_call0 (d' := 1) (zCal_V gX1_221 nX3_begin (by decide) dX1_together_199) pX3_begin hx.2.2.2.2.2.2.2.1 zkl2 [_] rfl rfl (Nat.le_of_ble_eq_true rfl) (by omega) (c_X3_begin hx hx.2.2.2.2.2.2.2 e6.nn hn8 e6.pc (by omega) e6.hp (fun I8 gB fI => ?_))
                refine Z_null dX1_together_202 ?_
                refine Z_aload dX1_together_203 rfl ?_
                refine Z_call0 (d' := 104) (zCal_V gX1_276 nX1_endOf (by decide) dX1_together_205) pX1_endOf hx.1 zkl0 [_, _, _] rfl rfl (Nat.le_of_ble_eq_true rfl) (by omega) (c_X1_endOfB (ro := none) (e6.s70b fI) (gB (D 23)) ((congrFun (u1 220 (by decide) (by omega)) 5).trans h7r) (sf_begS (tg_wf hw hk2) hi9 (by omega)) (hk_beg hn8) (by decide) (fun q => absurd rfl q) ⟨by unfold begS; exact sumI_0 fun p hp => (layN_v n p hp hn8).2.2.2.1, by unfold begS; exact sumI_0 fun p hp => (layN_v n p hp hn8).2.2.2.2, by unfold begS; rw [layN_o (by omega) n hn8, zu_n _ _ _ (by decide), zu_s]⟩ (fun s2 t I1 I2 L2 P2 a1 a2 a3 a4 a5 a6 a7 a8 => ?_) (fun a1 I2 P2 a6 a8 => ?_))
                · have hx := hx.f3 a8
                  have a9 := a7
                  have h9 := (fH.of fI).tr a6
                  refine Z_istore (lv' := [_, _, _, _, _, _, _, _, _]) dX1_together_208 rfl rfl (Nat.le_of_ble_eq_true rfl) ?_
                  refine Z_aload dX1_together_210 rfl ?_
                  refine Z_iconst (nI 0) dX1_together_212 rfl ?_
                  refine Z_aload_n dX1_together_213 rfl ?_
                  refine Z_getR (r := 110) hx.1 fX1_47_0 dX1_together_214 rfl (hx.2.2.1 0 _ rfl).2 ?_
                  refine Z_iconst (nI 0) dX1_together_217 rfl ?_
                  refine Z_bipush (nI 8) dX1_together_218 rfl ?_
                  have p9 : P2 (N + 9) = P 110 := by rw [a8 _ (by omega), u1 (N + 9) (by omega) (by omega)]; exact p7
                  have hel : ∀ j, j < 8 → ∀ y, P2 (N + 9) (0 + j) = some y → S6 y = some (.inl 6) := fun j hj y hy => by
                    rw [p9, Nat.zero_add] at hy
                    by_cases h : j < n
                    · obtain ⟨w1, w2, -⟩ := hPc j h
                      rw [w1] at hy
                      cases hy
                      have := hph j
                      rw [(u2 (ph j) (by omega)).2, TS (ph j) (by omega)]; exact w2
                    · rw [htl.1.2 j (by omega) hj] at hy; cases hy
                  refine Z_copyR (sp := 0) (dp := 0) (n := 8) (n0 := 8) (n1 := 8) (ci := 6) (by rw [(u2 (N + 9) (by omega)).2]; exact s7) (hx.2.2.1 0 _ rfl).1 (by simp [zTys]) zkl6 q1149 q889 q888 q107 (by decide) (by decide) (by decide) hel (by decide) dX1_together_220 ?_
                  have FX : fX I L P S I2 L2 (zu P2 110 (va_cpy (P2 (N + 9)) (P2 110) 0 0 8)) S6 := fX_tg hN hN9 (fun b h1 h2 h3 => (u1 b h2 (by omega)).trans (T b h1 h2 h3)) (fun b h1 h2 => (u2 b (by omega)).1.1.trans (TI b h1 h2)) (fun b h1 => (u2 b (by omega)).1.2.trans (TL b h1)) (fun b h1 => (u2 b (by omega)).2.trans (TS b h1)) (fun k hk => ?_) ?_ h9 a9 a8 ⟨N + 10 + i, by omega, u3⟩ ?_ (fun b hb => zu_n _ _ _ hb)
                  rotate_left
                  · rw [u1 220 (by decide) (by omega), (T7 220 (by omega)).2.1, (T5 220 (by omega) (by omega)).2.2 (by decide), eP1, zw_a, zu_n _ _ _ hk]; exact q7 k hk
                  · rw [u1 222 (by decide) (by omega), (T7 222 (by omega)).2.1, (T5 222 (by omega) (by omega)).2.2 (by decide), eP1, zw_n _ _ _ _ (by decide)]; exact q8
                  · rw [zu_s]
                    funext j
                    by_cases hj : j < 8
                    · rw [va_cpy0 hj, p9]
                    · have e9 : va_cpy (P2 (N + 9)) (P2 110) 0 0 8 j = P2 110 j := va_cpy_o (by omega)
                      rw [e9, a8 110 (by decide)]
                      exact u5 j (by omega)
                  refine Z_iload dX1_together_223 rfl ?_
                  refine Z_ireturn dX1_together_225 rfl rfl ?_
                  exact xO_k (D2 := D) (R2 := _) (by rw [fTogether, if_pos (by rw [r2, r9, decide_eq_false n0]; rfl), v2, v9]; dsimp only; rw [a1]; dsimp only; rw [a2]) k (hX.go FX a5) FX.frX
                · have hx := hx.f3 a8
                  have a9 := fR.rf (I := I2) (L := L6)
                  have h9 := (fH.of fI).tr a6
                  refine Z_istore (lv' := [_, _, _, _, _, _, _, _, _]) dX1_together_208 rfl rfl (Nat.le_of_ble_eq_true rfl) ?_
                  refine Z_aload dX1_together_210 rfl ?_
                  refine Z_iconst (nI 0) dX1_together_212 rfl ?_
                  refine Z_aload_n dX1_together_213 rfl ?_
                  refine Z_getR (r := 110) hx.1 fX1_47_0 dX1_together_214 rfl (hx.2.2.1 0 _ rfl).2 ?_
                  refine Z_iconst (nI 0) dX1_together_217 rfl ?_
                  refine Z_bipush (nI 8) dX1_together_218 rfl ?_
                  have p9 : P2 (N + 9) = P 110 := by rw [a8 _ (by omega), u1 (N + 9) (by omega) (by omega)]; exact p7
                  have hel : ∀ j, j < 8 → ∀ y, P2 (N + 9) (0 + j) = some y → S6 y = some (.inl 6) := fun j hj y hy => by
                    rw [p9, Nat.zero_add] at hy
                    by_cases h : j < n
                    · obtain ⟨w1, w2, -⟩ := hPc j h
                      rw [w1] at hy
                      cases hy
                      have := hph j
                      rw [(u2 (ph j) (by omega)).2, TS (ph j) (by omega)]; exact w2
                    · rw [htl.1.2 j (by omega) hj] at hy; cases hy
                  refine Z_copyR (sp := 0) (dp := 0) (n := 8) (n0 := 8) (n1 := 8) (ci := 6) (by rw [(u2 (N + 9) (by omega)).2]; exact s7) (hx.2.2.1 0 _ rfl).1 (by simp [zTys]) zkl6 q1149 q889 q888 q107 (by decide) (by decide) (by decide) hel (by decide) dX1_together_220 ?_
                  have FX : fX I L P S I2 L6 (zu P2 110 (va_cpy (P2 (N + 9)) (P2 110) 0 0 8)) S6 := fX_tg hN hN9 (fun b h1 h2 h3 => (u1 b h2 (by omega)).trans (T b h1 h2 h3)) (fun b h1 h2 => (u2 b (by omega)).1.1.trans (TI b h1 h2)) (fun b h1 => (u2 b (by omega)).1.2.trans (TL b h1)) (fun b h1 => (u2 b (by omega)).2.trans (TS b h1)) (fun k hk => ?_) ?_ h9 a9 a8 ⟨N + 10 + i, by omega, u3⟩ ?_ (fun b hb => zu_n _ _ _ hb)
                  rotate_left
                  · rw [u1 220 (by decide) (by omega), (T7 220 (by omega)).2.1, (T5 220 (by omega) (by omega)).2.2 (by decide), eP1, zw_a, zu_n _ _ _ hk]; exact q7 k hk
                  · rw [u1 222 (by decide) (by omega), (T7 222 (by omega)).2.1, (T5 222 (by omega) (by omega)).2.2 (by decide), eP1, zw_n _ _ _ _ (by decide)]; exact q8
                  · rw [zu_s]
                    funext j
                    by_cases hj : j < 8
                    · rw [va_cpy0 hj, p9]
                    · have e9 : va_cpy (P2 (N + 9)) (P2 110) 0 0 8 j = P2 110 j := va_cpy_o (by omega)
                      rw [e9, a8 110 (by decide)]
                      exact u5 j (by omega)
                  refine Z_iload dX1_together_223 rfl ?_
                  refine Z_ireturn dX1_together_225 rfl rfl ?_
                  exact xO_k (D2 := D) (R2 := R) (by rw [fTogether, if_pos (by rw [r2, r9, decide_eq_false n0]; rfl), v2, v9]; dsimp only; rw [a1]) k (hX.go FX (hrw.fX (by rw [h9 100 (by decide) (by decide), (u2 100 (by omega)).1.1, TI 100 (by omega) (by omega)]) ((u2 302 (by omega)).1.2.trans (TL 302 (by omega))))) FX.frX
              · refine Z_aload_n dX1_together_139 rfl ?_
                refine Z_getR (r := 110) hx.1 fX1_47_0 dX1_together_140 rfl (hx.2.2.1 0 _ rfl).2 ?_
                refine Z_iload dX1_together_143 rfl ?_
                refine Zj.less (C := C + (8 - (i + 1)) + 1) (Sl := Sl + 6 * (8 - (i + 1)) + 6) ?_ (Nat.le_refl _) (by omega) (by omega)
                refine Z_new (N + 10 + i) (u3 _ (Nat.le_refl _)) wX1_45 dX1_together_145 ?_
                have hx := hx.new (S2 := zu S6 (N + 10 + i) (some (.inl 6))) (P2 := zu P6 (N + 10 + i) fun _ => none) (fun j hj => zu_n _ _ _ (by omega)) (fun j hj h1 h2 => zu_n _ _ _ (by omega)) (q16.eq (fun a h1 h2 => zu_n _ _ _ (by omega)) (by rw [zu_n _ _ _ (by omega)]) (by rw [zu_n _ _ _ (by omega)]) (zu_n _ _ _ (by omega)))
                have sA : zu S6 (N + 10 + i) (some (.inl 6)) (N + 9) = (some (.inr (.object "FollowTheSun$Piece", 8))) := by rw [zu_n _ _ _ (by omega), (u2 (N + 9) (by omega)).2]; exact s7
                obtain ⟨w1, w2, ⟨w3, w4, w5⟩, -, w7, -⟩ := hPc i (by omega)
                have hphi := hph i
                have pA : zu P6 (N + 10 + i) (fun _ => none) (N + 9) i = some (ph i) := by rw [zu_n _ _ _ (by omega), u1 (N + 9) (by omega) (by omega), p7]; exact w1
                have sB : zu S6 (N + 10 + i) (some (.inl 6)) (ph i) = some (.inl 6) := by rw [zu_n _ _ _ (by omega), (u2 (ph i) (by omega)).2, TS (ph i) (by omega)]; exact w2
                have vB : zu I6 (N + 10 + i) (fun _ => 0) (ph i) = I (ph i) := by rw [zu_n _ _ _ (by omega), (u2 (ph i) (by omega)).1.1]; exact TI (ph i) (by omega) (by omega)
                refine Z_dup dX1_together_148 rfl ?_
                refine Z_aload dX1_together_149 rfl ?_
                refine Z_iload dX1_together_151 rfl ?_
                refine Z_aald (r := (ph i)) sA (by simp [zTys]) rfl (zix_nI (by first | omega | (dsimp only; omega)) (by decide)) pA dX1_together_153 ?_
                refine Z_getI sB fX1_290_6 dX1_together_154 rfl ?_
                refine Z_re (y := D 17 i) ((congrFun vB 0).trans w3) ?_
                refine Z_aload dX1_together_157 rfl ?_
                refine Z_iload dX1_together_159 rfl ?_
                refine Z_aald (r := (ph i)) sA (by simp [zTys]) rfl (zix_nI (by first | omega | (dsimp only; omega)) (by decide)) pA dX1_together_161 ?_
                refine Z_getI sB fX1_331_6 dX1_together_162 rfl ?_
                refine Z_re (y := D 18 i) ((congrFun vB 1).trans w4) ?_
                refine Z_aload dX1_together_165 rfl ?_
                refine Z_iload dX1_together_167 rfl ?_
                refine Z_aald (r := (ph i)) sA (by simp [zTys]) rfl (zix_nI (by first | omega | (dsimp only; omega)) (by decide)) pA dX1_together_169 ?_
                refine Z_getI sB fX1_390_6 dX1_together_170 rfl ?_
                refine Z_re (y := D 19 i) ((congrFun vB 2).trans w5) ?_
                refine Z_iload_n dX1_together_173 rfl ?_
                refine Z_iconst (-1) dX1_together_174 rfl ?_
                refine Z_aload dX1_together_175 rfl ?_
                refine Z_iload dX1_together_177 rfl ?_
                refine Z_aald (r := (ph i)) sA (by simp [zTys]) rfl (zix_nI (by first | omega | (dsimp only; omega)) (by decide)) pA dX1_together_179 ?_
                refine Z_getI sB fX1_337_6 dX1_together_180 rfl ?_
                refine Z_re (y := D 22 i) ((congrFun vB 4).trans w7) ?_
                refine Z_call0 (d' := 1) (zCal_I q557 q95 q555 q556 rfl nX7_init (by decide) dX1_together_183) pX7_init (by simp [zu]) zkl6 [_, _, _, _, _, _] rfl rfl (Nat.le_of_ble_eq_true rfl) (by omega) (c_X7_init (zu_s _ _ _) (fun I9 gP FP => ?_))
                refine Z_aast (hx.2.2.1 0 _ rfl).1 (by simp [zTys]) (by simp [zu]) zkl6 (zix_nI (by first | omega | (dsimp only; omega)) (by decide)) dX1_together_186 ?_
                refine Z_iincN (a := _) (k := 1) (lv' := [_, _, _, _, _, _, _, _, _]) dX1_together_187 rfl rfl rfl rfl ?_
                refine Z_goto 130 dX1_together_190 rfl ?_
                have ih2 := ih (by omega) I9 (zu L6 (N + 10 + i) fun _ => 0) (zw (zu P6 (N + 10 + i) fun _ => none) 110 i (some (N + 10 + i))) (zu S6 (N + 10 + i) (some (.inl 6))) (fun b h1 h2 => by rw [zw_n _ _ _ _ h1, zu_n _ _ _ (by omega)]; exact u1 b h1 h2) (fun b h => by rw [FP b (by omega), zu_n _ _ _ (by omega), zu_n _ _ _ (by omega), zu_n _ _ _ (by omega)]; exact u2 b h) (fun b h => by rw [zu_n _ _ _ (by omega)]; exact u3 b (by omega)) (fun p hp => ?_) (fun j hj => by rw [zw_a, zu_n _ _ _ (by omega), zu_n _ _ _ (by omega)]; exact u5 j hj)
                · exact Z_fgt ih2 (by repeat first | exact zwk_n | refine zwk_f ?_ | refine zwk_c rfl ?_)
                by_cases ep : p = i
                · subst ep
                  exact ⟨by rw [zw_s], zu_s _ _ _, gP⟩
                · obtain ⟨v1, v2, v3⟩ := u4 p (by omega)
                  refine ⟨by rw [zw_a, zu_n _ _ _ ep, zu_n _ _ _ (by omega)]; exact v1, by rw [zu_n _ _ _ (by omega)]; exact v2, ?_⟩
                  unfold pNw at v3 ⊢
                  rw [FP _ (by omega), zu_n _ _ _ (by omega)]
                  exact v3
            exact Zj.less (Z_fgt (lp130 0 (by omega) I7 L7 P7 S7 (fun _ _ _ => rfl) (fun _ _ => ⟨⟨rfl, rfl⟩, rfl⟩) TN (fun p hp => absurd hp (by omega)) (fun j hj => by rw [(T7 110 (by omega)).2.1, p5110])) (by repeat first | exact zwk_n | refine zwk_f ?_ | refine zwk_c rfl ?_)) (Nat.le_refl _) (by omega) (by omega)
          · refine Z_iload dX1_together_52 rfl ?_
            refine Z_aload_n dX1_together_54 rfl ?_
            refine Z_getR (r := 200) hx.1 fX1_52_0 dX1_together_55 rfl hx.2.2.2.1.1 ?_
            refine Z_getR (r := (200 + 1)) hO.1 fX1_127_1 dX1_together_58 rfl hO.2.1.2 ?_
            refine Z_iload dX1_together_61 rfl ?_
            refine Z_aald (r := (oh i)) hO.2.1.1 (by simp [zTys]) rfl (zix_nI (by first | omega | (dsimp only; omega)) (by decide)) (hR.2.2 i (by omega)).1 dX1_together_63 ?_
            refine Z_getI (hR.2.2 i (by omega)).2.1.1 fX1_296_5 dX1_together_64 rfl ?_
            refine Z_re (y := D 8 i) (hR.2.2 i (by omega)).2.2.2.1.1 ?_
            refine Z_iadd dX1_together_67 ?_
            refine Z_istore (lv' := [_, _, _, _, _, _, _, _, _]) dX1_together_68 rfl rfl (Nat.le_of_ble_eq_true rfl) ?_
            refine Z_iincN (a := _) (k := 1) (lv' := [_, _, _, _, _, _, _, _, _]) dX1_together_70 rfl rfl rfl rfl ?_
            refine Z_goto 40 dX1_together_73 rfl ?_
            exact ih (by omega)
        exact lp40 0 (by omega)
      · refine Z_iconst (-1) dX1_together_22 rfl ?_
        refine Z_ireturn dX1_together_23 rfl rfl ?_
        exact xO_k (D2 := D) (R2 := R) (by simp [fTogether, show D 0 16 = nI n from hw.n16, nI_0, r2, v2, r9, v9, c19]) k hX frX.rf
    · have r9 : rB h 0 2399 = false := rB_f h9
      refine Z_ifeq 22 dX1_together_12 rfl (fun _ => ?_) (fun h => absurd h (by decide))
      refine Z_iconst (-1) dX1_together_22 rfl ?_
      refine Z_ireturn dX1_together_23 rfl rfl ?_
      exact xO_k (D2 := D) (R2 := R) (by simp [fTogether, show D 0 16 = nI n from hw.n16, nI_0, r2, v2, r9]) k hX frX.rf
  · have r2 : oB D o = false := rB_f (fun q => h2 ⟨q.1, by have := q.2; rw [hno] at this; omega⟩)
    refine Z_ifeq 22 dX1_together_5 rfl (fun _ => ?_) (fun h => absurd h (by decide))
    refine Z_iconst (-1) dX1_together_22 rfl ?_
    refine Z_ireturn dX1_together_23 rfl rfl ?_
    exact xO_k (D2 := D) (R2 := R) (by simp [fTogether, show D 0 16 = nI n from hw.n16, nI_0, r2]) k hX frX.rf
end X29C
