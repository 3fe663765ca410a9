set_option maxRecDepth 100000
/-! THE COMPONENT, part 14: what may be wrong; an end that is told -/
section X14C
variable {G : zG} {d C Sl : Nat} {I D W : zI} {R : List Int64} {L : zL} {P : zR} {S : zT} {Q : zQ} {no n np : Nat} {s : zS} {oh ph : Nat → Nat} {ro : Option (List Nat)}
section NW
variable {I2 : zI} {L2 L3 : zL} {P2 : zR} {S2 : zT} {a : Nat}
/-- a thing is new -/
theorem fX.nw {f : Nat → Int32} {f2 : Nat → Int64} {f3 : Nat → Option Nat} {x : Nat ⊕ (FieldType × Nat)} (h : fX I L P S I2 L2 P2 S2) (ha : 7000 ≤ a) (hs : S2 a = none) : fX I L P S (zu I2 a f) (zu L2 a f2) (zu P2 a f3) (zu S2 a (some x)) := by
  obtain ⟨g, ⟨b1, b2, b3, b4⟩, N, n1, n2⟩ := h
  have ne : ∀ b, (b < 7000 ∨ S b ≠ none) → b ≠ a := fun b hb e => by
    subst e
    rcases hb with h | h
    · omega
    · exact h (by rw [← (g b (Or.inr h)).1]; exact hs)
  refine ⟨fun b hb => ?_, ⟨fun k hk => by rw [zu_n _ _ _ (by omega)]; exact b1 k hk, fun k hk => by rw [zu_n _ _ _ (by omega)]; exact b2 k hk, by rw [zu_n _ _ _ (by omega)]; exact b3, by rw [zu_n _ _ _ (by omega)]; exact b4⟩, max N (a + 1), by omega, fun b hb => by rw [zu_n _ _ _ (by omega)]; exact n2 b (by omega)⟩
  rw [zu_n _ _ _ (ne b hb), zu_n _ _ _ (ne b hb), zu_n _ _ _ (ne b hb), zu_n _ _ _ (ne b hb)]
  exact g b hb
theorem fX.l (h : fX I L P S I2 L2 P2 S2) (hl : ∀ b, (b < 7000 ∨ S b ≠ none) → L3 b = L2 b) : fX I L P S I2 L3 P2 S2 := by
  obtain ⟨g, b, n⟩ := h
  exact ⟨fun x hx => ⟨(g x hx).1, fun ht => ⟨((g x hx).2 ht).1, ((g x hx).2 ht).2.1, fun h9 => (hl x hx).trans (((g x hx).2 ht).2.2 h9)⟩⟩, b, n⟩
theorem hE.nw {w h : Nat} (e : hE W no n oh ph w h I P S) {f : Nat → Int32} {f3 : Nat → Option Nat} {x : Option (Nat ⊕ (FieldType × Nat))} (ha : 7000 ≤ a) (hs : S a = none) : hE W no n oh ph w h (zu I a f) (zu P a f3) (zu S a x) := by
  obtain ⟨⟨⟨x1, x2, x3, x4, x5, x6, x7, x8⟩, a2⟩, ⟨b1, b2⟩, ⟨c1, c2⟩, d1, ⟨d2, d22, d23, d24⟩, d3, d4⟩ := e
  have so : ∀ b, b < 7000 → zu S a x b = S b := fun b hb => zu_n _ _ _ (by omega)
  have po : ∀ b, b < 7000 → zu P a f3 b = P b := fun b hb => zu_n _ _ _ (by omega)
  refine ⟨⟨⟨(so _ (by decide)).trans x1, (so _ (by decide)).trans x2, fun k q hq => ⟨(so _ (by have := xAr_lt hq; omega)).trans (x3 k q hq).1, by rw [po _ (by decide)]; exact (x3 k q hq).2⟩, by rw [po _ (by decide)]; exact x4, x5.eq (fun b h1 h2 => so b (by omega)) (by rw [po _ (by decide)]) (by rw [po _ (by decide)]) (po _ (by decide)), x6.eq (fun b h1 h2 => so b (by omega)) (by rw [po _ (by decide)]) (by rw [po _ (by decide)]) (po _ (by decide)), x7.eq (fun b h1 h2 _ => so b (by omega)) (po _ (by decide)), x8.eq (fun b h1 h2 _ => so b (by omega)) (po _ (by decide))⟩, by rw [zu_n _ _ _ (by omega)]; exact a2⟩, ⟨b1.eq (fun b h1 h2 => so b (by omega)) (by rw [po _ (by omega)]) (by rw [po _ (by omega)]) (po _ (by omega)), ?_⟩, ⟨c1.eq (fun b h1 h2 _ => so b (by omega)) (po _ (by omega)), fun p hp => ?_⟩, d1, ⟨d2, d22, d23, d24⟩, d3, d4⟩
  · obtain ⟨w1, w2, w3⟩ := b2
    refine ⟨by rw [zu_n _ _ _ (by omega)]; exact w1, fun x y hx hy => by rw [zu_n _ _ _ (by omega)]; exact w2 x y hx hy, fun o ho => ?_⟩
    obtain ⟨q1, ⟨q2, q3, q4⟩, q5⟩ := w3 o ho
    have n1 : oh o ≠ a := fun e => by rw [e, hs] at q2; cases q2
    have n2 : oh o + 8 ≠ a := fun e => by rw [e, hs] at q3; cases q3
    refine ⟨by rw [zu_n _ _ _ (by omega)]; exact q1, ⟨by rw [zu_n _ _ _ n1]; exact q2, by rw [zu_n _ _ _ n2]; exact q3, by rw [zu_n _ _ _ n1]; exact q4⟩, ?_⟩
    unfold oRw
    rw [zu_n _ _ _ n1, zu_n _ _ _ n2]
    exact q5
  · obtain ⟨q1, q2, q3⟩ := c2 p hp
    have n1 : ph p ≠ a := fun e => by rw [e, hs] at q2; cases q2
    refine ⟨by rw [zu_n _ _ _ (by omega)]; exact q1, by rw [zu_n _ _ _ n1]; exact q2, ?_⟩
    rw [zu_n _ _ _ n1]
    exact q3
end NW
theorem chN_hi : ∀ i j, i < j → chN s i j = 0 := by
  intro i
  induction i with
  | zero => intro j hj; rw [chN, if_neg (by omega)]
  | succ i ih => intro j hj; rw [chN, ih j (by omega), if_neg (by omega), ih (j - 1) (by omega)]; simp
theorem sumL_z {f : Nat → Int64} {a : Nat} : ∀ b, a ≤ b → (∀ i, a ≤ i → i < b → f i = 0) → sumL f b = sumL f a := by
  intro b
  induction b with
  | zero => intro h _; rw [show a = 0 by omega]
  | succ b ih =>
    intro h hz
    by_cases e : a = b + 1
    · rw [e]
    · rw [sumL, ih (by omega) (fun i h1 h2 => hz i h1 (by omega)), hz b (by omega) (by omega)]; simp
set_option maxHeartbeats 8000000 in
theorem o_xwrong (hX : xR D R no n np ro oh ph I L P S) (hsf : sf (wld D) no n (D 23)) {B : Nat} (hkB : hk (D 23) n B) (hB : B < 2 ^ 28) (h37 : ro ≠ none → wld D 0 37 = 0) {x : Int32} (k : ∀ I2 L2 P2 S2, xR (fWrong D R x).2.1 (fWrong D R x).2.2 no n np ro oh ph I2 L2 P2 S2 → frX I L P S I2 L2 P2 S2 → Q (.inl (some (.int (fWrong D R x).1))) I2 L2 P2 S2) : Zm G mX1_wrong 2 (C + 1) (Sl + 9) [.ref 100, .int x] I L P S Q := by
  obtain ⟨e, ⟨g, hro⟩, ⟨⟨h29, h50⟩, hrw⟩, ⟨htx, hpr, hkp⟩, htl, hoh, hph⟩ := hX
  have hX : xR D R no n np ro oh ph I L P S := ⟨e, ⟨g, hro⟩, ⟨⟨h29, h50⟩, hrw⟩, ⟨htx, hpr, hkp⟩, htl, hoh, hph⟩
  have hx := e.x
  have hO := e.wd
  have hR := e.wr
  have hT := e.st
  have hPc := e.pc
  have hw := e.hw
  have hf := e.hx
  have hb := e.b
  have hn := e.nn
  have n8 := hw.n8
  have h6 := hw.o6
  have hn8 := hw.n8
  have hno : noD D = no := by rw [noD, show D 0 3 = nI no from hw.o3, nI_clamp (by omega)]
  have hnn : nD D = n := by rw [nD, show D 0 16 = nI n from hw.n16, nI_clamp (by omega)]
  obtain ⟨b, hb6, hb⟩ := hsf.bk
  have vb : (D 23 2).toNatClampNeg = b := by rw [hb, nI_clamp (by omega)]
  obtain ⟨-, -, -, -, ⟨-, -, hN⟩, -⟩ := id hX
  obtain ⟨N9, hN7, hNf⟩ := hN
  obtain ⟨m, hm⟩ : ∃ m, m = min 8 b := ⟨_, rfl⟩
  have hm8 : m ≤ 8 := by omega
  have hM := hR.1
  refine Z_entry (lv := [_, _, _, _, _, _, _, _, _]) (Nat.le_of_ble_eq_true rfl) rfl ?_
  refine Z_iload_n dX1_wrong_0 rfl ?_
  refine Z_iconst (nI 0) dX1_wrong_1 rfl ?_
  refine Z_bipush (nI 8) dX1_wrong_2 rfl ?_
  refine Z_callS0 (d' := 0) (zCal_S gX1_3 nX1_in (by decide) dX1_wrong_4) pX1_in [_, _, _] rfl rfl (Nat.le_of_ble_eq_true rfl) (by omega) (c_X1_in (fun h4a h4b => ?_) (fun h4 => ?_))
  · have r4 : rB x 0 8 = true := rB_t h4a h4b
    obtain ⟨k4, hk4, e4⟩ := z_rng (n := 8) h4a h4b (by omega)
    subst e4
    have v4 : (nI k4).toNatClampNeg = k4 := nI_clamp (by omega)
    refine Z_ifne 12 dX1_wrong_7 rfl (fun _ => ?_) (fun h => absurd h (by decide))
    refine Z_bipush (nI 8) dX1_wrong_12 rfl ?_
    refine Z_aload_n dX1_wrong_14 rfl ?_
    refine Z_call0 (d' := 1) (zCal_V gX1_366 nX1_kept (by decide) dX1_wrong_15) pX1_kept hx.1 zkl0 [] rfl rfl (Nat.le_of_ble_eq_true rfl) (by omega) (c_X1_kept hx g hkB hB hb ?_)
    refine Z_callS0 (d' := 0) (zCal_S gX1_163 nJ5_min (by decide) dX1_wrong_18) pJ5_min [_, _] rfl rfl (Nat.le_of_ble_eq_true rfl) (by omega) (c_J5_min ?_)
    refine Z_re (y := nI m) (by rw [hm]; exact mn8 hb6) ?_
    refine Z_istore_n (lv' := [_, _, _, _, _, _, _, _, _]) dX1_wrong_21 rfl rfl (Nat.le_of_ble_eq_true rfl) ?_
    refine Z_iload_n dX1_wrong_22 rfl ?_
    refine Z_iconst (nI 1) dX1_wrong_23 rfl ?_
    refine Z_iaddN dX1_wrong_24 ?_
    refine Zj.less (C := C + 1) (Sl := Sl + (m + 1)) ?_ (Nat.le_refl _) (by omega) (by omega)
    refine Z_newa (N := m + 1) N9 (hNf _ (Nat.le_refl _)) .long (by simp [zTys, newarray.typeOf]) rfl q321 (nI_pos (by omega)) (nI_clamp (by omega)) (by show (m + 1) * 8 ≤ _; omega) dX1_wrong_25 ?_
    obtain ⟨I9, eI⟩ : ∃ x, x = zu I N9 (fun _ => 0) := ⟨_, rfl⟩
    obtain ⟨L9, eL⟩ : ∃ x, x = zu L N9 (fun _ => 0) := ⟨_, rfl⟩
    obtain ⟨P9, eP⟩ : ∃ x, x = zu P N9 (fun _ => none) := ⟨_, rfl⟩
    obtain ⟨S9, eS⟩ : ∃ x, x = zu S N9 (some (.inr (.long, m + 1))) := ⟨_, rfl⟩
    show Zj _ _ _ _ _ _ _ _ (zu I N9 (fun _ => 0)) (zu L N9 (fun _ => 0)) (zu P N9 (fun _ => none)) (zu S N9 (some (.inr (.long, m + 1)))) _
    rw [← eI, ← eL, ← eP, ← eS]
    have hS9 : S9 N9 = some (.inr (.long, m + 1)) := by rw [eS]; exact zu_s _ _ _
    have e9 : hE (wld D) no n oh ph 200 240 I9 P9 S9 := by rw [eI, eP, eS]; exact e.nw hN7 (hNf _ (Nat.le_refl _))
    have hx := e9.x
    have hT := e9.st
    have g9 : sRw n I9 240 (D 23) := by rw [eI]; exact g.fr (fun k hk => zu_n _ _ _ (by omega))
    have F9 : fX I L P S I9 L9 P9 S9 := by rw [eI, eL, eP, eS]; exact (fX.rf ⟨N9, hN7, hNf⟩).nw hN7 (hNf _ (Nat.le_refl _))
    have z9 : ∀ j, L9 N9 j = 0 := fun j => by rw [eL, zu_s]
    have hl9 : ∀ b, (b < 7000 ∨ S b ≠ none) → b ≠ N9 := fun b hb e => by
      subst e
      rcases hb with h | h
      · omega
      · exact h (hNf _ (Nat.le_refl _))
    refine Z_astore_n (lv' := [_, _, _, _, _, _, _, _, _]) dX1_wrong_27 rfl rfl (Nat.le_of_ble_eq_true rfl) ?_
    refine Z_aload_n dX1_wrong_28 rfl ?_
    refine Z_iconst (nI 0) dX1_wrong_29 rfl ?_
    refine Z_lconst (1) dX1_wrong_30 rfl ?_
    refine Z_last hS9 (zix_nI (by omega) (by omega)) dX1_wrong_31 ?_
    refine Z_lconst (1) dX1_wrong_32 rfl ?_
    refine Z_lstore (lv' := [_, _, _, _, _, _, _, _, _]) dX1_wrong_33 rfl rfl (Nat.le_of_ble_eq_true rfl) ?_
    refine Z_iconst (nI 0) dX1_wrong_35 rfl ?_
    refine Z_istore (lv' := [_, _, _, _, _, _, _, _, _]) dX1_wrong_36 rfl rfl (Nat.le_of_ble_eq_true rfl) ?_
    have lp38 : ∀ h, h ≤ m → ∀ L2, (∀ j, j ≤ m → L2 N9 j = chN (D 23) h j) → (∀ b, b ≠ N9 → L2 b = L9 b) → Zj G mX1_wrong 2 C Sl 38 [.ref 100, .int (nI k4), .int (nI m), .ref N9, .long (p100 h), .retAddr 0, .int (nI h), .retAddr 0, .retAddr 0] [] I9 L2 P9 S9 Q := by
      refine zloop (m) (fun h => ∀ L2, (∀ j, j ≤ m → L2 N9 j = chN (D 23) h j) → (∀ b, b ≠ N9 → L2 b = L9 b) → Zj G mX1_wrong 2 C Sl 38 [.ref 100, .int (nI k4), .int (nI m), .ref N9, .long (p100 h), .retAddr 0, .int (nI h), .retAddr 0, .retAddr 0] [] I9 L2 P9 S9 Q) (fun h hh ihh => ?_)
      intro L2 g1 g2
      show Zj _ _ _ _ _ _ _ _ _ _ _ _ _
      refine Z_iload dX1_wrong_38 rfl ?_
      refine Z_iload_n dX1_wrong_40 rfl ?_
      refine Z_icmpgeN 133 dX1_wrong_41 rfl (by omega) (by omega) (fun c41 => ?_) (fun c41 => ?_)
      · have eh : h = m := by omega
        refine Z_lconst (0) dX1_wrong_133 rfl ?_
        refine Z_lstore (lv' := [_, _, _, _, _, _, _, _, _]) dX1_wrong_134 rfl rfl (Nat.le_of_ble_eq_true rfl) ?_
        refine Z_iload_n dX1_wrong_136 rfl ?_
        refine Z_istore (lv' := [_, _, _, _, _, _, _, _, _]) dX1_wrong_137 rfl rfl (Nat.le_of_ble_eq_true rfl) ?_
        have lp139 : ∀ r, r ≤ m + 1 - k4 → Zj G mX1_wrong 2 C Sl 139 [.ref 100, .int (nI k4), .int (nI m), .ref N9, .long (p100 m), .retAddr 0, .long (sumL (fun i => chN (D 23) m (k4 + i)) r), .retAddr 0, .int (nI (k4 + r))] [] I9 L2 P9 S9 Q := by
          refine zloop (m + 1 - k4) (fun r => Zj G mX1_wrong 2 C Sl 139 [.ref 100, .int (nI k4), .int (nI m), .ref N9, .long (p100 m), .retAddr 0, .long (sumL (fun i => chN (D 23) m (k4 + i)) r), .retAddr 0, .int (nI (k4 + r))] [] I9 L2 P9 S9 Q) (fun r hr ihr => ?_)
          show Zj _ _ _ _ _ _ _ _ _ _ _ _ _
          refine Z_iload dX1_wrong_139 rfl ?_
          refine Z_iload_n dX1_wrong_141 rfl ?_
          refine Z_icmpgtN 160 dX1_wrong_142 rfl (by omega) (by omega) (fun c142 => ?_) (fun c142 => ?_)
          · have er : r = m + 1 - k4 := by omega
            refine Z_aload_n dX1_wrong_160 rfl ?_
            refine Z_lload dX1_wrong_161 rfl ?_
            refine Z_lload dX1_wrong_163 rfl ?_
            refine Z_call0 (d' := 1) (zCal_V gX1_375 nX1_tellPart (by decide) dX1_wrong_165) pX1_tellPart hx.1 zkl0 [_, _] rfl rfl (Nat.le_of_ble_eq_true rfl) (by omega) (c_X1_tellPart hx (p100_ne m hm8) (fun J1 M1 u1 v1 => ?_))
            refine Z_iconst (nI 0) dX1_wrong_168 rfl ?_
            refine Z_ireturn dX1_wrong_169 rfl rfl ?_
            have es : sumL (fun i => chN (D 23) m (k4 + i)) (9 - k4) = sumL (fun i => chN (D 23) m (k4 + i)) r := by rw [er]; exact sumL_z _ (by omega) (fun i h1 h2 => chN_hi m (k4 + i) (by omega))
            exact xO_k (D2 := D) (R2 := frc (sumL (fun i => chN (D 23) m (k4 + i)) r) (p100 m)) (by rw [fWrong, if_pos r4, v4, vb, ← hm, es]) k (hX.go ((F9.l (fun b hb => g2 b (hl9 b hb))).fR v1) u1) ((F9.l (fun b hb => g2 b (hl9 b hb))).fR v1).frX
          · refine Z_lload dX1_wrong_145 rfl ?_
            refine Z_aload_n dX1_wrong_147 rfl ?_
            refine Z_iload dX1_wrong_148 rfl ?_
            refine Z_lald hS9 (zix_nI (by omega) (by omega)) dX1_wrong_150 ?_
            refine Z_ladd dX1_wrong_151 ?_
            refine Z_lstore (lv' := [_, _, _, _, _, _, _, _, _]) dX1_wrong_152 rfl rfl (Nat.le_of_ble_eq_true rfl) ?_
            refine Z_iincN (a := _) (k := 1) (lv' := [_, _, _, _, _, _, _, _, _]) dX1_wrong_154 rfl rfl rfl rfl ?_
            refine Z_goto 139 dX1_wrong_157 rfl ?_
            have ih2 := ihr (by omega)
            have g1b := g1 (k4 + r) (by omega)
            rw [eh] at g1b
            rw [sumL, ← g1b] at ih2
            exact ih2
        rw [eh] at g1
        rw [eh]
        exact lp139 0 (by omega)
      · refine Z_aload_n dX1_wrong_44 rfl ?_
        refine Z_getR (r := 240) hx.1 fX1_62_0 dX1_wrong_45 rfl hx.2.2.2.1.2.2.1 ?_
        refine Z_getR (r := (240 + 12)) hT.1 fX1_370_2 dX1_wrong_48 rfl (hT.2.1 12 _ rfl).2 ?_
        refine Z_iload dX1_wrong_51 rfl ?_
        refine Z_iald (hT.2.1 12 _ rfl).1 (zix_nI (by omega) (by decide)) dX1_wrong_53 ?_
        refine Z_re (g9.2.2.2 h (by rw [hb, nI_clamp (by omega)]; omega)) ?_
        refine Z_istore (lv' := [_, _, _, _, _, _, _, _, _]) dX1_wrong_54 rfl rfl (Nat.le_of_ble_eq_true rfl) ?_
        refine Z_iload dX1_wrong_56 rfl ?_
        refine Z_iconst (nI 1) dX1_wrong_58 rfl ?_
        refine Z_iaddN dX1_wrong_59 ?_
        refine Z_istore (lv' := [_, _, _, _, _, _, _, _, _]) dX1_wrong_60 rfl rfl (Nat.le_of_ble_eq_true rfl) ?_
        have lp62 : ∀ q, q ≤ h + 2 → ∀ L2, (∀ j, j ≤ m → L2 N9 j = if h + 2 - q ≤ j then chN (D 23) (h + 1) j else chN (D 23) h j) → (∀ b, b ≠ N9 → L2 b = L9 b) → Zj G mX1_wrong 2 C Sl 62 [.ref 100, .int (nI k4), .int (nI m), .ref N9, .long (p100 h), .retAddr 0, .int (nI h), .int (D 23 (67 + h)), .int (nI (h + 2 - q) + -1)] [] I9 L2 P9 S9 Q := by
          refine zloop (h + 2) (fun q => ∀ L2, (∀ j, j ≤ m → L2 N9 j = if h + 2 - q ≤ j then chN (D 23) (h + 1) j else chN (D 23) h j) → (∀ b, b ≠ N9 → L2 b = L9 b) → Zj G mX1_wrong 2 C Sl 62 [.ref 100, .int (nI k4), .int (nI m), .ref N9, .long (p100 h), .retAddr 0, .int (nI h), .int (D 23 (67 + h)), .int (nI (h + 2 - q) + -1)] [] I9 L2 P9 S9 Q) (fun q hq ihq => ?_)
          intro L2 g1 g2
          show Zj _ _ _ _ _ _ _ _ _ _ _ _ _
          refine Z_iload dX1_wrong_62 rfl ?_
          refine Z_iflt 119 dX1_wrong_64 rfl (fun c64 => ?_) (fun c64 => ?_)
          · have eq : q = h + 2 := by
              refine Decidable.byContradiction fun hq => ?_
              obtain ⟨i, hi2⟩ : ∃ i, h + 2 - q = i + 1 := ⟨h + 1 - q, by omega⟩
              rw [hi2, pk_m1] at c64
              exact nI_pos (by omega) c64
            subst eq
            refine Z_lload dX1_wrong_119 rfl ?_
            refine Z_ldc2 q1121 dX1_wrong_121 ?_
            refine Z_lmul dX1_wrong_124 ?_
            refine Z_lstore (lv' := [_, _, _, _, _, _, _, _, _]) dX1_wrong_125 rfl rfl (Nat.le_of_ble_eq_true rfl) ?_
            refine Z_iincN (a := _) (k := 1) (lv' := [_, _, _, _, _, _, _, _, _]) dX1_wrong_127 rfl rfl rfl rfl ?_
            refine Z_goto 38 dX1_wrong_130 rfl ?_
            have ih2 := ihh (by omega) _ (fun j hj => by rw [g1 j hj, if_pos (by omega)]) g2
            rw [p100] at ih2
            exact Z_fgt ih2 (by repeat first | exact zwk_n | refine zwk_f ?_ | refine zwk_c rfl ?_)
          · have hq9 : ¬ q = h + 2 := fun e => c64 (by rw [e, Nat.sub_self]; decide)
            obtain ⟨i, hi2⟩ : ∃ i, h + 2 - q = i + 1 := ⟨h + 1 - q, by omega⟩
            rw [hi2, pk_m1]
            refine Z_aload_n dX1_wrong_67 rfl ?_
            refine Z_iload dX1_wrong_68 rfl ?_
            refine Z_iload dX1_wrong_70 rfl ?_
            refine Z_iload dX1_wrong_72 rfl ?_
            refine Z_icmpgtN 91 dX1_wrong_74 rfl (by omega) (by omega) (fun c74 => ?_) (fun c74 => ?_)
            · refine Z_lconst (0) dX1_wrong_91 rfl ?_
              refine Z_iload dX1_wrong_92 rfl ?_
              refine Z_ifleN 110 dX1_wrong_94 rfl (by omega) (fun c94 => ?_) (fun c94 => ?_)
              · refine Z_lconst (0) dX1_wrong_110 rfl ?_
                refine Z_ladd dX1_wrong_111 ?_
                exact absurd c74 (by omega)
              · refine Z_aload_n dX1_wrong_97 rfl ?_
                refine Z_iload dX1_wrong_98 rfl ?_
                refine Z_iconst (nI 1) dX1_wrong_100 rfl ?_
                refine Z_isubN dX1_wrong_101 (by omega) ?_
                refine Z_lald hS9 (zix_nI (by omega) (by omega)) dX1_wrong_102 ?_
                refine Z_iload dX1_wrong_103 rfl ?_
                refine Z_i2l dX1_wrong_105 ?_
                refine Z_lmul dX1_wrong_106 ?_
                refine Z_goto 111 dX1_wrong_107 rfl ?_
                refine Z_ladd dX1_wrong_111 ?_
                have ei1 : i = h + 1 := by omega
                refine Z_rel (y := chN (D 23) (h + 1) i) (by rw [chN, chN_hi h i (by omega), if_neg (by omega), g1 (i - 1) (by omega), if_neg (by omega)]; simp) ?_
                refine Z_last hS9 (zix_nI (by omega) (by omega)) dX1_wrong_112 ?_
                refine Z_iinc (lv' := [_, _, _, _, _, _, _, _, _]) dX1_wrong_113 rfl rfl rfl ?_
                refine Z_goto 62 dX1_wrong_116 rfl ?_
                have ih2 := ihq (by omega)
                rw [show h + 2 - (q + 1) = i by omega] at ih2
                refine ih2 _ (fun j hj => ?_) (fun b hb => (zw_n _ _ _ _ hb).trans (g2 b hb))
                rw [zw_a]
                by_cases e : j = i
                · subst e; rw [zu_s, if_pos (by omega)]
                · rw [zu_n _ _ _ e, g1 j hj]
                  by_cases e2 : i + 1 ≤ j
                  · rw [if_pos (by omega), if_pos (by omega)]
                  · rw [if_neg (by omega), if_neg (by omega)]
            · refine Z_aload_n dX1_wrong_77 rfl ?_
              refine Z_iload dX1_wrong_78 rfl ?_
              refine Z_lald hS9 (zix_nI (by omega) (by omega)) dX1_wrong_80 ?_
              refine Z_bipush (nI 100) dX1_wrong_81 rfl ?_
              refine Z_iload dX1_wrong_83 rfl ?_
              refine Z_isub dX1_wrong_85 ?_
              refine Z_i2l dX1_wrong_86 ?_
              refine Z_lmul dX1_wrong_87 ?_
              refine Z_goto 92 dX1_wrong_88 rfl ?_
              refine Z_iload dX1_wrong_92 rfl ?_
              refine Z_ifleN 110 dX1_wrong_94 rfl (by omega) (fun c94 => ?_) (fun c94 => ?_)
              · refine Z_lconst (0) dX1_wrong_110 rfl ?_
                refine Z_ladd dX1_wrong_111 ?_
                refine Z_rel (y := chN (D 23) (h + 1) i) (by rw [chN, g1 i (by omega), if_neg (by omega), if_pos (by omega)]) ?_
                refine Z_last hS9 (zix_nI (by omega) (by omega)) dX1_wrong_112 ?_
                refine Z_iinc (lv' := [_, _, _, _, _, _, _, _, _]) dX1_wrong_113 rfl rfl rfl ?_
                refine Z_goto 62 dX1_wrong_116 rfl ?_
                have ih2 := ihq (by omega)
                rw [show h + 2 - (q + 1) = i by omega] at ih2
                refine ih2 _ (fun j hj => ?_) (fun b hb => (zw_n _ _ _ _ hb).trans (g2 b hb))
                rw [zw_a]
                by_cases e : j = i
                · subst e; rw [zu_s, if_pos (by omega)]
                · rw [zu_n _ _ _ e, g1 j hj]
                  by_cases e2 : i + 1 ≤ j
                  · rw [if_pos (by omega), if_pos (by omega)]
                  · rw [if_neg (by omega), if_neg (by omega)]
              · refine Z_aload_n dX1_wrong_97 rfl ?_
                refine Z_iload dX1_wrong_98 rfl ?_
                refine Z_iconst (nI 1) dX1_wrong_100 rfl ?_
                refine Z_isubN dX1_wrong_101 (by omega) ?_
                refine Z_lald hS9 (zix_nI (by omega) (by omega)) dX1_wrong_102 ?_
                refine Z_iload dX1_wrong_103 rfl ?_
                refine Z_i2l dX1_wrong_105 ?_
                refine Z_lmul dX1_wrong_106 ?_
                refine Z_goto 111 dX1_wrong_107 rfl ?_
                refine Z_ladd dX1_wrong_111 ?_
                refine Z_rel (y := chN (D 23) (h + 1) i) (by rw [chN, g1 i (by omega), if_neg (by omega), if_neg (by omega), g1 (i - 1) (by omega), if_neg (by omega)]) ?_
                refine Z_last hS9 (zix_nI (by omega) (by omega)) dX1_wrong_112 ?_
                refine Z_iinc (lv' := [_, _, _, _, _, _, _, _, _]) dX1_wrong_113 rfl rfl rfl ?_
                refine Z_goto 62 dX1_wrong_116 rfl ?_
                have ih2 := ihq (by omega)
                rw [show h + 2 - (q + 1) = i by omega] at ih2
                refine ih2 _ (fun j hj => ?_) (fun b hb => (zw_n _ _ _ _ hb).trans (g2 b hb))
                rw [zw_a]
                by_cases e : j = i
                · subst e; rw [zu_s, if_pos (by omega)]
                · rw [zu_n _ _ _ e, g1 j hj]
                  by_cases e2 : i + 1 ≤ j
                  · rw [if_pos (by omega), if_pos (by omega)]
                  · rw [if_neg (by omega), if_neg (by omega)]
        have lp62b := lp62 0 (by omega) _ (fun j hj => ?_) g2
        · rw [show h + 2 - 0 = (h + 1) + 1 from rfl, pk_m1] at lp62b
          exact lp62b
        · rw [g1 j hj]
          by_cases e : h + 2 - 0 ≤ j
          · rw [if_pos e, chN_hi h j (by omega), chN_hi (h + 1) j (by omega)]
          · rw [if_neg e]
    refine lp38 0 (by omega) _ (fun j hj => ?_) (fun b hb => zw_n _ _ _ _ hb)
    rw [chN]
    by_cases e0 : j = 0
    · subst e0; rw [zw_s]; rfl
    · rw [zw_a, zu_n _ _ _ e0, z9, if_neg e0]
  · have r4 : rB x 0 8 = false := rB_f h4
    refine Z_ifne 12 dX1_wrong_7 rfl (fun h => absurd h (by decide)) (fun _ => ?_)
    refine Z_iconst (-1) dX1_wrong_10 rfl ?_
    refine Z_ireturn dX1_wrong_11 rfl rfl ?_
    exact xO_k (by simp [fWrong, r4]) k hX frX.rf
set_option maxHeartbeats 4000000 in
theorem c_X1_endOfA {w : Nat} (e : hE W no n oh ph w 270 I P S) (g : sRw n I 270 s) (hro : ruX I P S w ro) (hs : sf W no n s) {B : Nat} (hkB : hk s n B) (hB : B < 2 ^ 28) (h37 : ro ≠ none → W 0 37 = 0) (hi : I 240 2 = sumI (fun p => s (51 + p)) n ∧ I 240 3 = sumI (fun p => s (59 + p)) n ∧ I 240 1 = s 1) (kt : ∀ s2 t I1 I2 L2 P2, pEnd W ro no n s = some s2 → s2 0 = nI t → t ≤ 2399 → sf W no n s2 → rwX I2 L2 (endR n s s2) → fH 270 I I1 → fR I1 L I2 L2 → f3 P P2 → Q (.inl (some (.int (nI t)))) I2 L2 P2 S) (kn : pEnd W ro no n s = none → ∀ I2 P2, fH 270 I I2 → f3 P P2 → Q (.inl (some (.int (-2)))) I2 L P2 S) : Zm G mX1_endOf 104 C Sl [.ref 100, .ref 270, .ref 240, .ref w] I L P S Q := by
  have hx := e.x
  have hO := e.wd
  have hR := e.wr
  have hT := e.st
  have hPc := e.pc
  have hw := e.hw
  have hf := e.hx
  have hb := e.b
  have hn := e.nn
  have n8 := hw.n8
  have h6 := hw.o6
  have hn8 := hw.n8
  refine Z_entry (lv := [_, _, _, _, _, _, _, _, _]) (Nat.le_of_ble_eq_true rfl) rfl ?_
  refine Z_aload_n dX1_endOf_0 rfl ?_
  refine Z_ifnonnullR 8 dX1_endOf_1 rfl ?_
  refine Z_aload_n dX1_endOf_8 rfl ?_
  refine Z_getI hx.2.2.2.2.2.2.1.1 fX1_260_2 dX1_endOf_9 rfl ?_
  refine Z_re hi.1 ?_
  refine Z_istore (lv' := [_, _, _, _, _, _, _, _, _]) dX1_endOf_12 rfl rfl (Nat.le_of_ble_eq_true rfl) ?_
  refine Z_aload_n dX1_endOf_14 rfl ?_
  refine Z_ifnonnullR 22 dX1_endOf_15 rfl ?_
  refine Z_aload_n dX1_endOf_22 rfl ?_
  refine Z_getI hx.2.2.2.2.2.2.1.1 fX1_263_2 dX1_endOf_23 rfl ?_
  refine Z_re hi.2.1 ?_
  refine Z_istore (lv' := [_, _, _, _, _, _, _, _, _]) dX1_endOf_26 rfl rfl (Nat.le_of_ble_eq_true rfl) ?_
  refine Z_aload_n dX1_endOf_28 rfl ?_
  refine Z_ifnonnullR 36 dX1_endOf_29 rfl ?_
  refine Z_aload_n dX1_endOf_36 rfl ?_
  refine Z_getI hx.2.2.2.2.2.2.1.1 fX1_265_2 dX1_endOf_37 rfl ?_
  refine Z_re hi.2.2 ?_
  refine Z_istore (lv' := [_, _, _, _, _, _, _, _, _]) dX1_endOf_40 rfl rfl (Nat.le_of_ble_eq_true rfl) ?_
  refine Z_aload_n dX1_endOf_42 rfl ?_
  refine Z_aload_n dX1_endOf_43 rfl ?_
  refine Z_call0 (d' := 103) (zCal_V gX1_268 nX3_end (by decide) dX1_endOf_44) pX3_end hT.1 zkl2 [_] rfl rfl (Nat.le_of_ble_eq_true rfl) (by omega) (c_X3_end e g hro hs hkB hB h37 (fun s2 t I2 P2 a1 a2 a3 a4 a5 a6 a7 a8 => ?_) (fun a1 I2 P2 a7 a8 => ?_))
  · have e2 := e.fr a7 a8
    have hx := e2.x
    have hT := e2.st
    refine Z_istore (lv' := [_, _, _, _, _, _, _, _, _]) dX1_endOf_47 rfl rfl (Nat.le_of_ble_eq_true rfl) ?_
    refine Z_iload dX1_endOf_49 rfl ?_
    refine Z_ifgeN 57 dX1_endOf_51 rfl (by omega) ?_
    refine Z_aload_n dX1_endOf_57 rfl ?_
    refine Z_iconst (nI 0) dX1_endOf_58 rfl ?_
    refine Z_putI hx.1 fX1_94_0 dX1_endOf_59 rfl rfl rfl ?_
    refine Z_iconst (nI 0) dX1_endOf_62 rfl ?_
    refine Z_istore (lv' := [_, _, _, _, _, _, _, _, _]) dX1_endOf_63 rfl rfl (Nat.le_of_ble_eq_true rfl) ?_
    have lp65 : ∀ i, i ≤ n → ∀ I3 L3, rwX I3 L3 ((List.range i).map (fun p => (s2 (35 + p)).toInt64)) → fR I2 L I3 L3 → Zj G mX1_endOf 104 C Sl 65 [.ref 100, .ref 270, .ref 240, .ref w, .int (sumI (fun p => s (51 + p)) n), .int (sumI (fun p => s (59 + p)) n), .int (s 1), .int (nI t), .int (nI i)] [] I3 L3 P2 S Q := by
      refine zloop (n) (fun i => ∀ I3 L3, rwX I3 L3 ((List.range i).map (fun p => (s2 (35 + p)).toInt64)) → fR I2 L I3 L3 → Zj G mX1_endOf 104 C Sl 65 [.ref 100, .ref 270, .ref 240, .ref w, .int (sumI (fun p => s (51 + p)) n), .int (sumI (fun p => s (59 + p)) n), .int (s 1), .int (nI t), .int (nI i)] [] I3 L3 P2 S Q) (fun i hi ih => ?_)
      intro I3 L3 r3 f3b
      show Zj _ _ _ _ _ _ _ _ _ _ _ _ _
      have g3 : sRw n I3 270 s2 := a4.fr (fun k hk => f3b.1 _ (by omega))
      refine Z_iload dX1_endOf_65 rfl ?_
      refine Z_aload_n dX1_endOf_67 rfl ?_
      refine Z_getI hx.1 fX1_105_0 dX1_endOf_68 rfl ?_
      refine Z_re (y := nI (n)) ((f3b.2.1 1 (by decide)).trans e2.nn) ?_
      refine Z_icmpgeN 92 dX1_endOf_71 rfl (by omega) (by omega) (fun c71 => ?_) (fun c71 => ?_)
      · have ei : i = n := by omega
        rw [ei] at r3
        refine Z_aload_n dX1_endOf_92 rfl ?_
        refine Z_aload_n dX1_endOf_93 rfl ?_
        refine Z_getI hT.1 fX1_260_2 dX1_endOf_94 rfl ?_
        refine Z_re g3.1.2.2.1 ?_
        refine Z_iload dX1_endOf_97 rfl ?_
        refine Z_isub dX1_endOf_99 ?_
        refine Z_i2l dX1_endOf_100 ?_
        refine Z_call0 (d' := 0) (zCal_V gX1_101 nX1_tell (by decide) dX1_endOf_101) pX1_tell hx.1 zkl0 [_] rfl rfl (Nat.le_of_ble_eq_true rfl) (by omega) (c_X1_tell hx r3 (by simp; omega) (fun J1 M1 u1 v1 => ?_))
        have g4 : sRw n J1 270 s2 := g3.fr (fun k hk => v1.1 _ (by omega))
        refine Z_aload_n dX1_endOf_104 rfl ?_
        refine Z_aload_n dX1_endOf_105 rfl ?_
        refine Z_getI hT.1 fX1_263_2 dX1_endOf_106 rfl ?_
        refine Z_re g4.1.2.2.2 ?_
        refine Z_iload dX1_endOf_109 rfl ?_
        refine Z_isub dX1_endOf_111 ?_
        refine Z_i2l dX1_endOf_112 ?_
        refine Z_call0 (d' := 0) (zCal_V gX1_101 nX1_tell (by decide) dX1_endOf_113) pX1_tell hx.1 zkl0 [_] rfl rfl (Nat.le_of_ble_eq_true rfl) (by omega) (c_X1_tell hx u1 (by simp; omega) (fun J2 M2 u2 v2 => ?_))
        have g5 : sRw n J2 270 s2 := g4.fr (fun k hk => v2.1 _ (by omega))
        refine Z_aload_n dX1_endOf_116 rfl ?_
        refine Z_aload_n dX1_endOf_117 rfl ?_
        refine Z_getI hT.1 fX1_265_2 dX1_endOf_118 rfl ?_
        refine Z_re g5.1.2.1 ?_
        refine Z_iload dX1_endOf_121 rfl ?_
        refine Z_isub dX1_endOf_123 ?_
        refine Z_i2l dX1_endOf_124 ?_
        refine Z_call0 (d' := 0) (zCal_V gX1_101 nX1_tell (by decide) dX1_endOf_125) pX1_tell hx.1 zkl0 [_] rfl rfl (Nat.le_of_ble_eq_true rfl) (by omega) (c_X1_tell hx u2 (by simp; omega) (fun J3 M3 u3 v3 => ?_))
        have g6 : sRw n J3 270 s2 := g5.fr (fun k hk => v3.1 _ (by omega))
        refine Z_iload dX1_endOf_128 rfl ?_
        refine Z_ireturn dX1_endOf_130 rfl rfl ?_
        rw [List.append_assoc, List.append_assoc] at u3
        refine kt s2 t I2 _ _ P2 a1 a2 a3 a5 ?_ a7 (((f3b.tr v1).tr v2).tr v3) a8
        exact u3
      · refine Z_aload_n dX1_endOf_74 rfl ?_
        refine Z_aload_n dX1_endOf_75 rfl ?_
        refine Z_getR (r := (270 + 7)) hT.1 fX1_241_2 dX1_endOf_76 rfl (hT.2.1 7 _ rfl).2 ?_
        refine Z_iload dX1_endOf_79 rfl ?_
        refine Z_iald (hT.2.1 7 _ rfl).1 (zix_nI (by first | omega | (dsimp only; omega)) (by decide)) dX1_endOf_81 ?_
        refine Z_re (g3.f (k := 7) (by decide) (by decide) (p := i) (by omega)) ?_
        refine Z_i2l dX1_endOf_82 ?_
        refine Z_call0 (d' := 0) (zCal_V gX1_101 nX1_tell (by decide) dX1_endOf_83) pX1_tell hx.1 zkl0 [_] rfl rfl (Nat.le_of_ble_eq_true rfl) (by omega) (c_X1_tell hx r3 (by simp; omega) (fun J0 M0 u0 v0 => ?_))
        refine Z_iincN (a := _) (k := 1) (lv' := [_, _, _, _, _, _, _, _, _]) dX1_endOf_86 rfl rfl rfl rfl ?_
        refine Z_goto 65 dX1_endOf_89 rfl ?_
        exact ih (by omega) _ _ (by rw [List.range_succ, List.map_append]; exact u0) (f3b.tr v0)
    exact lp65 0 (by omega) _ L rwX.z fR.rf.z
  · refine Z_istore (lv' := [_, _, _, _, _, _, _, _, _]) dX1_endOf_47 rfl rfl (Nat.le_of_ble_eq_true rfl) ?_
    refine Z_iload dX1_endOf_49 rfl ?_
    refine Z_ifge 57 dX1_endOf_51 rfl (fun c51 => ?_) (fun c51 => ?_)
    · exact absurd c51 (by decide)
    · refine Z_iload dX1_endOf_54 rfl ?_
      refine Z_ireturn dX1_endOf_56 rfl rfl ?_
      exact kn a1 I2 P2 a7 a8
set_option maxHeartbeats 4000000 in
theorem c_X1_endOfB {w : Nat} (e : hE W no n oh ph w 270 I P S) (g : sRw n I 270 s) (hro : ruX I P S w ro) (hs : sf W no n s) {B : Nat} (hkB : hk s n B) (hB : B < 2 ^ 28) (h37 : ro ≠ none → W 0 37 = 0) (hz : sumI (fun p => s (51 + p)) n = nI 0 ∧ sumI (fun p => s (59 + p)) n = nI 0 ∧ s 1 = nI 0) (kt : ∀ s2 t I1 I2 L2 P2, pEnd W ro no n s = some s2 → s2 0 = nI t → t ≤ 2399 → sf W no n s2 → rwX I2 L2 (endR n s s2) → fH 270 I I1 → fR I1 L I2 L2 → f3 P P2 → Q (.inl (some (.int (nI t)))) I2 L2 P2 S) (kn : pEnd W ro no n s = none → ∀ I2 P2, fH 270 I I2 → f3 P P2 → Q (.inl (some (.int (-2)))) I2 L P2 S) : Zm G mX1_endOf 104 C Sl [.ref 100, .ref 270, .null, .ref w] I L P S Q := by
  have hx := e.x
  have hO := e.wd
  have hR := e.wr
  have hT := e.st
  have hPc := e.pc
  have hw := e.hw
  have hf := e.hx
  have hb := e.b
  have hn := e.nn
  have n8 := hw.n8
  have h6 := hw.o6
  have hn8 := hw.n8
  refine Z_entry (lv := [_, _, _, _, _, _, _, _, _]) (Nat.le_of_ble_eq_true rfl) rfl ?_
  refine Z_aload_nN dX1_endOf_0 rfl ?_
  refine Z_ifnonnullN dX1_endOf_1 ?_
  refine Z_iconst (nI 0) dX1_endOf_4 rfl ?_
  refine Z_goto 12 dX1_endOf_5 rfl ?_
  refine Z_istore (lv' := [_, _, _, _, _, _, _, _, _]) dX1_endOf_12 rfl rfl (Nat.le_of_ble_eq_true rfl) ?_
  refine Z_aload_nN dX1_endOf_14 rfl ?_
  refine Z_ifnonnullN dX1_endOf_15 ?_
  refine Z_iconst (nI 0) dX1_endOf_18 rfl ?_
  refine Z_goto 26 dX1_endOf_19 rfl ?_
  refine Z_istore (lv' := [_, _, _, _, _, _, _, _, _]) dX1_endOf_26 rfl rfl (Nat.le_of_ble_eq_true rfl) ?_
  refine Z_aload_nN dX1_endOf_28 rfl ?_
  refine Z_ifnonnullN dX1_endOf_29 ?_
  refine Z_iconst (nI 0) dX1_endOf_32 rfl ?_
  refine Z_goto 40 dX1_endOf_33 rfl ?_
  refine Z_istore (lv' := [_, _, _, _, _, _, _, _, _]) dX1_endOf_40 rfl rfl (Nat.le_of_ble_eq_true rfl) ?_
  refine Z_aload_n dX1_endOf_42 rfl ?_
  refine Z_aload_n dX1_endOf_43 rfl ?_
  refine Z_call0 (d' := 103) (zCal_V gX1_268 nX3_end (by decide) dX1_endOf_44) pX3_end hT.1 zkl2 [_] rfl rfl (Nat.le_of_ble_eq_true rfl) (by omega) (c_X3_end e g hro hs hkB hB h37 (fun s2 t I2 P2 a1 a2 a3 a4 a5 a6 a7 a8 => ?_) (fun a1 I2 P2 a7 a8 => ?_))
  · have e2 := e.fr a7 a8
    have hx := e2.x
    have hT := e2.st
    refine Z_istore (lv' := [_, _, _, _, _, _, _, _, _]) dX1_endOf_47 rfl rfl (Nat.le_of_ble_eq_true rfl) ?_
    refine Z_iload dX1_endOf_49 rfl ?_
    refine Z_ifgeN 57 dX1_endOf_51 rfl (by omega) ?_
    refine Z_aload_n dX1_endOf_57 rfl ?_
    refine Z_iconst (nI 0) dX1_endOf_58 rfl ?_
    refine Z_putI hx.1 fX1_94_0 dX1_endOf_59 rfl rfl rfl ?_
    refine Z_iconst (nI 0) dX1_endOf_62 rfl ?_
    refine Z_istore (lv' := [_, _, _, _, _, _, _, _, _]) dX1_endOf_63 rfl rfl (Nat.le_of_ble_eq_true rfl) ?_
    have lp65 : ∀ i, i ≤ n → ∀ I3 L3, rwX I3 L3 ((List.range i).map (fun p => (s2 (35 + p)).toInt64)) → fR I2 L I3 L3 → Zj G mX1_endOf 104 C Sl 65 [.ref 100, .ref 270, .null, .ref w, .int (nI 0), .int (nI 0), .int (nI 0), .int (nI t), .int (nI i)] [] I3 L3 P2 S Q := by
      refine zloop (n) (fun i => ∀ I3 L3, rwX I3 L3 ((List.range i).map (fun p => (s2 (35 + p)).toInt64)) → fR I2 L I3 L3 → Zj G mX1_endOf 104 C Sl 65 [.ref 100, .ref 270, .null, .ref w, .int (nI 0), .int (nI 0), .int (nI 0), .int (nI t), .int (nI i)] [] I3 L3 P2 S Q) (fun i hi ih => ?_)
      intro I3 L3 r3 f3b
      show Zj _ _ _ _ _ _ _ _ _ _ _ _ _
      have g3 : sRw n I3 270 s2 := a4.fr (fun k hk => f3b.1 _ (by omega))
      refine Z_iload dX1_endOf_65 rfl ?_
      refine Z_aload_n dX1_endOf_67 rfl ?_
      refine Z_getI hx.1 fX1_105_0 dX1_endOf_68 rfl ?_
      refine Z_re (y := nI (n)) ((f3b.2.1 1 (by decide)).trans e2.nn) ?_
      refine Z_icmpgeN 92 dX1_endOf_71 rfl (by omega) (by omega) (fun c71 => ?_) (fun c71 => ?_)
      · have ei : i = n := by omega
        rw [ei] at r3
        refine Z_aload_n dX1_endOf_92 rfl ?_
        refine Z_aload_n dX1_endOf_93 rfl ?_
        refine Z_getI hT.1 fX1_260_2 dX1_endOf_94 rfl ?_
        refine Z_re g3.1.2.2.1 ?_
        refine Z_iload dX1_endOf_97 rfl ?_
        refine Z_isub dX1_endOf_99 ?_
        refine Z_i2l dX1_endOf_100 ?_
        refine Z_call0 (d' := 0) (zCal_V gX1_101 nX1_tell (by decide) dX1_endOf_101) pX1_tell hx.1 zkl0 [_] rfl rfl (Nat.le_of_ble_eq_true rfl) (by omega) (c_X1_tell hx r3 (by simp; omega) (fun J1 M1 u1 v1 => ?_))
        have g4 : sRw n J1 270 s2 := g3.fr (fun k hk => v1.1 _ (by omega))
        refine Z_aload_n dX1_endOf_104 rfl ?_
        refine Z_aload_n dX1_endOf_105 rfl ?_
        refine Z_getI hT.1 fX1_263_2 dX1_endOf_106 rfl ?_
        refine Z_re g4.1.2.2.2 ?_
        refine Z_iload dX1_endOf_109 rfl ?_
        refine Z_isub dX1_endOf_111 ?_
        refine Z_i2l dX1_endOf_112 ?_
        refine Z_call0 (d' := 0) (zCal_V gX1_101 nX1_tell (by decide) dX1_endOf_113) pX1_tell hx.1 zkl0 [_] rfl rfl (Nat.le_of_ble_eq_true rfl) (by omega) (c_X1_tell hx u1 (by simp; omega) (fun J2 M2 u2 v2 => ?_))
        have g5 : sRw n J2 270 s2 := g4.fr (fun k hk => v2.1 _ (by omega))
        refine Z_aload_n dX1_endOf_116 rfl ?_
        refine Z_aload_n dX1_endOf_117 rfl ?_
        refine Z_getI hT.1 fX1_265_2 dX1_endOf_118 rfl ?_
        refine Z_re g5.1.2.1 ?_
        refine Z_iload dX1_endOf_121 rfl ?_
        refine Z_isub dX1_endOf_123 ?_
        refine Z_i2l dX1_endOf_124 ?_
        refine Z_call0 (d' := 0) (zCal_V gX1_101 nX1_tell (by decide) dX1_endOf_125) pX1_tell hx.1 zkl0 [_] rfl rfl (Nat.le_of_ble_eq_true rfl) (by omega) (c_X1_tell hx u2 (by simp; omega) (fun J3 M3 u3 v3 => ?_))
        have g6 : sRw n J3 270 s2 := g5.fr (fun k hk => v3.1 _ (by omega))
        refine Z_iload dX1_endOf_128 rfl ?_
        refine Z_ireturn dX1_endOf_130 rfl rfl ?_
        rw [List.append_assoc, List.append_assoc] at u3
        refine kt s2 t I2 _ _ P2 a1 a2 a3 a5 ?_ a7 (((f3b.tr v1).tr v2).tr v3) a8
        unfold endR
        rw [hz.1, hz.2.1, hz.2.2]
        exact u3
      · refine Z_aload_n dX1_endOf_74 rfl ?_
        refine Z_aload_n dX1_endOf_75 rfl ?_
        refine Z_getR (r := (270 + 7)) hT.1 fX1_241_2 dX1_endOf_76 rfl (hT.2.1 7 _ rfl).2 ?_
        refine Z_iload dX1_endOf_79 rfl ?_
        refine Z_iald (hT.2.1 7 _ rfl).1 (zix_nI (by first | omega | (dsimp only; omega)) (by decide)) dX1_endOf_81 ?_
        refine Z_re (g3.f (k := 7) (by decide) (by decide) (p := i) (by omega)) ?_
        refine Z_i2l dX1_endOf_82 ?_
        refine Z_call0 (d' := 0) (zCal_V gX1_101 nX1_tell (by decide) dX1_endOf_83) pX1_tell hx.1 zkl0 [_] rfl rfl (Nat.le_of_ble_eq_true rfl) (by omega) (c_X1_tell hx r3 (by simp; omega) (fun J0 M0 u0 v0 => ?_))
        refine Z_iincN (a := _) (k := 1) (lv' := [_, _, _, _, _, _, _, _, _]) dX1_endOf_86 rfl rfl rfl rfl ?_
        refine Z_goto 65 dX1_endOf_89 rfl ?_
        exact ih (by omega) _ _ (by rw [List.range_succ, List.map_append]; exact u0) (f3b.tr v0)
    exact lp65 0 (by omega) _ L rwX.z fR.rf.z
  · refine Z_istore (lv' := [_, _, _, _, _, _, _, _, _]) dX1_endOf_47 rfl rfl (Nat.le_of_ble_eq_true rfl) ?_
    refine Z_iload dX1_endOf_49 rfl ?_
    refine Z_ifge 57 dX1_endOf_51 rfl (fun c51 => ?_) (fun c51 => ?_)
    · exact absurd c51 (by decide)
    · refine Z_iload dX1_endOf_54 rfl ?_
      refine Z_ireturn dX1_endOf_56 rfl rfl ?_
      exact kn a1 I2 P2 a7 a8
end X14C
