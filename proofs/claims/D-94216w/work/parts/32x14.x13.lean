set_option maxRecDepth 100000
/-! THE COMPONENT, part 13: a row is told; what is understood otherwise; dark hours -/
section X13C
variable {G : zG} {d C Sl : Nat} {I D W : zI} {R : List Int64} {L : zL} {P : zR} {S : zT} {Q : zQ} {no n np : Nat} {s : zS} {oh ph : Nat → Nat} {ro : Option (List Nat)}
set_option maxHeartbeats 4000000 in
theorem c_X1_tell (hx : xO S P) (h : rwX I L R) (hl : R.length < 32) {v : Int64} (k : ∀ I2 L2, rwX I2 L2 (R ++ [v]) → fR I L I2 L2 → Q (.inl none) I2 L2 P S) : Zm G mX1_tell 0 C Sl [.ref 100, .long v] I L P S Q := by
  refine Z_entry (lv := [_, _, _]) (Nat.le_of_ble_eq_true rfl) rfl ?_
  refine Z_aload_n dX1_tell_0 rfl ?_
  refine Z_getR (r := 302) hx.1 fX1_74_0 dX1_tell_1 rfl (hx.2.2.1 9 _ rfl).2 ?_
  refine Z_aload_n dX1_tell_4 rfl ?_
  refine Z_getI hx.1 fX1_94_0 dX1_tell_5 rfl ?_
  refine Z_re (y := nI (R.length)) h.1.1 ?_
  refine Z_lload_n dX1_tell_8 rfl ?_
  refine Z_last (hx.2.2.1 9 _ rfl).1 (zix_nI (by first | omega | (dsimp only; omega)) (by decide)) dX1_tell_9 ?_
  refine Z_aload_n dX1_tell_10 rfl ?_
  refine Z_dup dX1_tell_11 rfl ?_
  refine Z_getI hx.1 fX1_94_0 dX1_tell_12 rfl ?_
  refine Z_re (y := nI (R.length)) h.1.1 ?_
  refine Z_iconst (nI 1) dX1_tell_15 rfl ?_
  refine Z_iaddN dX1_tell_16 ?_
  refine Z_putI hx.1 fX1_94_0 dX1_tell_17 rfl rfl rfl ?_
  refine Z_return dX1_tell_20 rfl ?_
  exact k _ _ (h.tl hl v) ⟨fun a q => zw_n _ _ _ _ q, fun j q => by rw [zw_a, zu_n _ _ _ q], fun a q => zw_n _ _ _ _ q⟩
set_option maxHeartbeats 4000000 in
theorem c_X1_common {a b : Int64} (k : Q (.inl (some (.long (cmn a b)))) I L P S) : Zm G mX1_common 0 C Sl [.long a, .long b] I L P S Q := by
  refine Z_entry (lv := [_, _, _, _, _, _, _, _, _, _]) (Nat.le_of_ble_eq_true rfl) rfl ?_
  refine Z_lload_n dX1_common_0 rfl ?_
  refine Z_lstore (lv' := [_, _, _, _, _, _, _, _, _, _]) dX1_common_1 rfl rfl (Nat.le_of_ble_eq_true rfl) ?_
  refine Z_lload_n dX1_common_3 rfl ?_
  refine Z_lstore (lv' := [_, _, _, _, _, _, _, _, _, _]) dX1_common_4 rfl rfl (Nat.le_of_ble_eq_true rfl) ?_
  have lp6 : ∀ f : Nat, ∀ x y : Int64, y.toInt.natAbs < f → gcdL f x y = cmn a b → Zj G mX1_common 0 C Sl 6 [.long a, .retAddr 0, .long b, .retAddr 0, .long x, .retAddr 0, .long y, .retAddr 0, .retAddr 0, .retAddr 0] [] I L P S Q := by
    refine fun f => Nat.rec (motive := fun f => ∀ x y : Int64, y.toInt.natAbs < f → gcdL f x y = cmn a b → Zj G mX1_common 0 C Sl 6 [.long a, .retAddr 0, .long b, .retAddr 0, .long x, .retAddr 0, .long y, .retAddr 0, .retAddr 0, .retAddr 0] [] I L P S Q) (fun x y h => absurd h (Nat.not_lt_zero _)) (fun f ih => ?_) f
    intro x y g1 g2
    show Zj _ _ _ _ _ _ _ _ _ _ _ _ _
    refine Z_lload dX1_common_6 rfl ?_
    refine Z_lconst (0) dX1_common_8 rfl ?_
    refine Z_lcmp dX1_common_9 ?_
    refine Z_ifeq 31 dX1_common_10 rfl (fun c10 => ?_) (fun c10 => ?_)
    · rw [gcdL, if_pos (lg_0.mp c10)] at g2
      refine Z_lload dX1_common_31 rfl ?_
      refine Z_lreturn dX1_common_33 rfl ?_
      exact zQl g2 k
    · have c10b : ¬ y = 0 := fun e => c10 (lg_0.mpr e)
      refine Z_lload dX1_common_13 rfl ?_
      refine Z_lload dX1_common_15 rfl ?_
      refine Z_lrem dX1_common_17 c10b ?_
      refine Z_lstore (lv' := [_, _, _, _, _, _, _, _, _, _]) dX1_common_18 rfl rfl (Nat.le_of_ble_eq_true rfl) ?_
      refine Z_lload dX1_common_20 rfl ?_
      refine Z_lstore (lv' := [_, _, _, _, _, _, _, _, _, _]) dX1_common_22 rfl rfl (Nat.le_of_ble_eq_true rfl) ?_
      refine Z_lload dX1_common_24 rfl ?_
      refine Z_lstore (lv' := [_, _, _, _, _, _, _, _, _, _]) dX1_common_26 rfl rfl (Nat.le_of_ble_eq_true rfl) ?_
      refine Z_goto 6 dX1_common_28 rfl ?_
      have g3 := lrem_lt (x := x) c10b
      exact Z_fgt (ih y (x - x / y * y) (by omega) (by rw [gcdL, if_neg c10b] at g2; exact g2)) (by repeat first | exact zwk_n | refine zwk_f ?_ | refine zwk_c rfl ?_)
  exact lp6 (b.toInt.natAbs + 1) a b (Nat.lt_succ_self _) rfl
set_option maxHeartbeats 4000000 in
theorem c_X1_tellPart (hx : xO S P) {a b : Int64} (hb : b ≠ 0) (k : ∀ I2 L2, rwX I2 L2 (frc a b) → fR I L I2 L2 → Q (.inl none) I2 L2 P S) : Zm G mX1_tellPart 1 C Sl [.ref 100, .long a, .long b] I L P S Q := by
  refine Z_entry (lv := [_, _, _, _, _, _, _]) (Nat.le_of_ble_eq_true rfl) rfl ?_
  refine Z_lload_n dX1_tellPart_0 rfl ?_
  refine Z_lload_n dX1_tellPart_1 rfl ?_
  refine Z_callS0 (d' := 0) (zCal_S gX1_97 nX1_common (by decide) dX1_tellPart_2) pX1_common [_, _] rfl rfl (Nat.le_of_ble_eq_true rfl) (by omega) (c_X1_common ?_)
  refine Z_lstore (lv' := [_, _, _, _, _, _, _]) dX1_tellPart_5 rfl rfl (Nat.le_of_ble_eq_true rfl) ?_
  refine Z_aload_n dX1_tellPart_7 rfl ?_
  refine Z_iconst (nI 0) dX1_tellPart_8 rfl ?_
  refine Z_putI hx.1 fX1_94_0 dX1_tellPart_9 rfl rfl rfl ?_
  refine Z_aload_n dX1_tellPart_12 rfl ?_
  refine Z_lload_n dX1_tellPart_13 rfl ?_
  refine Z_lload dX1_tellPart_14 rfl ?_
  refine Z_ldiv dX1_tellPart_16 (cmn_ne hb) ?_
  refine Z_call0 (d' := 0) (zCal_V gX1_101 nX1_tell (by decide) dX1_tellPart_17) pX1_tell hx.1 zkl0 [_] rfl rfl (Nat.le_of_ble_eq_true rfl) (by omega) (c_X1_tell hx (rwX.z (I := I) (L := L)) (by decide) (fun J1 M1 u1 v1 => ?_))
  refine Z_aload_n dX1_tellPart_20 rfl ?_
  refine Z_lload_n dX1_tellPart_21 rfl ?_
  refine Z_lload dX1_tellPart_22 rfl ?_
  refine Z_ldiv dX1_tellPart_24 (cmn_ne hb) ?_
  refine Z_call0 (d' := 0) (zCal_V gX1_101 nX1_tell (by decide) dX1_tellPart_25) pX1_tell hx.1 zkl0 [_] rfl rfl (Nat.le_of_ble_eq_true rfl) (by omega) (c_X1_tell hx u1 (by simp) (fun J2 M2 u2 v2 => ?_))
  refine Z_return dX1_tellPart_28 rfl ?_
  exact k _ _ u2 ((fR.rf.z.tr v1).tr v2)
theorem mn60 {H : Nat} (h : H < 2 ^ 30) : mn (nI 60) (nI H) = nI (min 60 H) := by
  unfold mn
  by_cases e : H < 60
  · rw [if_pos (nI_lt e (by omega)), Nat.min_eq_right (by omega)]
  · rw [if_neg (nI_nlt (by omega) (by omega)), Nat.min_eq_left (by omega)]
set_option maxHeartbeats 4000000 in
theorem c_X1_kept (hx : xO S P) (g : sRw n I 240 s) {B b : Nat} (hkB : hk s n B) (hB : B < 2 ^ 28) (hb : s 2 = nI b) (k : Q (.inl (some (.int (nI b)))) I L P S) : Zm G mX1_kept 1 C Sl [.ref 100] I L P S Q := by
  obtain ⟨H, h1, h2, h3⟩ := hkB
  refine Z_entry (lv := [_]) (Nat.le_of_ble_eq_true rfl) rfl ?_
  refine Z_bipush (nI 60) dX1_kept_0 rfl ?_
  refine Z_aload_n dX1_kept_2 rfl ?_
  refine Z_getR (r := 240) hx.1 fX1_62_0 dX1_kept_3 rfl hx.2.2.2.1.2.2.1 ?_
  refine Z_getI hx.2.2.2.2.2.2.1.1 fX1_260_2 dX1_kept_6 rfl ?_
  refine Z_re (y := nI (H)) (g.1.2.2.1.trans h3) ?_
  refine Z_callS0 (d' := 0) (zCal_S gX1_163 nJ5_min (by decide) dX1_kept_9) pJ5_min [_, _] rfl rfl (Nat.le_of_ble_eq_true rfl) (by omega) (c_J5_min ?_)
  refine Z_ireturn dX1_kept_12 rfl rfl ?_
  exact zQe (by rw [mn60 (by omega), ← h2, hb]) k
set_option maxHeartbeats 4000000 in
theorem o_xmean (hX : xR D R no n np ro oh ph I L P S) (hsf : sf (wld D) no n (D 23)) {B : Nat} (hkB : hk (D 23) n B) (hB : B < 2 ^ 28) (h37 : ro ≠ none → wld D 0 37 = 0) {h : Int32} (k : ∀ I2 L2 P2 S2, xR (fMean D R h).2.1 (fMean D R h).2.2 no n np ro oh ph I2 L2 P2 S2 → frX I L P S I2 L2 P2 S2 → Q (.inl (some (.int (fMean D R h).1))) I2 L2 P2 S2) : Zm G mX1_mean 2 C Sl [.ref 100, .int h] I L P S Q := by
  obtain ⟨e, ⟨g, hro⟩, ⟨⟨h29, h50⟩, hrw⟩, ⟨htx, hpr, hkp⟩, htl, hoh, hph⟩ := hX
  have hX : xR D R no n np ro oh ph I L P S := ⟨e, ⟨g, hro⟩, ⟨⟨h29, h50⟩, hrw⟩, ⟨htx, hpr, hkp⟩, htl, hoh, hph⟩
  have hx := e.x
  have hO := e.wd
  have hR := e.wr
  have hT := e.st
  have hPc := e.pc
  have hw := e.hw
  have hf := e.hx
  have hb := e.b
  have hn := e.nn
  have n8 := hw.n8
  have h6 := hw.o6
  have hn8 := hw.n8
  have hno : noD D = no := by rw [noD, show D 0 3 = nI no from hw.o3, nI_clamp (by omega)]
  have hnn : nD D = n := by rw [nD, show D 0 16 = nI n from hw.n16, nI_clamp (by omega)]
  obtain ⟨b, hb6, hb⟩ := hsf.bk
  have vb : (D 23 2).toNatClampNeg = b := by rw [hb, nI_clamp (by omega)]
  obtain ⟨-, -, -, -, ⟨-, -, hN⟩, -⟩ := id hX
  have hM := hR.1
  refine Z_entry (lv := [_, _, _, _, _]) (Nat.le_of_ble_eq_true rfl) rfl ?_
  refine Z_iload_n dX1_mean_0 rfl ?_
  refine Z_iconst (nI 1) dX1_mean_1 rfl ?_
  refine Z_bipush (nI 99) dX1_mean_2 rfl ?_
  refine Z_callS0 (d' := 0) (zCal_S gX1_3 nX1_in (by decide) dX1_mean_4) pX1_in [_, _, _] rfl rfl (Nat.le_of_ble_eq_true rfl) (by omega) (c_X1_in (fun h4a h4b => ?_) (fun h4 => ?_))
  · have r4 : rB h 1 99 = true := rB_t h4a h4b
    refine Z_ifne 12 dX1_mean_7 rfl (fun _ => ?_) (fun h => absurd h (by decide))
    refine Z_lconst (0) dX1_mean_12 rfl ?_
    refine Z_lstore_n (lv' := [_, _, _, _, _]) dX1_mean_13 rfl rfl (Nat.le_of_ble_eq_true rfl) ?_
    refine Z_iconst (nI 0) dX1_mean_14 rfl ?_
    refine Z_istore (lv' := [_, _, _, _, _]) dX1_mean_15 rfl rfl (Nat.le_of_ble_eq_true rfl) ?_
    have lp17 : ∀ i, i ≤ b → Zj G mX1_mean 2 C Sl 17 [.ref 100, .int h, .long (sumL (fun i => (D 23 (67 + i)).toInt64) i), .retAddr 0, .int (nI i)] [] I L P S Q := by
      refine zloop (b) (fun i => Zj G mX1_mean 2 C Sl 17 [.ref 100, .int h, .long (sumL (fun i => (D 23 (67 + i)).toInt64) i), .retAddr 0, .int (nI i)] [] I L P S Q) (fun i hi ih => ?_)
      show Zj _ _ _ _ _ _ _ _ _ _ _ _ _
      refine Z_iload dX1_mean_17 rfl ?_
      refine Z_aload_n dX1_mean_19 rfl ?_
      refine Z_call0 (d' := 1) (zCal_V gX1_366 nX1_kept (by decide) dX1_mean_20) pX1_kept hx.1 zkl0 [] rfl rfl (Nat.le_of_ble_eq_true rfl) (by omega) (c_X1_kept hx g hkB hB hb ?_)
      refine Z_icmpgeN 46 dX1_mean_23 rfl (by omega) (by omega) (fun c23 => ?_) (fun c23 => ?_)
      · have ei : i = b := by omega
        refine Z_aload_n dX1_mean_46 rfl ?_
        refine Z_lload_n dX1_mean_47 rfl ?_
        refine Z_iload_n dX1_mean_48 rfl ?_
        refine Z_i2l dX1_mean_49 ?_
        refine Z_lmul dX1_mean_50 ?_
        refine Z_ldc2 q1121 dX1_mean_51 ?_
        refine Z_call0 (d' := 1) (zCal_V gX1_375 nX1_tellPart (by decide) dX1_mean_54) pX1_tellPart hx.1 zkl0 [_, _] rfl rfl (Nat.le_of_ble_eq_true rfl) (by omega) (c_X1_tellPart hx (by decide) (fun J1 M1 u1 v1 => ?_))
        refine Z_aload_n dX1_mean_57 rfl ?_
        refine Z_call0 (d' := 1) (zCal_V gX1_366 nX1_kept (by decide) dX1_mean_58) pX1_kept hx.1 zkl0 [] rfl rfl (Nat.le_of_ble_eq_true rfl) (by omega) (c_X1_kept hx (g.fr (fun k hk => v1.1 _ (by omega))) hkB hB hb ?_)
        refine Z_ireturn dX1_mean_61 rfl rfl ?_
        exact xO_k (D2 := D) (R2 := frc (sumL (fun i => (D 23 (67 + i)).toInt64) i * h.toInt64) 100) (by rw [fMean, if_pos r4, vb, hb, ei]) k (hX.go ((fX.rf hN).fR v1) u1) ((fX.rf hN).fR v1).frX
      · refine Z_lload_n dX1_mean_26 rfl ?_
        refine Z_aload_n dX1_mean_27 rfl ?_
        refine Z_getR (r := 240) hx.1 fX1_62_0 dX1_mean_28 rfl hx.2.2.2.1.2.2.1 ?_
        refine Z_getR (r := (240 + 12)) hT.1 fX1_370_2 dX1_mean_31 rfl (hT.2.1 12 _ rfl).2 ?_
        refine Z_iload dX1_mean_34 rfl ?_
        refine Z_iald (hT.2.1 12 _ rfl).1 (zix_nI (by first | omega | (dsimp only; omega)) (by decide)) dX1_mean_36 ?_
        refine Z_re (g.2.2.2 i (by rw [hb, nI_clamp (by omega)]; omega)) ?_
        refine Z_i2l dX1_mean_37 ?_
        refine Z_ladd dX1_mean_38 ?_
        refine Z_lstore_n (lv' := [_, _, _, _, _]) dX1_mean_39 rfl rfl (Nat.le_of_ble_eq_true rfl) ?_
        refine Z_iincN (a := _) (k := 1) (lv' := [_, _, _, _, _]) dX1_mean_40 rfl rfl rfl rfl ?_
        refine Z_goto 17 dX1_mean_43 rfl ?_
        exact ih (by omega)
    exact lp17 0 (by omega)
  · have r4 : rB h 1 99 = false := rB_f h4
    refine Z_ifne 12 dX1_mean_7 rfl (fun h => absurd h (by decide)) (fun _ => ?_)
    refine Z_iconst (-1) dX1_mean_10 rfl ?_
    refine Z_ireturn dX1_mean_11 rfl rfl ?_
    exact xO_k (by simp [fMean, r4]) k hX frX.rf
def rkB (s : zS) : Nat → Int32
  | 0 => -2
  | i + 1 => nI (rkN s i)
theorem rkB_n {i : Nat} (hi : i ≤ 60) (h : ¬ rkB s i < 0) : ∃ j, i = j + 1 := by
  cases i with
  | zero => exact absurd (show (-2 : Int32) < 0 by decide) h
  | succ j => exact ⟨j, rfl⟩
theorem rkB_0 {i : Nat} (hi : i ≤ 60) (h : rkB s i < 0) : i = 0 := by
  cases i with
  | zero => rfl
  | succ j => exact absurd h (nI_pos (by have := rkN_le (s := s) j; omega))
set_option maxHeartbeats 4000000 in
theorem o_xriskiest (hX : xR D R no n np ro oh ph I L P S) (hsf : sf (wld D) no n (D 23)) {B : Nat} (hkB : hk (D 23) n B) (hB : B < 2 ^ 28) (h37 : ro ≠ none → wld D 0 37 = 0) (k : ∀ I2 L2 P2 S2, xR (fRisk D R).2.1 (fRisk D R).2.2 no n np ro oh ph I2 L2 P2 S2 → frX I L P S I2 L2 P2 S2 → Q (.inl (some (.int (fRisk D R).1))) I2 L2 P2 S2) : Zm G mX1_riskiest 2 C Sl [.ref 100] I L P S Q := by
  obtain ⟨e, ⟨g, hro⟩, ⟨⟨h29, h50⟩, hrw⟩, ⟨htx, hpr, hkp⟩, htl, hoh, hph⟩ := hX
  have hX : xR D R no n np ro oh ph I L P S := ⟨e, ⟨g, hro⟩, ⟨⟨h29, h50⟩, hrw⟩, ⟨htx, hpr, hkp⟩, htl, hoh, hph⟩
  have hx := e.x
  have hO := e.wd
  have hR := e.wr
  have hT := e.st
  have hPc := e.pc
  have hw := e.hw
  have hf := e.hx
  have hb := e.b
  have hn := e.nn
  have n8 := hw.n8
  have h6 := hw.o6
  have hn8 := hw.n8
  have hno : noD D = no := by rw [noD, show D 0 3 = nI no from hw.o3, nI_clamp (by omega)]
  have hnn : nD D = n := by rw [nD, show D 0 16 = nI n from hw.n16, nI_clamp (by omega)]
  obtain ⟨b, hb6, hb⟩ := hsf.bk
  have vb : (D 23 2).toNatClampNeg = b := by rw [hb, nI_clamp (by omega)]
  obtain ⟨-, -, -, -, ⟨-, -, hN⟩, -⟩ := id hX
  refine Z_entry (lv := [_, _, _]) (Nat.le_of_ble_eq_true rfl) rfl ?_
  refine Z_bipush (-2) dX1_riskiest_0 rfl ?_
  refine Z_istore_n (lv' := [_, _, _]) dX1_riskiest_2 rfl rfl (Nat.le_of_ble_eq_true rfl) ?_
  refine Z_iconst (nI 0) dX1_riskiest_3 rfl ?_
  refine Z_istore_n (lv' := [_, _, _]) dX1_riskiest_4 rfl rfl (Nat.le_of_ble_eq_true rfl) ?_
  have lp5 : ∀ i, i ≤ b → Zj G mX1_riskiest 2 C Sl 5 [.ref 100, .int (rkB (D 23) i), .int (nI i)] [] I L P S Q := by
    refine zloop (b) (fun i => Zj G mX1_riskiest 2 C Sl 5 [.ref 100, .int (rkB (D 23) i), .int (nI i)] [] I L P S Q) (fun i hi ih => ?_)
    show Zj _ _ _ _ _ _ _ _ _ _ _ _ _
    refine Z_iload_n dX1_riskiest_5 rfl ?_
    refine Z_aload_n dX1_riskiest_6 rfl ?_
    refine Z_call0 (d' := 1) (zCal_V gX1_366 nX1_kept (by decide) dX1_riskiest_7) pX1_kept hx.1 zkl0 [] rfl rfl (Nat.le_of_ble_eq_true rfl) (by omega) (c_X1_kept hx g hkB hB hb ?_)
    refine Z_icmpgeN 46 dX1_riskiest_10 rfl (by omega) (by omega) (fun c10 => ?_) (fun c10 => ?_)
    · have ei : i = b := by omega
      refine Z_iload_n dX1_riskiest_46 rfl ?_
      refine Z_ifge 53 dX1_riskiest_47 rfl (fun c47 => ?_) (fun c47 => ?_)
      · obtain ⟨j, rfl⟩ := rkB_n (i := i) (by omega) (Int32.not_lt.mpr c47)
        have bj := rkN_le (s := D 23) j
        show Zj _ _ _ _ _ _ [.ref 100, .int (nI (rkN (D 23) j)), .int (nI (j + 1))] _ _ _ _ _ _
        refine Z_aload_n dX1_riskiest_53 rfl ?_
        refine Z_iconst (nI 0) dX1_riskiest_54 rfl ?_
        refine Z_putI hx.1 fX1_94_0 dX1_riskiest_55 rfl rfl rfl ?_
        refine Z_aload_n dX1_riskiest_58 rfl ?_
        refine Z_aload_n dX1_riskiest_59 rfl ?_
        refine Z_getR (r := 240) hx.1 fX1_62_0 dX1_riskiest_60 rfl hx.2.2.2.1.2.2.1 ?_
        refine Z_getR (r := (240 + 12)) hT.1 fX1_370_2 dX1_riskiest_63 rfl (hT.2.1 12 _ rfl).2 ?_
        refine Z_iload_n dX1_riskiest_66 rfl ?_
        refine Z_iald (hT.2.1 12 _ rfl).1 (zix_nI (by first | omega | (dsimp only; omega)) (by decide)) dX1_riskiest_67 ?_
        refine Z_re ((g.fr (I2 := zw I 100 10 (nI 0)) (fun k hk => zw_n _ _ _ _ (by omega))).2.2.2 (rkN (D 23) j) (by rw [hb, nI_clamp (by omega)]; omega)) ?_
        refine Z_i2l dX1_riskiest_68 ?_
        refine Z_call0 (d' := 0) (zCal_V gX1_101 nX1_tell (by decide) dX1_riskiest_69) pX1_tell hx.1 zkl0 [_] rfl rfl (Nat.le_of_ble_eq_true rfl) (by omega) (c_X1_tell hx (rwX.z (I := I) (L := L)) (by decide) (fun J1 M1 u1 v1 => ?_))
        refine Z_iload_n dX1_riskiest_72 rfl ?_
        refine Z_ireturn dX1_riskiest_73 rfl rfl ?_
        exact xO_k (D2 := D) (R2 := [(D 23 (67 + rkN (D 23) j)).toInt64]) (by rw [fRisk, if_neg (fun e => absurd ((nI_z (by omega)).mp (hb.symm.trans e)) (by omega)), vb, show b - 1 = j by omega]) k (hX.go ((fX.rf hN).fR (fR.rf.z.tr v1)) u1) ((fX.rf hN).fR (fR.rf.z.tr v1)).frX
      · refine Z_bipush (-2) dX1_riskiest_50 rfl ?_
        refine Z_ireturn dX1_riskiest_52 rfl rfl ?_
        have e0 := rkB_0 (by omega) (Int32.not_le.mp c47)
        exact xO_k (by rw [fRisk, if_pos (by rw [hb, show b = 0 by omega]; rfl)]) k hX frX.rf
    · refine Z_iload_n dX1_riskiest_13 rfl ?_
      refine Z_iflt 38 dX1_riskiest_14 rfl (fun c14 => ?_) (fun c14 => ?_)
      · obtain rfl := rkB_0 (by omega) c14
        refine Z_iload_n dX1_riskiest_38 rfl ?_
        refine Z_istore_n (lv' := [_, _, _]) dX1_riskiest_39 rfl rfl (Nat.le_of_ble_eq_true rfl) ?_
        refine Z_iincN (a := _) (k := 1) (lv' := [_, _, _]) dX1_riskiest_40 rfl rfl rfl rfl ?_
        refine Z_goto 5 dX1_riskiest_43 rfl ?_
        exact ih (by omega)
      · obtain ⟨j, rfl⟩ := rkB_n (by omega) c14
        have bj := rkN_le (s := D 23) j
        show Zj _ _ _ _ _ _ [.ref 100, .int (nI (rkN (D 23) j)), .int (nI (j + 1))] _ _ _ _ _ _
        refine Z_aload_n dX1_riskiest_17 rfl ?_
        refine Z_getR (r := 240) hx.1 fX1_62_0 dX1_riskiest_18 rfl hx.2.2.2.1.2.2.1 ?_
        refine Z_getR (r := (240 + 12)) hT.1 fX1_370_2 dX1_riskiest_21 rfl (hT.2.1 12 _ rfl).2 ?_
        refine Z_iload_n dX1_riskiest_24 rfl ?_
        refine Z_iald (hT.2.1 12 _ rfl).1 (zix_nI (by first | omega | (dsimp only; omega)) (by decide)) dX1_riskiest_25 ?_
        refine Z_re (g.2.2.2 (j + 1) (by rw [hb, nI_clamp (by omega)]; omega)) ?_
        refine Z_aload_n dX1_riskiest_26 rfl ?_
        refine Z_getR (r := 240) hx.1 fX1_62_0 dX1_riskiest_27 rfl hx.2.2.2.1.2.2.1 ?_
        refine Z_getR (r := (240 + 12)) hT.1 fX1_370_2 dX1_riskiest_30 rfl (hT.2.1 12 _ rfl).2 ?_
        refine Z_iload_n dX1_riskiest_33 rfl ?_
        refine Z_iald (hT.2.1 12 _ rfl).1 (zix_nI (by first | omega | (dsimp only; omega)) (by decide)) dX1_riskiest_34 ?_
        refine Z_re (g.2.2.2 (rkN (D 23) j) (by rw [hb, nI_clamp (by omega)]; omega)) ?_
        refine Z_icmple 40 dX1_riskiest_35 rfl (fun c35 => ?_) (fun c35 => ?_)
        · refine Z_iincN (a := _) (k := 1) (lv' := [_, _, _]) dX1_riskiest_40 rfl rfl rfl rfl ?_
          refine Z_goto 5 dX1_riskiest_43 rfl ?_
          have q := ih (by omega)
          rw [show rkB (D 23) (j + 1 + 1) = nI (rkN (D 23) j) from by show nI (rkN (D 23) (j + 1)) = _; rw [rkN, if_pos c35]] at q
          exact q
        · refine Z_iload_n dX1_riskiest_38 rfl ?_
          refine Z_istore_n (lv' := [_, _, _]) dX1_riskiest_39 rfl rfl (Nat.le_of_ble_eq_true rfl) ?_
          refine Z_iincN (a := _) (k := 1) (lv' := [_, _, _]) dX1_riskiest_40 rfl rfl rfl rfl ?_
          refine Z_goto 5 dX1_riskiest_43 rfl ?_
          have q := ih (by omega)
          rw [show rkB (D 23) (j + 1 + 1) = nI (j + 1) from by show nI (rkN (D 23) (j + 1)) = _; rw [rkN, if_neg c35]] at q
          exact q
  exact lp5 0 (by omega)
theorem dkS_2 {c : Int32} {h : Nat} (hh : h + 24 < 2 ^ 30) : ∀ i, i ≤ 24 → (dkS W no c h i).2.1 = -1 ∨ ∃ k, k < 2 ^ 31 ∧ (dkS W no c h i).2.1 = nI k := by
  intro i
  induction i with
  | zero => exact fun _ => Or.inl rfl
  | succ i ih =>
    intro hi
    simp only [dkS]
    split
    · split
      · exact Or.inr ⟨h + i, by omega, rfl⟩
      · exact ih (by omega)
    · exact ih (by omega)
set_option maxHeartbeats 4000000 in
theorem s_xdark (hX : xR D R no n np ro oh ph I L P S) {c : Int32} {h : Nat} (hh : h ≤ 2399) (k : ∀ I2 L2, rwX I2 L2 [(dkS (wld D) no c h 24).2.1.toInt64, (nI (dkS (wld D) no c h 24).2.2.1).toInt64, (nI (dkS (wld D) no c h 24).2.2.2).toInt64] → fR I L I2 L2 → Q (.inl (some (.int (nI (dkS (wld D) no c h 24).1)))) I2 L2 P S) : Zj G mX1_dark 3 C Sl 28 [.ref 100, .int c, .int (nI h), .retAddr 0, .retAddr 0, .retAddr 0, .retAddr 0, .retAddr 0, .retAddr 0, .retAddr 0] [] I L P S Q := by
  obtain ⟨e, ⟨g, hro⟩, ⟨⟨h29, h50⟩, hrw⟩, ⟨htx, hpr, hkp⟩, htl, hoh, hph⟩ := hX
  have hX : xR D R no n np ro oh ph I L P S := ⟨e, ⟨g, hro⟩, ⟨⟨h29, h50⟩, hrw⟩, ⟨htx, hpr, hkp⟩, htl, hoh, hph⟩
  have hx := e.x
  have hO := e.wd
  have hR := e.wr
  have hT := e.st
  have hPc := e.pc
  have hw := e.hw
  have hf := e.hx
  have hb := e.b
  have hn := e.nn
  have n8 := hw.n8
  have h6 := hw.o6
  have hn8 := hw.n8
  have hno : noD D = no := by rw [noD, show D 0 3 = nI no from hw.o3, nI_clamp (by omega)]
  have hnn : nD D = n := by rw [nD, show D 0 16 = nI n from hw.n16, nI_clamp (by omega)]
  refine Z_iconst (nI 0) dX1_dark_28 rfl ?_
  refine Z_istore_n (lv' := [_, _, _, _, _, _, _, _, _, _]) dX1_dark_29 rfl rfl (Nat.le_of_ble_eq_true rfl) ?_
  refine Z_iconst (-1) dX1_dark_30 rfl ?_
  refine Z_istore (lv' := [_, _, _, _, _, _, _, _, _, _]) dX1_dark_31 rfl rfl (Nat.le_of_ble_eq_true rfl) ?_
  refine Z_iconst (nI 0) dX1_dark_33 rfl ?_
  refine Z_istore (lv' := [_, _, _, _, _, _, _, _, _, _]) dX1_dark_34 rfl rfl (Nat.le_of_ble_eq_true rfl) ?_
  refine Z_iload_n dX1_dark_36 rfl ?_
  refine Z_istore (lv' := [_, _, _, _, _, _, _, _, _, _]) dX1_dark_37 rfl rfl (Nat.le_of_ble_eq_true rfl) ?_
  refine Z_iload_n dX1_dark_39 rfl ?_
  refine Z_istore (lv' := [_, _, _, _, _, _, _, _, _, _]) dX1_dark_40 rfl rfl (Nat.le_of_ble_eq_true rfl) ?_
  have lp42 : ∀ i, i ≤ 24 → Zj G mX1_dark 3 C Sl 42 [.ref 100, .int c, .int (nI h), .int (nI (dkS (wld D) no c h i).1), .int ((dkS (wld D) no c h i).2.1), .int (nI (dkS (wld D) no c h i).2.2.1), .int (nI (dkS (wld D) no c h i).2.2.2), .int (nI (h + i)), .retAddr 0, .retAddr 0] [] I L P S Q := by
    refine zloop (24) (fun i => Zj G mX1_dark 3 C Sl 42 [.ref 100, .int c, .int (nI h), .int (nI (dkS (wld D) no c h i).1), .int ((dkS (wld D) no c h i).2.1), .int (nI (dkS (wld D) no c h i).2.2.1), .int (nI (dkS (wld D) no c h i).2.2.2), .int (nI (h + i)), .retAddr 0, .retAddr 0] [] I L P S Q) (fun i hi ih => ?_)
    show Zj _ _ _ _ _ _ _ _ _ _ _ _ _
    have b1i := dkS_1 (W := wld D) (no := no) (c := c) (h := h) i
    have b3i := dkS_3 (W := wld D) (no := no) (c := c) (h := h) i
    have b4i := dkS_4 (W := wld D) (no := no) (c := c) (h := h) i
    have d2 := dkS_2 (W := wld D) (no := no) (c := c) (h := h) (by omega) i (by omega)
    have bn := cntB_le (fun o => zbit (wld D 9 o) c && opn (wld D) o (h + i)) no
    refine Z_iload dX1_dark_42 rfl ?_
    refine Z_iload_n dX1_dark_44 rfl ?_
    refine Z_bipush (nI 24) dX1_dark_45 rfl ?_
    refine Z_iaddN dX1_dark_47 ?_
    refine Z_icmpgeN 173 dX1_dark_48 rfl (by omega) (by omega) (fun c48 => ?_) (fun c48 => ?_)
    · obtain rfl : i = 24 := by omega
      refine Z_aload_n dX1_dark_173 rfl ?_
      refine Z_iconst (nI 0) dX1_dark_174 rfl ?_
      refine Z_putI hx.1 fX1_94_0 dX1_dark_175 rfl rfl rfl ?_
      refine Z_aload_n dX1_dark_178 rfl ?_
      refine Z_iload dX1_dark_179 rfl ?_
      refine Z_i2l dX1_dark_181 ?_
      refine Z_call0 (d' := 0) (zCal_V gX1_101 nX1_tell (by decide) dX1_dark_182) pX1_tell hx.1 zkl0 [_] rfl rfl (Nat.le_of_ble_eq_true rfl) (by omega) (c_X1_tell hx (rwX.z (I := I) (L := L)) (by decide) (fun J1 M1 u1 v1 => ?_))
      refine Z_aload_n dX1_dark_185 rfl ?_
      refine Z_iload dX1_dark_186 rfl ?_
      refine Z_i2l dX1_dark_188 ?_
      refine Z_call0 (d' := 0) (zCal_V gX1_101 nX1_tell (by decide) dX1_dark_189) pX1_tell hx.1 zkl0 [_] rfl rfl (Nat.le_of_ble_eq_true rfl) (by omega) (c_X1_tell hx u1 (by simp) (fun J2 M2 u2 v2 => ?_))
      refine Z_aload_n dX1_dark_192 rfl ?_
      refine Z_iload dX1_dark_193 rfl ?_
      refine Z_i2l dX1_dark_195 ?_
      refine Z_call0 (d' := 0) (zCal_V gX1_101 nX1_tell (by decide) dX1_dark_196) pX1_tell hx.1 zkl0 [_] rfl rfl (Nat.le_of_ble_eq_true rfl) (by omega) (c_X1_tell hx u2 (by simp) (fun J3 M3 u3 v3 => ?_))
      refine Z_iload_n dX1_dark_199 rfl ?_
      refine Z_ireturn dX1_dark_200 rfl rfl ?_
      exact k _ _ u3 (((fR.rf.z.tr v1).tr v2).tr v3)
    · refine Z_iconst (nI 0) dX1_dark_51 rfl ?_
      refine Z_istore (lv' := [_, _, _, _, _, _, _, _, _, _]) dX1_dark_52 rfl rfl (Nat.le_of_ble_eq_true rfl) ?_
      refine Z_iconst (nI 0) dX1_dark_54 rfl ?_
      refine Z_istore (lv' := [_, _, _, _, _, _, _, _, _, _]) dX1_dark_55 rfl rfl (Nat.le_of_ble_eq_true rfl) ?_
      have lp57 : ∀ j, j ≤ no → Zj G mX1_dark 3 C Sl 57 [.ref 100, .int c, .int (nI h), .int (nI (dkS (wld D) no c h i).1), .int ((dkS (wld D) no c h i).2.1), .int (nI (dkS (wld D) no c h i).2.2.1), .int (nI (dkS (wld D) no c h i).2.2.2), .int (nI (h + i)), .int (nI (cntB (fun o => zbit (wld D 9 o) c && opn (wld D) o (h + i)) j)), .int (nI j)] [] I L P S Q := by
        refine zloop (no) (fun j => Zj G mX1_dark 3 C Sl 57 [.ref 100, .int c, .int (nI h), .int (nI (dkS (wld D) no c h i).1), .int ((dkS (wld D) no c h i).2.1), .int (nI (dkS (wld D) no c h i).2.2.1), .int (nI (dkS (wld D) no c h i).2.2.2), .int (nI (h + i)), .int (nI (cntB (fun o => zbit (wld D 9 o) c && opn (wld D) o (h + i)) j)), .int (nI j)] [] I L P S Q) (fun j hj ihj => ?_)
        show Zj _ _ _ _ _ _ _ _ _ _ _ _ _
        have bj := cntB_le (fun o => zbit (wld D 9 o) c && opn (wld D) o (h + i)) j
        refine Z_iload dX1_dark_57 rfl ?_
        refine Z_aload_n dX1_dark_59 rfl ?_
        refine Z_getR (r := 200) hx.1 fX1_52_0 dX1_dark_60 rfl hx.2.2.2.1.1 ?_
        refine Z_getI hO.1 fX1_19_1 dX1_dark_63 rfl ?_
        refine Z_re (y := nI (no)) hR.1.1 ?_
        refine Z_icmpgeN 116 dX1_dark_66 rfl (by omega) (by omega) (fun c66 => ?_) (fun c66 => ?_)
        · have ej : j = no := by omega
          rw [ej]
          refine Z_iload dX1_dark_116 rfl ?_
          refine Z_ifneN 132 dX1_dark_118 rfl (by omega) (fun c118 => ?_) (fun c118 => ?_)
          · refine Z_iload dX1_dark_132 rfl ?_
            refine Z_istore (lv' := [_, _, _, _, _, _, _, _, _, _]) dX1_dark_134 rfl rfl (Nat.le_of_ble_eq_true rfl) ?_
            refine Z_iload_n dX1_dark_136 rfl ?_
            refine Z_iload dX1_dark_137 rfl ?_
            refine Z_ifneN 146 dX1_dark_139 rfl (by omega) (fun c139 => ?_) (fun c139 => ?_)
            · refine Z_iconst (nI 0) dX1_dark_146 rfl ?_
              refine Z_iaddN dX1_dark_147 ?_
              refine Z_istore_n (lv' := [_, _, _, _, _, _, _, _, _, _]) dX1_dark_148 rfl rfl (Nat.le_of_ble_eq_true rfl) ?_
              refine Z_iload dX1_dark_149 rfl ?_
              refine Z_iload dX1_dark_151 rfl ?_
              refine Z_icmpgtN 159 dX1_dark_153 rfl (by omega) (by omega) (fun c153 => ?_) (fun c153 => ?_)
              · refine Z_iload dX1_dark_159 rfl ?_
                refine Z_istore (lv' := [_, _, _, _, _, _, _, _, _, _]) dX1_dark_161 rfl rfl (Nat.le_of_ble_eq_true rfl) ?_
                refine Z_iload dX1_dark_163 rfl ?_
                refine Z_istore (lv' := [_, _, _, _, _, _, _, _, _, _]) dX1_dark_165 rfl rfl (Nat.le_of_ble_eq_true rfl) ?_
                refine Z_iincN (a := _) (k := 1) (lv' := [_, _, _, _, _, _, _, _, _, _]) dX1_dark_167 rfl rfl rfl rfl ?_
                refine Z_goto 42 dX1_dark_170 rfl ?_
                have c118 : ¬ dkC (wld D) no c (h + i) = 0 := c118
                have ih2 := ih (by omega)
                have c151 : ¬ dkC (wld D) no c (h + i) ≤ (dkS (wld D) no c h i).2.2.1 := by have := c153; unfold dkC; omega
                have e1 : (dkS (wld D) no c h (i + 1)).1 = (dkS (wld D) no c h i).1 + 0 := by simp [dkS, bI, c118]
                have e2 : (dkS (wld D) no c h (i + 1)).2.1 = (dkS (wld D) no c h i).2.1 := by
                  simp [dkS, c118]
                have e3 : (dkS (wld D) no c h (i + 1)).2.2.1 = dkC (wld D) no c (h + i) := by simp [dkS, c151]
                have e4 : (dkS (wld D) no c h (i + 1)).2.2.2 = h + i := by simp [dkS, c151]
                rw [e1, e2, e3, e4] at ih2
                exact Z_fgt ih2 (by repeat first | exact zwk_n | refine zwk_f ?_ | refine zwk_c rfl ?_)
              · refine Z_goto 167 dX1_dark_156 rfl ?_
                refine Z_iincN (a := _) (k := 1) (lv' := [_, _, _, _, _, _, _, _, _, _]) dX1_dark_167 rfl rfl rfl rfl ?_
                refine Z_goto 42 dX1_dark_170 rfl ?_
                have c118 : ¬ dkC (wld D) no c (h + i) = 0 := c118
                have ih2 := ih (by omega)
                have c151 : dkC (wld D) no c (h + i) ≤ (dkS (wld D) no c h i).2.2.1 := by have := c153; unfold dkC; omega
                have e1 : (dkS (wld D) no c h (i + 1)).1 = (dkS (wld D) no c h i).1 + 0 := by simp [dkS, bI, c118]
                have e2 : (dkS (wld D) no c h (i + 1)).2.1 = (dkS (wld D) no c h i).2.1 := by
                  simp [dkS, c118]
                have e3 : (dkS (wld D) no c h (i + 1)).2.2.1 = (dkS (wld D) no c h i).2.2.1 := by simp [dkS, c151]
                have e4 : (dkS (wld D) no c h (i + 1)).2.2.2 = (dkS (wld D) no c h i).2.2.2 := by simp [dkS, c151]
                rw [e1, e2, e3, e4] at ih2
                exact Z_fgt ih2 (by repeat first | exact zwk_n | refine zwk_f ?_ | refine zwk_c rfl ?_)
            · exact absurd c139 c118
          · refine Z_iload dX1_dark_121 rfl ?_
            refine Z_iconst (-1) dX1_dark_123 rfl ?_
            refine Z_icmpne 132 dX1_dark_124 rfl (fun c124 => ?_) (fun c124 => ?_)
            · refine Z_iload dX1_dark_132 rfl ?_
              refine Z_istore (lv' := [_, _, _, _, _, _, _, _, _, _]) dX1_dark_134 rfl rfl (Nat.le_of_ble_eq_true rfl) ?_
              refine Z_iload_n dX1_dark_136 rfl ?_
              refine Z_iload dX1_dark_137 rfl ?_
              refine Z_ifneN 146 dX1_dark_139 rfl (by omega) (fun c139 => ?_) (fun c139 => ?_)
              · exact absurd c118 c139
              · refine Z_iconst (nI 1) dX1_dark_142 rfl ?_
                refine Z_goto 147 dX1_dark_143 rfl ?_
                refine Z_iaddN dX1_dark_147 ?_
                refine Z_istore_n (lv' := [_, _, _, _, _, _, _, _, _, _]) dX1_dark_148 rfl rfl (Nat.le_of_ble_eq_true rfl) ?_
                refine Z_iload dX1_dark_149 rfl ?_
                refine Z_iload dX1_dark_151 rfl ?_
                refine Z_icmpgtN 159 dX1_dark_153 rfl (by omega) (by omega) (fun c153 => ?_) (fun c153 => ?_)
                · refine Z_iload dX1_dark_159 rfl ?_
                  refine Z_istore (lv' := [_, _, _, _, _, _, _, _, _, _]) dX1_dark_161 rfl rfl (Nat.le_of_ble_eq_true rfl) ?_
                  refine Z_iload dX1_dark_163 rfl ?_
                  refine Z_istore (lv' := [_, _, _, _, _, _, _, _, _, _]) dX1_dark_165 rfl rfl (Nat.le_of_ble_eq_true rfl) ?_
                  refine Z_iincN (a := _) (k := 1) (lv' := [_, _, _, _, _, _, _, _, _, _]) dX1_dark_167 rfl rfl rfl rfl ?_
                  refine Z_goto 42 dX1_dark_170 rfl ?_
                  have c118 : dkC (wld D) no c (h + i) = 0 := c118
                  have ih2 := ih (by omega)
                  have c151 : ¬ dkC (wld D) no c (h + i) ≤ (dkS (wld D) no c h i).2.2.1 := by have := c153; unfold dkC; omega
                  have e1 : (dkS (wld D) no c h (i + 1)).1 = (dkS (wld D) no c h i).1 + 1 := by simp [dkS, bI, c118]
                  have e2 : (dkS (wld D) no c h (i + 1)).2.1 = (dkS (wld D) no c h i).2.1 := by
                    have c124b : ¬ (dkS (wld D) no c h i).2.1 < 0 := by rcases d2 with q | ⟨k, hk, q⟩ <;> first | exact absurd q c124 | (rw [q]; exact nI_pos hk)
                    simp [dkS, c118, c124b]
                  have e3 : (dkS (wld D) no c h (i + 1)).2.2.1 = dkC (wld D) no c (h + i) := by simp [dkS, c151]
                  have e4 : (dkS (wld D) no c h (i + 1)).2.2.2 = h + i := by simp [dkS, c151]
                  rw [e1, e2, e3, e4] at ih2
                  exact Z_fgt ih2 (by repeat first | exact zwk_n | refine zwk_f ?_ | refine zwk_c rfl ?_)
                · refine Z_goto 167 dX1_dark_156 rfl ?_
                  refine Z_iincN (a := _) (k := 1) (lv' := [_, _, _, _, _, _, _, _, _, _]) dX1_dark_167 rfl rfl rfl rfl ?_
                  refine Z_goto 42 dX1_dark_170 rfl ?_
                  have c118 : dkC (wld D) no c (h + i) = 0 := c118
                  have ih2 := ih (by omega)
                  have c151 : dkC (wld D) no c (h + i) ≤ (dkS (wld D) no c h i).2.2.1 := by have := c153; unfold dkC; omega
                  have e1 : (dkS (wld D) no c h (i + 1)).1 = (dkS (wld D) no c h i).1 + 1 := by simp [dkS, bI, c118]
                  have e2 : (dkS (wld D) no c h (i + 1)).2.1 = (dkS (wld D) no c h i).2.1 := by
                    have c124b : ¬ (dkS (wld D) no c h i).2.1 < 0 := by rcases d2 with q | ⟨k, hk, q⟩ <;> first | exact absurd q c124 | (rw [q]; exact nI_pos hk)
                    simp [dkS, c118, c124b]
                  have e3 : (dkS (wld D) no c h (i + 1)).2.2.1 = (dkS (wld D) no c h i).2.2.1 := by simp [dkS, c151]
                  have e4 : (dkS (wld D) no c h (i + 1)).2.2.2 = (dkS (wld D) no c h i).2.2.2 := by simp [dkS, c151]
                  rw [e1, e2, e3, e4] at ih2
                  exact Z_fgt ih2 (by repeat first | exact zwk_n | refine zwk_f ?_ | refine zwk_c rfl ?_)
            · refine Z_iload dX1_dark_127 rfl ?_
              refine Z_goto 134 dX1_dark_129 rfl ?_
              refine Z_istore (lv' := [_, _, _, _, _, _, _, _, _, _]) dX1_dark_134 rfl rfl (Nat.le_of_ble_eq_true rfl) ?_
              refine Z_iload_n dX1_dark_136 rfl ?_
              refine Z_iload dX1_dark_137 rfl ?_
              refine Z_ifneN 146 dX1_dark_139 rfl (by omega) (fun c139 => ?_) (fun c139 => ?_)
              · exact absurd c118 c139
              · refine Z_iconst (nI 1) dX1_dark_142 rfl ?_
                refine Z_goto 147 dX1_dark_143 rfl ?_
                refine Z_iaddN dX1_dark_147 ?_
                refine Z_istore_n (lv' := [_, _, _, _, _, _, _, _, _, _]) dX1_dark_148 rfl rfl (Nat.le_of_ble_eq_true rfl) ?_
                refine Z_iload dX1_dark_149 rfl ?_
                refine Z_iload dX1_dark_151 rfl ?_
                refine Z_icmpgtN 159 dX1_dark_153 rfl (by omega) (by omega) (fun c153 => ?_) (fun c153 => ?_)
                · refine Z_iload dX1_dark_159 rfl ?_
                  refine Z_istore (lv' := [_, _, _, _, _, _, _, _, _, _]) dX1_dark_161 rfl rfl (Nat.le_of_ble_eq_true rfl) ?_
                  refine Z_iload dX1_dark_163 rfl ?_
                  refine Z_istore (lv' := [_, _, _, _, _, _, _, _, _, _]) dX1_dark_165 rfl rfl (Nat.le_of_ble_eq_true rfl) ?_
                  refine Z_iincN (a := _) (k := 1) (lv' := [_, _, _, _, _, _, _, _, _, _]) dX1_dark_167 rfl rfl rfl rfl ?_
                  refine Z_goto 42 dX1_dark_170 rfl ?_
                  have c118 : dkC (wld D) no c (h + i) = 0 := c118
                  have ih2 := ih (by omega)
                  have c151 : ¬ dkC (wld D) no c (h + i) ≤ (dkS (wld D) no c h i).2.2.1 := by have := c153; unfold dkC; omega
                  have e1 : (dkS (wld D) no c h (i + 1)).1 = (dkS (wld D) no c h i).1 + 1 := by simp [dkS, bI, c118]
                  have e2 : (dkS (wld D) no c h (i + 1)).2.1 = nI (h + i) := by
                    simp [dkS, c118, c124]
                  have e3 : (dkS (wld D) no c h (i + 1)).2.2.1 = dkC (wld D) no c (h + i) := by simp [dkS, c151]
                  have e4 : (dkS (wld D) no c h (i + 1)).2.2.2 = h + i := by simp [dkS, c151]
                  rw [e1, e2, e3, e4] at ih2
                  exact Z_fgt ih2 (by repeat first | exact zwk_n | refine zwk_f ?_ | refine zwk_c rfl ?_)
                · refine Z_goto 167 dX1_dark_156 rfl ?_
                  refine Z_iincN (a := _) (k := 1) (lv' := [_, _, _, _, _, _, _, _, _, _]) dX1_dark_167 rfl rfl rfl rfl ?_
                  refine Z_goto 42 dX1_dark_170 rfl ?_
                  have c118 : dkC (wld D) no c (h + i) = 0 := c118
                  have ih2 := ih (by omega)
                  have c151 : dkC (wld D) no c (h + i) ≤ (dkS (wld D) no c h i).2.2.1 := by have := c153; unfold dkC; omega
                  have e1 : (dkS (wld D) no c h (i + 1)).1 = (dkS (wld D) no c h i).1 + 1 := by simp [dkS, bI, c118]
                  have e2 : (dkS (wld D) no c h (i + 1)).2.1 = nI (h + i) := by
                    simp [dkS, c118, c124]
                  have e3 : (dkS (wld D) no c h (i + 1)).2.2.1 = (dkS (wld D) no c h i).2.2.1 := by simp [dkS, c151]
                  have e4 : (dkS (wld D) no c h (i + 1)).2.2.2 = (dkS (wld D) no c h i).2.2.2 := by simp [dkS, c151]
                  rw [e1, e2, e3, e4] at ih2
                  exact Z_fgt ih2 (by repeat first | exact zwk_n | refine zwk_f ?_ | refine zwk_c rfl ?_)
        · refine Z_iload dX1_dark_69 rfl ?_
          refine Z_aload_n dX1_dark_71 rfl ?_
          refine Z_getR (r := 200) hx.1 fX1_52_0 dX1_dark_72 rfl hx.2.2.2.1.1 ?_
          refine Z_iload dX1_dark_75 rfl ?_
          refine Z_iload_n dX1_dark_77 rfl ?_
          refine Z_call0 (d' := 1) (zCal_V gX1_188 nX2_hasCraft (by decide) dX1_dark_78) pX2_hasCraft hO.1 zkl1 [_, _] rfl rfl (Nat.le_of_ble_eq_true rfl) (by omega) (c_X2_hasCraft hO hR h6 (by omega) (fun h78 => ?_) (fun h78 => ?_))
          · refine Z_ifeq 106 dX1_dark_81 rfl (fun h => absurd h (by decide)) (fun _ => ?_)
            refine Z_aload_n dX1_dark_84 rfl ?_
            refine Z_getR (r := 200) hx.1 fX1_52_0 dX1_dark_85 rfl hx.2.2.2.1.1 ?_
            refine Z_getR (r := (200 + 1)) hO.1 fX1_127_1 dX1_dark_88 rfl hO.2.1.2 ?_
            refine Z_iload dX1_dark_91 rfl ?_
            refine Z_aald (r := (oh j)) hO.2.1.1 (by simp [zTys]) rfl (zix_nI (by first | omega | (dsimp only; omega)) (by decide)) (hR.2.2 j (by omega)).1 dX1_dark_93 ?_
            refine Z_iload dX1_dark_94 rfl ?_
            refine Z_call0 (d' := 1) (zCal_V gX1_178 nX6_isOpen (by decide) dX1_dark_96) pX6_isOpen (hR.2.2 j (by omega)).2.1.1 zkl5 [_] rfl rfl (Nat.le_of_ble_eq_true rfl) (by omega) (c_X6_isOpen (hR.2.2 j (by omega)).2.1 (hR.2.2 j (by omega)).2.2 (fun h96 => ?_) (fun h96 => ?_))
            · refine Z_ifeq 106 dX1_dark_99 rfl (fun h => absurd h (by decide)) (fun _ => ?_)
              refine Z_iconst (nI 1) dX1_dark_102 rfl ?_
              refine Z_goto 107 dX1_dark_103 rfl ?_
              refine Z_iaddN dX1_dark_107 ?_
              refine Z_istore (lv' := [_, _, _, _, _, _, _, _, _, _]) dX1_dark_108 rfl rfl (Nat.le_of_ble_eq_true rfl) ?_
              refine Z_iincN (a := _) (k := 1) (lv' := [_, _, _, _, _, _, _, _, _, _]) dX1_dark_110 rfl rfl rfl rfl ?_
              refine Z_goto 57 dX1_dark_113 rfl ?_
              have ih2 := ihj (by omega)
              simp only [cntB, bI, h78, h96, Bool.and_self, Bool.and_false, Bool.false_and, Bool.true_and, Bool.and_true, Bool.not_true, Bool.not_false, Bool.or_true, Bool.true_or, Bool.or_false, Bool.false_or, Bool.false_eq_true, if_true, if_false, reduceIte] at ih2
              exact ih2
            · refine Z_ifeq 106 dX1_dark_99 rfl (fun _ => ?_) (fun h => absurd h (by decide))
              refine Z_iconst (nI 0) dX1_dark_106 rfl ?_
              refine Z_iaddN dX1_dark_107 ?_
              refine Z_istore (lv' := [_, _, _, _, _, _, _, _, _, _]) dX1_dark_108 rfl rfl (Nat.le_of_ble_eq_true rfl) ?_
              refine Z_iincN (a := _) (k := 1) (lv' := [_, _, _, _, _, _, _, _, _, _]) dX1_dark_110 rfl rfl rfl rfl ?_
              refine Z_goto 57 dX1_dark_113 rfl ?_
              have ih2 := ihj (by omega)
              simp only [cntB, bI, h78, h96, Bool.and_self, Bool.and_false, Bool.false_and, Bool.true_and, Bool.and_true, Bool.not_true, Bool.not_false, Bool.or_true, Bool.true_or, Bool.or_false, Bool.false_or, Bool.false_eq_true, if_true, if_false, reduceIte] at ih2
              exact ih2
          · refine Z_ifeq 106 dX1_dark_81 rfl (fun _ => ?_) (fun h => absurd h (by decide))
            refine Z_iconst (nI 0) dX1_dark_106 rfl ?_
            refine Z_iaddN dX1_dark_107 ?_
            refine Z_istore (lv' := [_, _, _, _, _, _, _, _, _, _]) dX1_dark_108 rfl rfl (Nat.le_of_ble_eq_true rfl) ?_
            refine Z_iincN (a := _) (k := 1) (lv' := [_, _, _, _, _, _, _, _, _, _]) dX1_dark_110 rfl rfl rfl rfl ?_
            refine Z_goto 57 dX1_dark_113 rfl ?_
            have ih2 := ihj (by omega)
            simp only [cntB, bI, h78, Bool.and_self, Bool.and_false, Bool.false_and, Bool.true_and, Bool.and_true, Bool.not_true, Bool.not_false, Bool.or_true, Bool.true_or, Bool.or_false, Bool.false_or, Bool.false_eq_true, if_true, if_false, reduceIte] at ih2
            exact ih2
      exact lp57 0 (by omega)
  exact lp42 0 (by omega)
set_option maxHeartbeats 4000000 in
theorem o_xdark (hX : xR D R no n np ro oh ph I L P S) {c h : Int32} (k : ∀ I2 L2 P2 S2, xR (fDark D R no c h).2.1 (fDark D R no c h).2.2 no n np ro oh ph I2 L2 P2 S2 → frX I L P S I2 L2 P2 S2 → Q (.inl (some (.int (fDark D R no c h).1))) I2 L2 P2 S2) : Zm G mX1_dark 3 C Sl [.ref 100, .int c, .int h] I L P S Q := by
  obtain ⟨e, ⟨g, hro⟩, ⟨⟨h29, h50⟩, hrw⟩, ⟨htx, hpr, hkp⟩, htl, hoh, hph⟩ := hX
  have hX : xR D R no n np ro oh ph I L P S := ⟨e, ⟨g, hro⟩, ⟨⟨h29, h50⟩, hrw⟩, ⟨htx, hpr, hkp⟩, htl, hoh, hph⟩
  have hx := e.x
  have hO := e.wd
  have hR := e.wr
  have hT := e.st
  have hPc := e.pc
  have hw := e.hw
  have hf := e.hx
  have hb := e.b
  have hn := e.nn
  have n8 := hw.n8
  have h6 := hw.o6
  have hn8 := hw.n8
  have hno : noD D = no := by rw [noD, show D 0 3 = nI no from hw.o3, nI_clamp (by omega)]
  have hnn : nD D = n := by rw [nD, show D 0 16 = nI n from hw.n16, nI_clamp (by omega)]
  obtain ⟨-, -, -, -, ⟨-, -, hN⟩, -⟩ := id hX
  have hM := hR.1
  refine Z_entry (lv := [_, _, _, _, _, _, _, _, _, _]) (Nat.le_of_ble_eq_true rfl) rfl ?_
  refine Z_iload_n dX1_dark_0 rfl ?_
  refine Z_iconst (nI 0) dX1_dark_1 rfl ?_
  refine Z_iconst (nI 5) dX1_dark_2 rfl ?_
  refine Z_callS0 (d' := 0) (zCal_S gX1_3 nX1_in (by decide) dX1_dark_3) pX1_in [_, _, _] rfl rfl (Nat.le_of_ble_eq_true rfl) (by omega) (c_X1_in (fun h3a h3b => ?_) (fun h3 => ?_))
  · have r3 : rB c 0 5 = true := rB_t h3a h3b
    refine Z_ifeq 26 dX1_dark_6 rfl (fun h => absurd h (by decide)) (fun _ => ?_)
    refine Z_iload_n dX1_dark_9 rfl ?_
    refine Z_callS0 (d' := 1) (zCal_S gX1_124 nX1_isHour (by decide) dX1_dark_10) pX1_isHour [_] rfl rfl (Nat.le_of_ble_eq_true rfl) (by omega) (c_X1_isHour (fun h10a h10b => ?_) (fun h10 => ?_))
    · have r10 : rB h 0 2399 = true := rB_t h10a h10b
      obtain ⟨k10, hk10, e10⟩ := z_rng (n := 2399) h10a h10b (by omega)
      subst e10
      have v10 : (nI k10).toNatClampNeg = k10 := nI_clamp (by omega)
      refine Z_ifeq 26 dX1_dark_13 rfl (fun h => absurd h (by decide)) (fun _ => ?_)
      refine Z_aload_n dX1_dark_16 rfl ?_
      refine Z_getR (r := 200) hx.1 fX1_52_0 dX1_dark_17 rfl hx.2.2.2.1.1 ?_
      refine Z_getI hO.1 fX1_19_1 dX1_dark_20 rfl ?_
      refine Z_re (y := nI (no)) hR.1.1 ?_
      refine Z_ifneN 28 dX1_dark_23 rfl (by omega) (fun c23 => ?_) (fun c23 => ?_)
      · have e9 : fDark D R no c (nI k10) = (nI (dkS (wld D) no c k10 24).1, D, [(dkS (wld D) no c k10 24).2.1.toInt64, (nI (dkS (wld D) no c k10 24).2.2.1).toInt64, (nI (dkS (wld D) no c k10 24).2.2.2).toInt64]) := by rw [fDark, if_pos (by rw [r3, r10, show D 0 3 = nI no from hw.o3, decide_eq_false (fun e => c23 ((nI_z (by omega)).mp e))]; rfl), v10]
        exact s_xdark hX (by omega) (fun I2 L2 g q => xO_k e9 k (hX.go ((fX.rf hN).fR q) g) ((fX.rf hN).fR q).frX)
      · refine Z_iconst (-1) dX1_dark_26 rfl ?_
        refine Z_ireturn dX1_dark_27 rfl rfl ?_
        exact xO_k (D2 := D) (R2 := R) (by simp [fDark, show D 0 3 = nI no from hw.o3, nI_0, r3, r10, v10, c23]) k (hX) (frX.rf)
    · have r10 : rB h 0 2399 = false := rB_f h10
      refine Z_ifeq 26 dX1_dark_13 rfl (fun _ => ?_) (fun h => absurd h (by decide))
      refine Z_iconst (-1) dX1_dark_26 rfl ?_
      refine Z_ireturn dX1_dark_27 rfl rfl ?_
      exact xO_k (D2 := D) (R2 := R) (by simp [fDark, show D 0 3 = nI no from hw.o3, nI_0, r3, r10]) k (hX) (frX.rf)
  · have r3 : rB c 0 5 = false := rB_f h3
    refine Z_ifeq 26 dX1_dark_6 rfl (fun _ => ?_) (fun h => absurd h (by decide))
    refine Z_iconst (-1) dX1_dark_26 rfl ?_
    refine Z_ireturn dX1_dark_27 rfl rfl ?_
    exact xO_k (D2 := D) (R2 := R) (by simp [fDark, show D 0 3 = nI no from hw.o3, nI_0, r3]) k (hX) (frX.rf)
end X13C
