set_option maxRecDepth 100000
/-! THE MODEL, part 21: what is understood otherwise -/
section M21
variable {G : zG} {d C Sl : Nat} {I D W : zI} {R : List Int64} {L : zL} {P : zR} {S : zT} {Q : zQ} {no n np : Nat} {s : zS}
set_option maxHeartbeats 4000000 in
theorem c_X5_common {a b : Int64} (k : Q (.inl (some (.long (cmn a b)))) I L P S) : Zm G mX5_common 0 C Sl [.long a, .long b] I L P S Q := by
  refine Z_entry (lv := [_, _, _, _, _, _, _, _, _, _]) (Nat.le_of_ble_eq_true rfl) rfl ?_
  refine Z_lload_n dX5_common_0 rfl ?_
  refine Z_lstore (lv' := [_, _, _, _, _, _, _, _, _, _]) dX5_common_1 rfl rfl (Nat.le_of_ble_eq_true rfl) ?_
  refine Z_lload_n dX5_common_3 rfl ?_
  refine Z_lstore (lv' := [_, _, _, _, _, _, _, _, _, _]) dX5_common_4 rfl rfl (Nat.le_of_ble_eq_true rfl) ?_
  have lp6 : ∀ f : Nat, ∀ x y : Int64, y.toInt.natAbs < f → gcdL f x y = cmn a b → Zj G mX5_common 0 C Sl 6 [.long a, .retAddr 0, .long b, .retAddr 0, .long x, .retAddr 0, .long y, .retAddr 0, .retAddr 0, .retAddr 0] [] I L P S Q := by
    refine fun f => Nat.rec (motive := fun f => ∀ x y : Int64, y.toInt.natAbs < f → gcdL f x y = cmn a b → Zj G mX5_common 0 C Sl 6 [.long a, .retAddr 0, .long b, .retAddr 0, .long x, .retAddr 0, .long y, .retAddr 0, .retAddr 0, .retAddr 0] [] I L P S Q) (fun x y h => absurd h (Nat.not_lt_zero _)) (fun f ih => ?_) f
    intro x y g1 g2
    show Zj _ _ _ _ _ _ _ _ _ _ _ _ _
    refine Z_lload dX5_common_6 rfl ?_
    refine Z_lconst (0) dX5_common_8 rfl ?_
    refine Z_lcmp dX5_common_9 ?_
    refine Z_ifeq 31 dX5_common_10 rfl (fun c10 => ?_) (fun c10 => ?_)
    · rw [gcdL, if_pos (lg_0.mp c10)] at g2
      refine Z_lload dX5_common_31 rfl ?_
      refine Z_lreturn dX5_common_33 rfl ?_
      exact zQl g2 k
    · have c10b : ¬ y = 0 := fun e => c10 (lg_0.mpr e)
      refine Z_lload dX5_common_13 rfl ?_
      refine Z_lload dX5_common_15 rfl ?_
      refine Z_lrem dX5_common_17 c10b ?_
      refine Z_lstore (lv' := [_, _, _, _, _, _, _, _, _, _]) dX5_common_18 rfl rfl (Nat.le_of_ble_eq_true rfl) ?_
      refine Z_lload dX5_common_20 rfl ?_
      refine Z_lstore (lv' := [_, _, _, _, _, _, _, _, _, _]) dX5_common_22 rfl rfl (Nat.le_of_ble_eq_true rfl) ?_
      refine Z_lload dX5_common_24 rfl ?_
      refine Z_lstore (lv' := [_, _, _, _, _, _, _, _, _, _]) dX5_common_26 rfl rfl (Nat.le_of_ble_eq_true rfl) ?_
      refine Z_goto 6 dX5_common_28 rfl ?_
      have g3 := lrem_lt (x := x) c10b
      exact Z_fgt (ih y (x - x / y * y) (by omega) (by rw [gcdL, if_neg c10b] at g2; exact g2)) (by repeat first | exact zwk_n | refine zwk_f ?_ | refine zwk_c rfl ?_)
  exact lp6 (b.toInt.natAbs + 1) a b (Nat.lt_succ_self _) rfl
set_option maxHeartbeats 4000000 in
theorem c_frac (hR : mR D R I L P S) (hl : R.length < 22) {a b : Int64} (hb : b ≠ 0) (k : ∀ I2 L2, mR D (R ++ frc a b) I2 L2 P S → frM I L I2 L2 → Q (.inl none) I2 L2 P S) : Zm G mX5_entersFraction 1 C Sl [.ref 0, .long a, .long b] I L P S Q := by
  have hM := hR.1
  refine Z_entry (lv := [_, _, _, _, _, _, _]) (Nat.le_of_ble_eq_true rfl) rfl ?_
  refine Z_lload_n dX5_entersFraction_0 rfl ?_
  refine Z_lload_n dX5_entersFraction_1 rfl ?_
  refine Z_callS0 (d' := 0) (zCal_S gX5_14 nX5_common (by decide) dX5_entersFraction_2) pX5_common [_, _] rfl rfl (Nat.le_of_ble_eq_true rfl) (by omega) (c_X5_common ?_)
  refine Z_lstore (lv' := [_, _, _, _, _, _, _]) dX5_entersFraction_5 rfl rfl (Nat.le_of_ble_eq_true rfl) ?_
  refine Z_aload_n dX5_entersFraction_7 rfl ?_
  refine Z_lload_n dX5_entersFraction_8 rfl ?_
  refine Z_lload dX5_entersFraction_9 rfl ?_
  refine Z_ldiv dX5_entersFraction_11 (cmn_ne hb) ?_
  refine Z_call0 (d' := 0) (zCal_V gX5_18 nX5_enters (by decide) dX5_entersFraction_12) pX5_enters hM.1 zkl4 [_] rfl rfl (Nat.le_of_ble_eq_true rfl) (by omega) (c_tell hR (by omega) (fun J1 M1 t1 q1 => ?_))
  refine Z_aload_n dX5_entersFraction_15 rfl ?_
  refine Z_lload_n dX5_entersFraction_16 rfl ?_
  refine Z_lload dX5_entersFraction_17 rfl ?_
  refine Z_ldiv dX5_entersFraction_19 (cmn_ne hb) ?_
  refine Z_call0 (d' := 0) (zCal_V gX5_18 nX5_enters (by decide) dX5_entersFraction_20) pX5_enters hM.1 zkl4 [_] rfl rfl (Nat.le_of_ble_eq_true rfl) (by omega) (c_tell t1 (by simp; omega) (fun J2 M2 t2 q2 => ?_))
  refine Z_return dX5_entersFraction_23 rfl ?_
  exact k _ _ (by rw [List.append_assoc] at t2; exact t2) (q1.tr q2)
set_option maxHeartbeats 4000000 in
theorem o_mean (hR : mR D R I L P S) (hw : wf (wld D) no n) (hsf : sf (wld D) no n (D 23)) {h : Int32} (k : ∀ I2 L2, mR (fMean D R h).2.1 (fMean D R h).2.2 I2 L2 P S → frM I L I2 L2 → Q (.inl (some (.int (fMean D R h).1))) I2 L2 P S) : Zm G mX5_mean 2 C Sl [.ref 0, .int h] I L P S Q := by
  obtain ⟨b, hb6, hb⟩ := hsf.bk
  have vb : (D 23 2).toNatClampNeg = b := by rw [hb, nI_clamp (by omega)]
  have hM := hR.1
  refine Z_entry (lv := [_, _, _, _, _]) (Nat.le_of_ble_eq_true rfl) rfl ?_
  refine Z_aload_n dX5_mean_0 rfl ?_
  refine Z_iconst (nI 0) dX5_mean_1 rfl ?_
  refine Z_putI hM.1 fX5_3_4 dX5_mean_2 rfl rfl rfl ?_
  refine Z_start hR (fun I1 hR1 f1 h00 => ?_)
  have hw8 := hw.n8
  have hw6 := hw.o6
  have hM := hR1.1
  have hD : mdat I1 = D := hR1.2.2.1
  have hW : wld I1 = wld D := wld_mdat hD
  have hs : I1 23 = D 23 := funext fun j => dr hD rfl
  have hno : noD D = no := by rw [noD, show D 0 3 = nI no from hw.o3, nI_clamp (by omega)]
  have hnn : nD D = n := by rw [nD, show D 0 16 = nI n from hw.n16, nI_clamp (by omega)]
  have hI3 : I1 0 3 = nI no := (wr hW rfl).trans hw.o3
  have hI16 : I1 0 16 = nI n := (wr hW rfl).trans hw.n16
  refine Z_iload_n dX5_mean_5 rfl ?_
  refine Z_i2l dX5_mean_6 ?_
  refine Z_lconst (1) dX5_mean_7 rfl ?_
  refine Z_ldc2 q1244 dX5_mean_8 ?_
  refine Z_callS0 (d' := 0) (zCal_S gX5_25 nX5_in (by decide) dX5_mean_11) pX5_in [_, _, _] rfl rfl (Nat.le_of_ble_eq_true rfl) (by omega) (c_X5_in (fun h11a h11b => ?_) (fun h11 => ?_))
  · rw [z_i64] at h11a h11b
    have r11 : rB h 1 99 = true := rB_t h11a h11b
    refine Z_ifne 19 dX5_mean_14 rfl (fun _ => ?_) (fun h => absurd h (by decide))
    refine Z_lconst (0) dX5_mean_19 rfl ?_
    refine Z_lstore_n (lv' := [_, _, _, _, _]) dX5_mean_20 rfl rfl (Nat.le_of_ble_eq_true rfl) ?_
    refine Z_iconst (nI 0) dX5_mean_21 rfl ?_
    refine Z_istore (lv' := [_, _, _, _, _]) dX5_mean_22 rfl rfl (Nat.le_of_ble_eq_true rfl) ?_
    have lp24 : ∀ i, i ≤ b → Zj G mX5_mean 2 C Sl 24 [.ref 0, .int h, .long (sumL (fun i => (D 23 (67 + i)).toInt64) i), .retAddr 0, .int (nI i)] [] I1 L P S Q := by
      refine zloop (b) (fun i => Zj G mX5_mean 2 C Sl 24 [.ref 0, .int h, .long (sumL (fun i => (D 23 (67 + i)).toInt64) i), .retAddr 0, .int (nI i)] [] I1 L P S Q) (fun i hi ih => ?_)
      show Zj _ _ _ _ _ _ _ _ _ _ _ _ _
      refine Z_iload dX5_mean_24 rfl ?_
      refine Z_aload_n dX5_mean_26 rfl ?_
      refine Z_getR (r := 23) hM.1 fX5_140_4 dX5_mean_27 rfl (hM.2.2 23 _ rfl rfl) ?_
      refine Z_iconst (nI 2) dX5_mean_30 rfl ?_
      refine Z_iald (hM.2.1 23 _ rfl) (zix_nI (by omega) (by decide)) dX5_mean_31 ?_
      refine Z_re (congrFun hs _) ?_
      refine Z_re (y := nI (b)) hb ?_
      refine Z_icmpgeN 55 dX5_mean_32 rfl (by omega) (by omega) (fun c32 => ?_) (fun c32 => ?_)
      · have ei : i = b := by omega
        refine Z_aload_n dX5_mean_55 rfl ?_
        refine Z_iconst (nI 0) dX5_mean_56 rfl ?_
        refine Z_putI hM.1 fX5_11_4 dX5_mean_57 rfl rfl rfl ?_
        refine Z_aload_n dX5_mean_60 rfl ?_
        refine Z_lload_n dX5_mean_61 rfl ?_
        refine Z_iload_n dX5_mean_62 rfl ?_
        refine Z_i2l dX5_mean_63 ?_
        refine Z_lmul dX5_mean_64 ?_
        refine Z_ldc2 q1292 dX5_mean_65 ?_
        refine Z_call0 (d' := 1) (zCal_V gX5_459 nX5_entersFraction (by decide) dX5_mean_68) pX5_entersFraction hM.1 zkl4 [_, _] rfl rfl (Nat.le_of_ble_eq_true rfl) (by omega) (c_frac (mR_t0 hR1) (by simp) (by decide) (fun J1 M1 t1 q1 => ?_))
        refine Z_aload_n dX5_mean_71 rfl ?_
        refine Z_getR (r := 23) hM.1 fX5_140_4 dX5_mean_72 rfl (hM.2.2 23 _ rfl rfl) ?_
        refine Z_iconst (nI 2) dX5_mean_75 rfl ?_
        refine Z_iald (hM.2.1 23 _ rfl) (zix_nI (by omega) (by decide)) dX5_mean_76 ?_
        refine Z_re (y := D 23 2) (dr t1.2.2.1 rfl) ?_
        refine Z_ireturn dX5_mean_77 rfl rfl ?_
        exact zO_k (D2 := D) (R2 := frc (sumL (fun i => (D 23 (67 + i)).toInt64) i * h.toInt64) 100) (by simp [fMean, r11, vb, ei]) k t1 (f1.tr ((frM.rf.st (by decide)).tr q1))
      · refine Z_lload_n dX5_mean_35 rfl ?_
        refine Z_aload_n dX5_mean_36 rfl ?_
        refine Z_getR (r := 23) hM.1 fX5_140_4 dX5_mean_37 rfl (hM.2.2 23 _ rfl rfl) ?_
        refine Z_bipush (nI 67) dX5_mean_40 rfl ?_
        refine Z_iload dX5_mean_42 rfl ?_
        refine Z_iaddN dX5_mean_44 ?_
        refine Z_iald (hM.2.1 23 _ rfl) (zix_nI (by omega) (by decide)) dX5_mean_45 ?_
        refine Z_re (congrFun hs _) ?_
        refine Z_i2l dX5_mean_46 ?_
        refine Z_ladd dX5_mean_47 ?_
        refine Z_lstore_n (lv' := [_, _, _, _, _]) dX5_mean_48 rfl rfl (Nat.le_of_ble_eq_true rfl) ?_
        refine Z_iincN (a := _) (k := 1) (lv' := [_, _, _, _, _]) dX5_mean_49 rfl rfl rfl rfl ?_
        refine Z_goto 24 dX5_mean_52 rfl ?_
        exact ih (by omega)
    exact lp24 0 (by omega)
  · rw [z_i64] at h11
    have r11 : rB h 1 99 = false := rB_f h11
    refine Z_ifne 19 dX5_mean_14 rfl (fun h => absurd h (by decide)) (fun _ => ?_)
    refine Z_iconst (-1) dX5_mean_17 rfl ?_
    refine Z_ireturn dX5_mean_18 rfl rfl ?_
    exact zO_k (by simp [fMean, r11]) k hR1 f1
set_option maxHeartbeats 4000000 in
theorem o_riskiest (hR : mR D R I L P S) (hw : wf (wld D) no n) (hsf : sf (wld D) no n (D 23)) (k : ∀ I2 L2, mR (fRisk D R).2.1 (fRisk D R).2.2 I2 L2 P S → frM I L I2 L2 → Q (.inl (some (.int (fRisk D R).1))) I2 L2 P S) : Zm G mX5_riskiest 1 C Sl [.ref 0] I L P S Q := by
  have hM := hR.1
  obtain ⟨b, hb6, hb⟩ := hsf.bk
  have vb : (D 23 2).toNatClampNeg = b := by rw [hb, nI_clamp (by omega)]
  refine Z_entry (lv := [_, _, _]) (Nat.le_of_ble_eq_true rfl) rfl ?_
  refine Z_aload_n dX5_riskiest_0 rfl ?_
  refine Z_iconst (nI 0) dX5_riskiest_1 rfl ?_
  refine Z_putI hM.1 fX5_3_4 dX5_riskiest_2 rfl rfl rfl ?_
  refine Z_start hR (fun I1 hR1 f1 h00 => ?_)
  have hw8 := hw.n8
  have hw6 := hw.o6
  have hM := hR1.1
  have hD : mdat I1 = D := hR1.2.2.1
  have hW : wld I1 = wld D := wld_mdat hD
  have hs : I1 23 = D 23 := funext fun j => dr hD rfl
  have hno : noD D = no := by rw [noD, show D 0 3 = nI no from hw.o3, nI_clamp (by omega)]
  have hnn : nD D = n := by rw [nD, show D 0 16 = nI n from hw.n16, nI_clamp (by omega)]
  have hI3 : I1 0 3 = nI no := (wr hW rfl).trans hw.o3
  have hI16 : I1 0 16 = nI n := (wr hW rfl).trans hw.n16
  refine Z_aload_n dX5_riskiest_5 rfl ?_
  refine Z_getR (r := 23) hM.1 fX5_140_4 dX5_riskiest_6 rfl (hM.2.2 23 _ rfl rfl) ?_
  refine Z_iconst (nI 2) dX5_riskiest_9 rfl ?_
  refine Z_iald (hM.2.1 23 _ rfl) (zix_nI (by omega) (by decide)) dX5_riskiest_10 ?_
  refine Z_re (congrFun hs _) ?_
  refine Z_re (y := nI (b)) hb ?_
  refine Z_ifneN 17 dX5_riskiest_11 rfl (by omega) (fun c11 => ?_) (fun c11 => ?_)
  · refine Z_iconst (nI 0) dX5_riskiest_17 rfl ?_
    refine Z_istore_n (lv' := [_, _, _]) dX5_riskiest_18 rfl rfl (Nat.le_of_ble_eq_true rfl) ?_
    refine Z_iconst (nI 1) dX5_riskiest_19 rfl ?_
    refine Z_istore_n (lv' := [_, _, _]) dX5_riskiest_20 rfl rfl (Nat.le_of_ble_eq_true rfl) ?_
    have lp21 : ∀ i, i ≤ b - 1 → Zj G mX5_riskiest 1 C Sl 21 [.ref 0, .int (nI (rkN (D 23) i)), .int (nI (i + 1))] [] I1 L P S Q := by
      refine zloop (b - 1) (fun i => Zj G mX5_riskiest 1 C Sl 21 [.ref 0, .int (nI (rkN (D 23) i)), .int (nI (i + 1))] [] I1 L P S Q) (fun i hi ih => ?_)
      show Zj _ _ _ _ _ _ _ _ _ _ _ _ _
      have bi := rkN_le (s := D 23) i
      refine Z_iload_n dX5_riskiest_21 rfl ?_
      refine Z_aload_n dX5_riskiest_22 rfl ?_
      refine Z_getR (r := 23) hM.1 fX5_140_4 dX5_riskiest_23 rfl (hM.2.2 23 _ rfl rfl) ?_
      refine Z_iconst (nI 2) dX5_riskiest_26 rfl ?_
      refine Z_iald (hM.2.1 23 _ rfl) (zix_nI (by omega) (by decide)) dX5_riskiest_27 ?_
      refine Z_re (congrFun hs _) ?_
      refine Z_re (y := nI (b)) hb ?_
      refine Z_icmpgeN 64 dX5_riskiest_28 rfl (by omega) (by omega) (fun c28 => ?_) (fun c28 => ?_)
      · have ei : i + 1 = b := by omega
        refine Z_aload_n dX5_riskiest_64 rfl ?_
        refine Z_iconst (nI 0) dX5_riskiest_65 rfl ?_
        refine Z_putI hM.1 fX5_11_4 dX5_riskiest_66 rfl rfl rfl ?_
        refine Z_aload_n dX5_riskiest_69 rfl ?_
        refine Z_aload_n dX5_riskiest_70 rfl ?_
        refine Z_getR (r := 23) hM.1 fX5_140_4 dX5_riskiest_71 rfl (hM.2.2 23 _ rfl rfl) ?_
        refine Z_bipush (nI 67) dX5_riskiest_74 rfl ?_
        refine Z_iload_n dX5_riskiest_76 rfl ?_
        refine Z_iaddN dX5_riskiest_77 ?_
        refine Z_iald (hM.2.1 23 _ rfl) (zix_nI (by omega) (by decide)) dX5_riskiest_78 ?_
        refine Z_re (congrFun hs _) ?_
        refine Z_i2l dX5_riskiest_79 ?_
        refine Z_call0 (d' := 0) (zCal_V gX5_18 nX5_enters (by decide) dX5_riskiest_80) pX5_enters hM.1 zkl4 [_] rfl rfl (Nat.le_of_ble_eq_true rfl) (by omega) (c_tell (mR_t0 hR1) (by simp) (fun J1 M1 t1 q1 => ?_))
        refine Z_iload_n dX5_riskiest_83 rfl ?_
        refine Z_ireturn dX5_riskiest_84 rfl rfl ?_
        exact zO_k (D2 := D) (R2 := [(D 23 (67 + rkN (D 23) i)).toInt64]) (by rw [fRisk, if_neg (fun e => c11 ((nI_z (by omega)).mp (hb.symm.trans e))), vb, show b - 1 = i by omega]) k t1 (f1.tr ((frM.rf.st (by decide)).tr q1))
      · refine Z_aload_n dX5_riskiest_31 rfl ?_
        refine Z_getR (r := 23) hM.1 fX5_140_4 dX5_riskiest_32 rfl (hM.2.2 23 _ rfl rfl) ?_
        refine Z_bipush (nI 67) dX5_riskiest_35 rfl ?_
        refine Z_iload_n dX5_riskiest_37 rfl ?_
        refine Z_iaddN dX5_riskiest_38 ?_
        refine Z_iald (hM.2.1 23 _ rfl) (zix_nI (by omega) (by decide)) dX5_riskiest_39 ?_
        refine Z_re (congrFun hs _) ?_
        refine Z_aload_n dX5_riskiest_40 rfl ?_
        refine Z_getR (r := 23) hM.1 fX5_140_4 dX5_riskiest_41 rfl (hM.2.2 23 _ rfl rfl) ?_
        refine Z_bipush (nI 67) dX5_riskiest_44 rfl ?_
        refine Z_iload_n dX5_riskiest_46 rfl ?_
        refine Z_iaddN dX5_riskiest_47 ?_
        refine Z_iald (hM.2.1 23 _ rfl) (zix_nI (by omega) (by decide)) dX5_riskiest_48 ?_
        refine Z_re (congrFun hs _) ?_
        refine Z_icmple 56 dX5_riskiest_49 rfl (fun c49 => ?_) (fun c49 => ?_)
        · refine Z_iload_n dX5_riskiest_56 rfl ?_
          skip
          refine Z_istore_n (lv' := [_, _, _]) dX5_riskiest_57 rfl rfl (Nat.le_of_ble_eq_true rfl) ?_
          refine Z_iincN (a := _) (k := 1) (lv' := [_, _, _]) dX5_riskiest_58 rfl rfl rfl rfl ?_
          refine Z_goto 21 dX5_riskiest_61 rfl ?_
          have ih2 := ih (by omega)
          rw [rkN, if_pos c49] at ih2
          exact ih2
        · refine Z_iload_n dX5_riskiest_52 rfl ?_
          refine Z_goto 57 dX5_riskiest_53 rfl ?_
          skip
          refine Z_istore_n (lv' := [_, _, _]) dX5_riskiest_57 rfl rfl (Nat.le_of_ble_eq_true rfl) ?_
          refine Z_iincN (a := _) (k := 1) (lv' := [_, _, _]) dX5_riskiest_58 rfl rfl rfl rfl ?_
          refine Z_goto 21 dX5_riskiest_61 rfl ?_
          have ih2 := ih (by omega)
          rw [rkN, if_neg c49] at ih2
          exact ih2
    exact lp21 0 (by omega)
  · refine Z_bipush (-2) dX5_riskiest_14 rfl ?_
    refine Z_ireturn dX5_riskiest_16 rfl rfl ?_
    exact zO_k (by rw [fRisk, if_pos (by rw [hb, c11]; rfl)]) k hR1 f1
abbrev frC (L L2 : zL) : Prop := ∀ a, a ≠ 55 → L2 a = L a
theorem mR_C {L2 : zL} (h : mR D R I L P S) (hl : frC L L2) : mR D R I L2 P S := by
  obtain ⟨h1, h2, h3, h4⟩ := h
  exact ⟨h1, h2, h3, h4.1, fun k hk => (congrFun (hl 2 (by decide)) k).trans (h4.2 k hk)⟩
theorem frM_C {L2 : zL} (hl : frC L L2) : frM I L I L2 := fun a ha => ⟨rfl, hl a (by omega)⟩
theorem frC.st {L2 : zL} {k : Nat} {v : Int64} (h : frC L L2) : frC L (zw L2 55 k v) := fun a ha => (zw_n _ _ _ _ ha).trans (h a ha)
set_option maxHeartbeats 8000000 in
theorem o_wrong (hR : mR D R I L P S) (hw : wf (wld D) no n) (hsf : sf (wld D) no n (D 23)) {x : Int32} (k : ∀ I2 L2, mR (fWrong D R x).2.1 (fWrong D R x).2.2 I2 L2 P S → frM I L I2 L2 → Q (.inl (some (.int (fWrong D R x).1))) I2 L2 P S) : Zm G mX5_wrong 2 C Sl [.ref 0, .int x] I L P S Q := by
  obtain ⟨b, hb6, hb⟩ := hsf.bk
  have vb : (D 23 2).toNatClampNeg = b := by rw [hb, nI_clamp (by omega)]
  obtain ⟨m, hm⟩ : ∃ m, m = min 8 b := ⟨_, rfl⟩
  have hm8 : m ≤ 8 := by omega
  have hM := hR.1
  refine Z_entry (lv := [_, _, _, _, _, _, _, _]) (Nat.le_of_ble_eq_true rfl) rfl ?_
  refine Z_aload_n dX5_wrong_0 rfl ?_
  refine Z_iconst (nI 0) dX5_wrong_1 rfl ?_
  refine Z_putI hM.1 fX5_3_4 dX5_wrong_2 rfl rfl rfl ?_
  refine Z_start hR (fun I1 hR1 f1 h00 => ?_)
  have hw8 := hw.n8
  have hw6 := hw.o6
  have hM := hR1.1
  have hD : mdat I1 = D := hR1.2.2.1
  have hW : wld I1 = wld D := wld_mdat hD
  have hs : I1 23 = D 23 := funext fun j => dr hD rfl
  have hno : noD D = no := by rw [noD, show D 0 3 = nI no from hw.o3, nI_clamp (by omega)]
  have hnn : nD D = n := by rw [nD, show D 0 16 = nI n from hw.n16, nI_clamp (by omega)]
  have hI3 : I1 0 3 = nI no := (wr hW rfl).trans hw.o3
  have hI16 : I1 0 16 = nI n := (wr hW rfl).trans hw.n16
  refine Z_iload_n dX5_wrong_5 rfl ?_
  refine Z_i2l dX5_wrong_6 ?_
  refine Z_lconst (0) dX5_wrong_7 rfl ?_
  refine Z_ldc2 q1514 dX5_wrong_8 ?_
  refine Z_callS0 (d' := 0) (zCal_S gX5_25 nX5_in (by decide) dX5_wrong_11) pX5_in [_, _, _] rfl rfl (Nat.le_of_ble_eq_true rfl) (by omega) (c_X5_in (fun h11a h11b => ?_) (fun h11 => ?_))
  · rw [z_i64] at h11a h11b
    have r11 : rB x 0 8 = true := rB_t h11a h11b
    obtain ⟨k11, hk11, e11⟩ := z_rng (n := 8) h11a h11b (by omega)
    subst e11
    have v11 : (nI k11).toNatClampNeg = k11 := nI_clamp (by omega)
    refine Z_ifne 19 dX5_wrong_14 rfl (fun _ => ?_) (fun h => absurd h (by decide))
    refine Z_iconst (nI 0) dX5_wrong_19 rfl ?_
    refine Z_istore_n (lv' := [_, _, _, _, _, _, _, _]) dX5_wrong_20 rfl rfl (Nat.le_of_ble_eq_true rfl) ?_
    have lp21 : ∀ i, i ≤ 9 → ∀ L2, (∀ j, j < i → L2 55 j = chN (D 23) 0 j) → frC L L2 → Zj G mX5_wrong 2 C Sl 21 [.ref 0, .int (nI k11), .int (nI i), .retAddr 0, .retAddr 0, .retAddr 0, .retAddr 0, .retAddr 0] [] I1 L2 P S Q := by
      refine zloop (9) (fun i => ∀ L2, (∀ j, j < i → L2 55 j = chN (D 23) 0 j) → frC L L2 → Zj G mX5_wrong 2 C Sl 21 [.ref 0, .int (nI k11), .int (nI i), .retAddr 0, .retAddr 0, .retAddr 0, .retAddr 0, .retAddr 0] [] I1 L2 P S Q) (fun i hi ih => ?_)
      intro L2 g1 g2
      show Zj _ _ _ _ _ _ _ _ _ _ _ _ _
      refine Z_iload_n dX5_wrong_21 rfl ?_
      refine Z_bipush (nI 9) dX5_wrong_22 rfl ?_
      refine Z_icmpgeN 52 dX5_wrong_24 rfl (by omega) (by omega) (fun c24 => ?_) (fun c24 => ?_)
      · have ei : i = 9 := by omega
        subst ei
        refine Z_lconst (1) dX5_wrong_52 rfl ?_
        refine Z_lstore_n (lv' := [_, _, _, _, _, _, _, _]) dX5_wrong_53 rfl rfl (Nat.le_of_ble_eq_true rfl) ?_
        refine Z_bipush (nI 8) dX5_wrong_54 rfl ?_
        refine Z_aload_n dX5_wrong_56 rfl ?_
        refine Z_getR (r := 23) hM.1 fX5_140_4 dX5_wrong_57 rfl (hM.2.2 23 _ rfl rfl) ?_
        refine Z_iconst (nI 2) dX5_wrong_60 rfl ?_
        refine Z_iald (hM.2.1 23 _ rfl) (zix_nI (by omega) (by decide)) dX5_wrong_61 ?_
        refine Z_re (congrFun hs _) ?_
        refine Z_re (y := nI (b)) hb ?_
        refine Z_callS0 (d' := 0) (zCal_S gX5_95 nJ5_min (by decide) dX5_wrong_62) pJ5_min [_, _] rfl rfl (Nat.le_of_ble_eq_true rfl) (by omega) (c_J5_min ?_)
        refine Z_re (y := nI m) (by rw [hm]; exact mn8 hb6) ?_
        refine Z_istore (lv' := [_, _, _, _, _, _, _, _]) dX5_wrong_65 rfl rfl (Nat.le_of_ble_eq_true rfl) ?_
        refine Z_iconst (nI 0) dX5_wrong_67 rfl ?_
        refine Z_istore (lv' := [_, _, _, _, _, _, _, _]) dX5_wrong_68 rfl rfl (Nat.le_of_ble_eq_true rfl) ?_
        have lp70 : ∀ h, h ≤ m → ∀ L2, (∀ j, j < 9 → L2 55 j = chN (D 23) h j) → frC L L2 → Zj G mX5_wrong 2 C Sl 70 [.ref 0, .int (nI k11), .long (p100 h), .retAddr 0, .int (nI m), .int (nI h), .retAddr 0, .retAddr 0] [] I1 L2 P S Q := by
          refine zloop (m) (fun h => ∀ L2, (∀ j, j < 9 → L2 55 j = chN (D 23) h j) → frC L L2 → Zj G mX5_wrong 2 C Sl 70 [.ref 0, .int (nI k11), .long (p100 h), .retAddr 0, .int (nI m), .int (nI h), .retAddr 0, .retAddr 0] [] I1 L2 P S Q) (fun h hh ihh => ?_)
          intro L2 g1 g2
          show Zj _ _ _ _ _ _ _ _ _ _ _ _ _
          refine Z_iload dX5_wrong_70 rfl ?_
          refine Z_iload dX5_wrong_72 rfl ?_
          refine Z_icmpgeN 160 dX5_wrong_74 rfl (by omega) (by omega) (fun c74 => ?_) (fun c74 => ?_)
          · have eh : h = m := by omega
            refine Z_lconst (0) dX5_wrong_160 rfl ?_
            refine Z_lstore (lv' := [_, _, _, _, _, _, _, _]) dX5_wrong_161 rfl rfl (Nat.le_of_ble_eq_true rfl) ?_
            refine Z_iload_n dX5_wrong_163 rfl ?_
            refine Z_istore (lv' := [_, _, _, _, _, _, _, _]) dX5_wrong_164 rfl rfl (Nat.le_of_ble_eq_true rfl) ?_
            have lp166 : ∀ r, r ≤ 9 - k11 → Zj G mX5_wrong 2 C Sl 166 [.ref 0, .int (nI k11), .long (p100 m), .retAddr 0, .int (nI m), .long (sumL (fun i => chN (D 23) m (k11 + i)) r), .retAddr 0, .int (nI (k11 + r))] [] I1 L2 P S Q := by
              refine zloop (9 - k11) (fun r => Zj G mX5_wrong 2 C Sl 166 [.ref 0, .int (nI k11), .long (p100 m), .retAddr 0, .int (nI m), .long (sumL (fun i => chN (D 23) m (k11 + i)) r), .retAddr 0, .int (nI (k11 + r))] [] I1 L2 P S Q) (fun r hr ihr => ?_)
              show Zj _ _ _ _ _ _ _ _ _ _ _ _ _
              refine Z_iload dX5_wrong_166 rfl ?_
              refine Z_bipush (nI 9) dX5_wrong_168 rfl ?_
              refine Z_icmpgeN 191 dX5_wrong_170 rfl (by omega) (by omega) (fun c170 => ?_) (fun c170 => ?_)
              · have er : r = 9 - k11 := by omega
                refine Z_aload_n dX5_wrong_191 rfl ?_
                refine Z_iconst (nI 0) dX5_wrong_192 rfl ?_
                refine Z_putI hM.1 fX5_11_4 dX5_wrong_193 rfl rfl rfl ?_
                refine Z_aload_n dX5_wrong_196 rfl ?_
                refine Z_lload dX5_wrong_197 rfl ?_
                refine Z_lload_n dX5_wrong_199 rfl ?_
                refine Z_call0 (d' := 1) (zCal_V gX5_459 nX5_entersFraction (by decide) dX5_wrong_200) pX5_entersFraction hM.1 zkl4 [_, _] rfl rfl (Nat.le_of_ble_eq_true rfl) (by omega) (c_frac (mR_t0 (mR_C hR1 g2)) (by simp) (p100_ne m hm8) (fun J1 M1 t1 q1 => ?_))
                refine Z_iconst (nI 0) dX5_wrong_203 rfl ?_
                refine Z_ireturn dX5_wrong_204 rfl rfl ?_
                exact zO_k (D2 := D) (R2 := frc (sumL (fun i => chN (D 23) m (k11 + i)) r) (p100 m)) (by rw [fWrong, if_pos r11, v11, vb, ← hm, er]) k t1 (f1.tr (((frM_C g2).tr (frM.rf.st (by decide))).tr q1))
              · refine Z_lload dX5_wrong_173 rfl ?_
                refine Z_aload_n dX5_wrong_175 rfl ?_
                refine Z_getR (r := 55) hM.1 fX5_456_4 dX5_wrong_176 rfl (hM.2.2 55 _ rfl rfl) ?_
                refine Z_iload dX5_wrong_179 rfl ?_
                refine Z_lald (hM.2.1 55 _ rfl) (zix_nI (by omega) (by decide)) dX5_wrong_181 ?_
                refine Z_ladd dX5_wrong_182 ?_
                refine Z_lstore (lv' := [_, _, _, _, _, _, _, _]) dX5_wrong_183 rfl rfl (Nat.le_of_ble_eq_true rfl) ?_
                refine Z_iincN (a := _) (k := 1) (lv' := [_, _, _, _, _, _, _, _]) dX5_wrong_185 rfl rfl rfl rfl ?_
                refine Z_goto 166 dX5_wrong_188 rfl ?_
                have ih2 := ihr (by omega)
                have g1b := g1 (k11 + r) (by omega)
                rw [eh] at g1b
                rw [sumL, ← g1b] at ih2
                exact ih2
            rw [eh] at g1
            rw [eh]
            exact lp166 0 (by omega)
          · refine Z_aload_n dX5_wrong_77 rfl ?_
            refine Z_getR (r := 23) hM.1 fX5_140_4 dX5_wrong_78 rfl (hM.2.2 23 _ rfl rfl) ?_
            refine Z_bipush (nI 67) dX5_wrong_81 rfl ?_
            refine Z_iload dX5_wrong_83 rfl ?_
            refine Z_iaddN dX5_wrong_85 ?_
            refine Z_iald (hM.2.1 23 _ rfl) (zix_nI (by omega) (by decide)) dX5_wrong_86 ?_
            refine Z_re (congrFun hs _) ?_
            refine Z_istore (lv' := [_, _, _, _, _, _, _, _]) dX5_wrong_87 rfl rfl (Nat.le_of_ble_eq_true rfl) ?_
            refine Z_bipush (nI 8) dX5_wrong_89 rfl ?_
            refine Z_istore (lv' := [_, _, _, _, _, _, _, _]) dX5_wrong_91 rfl rfl (Nat.le_of_ble_eq_true rfl) ?_
            have lp93 : ∀ q, q ≤ 9 → ∀ L2, (∀ j, j < 9 → L2 55 j = if 9 - q ≤ j then chN (D 23) (h + 1) j else chN (D 23) h j) → frC L L2 → Zj G mX5_wrong 2 C Sl 93 [.ref 0, .int (nI k11), .long (p100 h), .retAddr 0, .int (nI m), .int (nI h), .int (D 23 (67 + h)), .int (nI (9 - q) + -1)] [] I1 L2 P S Q := by
              refine zloop (9) (fun q => ∀ L2, (∀ j, j < 9 → L2 55 j = if 9 - q ≤ j then chN (D 23) (h + 1) j else chN (D 23) h j) → frC L L2 → Zj G mX5_wrong 2 C Sl 93 [.ref 0, .int (nI k11), .long (p100 h), .retAddr 0, .int (nI m), .int (nI h), .int (D 23 (67 + h)), .int (nI (9 - q) + -1)] [] I1 L2 P S Q) (fun q hq ihq => ?_)
              intro L2 g1 g2
              show Zj _ _ _ _ _ _ _ _ _ _ _ _ _
              refine Z_iload dX5_wrong_93 rfl ?_
              refine Z_iflt 148 dX5_wrong_95 rfl (fun c95 => ?_) (fun c95 => ?_)
              · have eq : q = 9 := by
                  refine Decidable.byContradiction fun hq => ?_
                  obtain ⟨i, hi2⟩ : ∃ i, 9 - q = i + 1 := ⟨8 - q, by omega⟩
                  rw [hi2, pk_m1] at c95
                  exact nI_pos (by omega) c95
                subst eq
                refine Z_lload_n dX5_wrong_148 rfl ?_
                refine Z_ldc2 q1292 dX5_wrong_149 ?_
                refine Z_lmul dX5_wrong_152 ?_
                refine Z_lstore_n (lv' := [_, _, _, _, _, _, _, _]) dX5_wrong_153 rfl rfl (Nat.le_of_ble_eq_true rfl) ?_
                refine Z_iincN (a := _) (k := 1) (lv' := [_, _, _, _, _, _, _, _]) dX5_wrong_154 rfl rfl rfl rfl ?_
                refine Z_goto 70 dX5_wrong_157 rfl ?_
                have ih2 := ihh (by omega) _ (fun j hj => by rw [g1 j hj, if_pos (by omega)]) g2
                rw [p100] at ih2
                exact Z_fgt ih2 (by repeat first | exact zwk_n | refine zwk_f ?_ | refine zwk_c rfl ?_)
              · have hq9 : ¬ q = 9 := fun e => c95 (by rw [e]; decide)
                obtain ⟨i, hi2⟩ : ∃ i, 9 - q = i + 1 := ⟨8 - q, by omega⟩
                rw [hi2, pk_m1]
                refine Z_aload_n dX5_wrong_98 rfl ?_
                refine Z_getR (r := 55) hM.1 fX5_456_4 dX5_wrong_99 rfl (hM.2.2 55 _ rfl rfl) ?_
                refine Z_iload dX5_wrong_102 rfl ?_
                refine Z_aload_n dX5_wrong_104 rfl ?_
                refine Z_getR (r := 55) hM.1 fX5_456_4 dX5_wrong_105 rfl (hM.2.2 55 _ rfl rfl) ?_
                refine Z_iload dX5_wrong_108 rfl ?_
                refine Z_lald (hM.2.1 55 _ rfl) (zix_nI (by omega) (by decide)) dX5_wrong_110 ?_
                refine Z_bipush (nI 100) dX5_wrong_111 rfl ?_
                refine Z_iload dX5_wrong_113 rfl ?_
                refine Z_isub dX5_wrong_115 ?_
                refine Z_i2l dX5_wrong_116 ?_
                refine Z_lmul dX5_wrong_117 ?_
                refine Z_iload dX5_wrong_118 rfl ?_
                refine Z_ifleN 139 dX5_wrong_120 rfl (by omega) (fun c120 => ?_) (fun c120 => ?_)
                · refine Z_lconst (0) dX5_wrong_139 rfl ?_
                  refine Z_ladd dX5_wrong_140 ?_
                  refine Z_rel (y := chN (D 23) (h + 1) i) (by rw [chN, g1 i (by omega), if_neg (by omega), if_pos c120]) ?_
                  refine Z_last (hM.2.1 55 _ rfl) (zix_nI (by omega) (by decide)) dX5_wrong_141 ?_
                  refine Z_iinc (lv' := [_, _, _, _, _, _, _, _]) dX5_wrong_142 rfl rfl rfl ?_
                  refine Z_goto 93 dX5_wrong_145 rfl ?_
                  have ih2 := ihq (by omega)
                  rw [show 9 - (q + 1) = i by omega] at ih2
                  refine ih2 _ (fun j hj => ?_) g2.st
                  rw [zw_a]
                  by_cases e : j = i
                  · subst e; rw [zu_s, if_pos (by omega)]
                  · rw [zu_n _ _ _ e, g1 j hj]
                    by_cases e2 : i + 1 ≤ j
                    · rw [if_pos (by omega), if_pos (by omega)]
                    · rw [if_neg (by omega), if_neg (by omega)]
                · refine Z_aload_n dX5_wrong_123 rfl ?_
                  refine Z_getR (r := 55) hM.1 fX5_456_4 dX5_wrong_124 rfl (hM.2.2 55 _ rfl rfl) ?_
                  refine Z_iload dX5_wrong_127 rfl ?_
                  refine Z_iconst (nI 1) dX5_wrong_129 rfl ?_
                  refine Z_isubN dX5_wrong_130 (by omega) ?_
                  refine Z_lald (hM.2.1 55 _ rfl) (zix_nI (by omega) (by decide)) dX5_wrong_131 ?_
                  refine Z_iload dX5_wrong_132 rfl ?_
                  refine Z_i2l dX5_wrong_134 ?_
                  refine Z_lmul dX5_wrong_135 ?_
                  refine Z_goto 140 dX5_wrong_136 rfl ?_
                  refine Z_ladd dX5_wrong_140 ?_
                  refine Z_rel (y := chN (D 23) (h + 1) i) (by rw [chN, g1 i (by omega), if_neg (by omega), if_neg (by omega), g1 (i - 1) (by omega), if_neg (by omega)]) ?_
                  refine Z_last (hM.2.1 55 _ rfl) (zix_nI (by omega) (by decide)) dX5_wrong_141 ?_
                  refine Z_iinc (lv' := [_, _, _, _, _, _, _, _]) dX5_wrong_142 rfl rfl rfl ?_
                  refine Z_goto 93 dX5_wrong_145 rfl ?_
                  have ih2 := ihq (by omega)
                  rw [show 9 - (q + 1) = i by omega] at ih2
                  refine ih2 _ (fun j hj => ?_) g2.st
                  rw [zw_a]
                  by_cases e : j = i
                  · subst e; rw [zu_s, if_pos (by omega)]
                  · rw [zu_n _ _ _ e, g1 j hj]
                    by_cases e2 : i + 1 ≤ j
                    · rw [if_pos (by omega), if_pos (by omega)]
                    · rw [if_neg (by omega), if_neg (by omega)]
            exact lp93 0 (by omega) _ (fun j hj => by rw [g1 j hj, if_neg (by omega)]) g2
        exact lp70 0 (by omega) _ g1 g2
      · refine Z_aload_n dX5_wrong_27 rfl ?_
        refine Z_getR (r := 55) hM.1 fX5_456_4 dX5_wrong_28 rfl (hM.2.2 55 _ rfl rfl) ?_
        refine Z_iload_n dX5_wrong_31 rfl ?_
        refine Z_iload_n dX5_wrong_32 rfl ?_
        refine Z_ifneN 40 dX5_wrong_33 rfl (by omega) (fun c33 => ?_) (fun c33 => ?_)
        · refine Z_iconst (nI 0) dX5_wrong_40 rfl ?_
          refine Z_callS0 (d' := 0) (zCal_S gX5_124 nX5_flag (by decide) dX5_wrong_41) pX5_flag [_] rfl rfl (Nat.le_of_ble_eq_true rfl) (by omega) (c_X5_flag (by first | decide | assumption) ?_)
          refine Z_i2l dX5_wrong_44 ?_
          refine Z_rel (y := chN (D 23) 0 i) (by rw [chN]; rw [if_neg c33]; rfl) ?_
          refine Z_last (hM.2.1 55 _ rfl) (zix_nI (by omega) (by decide)) dX5_wrong_45 ?_
          refine Z_iincN (a := _) (k := 1) (lv' := [_, _, _, _, _, _, _, _]) dX5_wrong_46 rfl rfl rfl rfl ?_
          refine Z_goto 21 dX5_wrong_49 rfl ?_
          refine ih (by omega) _ (fun j hj => ?_) g2.st
          rw [zw_a]
          by_cases e : j = i
          · subst e; rw [zu_s]
          · rw [zu_n _ _ _ e]; exact g1 j (by omega)
        · refine Z_iconst (nI 1) dX5_wrong_36 rfl ?_
          refine Z_goto 41 dX5_wrong_37 rfl ?_
          refine Z_callS0 (d' := 0) (zCal_S gX5_124 nX5_flag (by decide) dX5_wrong_41) pX5_flag [_] rfl rfl (Nat.le_of_ble_eq_true rfl) (by omega) (c_X5_flag (by first | decide | assumption) ?_)
          refine Z_i2l dX5_wrong_44 ?_
          refine Z_rel (y := chN (D 23) 0 i) (by rw [chN]; rw [if_pos c33]; rfl) ?_
          refine Z_last (hM.2.1 55 _ rfl) (zix_nI (by omega) (by decide)) dX5_wrong_45 ?_
          refine Z_iincN (a := _) (k := 1) (lv' := [_, _, _, _, _, _, _, _]) dX5_wrong_46 rfl rfl rfl rfl ?_
          refine Z_goto 21 dX5_wrong_49 rfl ?_
          refine ih (by omega) _ (fun j hj => ?_) g2.st
          rw [zw_a]
          by_cases e : j = i
          · subst e; rw [zu_s]
          · rw [zu_n _ _ _ e]; exact g1 j (by omega)
    exact lp21 0 (by omega) L (fun j hj => absurd hj (by omega)) (fun _ _ => rfl)
  · rw [z_i64] at h11
    have r11 : rB x 0 8 = false := rB_f h11
    refine Z_ifne 19 dX5_wrong_14 rfl (fun h => absurd h (by decide)) (fun _ => ?_)
    refine Z_iconst (-1) dX5_wrong_17 rfl ?_
    refine Z_ireturn dX5_wrong_18 rfl rfl ?_
    exact zO_k (by simp [fWrong, r11]) k hR1 f1
end M21
