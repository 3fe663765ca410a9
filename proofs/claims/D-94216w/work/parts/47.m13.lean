set_option maxRecDepth 100000
/-! THE MODEL, part 13: the tape; what is kept -/
section M13
variable {G : zG} {d C Sl : Nat} {I D : zI} {R : List Int64} {L : zL} {P : zR} {S : zT} {Q : zQ} {no n : Nat}
theorem sgnT_0 {D : zI} {v : Int32} {t : Nat} : ∀ k, sgnT D v t k 0 = D 0 := by
  intro k
  induction k with
  | zero => rfl
  | succ k ih => rw [sgnT, zw_n _ _ _ _ (by decide)]; exact ih
theorem nI_nle2 {a : Nat} (h : 56 < a) (ha : a ≤ 60) : ¬ nI a ≤ nI 56 := nI_ge h (by omega)
set_option maxHeartbeats 4000000 in
theorem o_sign (hR : mR D R I L P S) (hw : wf (wld D) no n) {t : Nat} (ht : t ≤ 60) (h29 : D 0 29 = nI t) {x : Int32} (k : ∀ I2 L2, mR (fSign D R x).2.1 (fSign D R x).2.2 I2 L2 P S → frM I L I2 L2 → Q (.inl (some (.int (fSign D R x).1))) I2 L2 P S) : Zm G mX5_sign 0 C Sl [.ref 0, .int x] I L P S Q := by
  have hM := hR.1
  refine Z_entry (lv := [_, _, _]) (Nat.le_of_ble_eq_true rfl) rfl ?_
  refine Z_aload_n dX5_sign_0 rfl ?_
  refine Z_iconst (nI 0) dX5_sign_1 rfl ?_
  refine Z_putI hM.1 fX5_3_4 dX5_sign_2 rfl rfl rfl ?_
  refine Z_start hR (fun I1 hR1 f1 h00 => ?_)
  have hw8 := hw.n8
  have hw6 := hw.o6
  have hM := hR1.1
  have hD : mdat I1 = D := hR1.2.2.1
  have hW : wld I1 = wld D := wld_mdat hD
  have hs : I1 23 = D 23 := funext fun j => dr hD rfl
  have hno : noD D = no := by rw [noD, show D 0 3 = nI no from hw.o3, nI_clamp (by omega)]
  have hnn : nD D = n := by rw [nD, show D 0 16 = nI n from hw.n16, nI_clamp (by omega)]
  have hI3 : I1 0 3 = nI no := (wr hW rfl).trans hw.o3
  have hI16 : I1 0 16 = nI n := (wr hW rfl).trans hw.n16
  refine Z_aload_n dX5_sign_5 rfl ?_
  refine Z_getI hM.1 fX5_170_4 dX5_sign_6 rfl ?_
  refine Z_re (y := nI (t)) ((dr hD rfl).trans h29) ?_
  refine Z_bipush (nI 56) dX5_sign_9 rfl ?_
  refine Z_icmpleN 16 dX5_sign_11 rfl (by omega) (by omega) (fun c11 => ?_) (fun c11 => ?_)
  · refine Z_iconst (nI 0) dX5_sign_16 rfl ?_
    refine Z_istore_n (lv' := [_, _, _]) dX5_sign_17 rfl rfl (Nat.le_of_ble_eq_true rfl) ?_
    have lp18 : ∀ i, i ≤ 4 → ∀ I2, mR (sgnT D x t i) R I2 L P S → frM I L I2 L → Zj G mX5_sign 0 C Sl 18 [.ref 0, .int x, .int (nI i)] [] I2 L P S Q := by
      refine zloop (4) (fun i => ∀ I2, mR (sgnT D x t i) R I2 L P S → frM I L I2 L → Zj G mX5_sign 0 C Sl 18 [.ref 0, .int x, .int (nI i)] [] I2 L P S Q) (fun i hi ih => ?_)
      intro I2 g1 g2
      show Zj _ _ _ _ _ _ _ _ _ _ _ _ _
      refine Z_iload_n dX5_sign_18 rfl ?_
      refine Z_iconst (nI 4) dX5_sign_19 rfl ?_
      refine Z_icmpgeN 53 dX5_sign_20 rfl (by omega) (by omega) (fun c20 => ?_) (fun c20 => ?_)
      · obtain rfl : i = 4 := by omega
        refine Z_aload_n dX5_sign_53 rfl ?_
        refine Z_dup dX5_sign_54 rfl ?_
        refine Z_getI hM.1 fX5_170_4 dX5_sign_55 rfl ?_
        refine Z_re (y := nI (t)) ((dr g1.2.2.1 rfl).trans ((congrFun (sgnT_0 4) 29).trans h29)) ?_
        refine Z_iconst (nI 4) dX5_sign_58 rfl ?_
        refine Z_iaddN dX5_sign_59 ?_
        refine Z_putI hM.1 fX5_170_4 dX5_sign_60 rfl rfl rfl ?_
        refine Z_aload_n dX5_sign_63 rfl ?_
        refine Z_getI hM.1 fX5_170_4 dX5_sign_64 rfl ?_
        refine Z_ireturn dX5_sign_67 rfl rfl ?_
        have c11 : nI t ≤ nI 56 := nI_le c11 (by omega)
        have e9 : (nI t).toNatClampNeg = t := nI_clamp (by omega)
        exact zO_k (D2 := zw (sgnT D x t 4) 0 29 (nI (t + 4))) (R2 := R) (by simp [fSign, h29, c11, e9, nI_add, zw_s]) k (g1.zw rfl) (g2.st (by decide))
      · refine Z_aload_n dX5_sign_23 rfl ?_
        refine Z_getR (r := 28) hM.1 fX5_173_4 dX5_sign_24 rfl (hM.2.2 28 _ rfl rfl) ?_
        refine Z_aload_n dX5_sign_27 rfl ?_
        refine Z_getI hM.1 fX5_170_4 dX5_sign_28 rfl ?_
        refine Z_re (y := nI (t)) ((dr g1.2.2.1 rfl).trans ((congrFun (sgnT_0 i) 29).trans h29)) ?_
        refine Z_iload_n dX5_sign_31 rfl ?_
        refine Z_iaddN dX5_sign_32 ?_
        refine Z_iload_n dX5_sign_33 rfl ?_
        refine Z_bipush (nI 24) dX5_sign_34 rfl ?_
        refine Z_bipush (nI 8) dX5_sign_36 rfl ?_
        refine Z_iload_n dX5_sign_38 rfl ?_
        refine Z_imulN dX5_sign_39 ?_
        refine Z_isubN dX5_sign_40 (by omega) ?_
        refine Z_ishr dX5_sign_41 ?_
        refine Z_sipush (nI 255) dX5_sign_42 rfl ?_
        refine Z_iand dX5_sign_45 ?_
        refine Z_iast (hM.2.1 28 _ rfl) (zix_nI (by omega) (by decide)) dX5_sign_46 ?_
        refine Z_iincN (a := _) (k := 1) (lv' := [_, _, _]) dX5_sign_47 rfl rfl rfl rfl ?_
        refine Z_goto 18 dX5_sign_50 rfl ?_
        exact ih (by omega) _ (g1.zw rfl) (g2.st (by decide))
    exact lp18 0 (by omega) I1 hR1 f1
  · have c11 : ¬ nI t ≤ nI 56 := nI_nle2 c11 ht
    refine Z_iconst (-1) dX5_sign_14 rfl ?_
    refine Z_ireturn dX5_sign_15 rfl rfl ?_
    exact zO_k (by simp [fSign, h29, c11]) k hR1 f1
set_option maxHeartbeats 4000000 in
theorem o_keep (hR : mR D R I L P S) (hw : wf (wld D) no n) {x : Int32} (k : ∀ I2 L2, mR (fKeep D R x).2.1 (fKeep D R x).2.2 I2 L2 P S → frM I L I2 L2 → Q (.inl (some (.int (fKeep D R x).1))) I2 L2 P S) : Zm G mX5_keep 2 C Sl [.ref 0, .int x] I L P S Q := by
  have hM := hR.1
  refine Z_entry (lv := [_, _, _]) (Nat.le_of_ble_eq_true rfl) rfl ?_
  refine Z_aload_n dX5_keep_0 rfl ?_
  refine Z_iconst (nI 0) dX5_keep_1 rfl ?_
  refine Z_putI hM.1 fX5_3_4 dX5_keep_2 rfl rfl rfl ?_
  refine Z_start hR (fun I1 hR1 f1 h00 => ?_)
  have hw8 := hw.n8
  have hw6 := hw.o6
  have hM := hR1.1
  have hD : mdat I1 = D := hR1.2.2.1
  have hW : wld I1 = wld D := wld_mdat hD
  have hs : I1 23 = D 23 := funext fun j => dr hD rfl
  have hno : noD D = no := by rw [noD, show D 0 3 = nI no from hw.o3, nI_clamp (by omega)]
  have hnn : nD D = n := by rw [nD, show D 0 16 = nI n from hw.n16, nI_clamp (by omega)]
  have hI3 : I1 0 3 = nI no := (wr hW rfl).trans hw.o3
  have hI16 : I1 0 16 = nI n := (wr hW rfl).trans hw.n16
  refine Z_iload_n dX5_keep_5 rfl ?_
  refine Z_i2l dX5_keep_6 ?_
  refine Z_lconst (0) dX5_keep_7 rfl ?_
  refine Z_ldc2 q1585 dX5_keep_8 ?_
  refine Z_callS0 (d' := 0) (zCal_S gX5_25 nX5_in (by decide) dX5_keep_11) pX5_in [_, _, _] rfl rfl (Nat.le_of_ble_eq_true rfl) (by omega) (c_X5_in (fun h11a h11b => ?_) (fun h11 => ?_))
  · rw [z_i64] at h11a h11b
    have r11 : rB x 0 2 = true := rB_t h11a h11b
    obtain ⟨k11, hk11, e11⟩ := z_rng (n := 2) h11a h11b (by omega)
    subst e11
    have v11 : (nI k11).toNatClampNeg = k11 := nI_clamp (by omega)
    refine Z_ifne 19 dX5_keep_14 rfl (fun _ => ?_) (fun h => absurd h (by decide))
    refine Z_aload_n dX5_keep_19 rfl ?_
    refine Z_getR (r := 56) hM.1 fX5_469_4 dX5_keep_20 rfl (hM.2.2 56 _ rfl rfl) ?_
    refine Z_iload_n dX5_keep_23 rfl ?_
    refine Z_aload_n dX5_keep_24 rfl ?_
    refine Z_getI hM.1 fX5_151_4 dX5_keep_25 rfl ?_
    refine Z_re (dr hD rfl) ?_
    refine Z_iast (hM.2.1 56 _ rfl) (zix_nI (by omega) (by decide)) dX5_keep_28 ?_
    refine Z_iconst (nI 0) dX5_keep_29 rfl ?_
    refine Z_istore_n (lv' := [_, _, _]) dX5_keep_30 rfl rfl (Nat.le_of_ble_eq_true rfl) ?_
    have lp31 : ∀ i, i ≤ 127 → ∀ I2, mR (cpyN (zw D 56 k11 (D 0 16)) 57 (127 * k11) (D 23) i) R I2 L P S → frM I L I2 L → Zj G mX5_keep 2 C Sl 31 [.ref 0, .int (nI k11), .int (nI i)] [] I2 L P S Q := by
      refine zloop (127) (fun i => ∀ I2, mR (cpyN (zw D 56 k11 (D 0 16)) 57 (127 * k11) (D 23) i) R I2 L P S → frM I L I2 L → Zj G mX5_keep 2 C Sl 31 [.ref 0, .int (nI k11), .int (nI i)] [] I2 L P S Q) (fun i hi ih => ?_)
      intro I2 g1 g2
      show Zj _ _ _ _ _ _ _ _ _ _ _ _ _
      refine Z_iload_n dX5_keep_31 rfl ?_
      refine Z_bipush (nI 127) dX5_keep_32 rfl ?_
      refine Z_icmpgeN 60 dX5_keep_34 rfl (by omega) (by omega) (fun c34 => ?_) (fun c34 => ?_)
      · obtain rfl : i = 127 := by omega
        refine Z_iconst (nI 1) dX5_keep_60 rfl ?_
        refine Z_ireturn dX5_keep_61 rfl rfl ?_
        exact zO_k (by simp only [fKeep, r11, v11, if_true]) k g1 g2
      · refine Z_aload_n dX5_keep_37 rfl ?_
        refine Z_getR (r := 57) hM.1 fX5_472_4 dX5_keep_38 rfl (hM.2.2 57 _ rfl rfl) ?_
        refine Z_bipush (nI 127) dX5_keep_41 rfl ?_
        refine Z_iload_n dX5_keep_43 rfl ?_
        refine Z_imulN dX5_keep_44 ?_
        refine Z_iload_n dX5_keep_45 rfl ?_
        refine Z_iaddN dX5_keep_46 ?_
        refine Z_aload_n dX5_keep_47 rfl ?_
        refine Z_getR (r := 23) hM.1 fX5_140_4 dX5_keep_48 rfl (hM.2.2 23 _ rfl rfl) ?_
        refine Z_iload_n dX5_keep_51 rfl ?_
        refine Z_iald (hM.2.1 23 _ rfl) (zix_nI (by omega) (by decide)) dX5_keep_52 ?_
        refine Z_re ((dr g1.2.2.1 rfl).trans (congrFun ((cpyN_n (by decide) i).trans (zw_n _ _ _ _ (by decide))) i)) ?_
        refine Z_iast (hM.2.1 57 _ rfl) (zix_nI (by omega) (by decide)) dX5_keep_53 ?_
        refine Z_iincN (a := _) (k := 1) (lv' := [_, _, _]) dX5_keep_54 rfl rfl rfl rfl ?_
        refine Z_goto 31 dX5_keep_57 rfl ?_
        exact ih (by omega) _ (g1.zw rfl) (g2.st (by decide))
    exact lp31 0 (by omega) _ (hR1.zw rfl) (f1.st (by decide))
  · rw [z_i64] at h11
    have r11 : rB x 0 2 = false := rB_f h11
    refine Z_ifne 19 dX5_keep_14 rfl (fun h => absurd h (by decide)) (fun _ => ?_)
    refine Z_iconst (nI 0) dX5_keep_17 rfl ?_
    refine Z_ireturn dX5_keep_18 rfl rfl ?_
    exact zO_k (by simp [fKeep, r11]) k hR1 f1
set_option maxHeartbeats 4000000 in
theorem o_again (hR : mR D R I L P S) (hw : wf (wld D) no n) {x : Int32} (k : ∀ I2 L2, mR (fAgain D R x).2.1 (fAgain D R x).2.2 I2 L2 P S → frM I L I2 L2 → Q (.inl (some (.int (fAgain D R x).1))) I2 L2 P S) : Zm G mX5_again 2 C Sl [.ref 0, .int x] I L P S Q := by
  have hM := hR.1
  refine Z_entry (lv := [_, _, _]) (Nat.le_of_ble_eq_true rfl) rfl ?_
  refine Z_aload_n dX5_again_0 rfl ?_
  refine Z_iconst (nI 0) dX5_again_1 rfl ?_
  refine Z_putI hM.1 fX5_3_4 dX5_again_2 rfl rfl rfl ?_
  refine Z_start hR (fun I1 hR1 f1 h00 => ?_)
  have hw8 := hw.n8
  have hw6 := hw.o6
  have hM := hR1.1
  have hD : mdat I1 = D := hR1.2.2.1
  have hW : wld I1 = wld D := wld_mdat hD
  have hs : I1 23 = D 23 := funext fun j => dr hD rfl
  have hno : noD D = no := by rw [noD, show D 0 3 = nI no from hw.o3, nI_clamp (by omega)]
  have hnn : nD D = n := by rw [nD, show D 0 16 = nI n from hw.n16, nI_clamp (by omega)]
  have hI3 : I1 0 3 = nI no := (wr hW rfl).trans hw.o3
  have hI16 : I1 0 16 = nI n := (wr hW rfl).trans hw.n16
  refine Z_iload_n dX5_again_5 rfl ?_
  refine Z_i2l dX5_again_6 ?_
  refine Z_lconst (0) dX5_again_7 rfl ?_
  refine Z_ldc2 q1585 dX5_again_8 ?_
  refine Z_callS0 (d' := 0) (zCal_S gX5_25 nX5_in (by decide) dX5_again_11) pX5_in [_, _, _] rfl rfl (Nat.le_of_ble_eq_true rfl) (by omega) (c_X5_in (fun h11a h11b => ?_) (fun h11 => ?_))
  · rw [z_i64] at h11a h11b
    have r11 : rB x 0 2 = true := rB_t h11a h11b
    obtain ⟨k11, hk11, e11⟩ := z_rng (n := 2) h11a h11b (by omega)
    subst e11
    have v11 : (nI k11).toNatClampNeg = k11 := nI_clamp (by omega)
    refine Z_ifeq 30 dX5_again_14 rfl (fun h => absurd h (by decide)) (fun _ => ?_)
    refine Z_aload_n dX5_again_17 rfl ?_
    refine Z_getR (r := 56) hM.1 fX5_469_4 dX5_again_18 rfl (hM.2.2 56 _ rfl rfl) ?_
    refine Z_iload_n dX5_again_21 rfl ?_
    refine Z_iald (hM.2.1 56 _ rfl) (zix_nI (by omega) (by decide)) dX5_again_22 ?_
    refine Z_re (dr hD rfl) ?_
    refine Z_aload_n dX5_again_23 rfl ?_
    refine Z_getI hM.1 fX5_151_4 dX5_again_24 rfl ?_
    refine Z_re (dr hD rfl) ?_
    refine Z_icmpeq 32 dX5_again_27 rfl (fun c27 => ?_) (fun c27 => ?_)
    · refine Z_iconst (nI 0) dX5_again_32 rfl ?_
      refine Z_istore_n (lv' := [_, _, _]) dX5_again_33 rfl rfl (Nat.le_of_ble_eq_true rfl) ?_
      have lp34 : ∀ i, i ≤ 127 → ∀ I2, mR (cpyN D 23 0 (fun k => D 57 (127 * k11 + k)) i) R I2 L P S → frM I L I2 L → Zj G mX5_again 2 C Sl 34 [.ref 0, .int (nI k11), .int (nI i)] [] I2 L P S Q := by
        refine zloop (127) (fun i => ∀ I2, mR (cpyN D 23 0 (fun k => D 57 (127 * k11 + k)) i) R I2 L P S → frM I L I2 L → Zj G mX5_again 2 C Sl 34 [.ref 0, .int (nI k11), .int (nI i)] [] I2 L P S Q) (fun i hi ih => ?_)
        intro I2 g1 g2
        show Zj _ _ _ _ _ _ _ _ _ _ _ _ _
        refine Z_iload_n dX5_again_34 rfl ?_
        refine Z_bipush (nI 127) dX5_again_35 rfl ?_
        refine Z_icmpgeN 63 dX5_again_37 rfl (by omega) (by omega) (fun c37 => ?_) (fun c37 => ?_)
        · obtain rfl : i = 127 := by omega
          refine Z_iconst (nI 1) dX5_again_63 rfl ?_
          refine Z_ireturn dX5_again_64 rfl rfl ?_
          have c27b : decide (D 56 k11 = D 0 16) = true := decide_eq_true c27
          exact zO_k (by simp only [fAgain, r11, v11, c27b, Bool.and_self, if_true]) k g1 g2
        · refine Z_aload_n dX5_again_40 rfl ?_
          refine Z_getR (r := 23) hM.1 fX5_140_4 dX5_again_41 rfl (hM.2.2 23 _ rfl rfl) ?_
          refine Z_iload_n dX5_again_44 rfl ?_
          refine Z_aload_n dX5_again_45 rfl ?_
          refine Z_getR (r := 57) hM.1 fX5_472_4 dX5_again_46 rfl (hM.2.2 57 _ rfl rfl) ?_
          refine Z_bipush (nI 127) dX5_again_49 rfl ?_
          refine Z_iload_n dX5_again_51 rfl ?_
          refine Z_imulN dX5_again_52 ?_
          refine Z_iload_n dX5_again_53 rfl ?_
          refine Z_iaddN dX5_again_54 ?_
          refine Z_iald (hM.2.1 57 _ rfl) (zix_nI (by omega) (by decide)) dX5_again_55 ?_
          refine Z_re ((dr g1.2.2.1 rfl).trans (congrFun (cpyN_n (by decide) i) (127 * k11 + i))) ?_
          refine Z_iast (hM.2.1 23 _ rfl) (zix_nI (by omega) (by decide)) dX5_again_56 ?_
          refine Z_iincN (a := _) (k := 1) (lv' := [_, _, _]) dX5_again_57 rfl rfl rfl rfl ?_
          refine Z_goto 34 dX5_again_60 rfl ?_
          exact ih (by omega) _ (by have := g1.zw (a := 23) (k := i) (v := D 57 (127 * k11 + i)) rfl; rw [cpyN, Nat.zero_add]; exact this) (g2.st (by decide))
      exact lp34 0 (by omega) _ hR1 f1
    · refine Z_iconst (nI 0) dX5_again_30 rfl ?_
      refine Z_ireturn dX5_again_31 rfl rfl ?_
      exact zO_k (by simp [fAgain, r11, v11, c27]) k hR1 f1
  · rw [z_i64] at h11
    have r11 : rB x 0 2 = false := rB_f h11
    refine Z_ifeq 30 dX5_again_14 rfl (fun _ => ?_) (fun h => absurd h (by decide))
    refine Z_iconst (nI 0) dX5_again_30 rfl ?_
    refine Z_ireturn dX5_again_31 rfl rfl ?_
    exact zO_k (by simp [fAgain, r11]) k hR1 f1
end M13
