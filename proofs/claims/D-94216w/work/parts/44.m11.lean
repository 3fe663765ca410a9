set_option maxRecDepth 100000
/-! THE MODEL, part 11: calls on the state -/
section M11
variable {G : zG} {d C Sl : Nat} {I D : zI} {R : List Int64} {L : zL} {P : zR} {S : zT} {Q : zQ} {no n : Nat}
theorem dAt_tE {a k : Nat} (h : dAt a k = true) (ha : ¬ a = 23) : tE a k = false := by
  unfold tE tP tW
  by_cases e1 : a = 33
  · subst e1; exact absurd h (by simp [dAt, wAt])
  by_cases e2 : a = 27
  · subst e2; exact absurd h (by simp [dAt, wAt])
  by_cases e3 : a = 24
  · subst e3; exact absurd h (by simp [dAt, wAt])
  by_cases e4 : a = 0
  · subst e4
    simp only [dAt, wAt, Bool.or_eq_true, beq_iff_eq] at h
    simp
    omega
  · simp [e1, e2, e3, e4, ha]
theorem mR_fr {R : List Int64} {L : zL} {P : zR} {S : zT} {D I1 I2 : zI} {s : zS} (h : mR D R I1 L P S) (hf : fr tE I1 I2) (hs : I2 23 = s) : mR (zu D 23 s) R I2 L P S := by
  obtain ⟨h1, h2, h3, h4⟩ := h
  refine ⟨h1, h2, ?_, ⟨(hf 0 1 rfl).trans h4.1, h4.2⟩⟩
  funext a k
  by_cases e : a = 23
  · subst e
    rw [zu_s, ← hs]
    rfl
  · rw [zu_n _ _ _ e, ← h3]
    unfold mdat
    split
    · next q => exact hf a k (dAt_tE q e)
    · rfl
theorem mR_sm {R : List Int64} {L : zL} {P : zR} {S : zT} {D I1 I2 : zI} (h : mR D R I1 L P S) (hf : fr tE I1 I2) (hs : I2 23 = D 23) : mR D R I2 L P S := by
  have := mR_fr h hf hs
  rwa [zu_id] at this
set_option maxHeartbeats 4000000 in
theorem o_set (hR : mR D R I L P S) (hw : wf (wld D) no n) {x v : Int32} (k : ∀ I2 L2, mR (fSet D R x v).2.1 (fSet D R x v).2.2 I2 L2 P S → frM I L I2 L2 → Q (.inl (some (.int (fSet D R x v).1))) I2 L2 P S) : Zm G mX5_set 2 C Sl [.ref 0, .int x, .int v] I L P S Q := by
  have hM := hR.1
  refine Z_entry (lv := [_, _, _, _]) (Nat.le_of_ble_eq_true rfl) rfl ?_
  refine Z_aload_n dX5_set_0 rfl ?_
  refine Z_iconst (nI 0) dX5_set_1 rfl ?_
  refine Z_putI hM.1 fX5_3_4 dX5_set_2 rfl rfl rfl ?_
  refine Z_start hR (fun I1 hR1 f1 h00 => ?_)
  have hw8 := hw.n8
  have hw6 := hw.o6
  have hM := hR1.1
  have hD : mdat I1 = D := hR1.2.2.1
  have hW : wld I1 = wld D := wld_mdat hD
  have hs : I1 23 = D 23 := funext fun j => dr hD rfl
  have hno : noD D = no := by rw [noD, show D 0 3 = nI no from hw.o3, nI_clamp (by omega)]
  have hnn : nD D = n := by rw [nD, show D 0 16 = nI n from hw.n16, nI_clamp (by omega)]
  have hI3 : I1 0 3 = nI no := (wr hW rfl).trans hw.o3
  have hI16 : I1 0 16 = nI n := (wr hW rfl).trans hw.n16
  refine Z_iload_n dX5_set_5 rfl ?_
  refine Z_i2l dX5_set_6 ?_
  refine Z_lconst (0) dX5_set_7 rfl ?_
  refine Z_lconst (1) dX5_set_8 rfl ?_
  refine Z_callS0 (d' := 0) (zCal_S gX5_25 nX5_in (by decide) dX5_set_9) pX5_in [_, _, _] rfl rfl (Nat.le_of_ble_eq_true rfl) (by omega) (c_X5_in (fun h9a h9b => ?_) (fun h9 => ?_))
  · rw [z_i64] at h9a h9b
    have r9 : rB x 0 1 = true := rB_t h9a h9b
    refine Z_ifeq 37 dX5_set_12 rfl (fun h => absurd h (by decide)) (fun _ => ?_)
    refine Z_iload_n dX5_set_15 rfl ?_
    refine Z_i2l dX5_set_16 ?_
    refine Z_lconst (0) dX5_set_17 rfl ?_
    refine Z_iload_n dX5_set_18 rfl ?_
    refine Z_ifne 28 dX5_set_19 rfl (fun c19 => ?_) (fun c19 => ?_)
    · refine Z_ldc2 q1292 dX5_set_28 ?_
      refine Z_callS0 (d' := 0) (zCal_S gX5_25 nX5_in (by decide) dX5_set_31) pX5_in [_, _, _] rfl rfl (Nat.le_of_ble_eq_true rfl) (by omega) (c_X5_in (fun h31a h31b => ?_) (fun h31 => ?_))
      · rw [z_i64] at h31a h31b
        have r31 : rB v 0 100 = true := rB_t h31a h31b
        refine Z_ifne 39 dX5_set_34 rfl (fun _ => ?_) (fun h => absurd h (by decide))
        refine Z_iload_n dX5_set_39 rfl ?_
        refine Z_ifne 50 dX5_set_40 rfl (fun c40 => ?_) (fun c40 => ?_)
        · refine Z_aload_n dX5_set_50 rfl ?_
          refine Z_getI hM.1 fX5_111_4 dX5_set_51 rfl ?_
          refine Z_re (dr hD rfl) ?_
          refine Z_istore_n (lv' := [_, _, _, _]) dX5_set_54 rfl rfl (Nat.le_of_ble_eq_true rfl) ?_
          refine Z_iload_n dX5_set_55 rfl ?_
          refine Z_ifne 67 dX5_set_56 rfl (fun c56 => ?_) (fun c56 => ?_)
          · refine Z_aload_n dX5_set_67 rfl ?_
            refine Z_iload_n dX5_set_68 rfl ?_
            refine Z_putI hM.1 fX5_111_4 dX5_set_69 rfl rfl rfl ?_
            refine Z_iload_n dX5_set_72 rfl ?_
            refine Z_ireturn dX5_set_73 rfl rfl ?_
            exact zO_k (D2 := zw D 0 15 v) (R2 := R) (by simp [fSet, (show rB 0 0 1 = true by decide), r9, c19, r31, c40, c56]) k (hR1.zw rfl) (f1.tr (frM.rf.st (by decide)))
          · exact absurd c56 c19
        · exact absurd c40 c19
      · rw [z_i64] at h31
        have r31 : rB v 0 100 = false := rB_f h31
        refine Z_ifne 39 dX5_set_34 rfl (fun h => absurd h (by decide)) (fun _ => ?_)
        refine Z_iconst (-1) dX5_set_37 rfl ?_
        refine Z_ireturn dX5_set_38 rfl rfl ?_
        exact zO_k (D2 := D) (R2 := R) (by simp [fSet, (show rB 0 0 1 = true by decide), r9, c19, r31]) k (hR1) (f1.tr (frM.rf))
    · refine Z_ldc2 q1291 dX5_set_22 ?_
      refine Z_goto 31 dX5_set_25 rfl ?_
      refine Z_callS0 (d' := 0) (zCal_S gX5_25 nX5_in (by decide) dX5_set_31) pX5_in [_, _, _] rfl rfl (Nat.le_of_ble_eq_true rfl) (by omega) (c_X5_in (fun h31a h31b => ?_) (fun h31 => ?_))
      · rw [z_i64] at h31a h31b
        have r31 : rB v 0 20 = true := rB_t h31a h31b
        refine Z_ifne 39 dX5_set_34 rfl (fun _ => ?_) (fun h => absurd h (by decide))
        refine Z_iload_n dX5_set_39 rfl ?_
        refine Z_ifne 50 dX5_set_40 rfl (fun c40 => ?_) (fun c40 => ?_)
        · exact absurd c19 c40
        · refine Z_aload_n dX5_set_43 rfl ?_
          refine Z_getI hM.1 fX5_108_4 dX5_set_44 rfl ?_
          refine Z_goto 54 dX5_set_47 rfl ?_
          refine Z_re (dr hD rfl) ?_
          refine Z_istore_n (lv' := [_, _, _, _]) dX5_set_54 rfl rfl (Nat.le_of_ble_eq_true rfl) ?_
          refine Z_iload_n dX5_set_55 rfl ?_
          refine Z_ifne 67 dX5_set_56 rfl (fun c56 => ?_) (fun c56 => ?_)
          · exact absurd c19 c56
          · refine Z_aload_n dX5_set_59 rfl ?_
            refine Z_iload_n dX5_set_60 rfl ?_
            refine Z_putI hM.1 fX5_108_4 dX5_set_61 rfl rfl rfl ?_
            refine Z_goto 72 dX5_set_64 rfl ?_
            refine Z_iload_n dX5_set_72 rfl ?_
            refine Z_ireturn dX5_set_73 rfl rfl ?_
            exact zO_k (D2 := zw D 0 14 v) (R2 := R) (by simp [fSet, (show rB 0 0 1 = true by decide), r9, c19, r31, c40, c56]) k (hR1.zw rfl) (f1.tr (frM.rf.st (by decide)))
      · rw [z_i64] at h31
        have r31 : rB v 0 20 = false := rB_f h31
        refine Z_ifne 39 dX5_set_34 rfl (fun h => absurd h (by decide)) (fun _ => ?_)
        refine Z_iconst (-1) dX5_set_37 rfl ?_
        refine Z_ireturn dX5_set_38 rfl rfl ?_
        exact zO_k (D2 := D) (R2 := R) (by simp [fSet, (show rB 0 0 1 = true by decide), r9, c19, r31]) k (hR1) (f1.tr (frM.rf))
  · rw [z_i64] at h9
    have r9 : rB x 0 1 = false := rB_f h9
    refine Z_ifeq 37 dX5_set_12 rfl (fun _ => ?_) (fun h => absurd h (by decide))
    refine Z_iconst (-1) dX5_set_37 rfl ?_
    refine Z_ireturn dX5_set_38 rfl rfl ?_
    exact zO_k (D2 := D) (R2 := R) (by simp [fSet, (show rB 0 0 1 = true by decide), r9]) k (hR1) (f1.tr (frM.rf))
set_option maxHeartbeats 4000000 in
theorem o_begin (hR : mR D R I L P S) (hw : wf (wld D) no n) {x : Int32} (k : ∀ I2 L2, mR (fBegin D R n x).2.1 (fBegin D R n x).2.2 I2 L2 P S → frM I L I2 L2 → Q (.inl (some (.int (fBegin D R n x).1))) I2 L2 P S) : Zm G mX5_begin 2 C Sl [.ref 0, .int x] I L P S Q := by
  have hM := hR.1
  refine Z_entry (lv := [_, _]) (Nat.le_of_ble_eq_true rfl) rfl ?_
  refine Z_aload_n dX5_begin_0 rfl ?_
  refine Z_iconst (nI 0) dX5_begin_1 rfl ?_
  refine Z_putI hM.1 fX5_3_4 dX5_begin_2 rfl rfl rfl ?_
  refine Z_start hR (fun I1 hR1 f1 h00 => ?_)
  have hw8 := hw.n8
  have hw6 := hw.o6
  have hM := hR1.1
  have hD : mdat I1 = D := hR1.2.2.1
  have hW : wld I1 = wld D := wld_mdat hD
  have hs : I1 23 = D 23 := funext fun j => dr hD rfl
  have hno : noD D = no := by rw [noD, show D 0 3 = nI no from hw.o3, nI_clamp (by omega)]
  have hnn : nD D = n := by rw [nD, show D 0 16 = nI n from hw.n16, nI_clamp (by omega)]
  have hI3 : I1 0 3 = nI no := (wr hW rfl).trans hw.o3
  have hI16 : I1 0 16 = nI n := (wr hW rfl).trans hw.n16
  refine Z_iload_n dX5_begin_5 rfl ?_
  refine Z_callS0 (d' := 1) (zCal_S gX5_81 nX5_isHour (by decide) dX5_begin_6) pX5_isHour [_] rfl rfl (Nat.le_of_ble_eq_true rfl) (by omega) (c_X5_isHour (fun h6a h6b => ?_) (fun h6 => ?_))
  · have r6 : rB x 0 2399 = true := rB_t h6a h6b
    obtain ⟨k6, hk6, e6⟩ := z_rng (n := 2399) h6a h6b (by omega)
    subst e6
    have v6 : (nI k6).toNatClampNeg = k6 := nI_clamp (by omega)
    refine Z_ifne 14 dX5_begin_9 rfl (fun _ => ?_) (fun h => absurd h (by decide))
    refine Z_aload_n dX5_begin_14 rfl ?_
    refine Z_iload_n dX5_begin_15 rfl ?_
    refine Z_call0 (d' := 1) (zCal_V gX5_303 nX5_begins (by decide) dX5_begin_16) pX5_begins hM.1 zkl4 [_] rfl rfl (Nat.le_of_ble_eq_true rfl) (by omega) (c_X5_begins hM (by first | exact hW | (simp only [wld_zw23, wld_zw33, wld_zw27, wld_zw34, wld_zw35, wld_zw36, wld_zw0, wld_zw1, wld_zu23]; exact hW)) hs hw ?_)
    refine Z_iconst (nI 1) dX5_begin_19 rfl ?_
    refine Z_ireturn dX5_begin_20 rfl rfl ?_
    exact zO_k (D2 := zu D 23 (begS (wld D) (D 23) n k6)) (R2 := R) (by simp [fBegin, r6, v6]) k (mR_fr hR1 (fr.rf.su fun _ => rfl) (zu_s _ _ _)) (f1.tr (frM.rf.su (by decide)))
  · have r6 : rB x 0 2399 = false := rB_f h6
    refine Z_ifne 14 dX5_begin_9 rfl (fun h => absurd h (by decide)) (fun _ => ?_)
    refine Z_iconst (nI 0) dX5_begin_12 rfl ?_
    refine Z_ireturn dX5_begin_13 rfl rfl ?_
    exact zO_k (D2 := D) (R2 := R) (by simp [fBegin, r6]) k (hR1) (f1.tr (frM.rf))
set_option maxHeartbeats 4000000 in
theorem o_go (hR : mR D R I L P S) (hw : wf (wld D) no n) (hsf : sf (wld D) no n (D 23)) {ro : Option (List Nat)} (hru : ruM (wld D) ro) {x : Int32} (k : ∀ I2 L2, mR (fGo D R ro no n x).2.1 (fGo D R ro no n x).2.2 I2 L2 P S → frM I L I2 L2 → Q (.inl (some (.int (fGo D R ro no n x).1))) I2 L2 P S) : Zm G mX5_go 9 C Sl [.ref 0, .int x] I L P S Q := by
  obtain ⟨t0, ht0, h0⟩ := hsf.now
  have hM := hR.1
  refine Z_entry (lv := [_, _, _]) (Nat.le_of_ble_eq_true rfl) rfl ?_
  refine Z_aload_n dX5_go_0 rfl ?_
  refine Z_iconst (nI 0) dX5_go_1 rfl ?_
  refine Z_putI hM.1 fX5_3_4 dX5_go_2 rfl rfl rfl ?_
  refine Z_start hR (fun I1 hR1 f1 h00 => ?_)
  have hw8 := hw.n8
  have hw6 := hw.o6
  have hM := hR1.1
  have hD : mdat I1 = D := hR1.2.2.1
  have hW : wld I1 = wld D := wld_mdat hD
  have hs : I1 23 = D 23 := funext fun j => dr hD rfl
  have hno : noD D = no := by rw [noD, show D 0 3 = nI no from hw.o3, nI_clamp (by omega)]
  have hnn : nD D = n := by rw [nD, show D 0 16 = nI n from hw.n16, nI_clamp (by omega)]
  have hI3 : I1 0 3 = nI no := (wr hW rfl).trans hw.o3
  have hI16 : I1 0 16 = nI n := (wr hW rfl).trans hw.n16
  refine Z_iload_n dX5_go_5 rfl ?_
  refine Z_i2l dX5_go_6 ?_
  refine Z_lconst (0) dX5_go_7 rfl ?_
  refine Z_ldc2 q1477 dX5_go_8 ?_
  refine Z_callS0 (d' := 0) (zCal_S gX5_25 nX5_in (by decide) dX5_go_11) pX5_in [_, _, _] rfl rfl (Nat.le_of_ble_eq_true rfl) (by omega) (c_X5_in (fun h11a h11b => ?_) (fun h11 => ?_))
  · rw [z_i64] at h11a h11b
    have r11 : rB x 0 500 = true := rB_t h11a h11b
    obtain ⟨k11, hk11, e11⟩ := z_rng (n := 500) h11a h11b (by omega)
    subst e11
    have v11 : (nI k11).toNatClampNeg = k11 := nI_clamp (by omega)
    refine Z_ifne 19 dX5_go_14 rfl (fun _ => ?_) (fun h => absurd h (by decide))
    refine Z_iconst (nI 0) dX5_go_19 rfl ?_
    refine Z_istore_n (lv' := [_, _, _]) dX5_go_20 rfl rfl (Nat.le_of_ble_eq_true rfl) ?_
    have lp21 : ∀ i, i ≤ k11 → ∀ I2 s2, s2 0 = nI (t0 + i) → t0 + i ≤ 2399 → sf (wld D) no n s2 → fr tP I1 I2 → goN (wld D) ro no n (k11 - i) s2 = goN (wld D) ro no n k11 (D 23) → I2 23 = s2 → Zj G mX5_go 9 C Sl 21 [.ref 0, .int (nI k11), .int (nI i)] [] I2 L P S Q := by
      refine zloop (k11) (fun i => ∀ I2 s2, s2 0 = nI (t0 + i) → t0 + i ≤ 2399 → sf (wld D) no n s2 → fr tP I1 I2 → goN (wld D) ro no n (k11 - i) s2 = goN (wld D) ro no n k11 (D 23) → I2 23 = s2 → Zj G mX5_go 9 C Sl 21 [.ref 0, .int (nI k11), .int (nI i)] [] I2 L P S Q) (fun i hi ih => ?_)
      intro I2 s2 g1 g9 hsf g3 g4 hs
      show Zj _ _ _ _ _ _ _ _ _ _ _ _ _
      have hW : wld I2 = wld D := (wld_fr g3 fun _ _ => tP_w).trans hW
      refine Z_iload_n dX5_go_21 rfl ?_
      refine Z_iload_n dX5_go_22 rfl ?_
      refine Z_icmpgeN 48 dX5_go_23 rfl (by omega) (by omega) (fun c23 => ?_) (fun c23 => ?_)
      · refine Z_aload_n dX5_go_48 rfl ?_
        refine Z_getR (r := 23) hM.1 fX5_140_4 dX5_go_49 rfl (hM.2.2 23 _ rfl rfl) ?_
        refine Z_iconst (nI 0) dX5_go_52 rfl ?_
        refine Z_iald (hM.2.1 23 _ rfl) (zix_nI (by omega) (by decide)) dX5_go_53 ?_
        refine Z_re (congrFun hs _) ?_
        refine Z_re (y := nI (t0 + i)) g1 ?_
        refine Z_ireturn dX5_go_54 rfl rfl ?_
        rw [show k11 - i = 0 by omega] at g4
        have e9 : goN (wld D) ro no n k11 (D 23) = s2 := g4.symm
        exact zO_k (D2 := zu D 23 s2) (by simp [fGo, r11, v11, e9, g1]) k (mR_fr hR1 (g3.wk fun _ _ => tP_E) hs) (f1.tr (frM.of g3 fun _ _ => tP_hi))
      · refine Z_aload_n dX5_go_26 rfl ?_
        refine Z_getR (r := 23) hM.1 fX5_140_4 dX5_go_27 rfl (hM.2.2 23 _ rfl rfl) ?_
        refine Z_iconst (nI 0) dX5_go_30 rfl ?_
        refine Z_iald (hM.2.1 23 _ rfl) (zix_nI (by omega) (by decide)) dX5_go_31 ?_
        refine Z_re (congrFun hs _) ?_
        refine Z_re (y := nI (t0 + i)) g1 ?_
        refine Z_sipush (nI 2399) dX5_go_32 rfl ?_
        refine Z_icmpgeN 48 dX5_go_35 rfl (by omega) (by omega) (fun c35 => ?_) (fun c35 => ?_)
        · refine Z_aload_n dX5_go_48 rfl ?_
          refine Z_getR (r := 23) hM.1 fX5_140_4 dX5_go_49 rfl (hM.2.2 23 _ rfl rfl) ?_
          refine Z_iconst (nI 0) dX5_go_52 rfl ?_
          refine Z_iald (hM.2.1 23 _ rfl) (zix_nI (by omega) (by decide)) dX5_go_53 ?_
          refine Z_re (congrFun hs _) ?_
          refine Z_re (y := nI (t0 + i)) g1 ?_
          refine Z_ireturn dX5_go_54 rfl rfl ?_
          rw [goN_end g1 (by omega)] at g4
          have e9 : goN (wld D) ro no n k11 (D 23) = s2 := g4.symm
          exact zO_k (D2 := zu D 23 s2) (by simp [fGo, r11, v11, e9, g1]) k (mR_fr hR1 (g3.wk fun _ _ => tP_E) hs) (f1.tr (frM.of g3 fun _ _ => tP_hi))
        · refine Z_aload_n dX5_go_38 rfl ?_
          refine Z_call0 (d' := 8) (zCal_V gX5_308 nX5_passes (by decide) dX5_go_39) pX5_passes hM.1 zkl4 [] rfl rfl (Nat.le_of_ble_eq_true rfl) (by omega) (c_X5_passes hM hW hs hw hsf g1 (by omega) hru (fun I3 g5 g6 => ?_))
          refine Z_iincN (a := _) (k := 1) (lv' := [_, _, _]) dX5_go_42 rfl rfl rfl rfl ?_
          refine Z_goto 21 dX5_go_45 rfl ?_
          exact ih (by omega) I3 _ (hrS_0 g1) (by omega) (sf_hrS hsf hw g1 (by omega)) (g3.tr g6) (by rw [← g4, show k11 - i = (k11 - (i + 1)) + 1 by omega, goN_st g1 (by omega)]) g5
    exact lp21 0 (by omega) I1 (D 23) h0 ht0 hsf fr.rf rfl hs
  · rw [z_i64] at h11
    have r11 : rB x 0 500 = false := rB_f h11
    refine Z_ifne 19 dX5_go_14 rfl (fun h => absurd h (by decide)) (fun _ => ?_)
    refine Z_iconst (-1) dX5_go_17 rfl ?_
    refine Z_ireturn dX5_go_18 rfl rfl ?_
    exact zO_k (by simp [fGo, r11]) k hR1 f1
set_option maxHeartbeats 4000000 in
theorem o_hand (hR : mR D R I L P S) (hw : wf (wld D) no n) (hsf : sf (wld D) no n (D 23)) {ro : Option (List Nat)} (hru : ruM (wld D) ro) {x y : Int32} (k : ∀ I2 L2, mR (fHand D R x y).2.1 (fHand D R x y).2.2 I2 L2 P S → frM I L I2 L2 → Q (.inl (some (.int (fHand D R x y).1))) I2 L2 P S) : Zm G mX5_hand 6 C Sl [.ref 0, .int x, .int y] I L P S Q := by
  obtain ⟨t0, ht0, h0⟩ := hsf.now
  have e2 : (D 23 0).toNatClampNeg = t0 := by rw [h0, nI_clamp (by omega)]
  have hM := hR.1
  refine Z_entry (lv := [_, _, _]) (Nat.le_of_ble_eq_true rfl) rfl ?_
  refine Z_aload_n dX5_hand_0 rfl ?_
  refine Z_iconst (nI 0) dX5_hand_1 rfl ?_
  refine Z_putI hM.1 fX5_3_4 dX5_hand_2 rfl rfl rfl ?_
  refine Z_start hR (fun I1 hR1 f1 h00 => ?_)
  have hw8 := hw.n8
  have hw6 := hw.o6
  have hM := hR1.1
  have hD : mdat I1 = D := hR1.2.2.1
  have hW : wld I1 = wld D := wld_mdat hD
  have hs : I1 23 = D 23 := funext fun j => dr hD rfl
  have hno : noD D = no := by rw [noD, show D 0 3 = nI no from hw.o3, nI_clamp (by omega)]
  have hnn : nD D = n := by rw [nD, show D 0 16 = nI n from hw.n16, nI_clamp (by omega)]
  have hI3 : I1 0 3 = nI no := (wr hW rfl).trans hw.o3
  have hI16 : I1 0 16 = nI n := (wr hW rfl).trans hw.n16
  refine Z_aload_n dX5_hand_5 rfl ?_
  refine Z_iload_n dX5_hand_6 rfl ?_
  refine Z_call0 (d' := 1) (zCal_V gX5_256 nX5_isPiece (by decide) dX5_hand_7) pX5_isPiece hM.1 zkl4 [_] rfl rfl (Nat.le_of_ble_eq_true rfl) (by omega) (c_X5_isPiece hM (by omega) hI16 (fun k7 hk7 e7 => ?_) (fun h7 => ?_))
  · subst e7
    have r7 : pB D (nI k7) = true := rB_t (by rw [z_ti (by omega)]; omega) (by rw [z_ti (by omega), hnn]; omega)
    have v7 : (nI k7).toNatClampNeg = k7 := nI_clamp (by omega)
    refine Z_ifeq 41 dX5_hand_10 rfl (fun h => absurd h (by decide)) (fun _ => ?_)
    refine Z_aload_n dX5_hand_13 rfl ?_
    refine Z_iload_n dX5_hand_14 rfl ?_
    refine Z_call0 (d' := 1) (zCal_V gX5_77 nX5_isOffice (by decide) dX5_hand_15) pX5_isOffice hM.1 zkl4 [_] rfl rfl (Nat.le_of_ble_eq_true rfl) (by omega) (c_X5_isOffice hM (by omega) hI3 (fun k15 hk15 e15 => ?_) (fun h15 => ?_))
    · subst e15
      have r15 : oB D (nI k15) = true := rB_t (by rw [z_ti (by omega)]; omega) (by rw [z_ti (by omega), hno]; omega)
      have v15 : (nI k15).toNatClampNeg = k15 := nI_clamp (by omega)
      refine Z_ifeq 41 dX5_hand_18 rfl (fun h => absurd h (by decide)) (fun _ => ?_)
      refine Z_aload_n dX5_hand_21 rfl ?_
      refine Z_iload_n dX5_hand_22 rfl ?_
      refine Z_call0 (d' := 0) (zCal_V gX5_265 nX5_isDone (by decide) dX5_hand_23) pX5_isDone hM.1 zkl4 [_] rfl rfl (Nat.le_of_ble_eq_true rfl) (by omega) (c_X5_isDone hM hs (by omega) (fun h23 => ?_) (fun h23 => ?_))
      · refine Z_ifne 41 dX5_hand_26 rfl (fun _ => ?_) (fun h => absurd h (by decide))
        refine Z_iconst (-1) dX5_hand_41 rfl ?_
        refine Z_ireturn dX5_hand_42 rfl rfl ?_
        exact zO_k (D2 := D) (R2 := R) (by simp [fHand, e2, r7, v7, r15, v15, h23]) k (hR1) (f1.tr (frM.rf))
      · refine Z_ifne 41 dX5_hand_26 rfl (fun h => absurd h (by decide)) (fun _ => ?_)
        refine Z_aload_n dX5_hand_29 rfl ?_
        refine Z_getR (r := 23) hM.1 fX5_140_4 dX5_hand_30 rfl (hM.2.2 23 _ rfl rfl) ?_
        refine Z_iconst (nI 3) dX5_hand_33 rfl ?_
        refine Z_iload_n dX5_hand_34 rfl ?_
        refine Z_iaddN dX5_hand_35 ?_
        refine Z_iald (hM.2.1 23 _ rfl) (zix_nI (by omega) (by decide)) dX5_hand_36 ?_
        refine Z_re (congrFun hs _) ?_
        refine Z_iload_n dX5_hand_37 rfl ?_
        refine Z_icmpne 43 dX5_hand_38 rfl (fun c38 => ?_) (fun c38 => ?_)
        · obtain ⟨a, ha6, ha⟩ := hsf.pl hk7
          obtain ⟨b, hb6, hb⟩ := hsf.bk
          have e1 : (D 23 (3 + k7)).toNatClampNeg = a := by rw [ha, nI_clamp (by omega)]
          refine Z_aload_n dX5_hand_43 rfl ?_
          refine Z_iload_n dX5_hand_44 rfl ?_
          refine Z_iload_n dX5_hand_45 rfl ?_
          refine Z_aload_n dX5_hand_46 rfl ?_
          refine Z_getR (r := 23) hM.1 fX5_140_4 dX5_hand_47 rfl (hM.2.2 23 _ rfl rfl) ?_
          refine Z_iconst (nI 0) dX5_hand_50 rfl ?_
          refine Z_iald (hM.2.1 23 _ rfl) (zix_nI (by omega) (by decide)) dX5_hand_51 ?_
          refine Z_re (congrFun hs _) ?_
          refine Z_re (y := nI (t0)) h0 ?_
          refine Z_call0 (d' := 5) (zCal_V gX5_294 nX5_hands (by decide) dX5_hand_52) pX5_hands hM.1 zkl4 [_, _, _] rfl rfl (Nat.le_of_ble_eq_true rfl) (by omega) (c_X5_hands hM (by first | exact hW | (simp only [wld_zw23, wld_zw33, wld_zw27, wld_zw34, wld_zw35, wld_zw36, wld_zw0, wld_zw1, wld_zu23]; exact hW)) hs (by omega) (by omega) (by omega) ha (by omega) hb (by omega) ?_)
          refine Z_ireturn dX5_hand_55 rfl rfl ?_
          exact zO_k (D2 := zu D 23 (hndS (wld D) (D 23) k7 k15 t0)) (R2 := R) (by simp [fHand, e2, e1, r7, v7, r15, v15, h23, c38]) k (mR_fr hR1 (fr.rf.su fun _ => rfl) (zu_s _ _ _)) (f1.tr (frM.rf.su (by decide)))
        · refine Z_iconst (-1) dX5_hand_41 rfl ?_
          refine Z_ireturn dX5_hand_42 rfl rfl ?_
          exact zO_k (D2 := D) (R2 := R) (by simp [fHand, e2, r7, v7, r15, v15, h23, c38]) k (hR1) (f1.tr (frM.rf))
    · have r15 : oB D y = false := rB_f (fun q => h15 ⟨q.1, by have := q.2; rw [hno] at this; omega⟩)
      refine Z_ifeq 41 dX5_hand_18 rfl (fun _ => ?_) (fun h => absurd h (by decide))
      refine Z_iconst (-1) dX5_hand_41 rfl ?_
      refine Z_ireturn dX5_hand_42 rfl rfl ?_
      exact zO_k (D2 := D) (R2 := R) (by simp [fHand, e2, r7, v7, r15]) k (hR1) (f1.tr (frM.rf))
  · have r7 : pB D x = false := rB_f (fun q => h7 ⟨q.1, by have := q.2; rw [hnn] at this; omega⟩)
    refine Z_ifeq 41 dX5_hand_10 rfl (fun _ => ?_) (fun h => absurd h (by decide))
    refine Z_iconst (-1) dX5_hand_41 rfl ?_
    refine Z_ireturn dX5_hand_42 rfl rfl ?_
    exact zO_k (D2 := D) (R2 := R) (by simp [fHand, e2, r7]) k (hR1) (f1.tr (frM.rf))
end M11
