set_option maxRecDepth 100000
/-! THE MODEL, part 10: calls, the small ones -/
section M10
variable {G : zG} {d C Sl : Nat} {I D : zI} {R : List Int64} {L : zL} {P : zR} {S : zT} {Q : zQ} {no n : Nat}
set_option maxHeartbeats 4000000 in
theorem o_clock (hR : mR D R I L P S) (hw : wf (wld D) no n) {o h b : Int32} (k : ∀ I2 L2, mR (fClock D R o h b).2.1 (fClock D R o h b).2.2 I2 L2 P S → frM I L I2 L2 → Q (.inl (some (.int (fClock D R o h b).1))) I2 L2 P S) : Zm G mX5_clock 3 C Sl [.ref 0, .int o, .int h, .int b] I L P S Q := by
  have hM := hR.1
  refine Z_entry (lv := [_, _, _, _]) (Nat.le_of_ble_eq_true rfl) rfl ?_
  refine Z_aload_n dX5_clock_0 rfl ?_
  refine Z_iconst (nI 0) dX5_clock_1 rfl ?_
  refine Z_putI hM.1 fX5_3_4 dX5_clock_2 rfl rfl rfl ?_
  refine Z_start hR (fun I1 hR1 f1 h00 => ?_)
  have hw8 := hw.n8
  have hw6 := hw.o6
  have hM := hR1.1
  have hD : mdat I1 = D := hR1.2.2.1
  have hW : wld I1 = wld D := wld_mdat hD
  have hs : I1 23 = D 23 := funext fun j => dr hD rfl
  have hno : noD D = no := by rw [noD, show D 0 3 = nI no from hw.o3, nI_clamp (by omega)]
  have hnn : nD D = n := by rw [nD, show D 0 16 = nI n from hw.n16, nI_clamp (by omega)]
  have hI3 : I1 0 3 = nI no := (wr hW rfl).trans hw.o3
  have hI16 : I1 0 16 = nI n := (wr hW rfl).trans hw.n16
  refine Z_aload_n dX5_clock_5 rfl ?_
  refine Z_iload_n dX5_clock_6 rfl ?_
  refine Z_call0 (d' := 1) (zCal_V gX5_77 nX5_isOffice (by decide) dX5_clock_7) pX5_isOffice hM.1 zkl4 [_] rfl rfl (Nat.le_of_ble_eq_true rfl) (by omega) (c_X5_isOffice hM (by omega) hI3 (fun k7 hk7 e7 => ?_) (fun h7 => ?_))
  · subst e7
    have r7 : oB D (nI k7) = true := rB_t (by rw [z_ti (by omega)]; omega) (by rw [z_ti (by omega), hno]; omega)
    have v7 : (nI k7).toNatClampNeg = k7 := nI_clamp (by omega)
    refine Z_ifeq 32 dX5_clock_10 rfl (fun h => absurd h (by decide)) (fun _ => ?_)
    refine Z_iload_n dX5_clock_13 rfl ?_
    refine Z_callS0 (d' := 1) (zCal_S gX5_81 nX5_isHour (by decide) dX5_clock_14) pX5_isHour [_] rfl rfl (Nat.le_of_ble_eq_true rfl) (by omega) (c_X5_isHour (fun h14a h14b => ?_) (fun h14 => ?_))
    · have r14 : rB h 0 2399 = true := rB_t h14a h14b
      obtain ⟨k14, hk14, e14⟩ := z_rng (n := 2399) h14a h14b (by omega)
      subst e14
      have v14 : (nI k14).toNatClampNeg = k14 := nI_clamp (by omega)
      refine Z_ifeq 32 dX5_clock_17 rfl (fun h => absurd h (by decide)) (fun _ => ?_)
      refine Z_iload_n dX5_clock_20 rfl ?_
      refine Z_i2l dX5_clock_21 ?_
      refine Z_ldc2 q1264 dX5_clock_22 ?_
      refine Z_lconst (1) dX5_clock_25 rfl ?_
      refine Z_callS0 (d' := 0) (zCal_S gX5_25 nX5_in (by decide) dX5_clock_26) pX5_in [_, _, _] rfl rfl (Nat.le_of_ble_eq_true rfl) (by omega) (c_X5_in (fun h26a h26b => ?_) (fun h26 => ?_))
      · rw [z_i64] at h26a h26b
        have r26 : rB b (-1) 1 = true := rB_t h26a h26b
        refine Z_ifne 34 dX5_clock_29 rfl (fun _ => ?_) (fun h => absurd h (by decide))
        refine Z_aload_n dX5_clock_34 rfl ?_
        refine Z_getR (r := 10) hM.1 fX5_50_4 dX5_clock_35 rfl (hM.2.2 10 _ rfl rfl) ?_
        refine Z_iload_n dX5_clock_38 rfl ?_
        refine Z_iload_n dX5_clock_39 rfl ?_
        refine Z_iast (hM.2.1 10 _ rfl) (zix_nI (by omega) (by decide)) dX5_clock_40 ?_
        refine Z_aload_n dX5_clock_41 rfl ?_
        refine Z_getR (r := 11) hM.1 fX5_53_4 dX5_clock_42 rfl (hM.2.2 11 _ rfl rfl) ?_
        refine Z_iload_n dX5_clock_45 rfl ?_
        refine Z_iload_n dX5_clock_46 rfl ?_
        refine Z_iast (hM.2.1 11 _ rfl) (zix_nI (by omega) (by decide)) dX5_clock_47 ?_
        refine Z_iconst (nI 1) dX5_clock_48 rfl ?_
        refine Z_ireturn dX5_clock_49 rfl rfl ?_
        exact zO_k (D2 := zw (zw D 10 k7 (nI k14)) 11 k7 b) (R2 := R) (by simp [fClock, r7, v7, r14, v14, r26]) k ((hR1.zw rfl).zw rfl) (f1.tr ((frM.rf.st (by decide)).st (by decide)))
      · rw [z_i64] at h26
        have r26 : rB b (-1) 1 = false := rB_f h26
        refine Z_ifne 34 dX5_clock_29 rfl (fun h => absurd h (by decide)) (fun _ => ?_)
        refine Z_iconst (nI 0) dX5_clock_32 rfl ?_
        refine Z_ireturn dX5_clock_33 rfl rfl ?_
        exact zO_k (D2 := D) (R2 := R) (by simp [fClock, r7, v7, r14, v14, r26]) k (hR1) (f1.tr (frM.rf))
    · have r14 : rB h 0 2399 = false := rB_f h14
      refine Z_ifeq 32 dX5_clock_17 rfl (fun _ => ?_) (fun h => absurd h (by decide))
      refine Z_iconst (nI 0) dX5_clock_32 rfl ?_
      refine Z_ireturn dX5_clock_33 rfl rfl ?_
      exact zO_k (D2 := D) (R2 := R) (by simp [fClock, r7, v7, r14]) k (hR1) (f1.tr (frM.rf))
  · have r7 : oB D o = false := rB_f (fun q => h7 ⟨q.1, by have := q.2; rw [hno] at this; omega⟩)
    refine Z_ifeq 32 dX5_clock_10 rfl (fun _ => ?_) (fun h => absurd h (by decide))
    refine Z_iconst (nI 0) dX5_clock_32 rfl ?_
    refine Z_ireturn dX5_clock_33 rfl rfl ?_
    exact zO_k (D2 := D) (R2 := R) (by simp [fClock, r7]) k (hR1) (f1.tr (frM.rf))
set_option maxHeartbeats 4000000 in
theorem o_feast (hR : mR D R I L P S) (hw : wf (wld D) no n) {o h b : Int32} (k : ∀ I2 L2, mR (fFeast D R o h b).2.1 (fFeast D R o h b).2.2 I2 L2 P S → frM I L I2 L2 → Q (.inl (some (.int (fFeast D R o h b).1))) I2 L2 P S) : Zm G mX5_feast 3 C Sl [.ref 0, .int o, .int h, .int b] I L P S Q := by
  have hM := hR.1
  refine Z_entry (lv := [_, _, _, _]) (Nat.le_of_ble_eq_true rfl) rfl ?_
  refine Z_aload_n dX5_feast_0 rfl ?_
  refine Z_iconst (nI 0) dX5_feast_1 rfl ?_
  refine Z_putI hM.1 fX5_3_4 dX5_feast_2 rfl rfl rfl ?_
  refine Z_start hR (fun I1 hR1 f1 h00 => ?_)
  have hw8 := hw.n8
  have hw6 := hw.o6
  have hM := hR1.1
  have hD : mdat I1 = D := hR1.2.2.1
  have hW : wld I1 = wld D := wld_mdat hD
  have hs : I1 23 = D 23 := funext fun j => dr hD rfl
  have hno : noD D = no := by rw [noD, show D 0 3 = nI no from hw.o3, nI_clamp (by omega)]
  have hnn : nD D = n := by rw [nD, show D 0 16 = nI n from hw.n16, nI_clamp (by omega)]
  have hI3 : I1 0 3 = nI no := (wr hW rfl).trans hw.o3
  have hI16 : I1 0 16 = nI n := (wr hW rfl).trans hw.n16
  refine Z_aload_n dX5_feast_5 rfl ?_
  refine Z_iload_n dX5_feast_6 rfl ?_
  refine Z_call0 (d' := 1) (zCal_V gX5_77 nX5_isOffice (by decide) dX5_feast_7) pX5_isOffice hM.1 zkl4 [_] rfl rfl (Nat.le_of_ble_eq_true rfl) (by omega) (c_X5_isOffice hM (by omega) hI3 (fun k7 hk7 e7 => ?_) (fun h7 => ?_))
  · subst e7
    have r7 : oB D (nI k7) = true := rB_t (by rw [z_ti (by omega)]; omega) (by rw [z_ti (by omega), hno]; omega)
    have v7 : (nI k7).toNatClampNeg = k7 := nI_clamp (by omega)
    refine Z_ifeq 20 dX5_feast_10 rfl (fun h => absurd h (by decide)) (fun _ => ?_)
    refine Z_iload_n dX5_feast_13 rfl ?_
    refine Z_callS0 (d' := 1) (zCal_S gX5_86 nX5_isDay (by decide) dX5_feast_14) pX5_isDay [_] rfl rfl (Nat.le_of_ble_eq_true rfl) (by omega) (c_X5_isDay (fun h14a h14b => ?_) (fun h14 => ?_))
    · have r14 : rB h 0 99 = true := rB_t h14a h14b
      obtain ⟨k14, hk14, e14⟩ := z_rng (n := 99) h14a h14b (by omega)
      subst e14
      have v14 : (nI k14).toNatClampNeg = k14 := nI_clamp (by omega)
      refine Z_ifne 22 dX5_feast_17 rfl (fun _ => ?_) (fun h => absurd h (by decide))
      refine Z_aload_n dX5_feast_22 rfl ?_
      refine Z_getR (r := 12) hM.1 fX5_56_4 dX5_feast_23 rfl (hM.2.2 12 _ rfl rfl) ?_
      refine Z_bipush (nI 100) dX5_feast_26 rfl ?_
      refine Z_iload_n dX5_feast_28 rfl ?_
      refine Z_imulN dX5_feast_29 ?_
      refine Z_iload_n dX5_feast_30 rfl ?_
      refine Z_iaddN dX5_feast_31 ?_
      refine Z_iload_n dX5_feast_32 rfl ?_
      refine Z_zast (hM.2.1 12 _ rfl) (zix_nI (by omega) (by decide)) dX5_feast_33 ?_
      refine Z_iconst (nI 1) dX5_feast_34 rfl ?_
      refine Z_ireturn dX5_feast_35 rfl rfl ?_
      exact zO_k (D2 := zw D 12 (100 * k7 + k14) (vp_nar .boolean b)) (R2 := R) (by simp [fFeast, r7, v7, r14, v14]) k (hR1.zw rfl) (f1.tr (frM.rf.st (by decide)))
    · have r14 : rB h 0 99 = false := rB_f h14
      refine Z_ifne 22 dX5_feast_17 rfl (fun h => absurd h (by decide)) (fun _ => ?_)
      refine Z_iconst (nI 0) dX5_feast_20 rfl ?_
      refine Z_ireturn dX5_feast_21 rfl rfl ?_
      exact zO_k (D2 := D) (R2 := R) (by simp [fFeast, r7, v7, r14]) k (hR1) (f1.tr (frM.rf))
  · have r7 : oB D o = false := rB_f (fun q => h7 ⟨q.1, by have := q.2; rw [hno] at this; omega⟩)
    refine Z_ifeq 20 dX5_feast_10 rfl (fun _ => ?_) (fun h => absurd h (by decide))
    refine Z_iconst (nI 0) dX5_feast_20 rfl ?_
    refine Z_ireturn dX5_feast_21 rfl rfl ?_
    exact zO_k (D2 := D) (R2 := R) (by simp [fFeast, r7]) k (hR1) (f1.tr (frM.rf))
set_option maxHeartbeats 4000000 in
theorem c_X5_knows (hM : mOk P S) {a b : Nat} (ha : a < 6) (hb : b < 6) {v : Int32} (k : Q (.inl none) (stKn I a b v) L P S) : Zm G mX5_knows 0 C Sl [.ref 0, .int (nI a), .int (nI b), .int v] I L P S Q := by
  refine Z_entry (lv := [_, _, _, _]) (Nat.le_of_ble_eq_true rfl) rfl ?_
  refine Z_aload_n dX5_knows_0 rfl ?_
  refine Z_getR (r := 13) hM.1 fX5_60_4 dX5_knows_1 rfl (hM.2.2 13 _ rfl rfl) ?_
  refine Z_bipush (nI 6) dX5_knows_4 rfl ?_
  refine Z_iload_n dX5_knows_6 rfl ?_
  refine Z_imulN dX5_knows_7 ?_
  refine Z_iload_n dX5_knows_8 rfl ?_
  refine Z_iaddN dX5_knows_9 ?_
  refine Z_iload_n dX5_knows_10 rfl ?_
  refine Z_iast (hM.2.1 13 _ rfl) (zix_nI (by omega) (by decide)) dX5_knows_11 ?_
  refine Z_aload_n dX5_knows_12 rfl ?_
  refine Z_getR (r := 13) hM.1 fX5_60_4 dX5_knows_13 rfl (hM.2.2 13 _ rfl rfl) ?_
  refine Z_bipush (nI 6) dX5_knows_16 rfl ?_
  refine Z_iload_n dX5_knows_18 rfl ?_
  refine Z_imulN dX5_knows_19 ?_
  refine Z_iload_n dX5_knows_20 rfl ?_
  refine Z_iaddN dX5_knows_21 ?_
  refine Z_iload_n dX5_knows_22 rfl ?_
  refine Z_iast (hM.2.1 13 _ rfl) (zix_nI (by omega) (by decide)) dX5_knows_23 ?_
  refine Z_return dX5_knows_24 rfl ?_
  exact k
set_option maxHeartbeats 4000000 in
theorem o_know (hR : mR D R I L P S) (hw : wf (wld D) no n) {a b v : Int32} (k : ∀ I2 L2, mR (fKnow D R a b v).2.1 (fKnow D R a b v).2.2 I2 L2 P S → frM I L I2 L2 → Q (.inl (some (.int (fKnow D R a b v).1))) I2 L2 P S) : Zm G mX5_know 3 C Sl [.ref 0, .int a, .int b, .int v] I L P S Q := by
  have hM := hR.1
  refine Z_entry (lv := [_, _, _, _, _]) (Nat.le_of_ble_eq_true rfl) rfl ?_
  refine Z_aload_n dX5_know_0 rfl ?_
  refine Z_iconst (nI 0) dX5_know_1 rfl ?_
  refine Z_putI hM.1 fX5_3_4 dX5_know_2 rfl rfl rfl ?_
  refine Z_start hR (fun I1 hR1 f1 h00 => ?_)
  have hw8 := hw.n8
  have hw6 := hw.o6
  have hM := hR1.1
  have hD : mdat I1 = D := hR1.2.2.1
  have hW : wld I1 = wld D := wld_mdat hD
  have hs : I1 23 = D 23 := funext fun j => dr hD rfl
  have hno : noD D = no := by rw [noD, show D 0 3 = nI no from hw.o3, nI_clamp (by omega)]
  have hnn : nD D = n := by rw [nD, show D 0 16 = nI n from hw.n16, nI_clamp (by omega)]
  have hI3 : I1 0 3 = nI no := (wr hW rfl).trans hw.o3
  have hI16 : I1 0 16 = nI n := (wr hW rfl).trans hw.n16
  refine Z_aload_n dX5_know_5 rfl ?_
  refine Z_iload_n dX5_know_6 rfl ?_
  refine Z_call0 (d' := 1) (zCal_V gX5_77 nX5_isOffice (by decide) dX5_know_7) pX5_isOffice hM.1 zkl4 [_] rfl rfl (Nat.le_of_ble_eq_true rfl) (by omega) (c_X5_isOffice hM (by omega) hI3 (fun k7 hk7 e7 => ?_) (fun h7 => ?_))
  · subst e7
    have r7 : oB D (nI k7) = true := rB_t (by rw [z_ti (by omega)]; omega) (by rw [z_ti (by omega), hno]; omega)
    have v7 : (nI k7).toNatClampNeg = k7 := nI_clamp (by omega)
    refine Z_ifeq 38 dX5_know_10 rfl (fun h => absurd h (by decide)) (fun _ => ?_)
    refine Z_aload_n dX5_know_13 rfl ?_
    refine Z_iload_n dX5_know_14 rfl ?_
    refine Z_call0 (d' := 1) (zCal_V gX5_77 nX5_isOffice (by decide) dX5_know_15) pX5_isOffice hM.1 zkl4 [_] rfl rfl (Nat.le_of_ble_eq_true rfl) (by omega) (c_X5_isOffice hM (by omega) hI3 (fun k15 hk15 e15 => ?_) (fun h15 => ?_))
    · subst e15
      have r15 : oB D (nI k15) = true := rB_t (by rw [z_ti (by omega)]; omega) (by rw [z_ti (by omega), hno]; omega)
      have v15 : (nI k15).toNatClampNeg = k15 := nI_clamp (by omega)
      refine Z_ifeq 38 dX5_know_18 rfl (fun h => absurd h (by decide)) (fun _ => ?_)
      refine Z_iload_n dX5_know_21 rfl ?_
      refine Z_iload_n dX5_know_22 rfl ?_
      refine Z_icmpeqN 38 dX5_know_23 rfl (by omega) (by omega) (fun c23 => ?_) (fun c23 => ?_)
      · refine Z_iconst (-1) dX5_know_38 rfl ?_
        refine Z_ireturn dX5_know_39 rfl rfl ?_
        exact zO_k (D2 := D) (R2 := R) (by simp [fKnow, r7, v7, r15, v15, c23]) k (hR1) (f1.tr (frM.rf))
      · have c23 : ¬ nI k7 = nI k15 := fun e => c23 ((nI_eq (by omega) (by omega)).mp e)
        refine Z_iload_n dX5_know_26 rfl ?_
        refine Z_i2l dX5_know_27 ?_
        refine Z_lconst (0) dX5_know_28 rfl ?_
        refine Z_ldc2 q1245 dX5_know_29 ?_
        refine Z_callS0 (d' := 0) (zCal_S gX5_25 nX5_in (by decide) dX5_know_32) pX5_in [_, _, _] rfl rfl (Nat.le_of_ble_eq_true rfl) (by omega) (c_X5_in (fun h32a h32b => ?_) (fun h32 => ?_))
        · rw [z_i64] at h32a h32b
          have r32 : rB v 0 9 = true := rB_t h32a h32b
          refine Z_ifne 40 dX5_know_35 rfl (fun _ => ?_) (fun h => absurd h (by decide))
          refine Z_aload_n dX5_know_40 rfl ?_
          refine Z_getR (r := 13) hM.1 fX5_60_4 dX5_know_41 rfl (hM.2.2 13 _ rfl rfl) ?_
          refine Z_bipush (nI 6) dX5_know_44 rfl ?_
          refine Z_iload_n dX5_know_46 rfl ?_
          refine Z_imulN dX5_know_47 ?_
          refine Z_iload_n dX5_know_48 rfl ?_
          refine Z_iaddN dX5_know_49 ?_
          refine Z_iald (hM.2.1 13 _ rfl) (zix_nI (by omega) (by decide)) dX5_know_50 ?_
          refine Z_re (dr hD rfl) ?_
          refine Z_istore (lv' := [_, _, _, _, _]) dX5_know_51 rfl rfl (Nat.le_of_ble_eq_true rfl) ?_
          refine Z_aload_n dX5_know_53 rfl ?_
          refine Z_iload_n dX5_know_54 rfl ?_
          refine Z_iload_n dX5_know_55 rfl ?_
          refine Z_iload_n dX5_know_56 rfl ?_
          refine Z_call0 (d' := 0) (zCal_V gX5_89 nX5_knows (by decide) dX5_know_57) pX5_knows hM.1 zkl4 [_, _, _] rfl rfl (Nat.le_of_ble_eq_true rfl) (by omega) (c_X5_knows hM (by omega) (by omega) ?_)
          refine Z_iload dX5_know_60 rfl ?_
          refine Z_ireturn dX5_know_62 rfl rfl ?_
          exact zO_k (D2 := stKn D k7 k15 v) (R2 := R) (by simp [fKnow, r7, v7, r15, v15, c23, r32]) k ((hR1.zw rfl).zw rfl) (f1.tr ((frM.rf.st (by decide)).st (by decide)))
        · rw [z_i64] at h32
          have r32 : rB v 0 9 = false := rB_f h32
          refine Z_ifne 40 dX5_know_35 rfl (fun h => absurd h (by decide)) (fun _ => ?_)
          refine Z_iconst (-1) dX5_know_38 rfl ?_
          refine Z_ireturn dX5_know_39 rfl rfl ?_
          exact zO_k (D2 := D) (R2 := R) (by simp [fKnow, r7, v7, r15, v15, c23, r32]) k (hR1) (f1.tr (frM.rf))
    · have r15 : oB D b = false := rB_f (fun q => h15 ⟨q.1, by have := q.2; rw [hno] at this; omega⟩)
      refine Z_ifeq 38 dX5_know_18 rfl (fun _ => ?_) (fun h => absurd h (by decide))
      refine Z_iconst (-1) dX5_know_38 rfl ?_
      refine Z_ireturn dX5_know_39 rfl rfl ?_
      exact zO_k (D2 := D) (R2 := R) (by simp [fKnow, r7, v7, r15]) k (hR1) (f1.tr (frM.rf))
  · have r7 : oB D a = false := rB_f (fun q => h7 ⟨q.1, by have := q.2; rw [hno] at this; omega⟩)
    refine Z_ifeq 38 dX5_know_10 rfl (fun _ => ?_) (fun h => absurd h (by decide))
    refine Z_iconst (-1) dX5_know_38 rfl ?_
    refine Z_ireturn dX5_know_39 rfl rfl ?_
    exact zO_k (D2 := D) (R2 := R) (by simp [fKnow, r7]) k (hR1) (f1.tr (frM.rf))
set_option maxHeartbeats 4000000 in
theorem o_open (hR : mR D R I L P S) (hw : wf (wld D) no n) {o h : Int32} (k : ∀ I2 L2, mR (fOpen D R o h).2.1 (fOpen D R o h).2.2 I2 L2 P S → frM I L I2 L2 → Q (.inl (some (.int (fOpen D R o h).1))) I2 L2 P S) : Zm G mX5_open 3 C Sl [.ref 0, .int o, .int h] I L P S Q := by
  have hM := hR.1
  refine Z_entry (lv := [_, _, _]) (Nat.le_of_ble_eq_true rfl) rfl ?_
  refine Z_aload_n dX5_open_0 rfl ?_
  refine Z_iconst (nI 0) dX5_open_1 rfl ?_
  refine Z_putI hM.1 fX5_3_4 dX5_open_2 rfl rfl rfl ?_
  refine Z_start hR (fun I1 hR1 f1 h00 => ?_)
  have hw8 := hw.n8
  have hw6 := hw.o6
  have hM := hR1.1
  have hD : mdat I1 = D := hR1.2.2.1
  have hW : wld I1 = wld D := wld_mdat hD
  have hs : I1 23 = D 23 := funext fun j => dr hD rfl
  have hno : noD D = no := by rw [noD, show D 0 3 = nI no from hw.o3, nI_clamp (by omega)]
  have hnn : nD D = n := by rw [nD, show D 0 16 = nI n from hw.n16, nI_clamp (by omega)]
  have hI3 : I1 0 3 = nI no := (wr hW rfl).trans hw.o3
  have hI16 : I1 0 16 = nI n := (wr hW rfl).trans hw.n16
  refine Z_aload_n dX5_open_5 rfl ?_
  refine Z_iload_n dX5_open_6 rfl ?_
  refine Z_call0 (d' := 1) (zCal_V gX5_77 nX5_isOffice (by decide) dX5_open_7) pX5_isOffice hM.1 zkl4 [_] rfl rfl (Nat.le_of_ble_eq_true rfl) (by omega) (c_X5_isOffice hM (by omega) hI3 (fun k7 hk7 e7 => ?_) (fun h7 => ?_))
  · subst e7
    have r7 : oB D (nI k7) = true := rB_t (by rw [z_ti (by omega)]; omega) (by rw [z_ti (by omega), hno]; omega)
    have v7 : (nI k7).toNatClampNeg = k7 := nI_clamp (by omega)
    refine Z_ifeq 32 dX5_open_10 rfl (fun h => absurd h (by decide)) (fun _ => ?_)
    refine Z_iload_n dX5_open_13 rfl ?_
    refine Z_callS0 (d' := 1) (zCal_S gX5_81 nX5_isHour (by decide) dX5_open_14) pX5_isHour [_] rfl rfl (Nat.le_of_ble_eq_true rfl) (by omega) (c_X5_isHour (fun h14a h14b => ?_) (fun h14 => ?_))
    · have r14 : rB h 0 2399 = true := rB_t h14a h14b
      obtain ⟨k14, hk14, e14⟩ := z_rng (n := 2399) h14a h14b (by omega)
      subst e14
      have v14 : (nI k14).toNatClampNeg = k14 := nI_clamp (by omega)
      refine Z_ifeq 32 dX5_open_17 rfl (fun h => absurd h (by decide)) (fun _ => ?_)
      refine Z_aload_n dX5_open_20 rfl ?_
      refine Z_iload_n dX5_open_21 rfl ?_
      refine Z_iload_n dX5_open_22 rfl ?_
      refine Z_call0 (d' := 2) (zCal_V gX5_120 nX5_isOpen (by decide) dX5_open_23) pX5_isOpen hM.1 zkl4 [_, _] rfl rfl (Nat.le_of_ble_eq_true rfl) (by omega) (c_isOpenW hM (by first | exact hW | (simp only [wld_zw23, wld_zw33, wld_zw27, wld_zw34, wld_zw35, wld_zw36, wld_zw0, wld_zw1, wld_zu23]; exact hW)) (by omega) (fun h23 => ?_) (fun h23 => ?_))
      · refine Z_callS0 (d' := 0) (zCal_S gX5_124 nX5_flag (by decide) dX5_open_26) pX5_flag [_] rfl rfl (Nat.le_of_ble_eq_true rfl) (by omega) (c_X5_flag (by first | decide | assumption) ?_)
        refine Z_goto 33 dX5_open_29 rfl ?_
        refine Z_ireturn dX5_open_33 rfl rfl ?_
        exact zO_k (D2 := D) (R2 := R) (by simp [fOpen, bI, r7, v7, r14, v14, h23]) k (hR1) (f1.tr (frM.rf))
      · refine Z_callS0 (d' := 0) (zCal_S gX5_124 nX5_flag (by decide) dX5_open_26) pX5_flag [_] rfl rfl (Nat.le_of_ble_eq_true rfl) (by omega) (c_X5_flag (by first | decide | assumption) ?_)
        refine Z_goto 33 dX5_open_29 rfl ?_
        refine Z_ireturn dX5_open_33 rfl rfl ?_
        exact zO_k (D2 := D) (R2 := R) (by simp [fOpen, bI, r7, v7, r14, v14, h23]) k (hR1) (f1.tr (frM.rf))
    · have r14 : rB h 0 2399 = false := rB_f h14
      refine Z_ifeq 32 dX5_open_17 rfl (fun _ => ?_) (fun h => absurd h (by decide))
      refine Z_iconst (-1) dX5_open_32 rfl ?_
      refine Z_ireturn dX5_open_33 rfl rfl ?_
      exact zO_k (D2 := D) (R2 := R) (by simp [fOpen, bI, r7, v7, r14]) k (hR1) (f1.tr (frM.rf))
  · have r7 : oB D o = false := rB_f (fun q => h7 ⟨q.1, by have := q.2; rw [hno] at this; omega⟩)
    refine Z_ifeq 32 dX5_open_10 rfl (fun _ => ?_) (fun h => absurd h (by decide))
    refine Z_iconst (-1) dX5_open_32 rfl ?_
    refine Z_ireturn dX5_open_33 rfl rfl ?_
    exact zO_k (D2 := D) (R2 := R) (by simp [fOpen, bI, r7]) k (hR1) (f1.tr (frM.rf))
set_option maxHeartbeats 4000000 in
theorem o_overlap (hR : mR D R I L P S) (hw : wf (wld D) no n) {a b h : Int32} (k : ∀ I2 L2, mR (fOverlap D R a b h).2.1 (fOverlap D R a b h).2.2 I2 L2 P S → frM I L I2 L2 → Q (.inl (some (.int (fOverlap D R a b h).1))) I2 L2 P S) : Zm G mX5_overlap 4 C Sl [.ref 0, .int a, .int b, .int h] I L P S Q := by
  have hM := hR.1
  refine Z_entry (lv := [_, _, _, _]) (Nat.le_of_ble_eq_true rfl) rfl ?_
  refine Z_aload_n dX5_overlap_0 rfl ?_
  refine Z_iconst (nI 0) dX5_overlap_1 rfl ?_
  refine Z_putI hM.1 fX5_3_4 dX5_overlap_2 rfl rfl rfl ?_
  refine Z_start hR (fun I1 hR1 f1 h00 => ?_)
  have hw8 := hw.n8
  have hw6 := hw.o6
  have hM := hR1.1
  have hD : mdat I1 = D := hR1.2.2.1
  have hW : wld I1 = wld D := wld_mdat hD
  have hs : I1 23 = D 23 := funext fun j => dr hD rfl
  have hno : noD D = no := by rw [noD, show D 0 3 = nI no from hw.o3, nI_clamp (by omega)]
  have hnn : nD D = n := by rw [nD, show D 0 16 = nI n from hw.n16, nI_clamp (by omega)]
  have hI3 : I1 0 3 = nI no := (wr hW rfl).trans hw.o3
  have hI16 : I1 0 16 = nI n := (wr hW rfl).trans hw.n16
  refine Z_aload_n dX5_overlap_5 rfl ?_
  refine Z_iload_n dX5_overlap_6 rfl ?_
  refine Z_call0 (d' := 1) (zCal_V gX5_77 nX5_isOffice (by decide) dX5_overlap_7) pX5_isOffice hM.1 zkl4 [_] rfl rfl (Nat.le_of_ble_eq_true rfl) (by omega) (c_X5_isOffice hM (by omega) hI3 (fun k7 hk7 e7 => ?_) (fun h7 => ?_))
  · subst e7
    have r7 : oB D (nI k7) = true := rB_t (by rw [z_ti (by omega)]; omega) (by rw [z_ti (by omega), hno]; omega)
    have v7 : (nI k7).toNatClampNeg = k7 := nI_clamp (by omega)
    refine Z_ifeq 38 dX5_overlap_10 rfl (fun h => absurd h (by decide)) (fun _ => ?_)
    refine Z_aload_n dX5_overlap_13 rfl ?_
    refine Z_iload_n dX5_overlap_14 rfl ?_
    refine Z_call0 (d' := 1) (zCal_V gX5_77 nX5_isOffice (by decide) dX5_overlap_15) pX5_isOffice hM.1 zkl4 [_] rfl rfl (Nat.le_of_ble_eq_true rfl) (by omega) (c_X5_isOffice hM (by omega) hI3 (fun k15 hk15 e15 => ?_) (fun h15 => ?_))
    · subst e15
      have r15 : oB D (nI k15) = true := rB_t (by rw [z_ti (by omega)]; omega) (by rw [z_ti (by omega), hno]; omega)
      have v15 : (nI k15).toNatClampNeg = k15 := nI_clamp (by omega)
      refine Z_ifeq 38 dX5_overlap_18 rfl (fun h => absurd h (by decide)) (fun _ => ?_)
      refine Z_iload_n dX5_overlap_21 rfl ?_
      refine Z_callS0 (d' := 1) (zCal_S gX5_81 nX5_isHour (by decide) dX5_overlap_22) pX5_isHour [_] rfl rfl (Nat.le_of_ble_eq_true rfl) (by omega) (c_X5_isHour (fun h22a h22b => ?_) (fun h22 => ?_))
      · have r22 : rB h 0 2399 = true := rB_t h22a h22b
        obtain ⟨k22, hk22, e22⟩ := z_rng (n := 2399) h22a h22b (by omega)
        subst e22
        have v22 : (nI k22).toNatClampNeg = k22 := nI_clamp (by omega)
        refine Z_ifeq 38 dX5_overlap_25 rfl (fun h => absurd h (by decide)) (fun _ => ?_)
        refine Z_aload_n dX5_overlap_28 rfl ?_
        refine Z_iload_n dX5_overlap_29 rfl ?_
        refine Z_iload_n dX5_overlap_30 rfl ?_
        refine Z_iload_n dX5_overlap_31 rfl ?_
        refine Z_call0 (d' := 3) (zCal_V gX5_128 nX5_overlapOf (by decide) dX5_overlap_32) pX5_overlapOf hM.1 zkl4 [_, _, _] rfl rfl (Nat.le_of_ble_eq_true rfl) (by omega) (c_overlapOfW hM (by first | exact hW | (simp only [wld_zw23, wld_zw33, wld_zw27, wld_zw34, wld_zw35, wld_zw36, wld_zw0, wld_zw1, wld_zu23]; exact hW)) (by omega) (by omega) (by omega) ?_)
        refine Z_goto 39 dX5_overlap_35 rfl ?_
        refine Z_ireturn dX5_overlap_39 rfl rfl ?_
        exact zO_k (D2 := D) (R2 := R) (by simp [fOverlap, r7, v7, r15, v15, r22, v22]) k (hR1) (f1.tr (frM.rf))
      · have r22 : rB h 0 2399 = false := rB_f h22
        refine Z_ifeq 38 dX5_overlap_25 rfl (fun _ => ?_) (fun h => absurd h (by decide))
        refine Z_iconst (-1) dX5_overlap_38 rfl ?_
        refine Z_ireturn dX5_overlap_39 rfl rfl ?_
        exact zO_k (D2 := D) (R2 := R) (by simp [fOverlap, r7, v7, r15, v15, r22]) k (hR1) (f1.tr (frM.rf))
    · have r15 : oB D b = false := rB_f (fun q => h15 ⟨q.1, by have := q.2; rw [hno] at this; omega⟩)
      refine Z_ifeq 38 dX5_overlap_18 rfl (fun _ => ?_) (fun h => absurd h (by decide))
      refine Z_iconst (-1) dX5_overlap_38 rfl ?_
      refine Z_ireturn dX5_overlap_39 rfl rfl ?_
      exact zO_k (D2 := D) (R2 := R) (by simp [fOverlap, r7, v7, r15]) k (hR1) (f1.tr (frM.rf))
  · have r7 : oB D a = false := rB_f (fun q => h7 ⟨q.1, by have := q.2; rw [hno] at this; omega⟩)
    refine Z_ifeq 38 dX5_overlap_10 rfl (fun _ => ?_) (fun h => absurd h (by decide))
    refine Z_iconst (-1) dX5_overlap_38 rfl ?_
    refine Z_ireturn dX5_overlap_39 rfl rfl ?_
    exact zO_k (D2 := D) (R2 := R) (by simp [fOverlap, r7]) k (hR1) (f1.tr (frM.rf))
set_option maxHeartbeats 4000000 in
theorem o_loses (hR : mR D R I L P S) (hw : wf (wld D) no n) {a b h : Int32} (k : ∀ I2 L2, mR (fLoses D R a b h).2.1 (fLoses D R a b h).2.2 I2 L2 P S → frM I L I2 L2 → Q (.inl (some (.int (fLoses D R a b h).1))) I2 L2 P S) : Zm G mX5_loses 5 C Sl [.ref 0, .int a, .int b, .int h] I L P S Q := by
  have hM := hR.1
  refine Z_entry (lv := [_, _, _, _]) (Nat.le_of_ble_eq_true rfl) rfl ?_
  refine Z_aload_n dX5_loses_0 rfl ?_
  refine Z_iconst (nI 0) dX5_loses_1 rfl ?_
  refine Z_putI hM.1 fX5_3_4 dX5_loses_2 rfl rfl rfl ?_
  refine Z_start hR (fun I1 hR1 f1 h00 => ?_)
  have hw8 := hw.n8
  have hw6 := hw.o6
  have hM := hR1.1
  have hD : mdat I1 = D := hR1.2.2.1
  have hW : wld I1 = wld D := wld_mdat hD
  have hs : I1 23 = D 23 := funext fun j => dr hD rfl
  have hno : noD D = no := by rw [noD, show D 0 3 = nI no from hw.o3, nI_clamp (by omega)]
  have hnn : nD D = n := by rw [nD, show D 0 16 = nI n from hw.n16, nI_clamp (by omega)]
  have hI3 : I1 0 3 = nI no := (wr hW rfl).trans hw.o3
  have hI16 : I1 0 16 = nI n := (wr hW rfl).trans hw.n16
  refine Z_aload_n dX5_loses_5 rfl ?_
  refine Z_iload_n dX5_loses_6 rfl ?_
  refine Z_call0 (d' := 1) (zCal_V gX5_77 nX5_isOffice (by decide) dX5_loses_7) pX5_isOffice hM.1 zkl4 [_] rfl rfl (Nat.le_of_ble_eq_true rfl) (by omega) (c_X5_isOffice hM (by omega) hI3 (fun k7 hk7 e7 => ?_) (fun h7 => ?_))
  · subst e7
    have r7 : oB D (nI k7) = true := rB_t (by rw [z_ti (by omega)]; omega) (by rw [z_ti (by omega), hno]; omega)
    have v7 : (nI k7).toNatClampNeg = k7 := nI_clamp (by omega)
    refine Z_ifeq 38 dX5_loses_10 rfl (fun h => absurd h (by decide)) (fun _ => ?_)
    refine Z_aload_n dX5_loses_13 rfl ?_
    refine Z_iload_n dX5_loses_14 rfl ?_
    refine Z_call0 (d' := 1) (zCal_V gX5_77 nX5_isOffice (by decide) dX5_loses_15) pX5_isOffice hM.1 zkl4 [_] rfl rfl (Nat.le_of_ble_eq_true rfl) (by omega) (c_X5_isOffice hM (by omega) hI3 (fun k15 hk15 e15 => ?_) (fun h15 => ?_))
    · subst e15
      have r15 : oB D (nI k15) = true := rB_t (by rw [z_ti (by omega)]; omega) (by rw [z_ti (by omega), hno]; omega)
      have v15 : (nI k15).toNatClampNeg = k15 := nI_clamp (by omega)
      refine Z_ifeq 38 dX5_loses_18 rfl (fun h => absurd h (by decide)) (fun _ => ?_)
      refine Z_iload_n dX5_loses_21 rfl ?_
      refine Z_callS0 (d' := 1) (zCal_S gX5_81 nX5_isHour (by decide) dX5_loses_22) pX5_isHour [_] rfl rfl (Nat.le_of_ble_eq_true rfl) (by omega) (c_X5_isHour (fun h22a h22b => ?_) (fun h22 => ?_))
      · have r22 : rB h 0 2399 = true := rB_t h22a h22b
        obtain ⟨k22, hk22, e22⟩ := z_rng (n := 2399) h22a h22b (by omega)
        subst e22
        have v22 : (nI k22).toNatClampNeg = k22 := nI_clamp (by omega)
        refine Z_ifeq 38 dX5_loses_25 rfl (fun h => absurd h (by decide)) (fun _ => ?_)
        refine Z_aload_n dX5_loses_28 rfl ?_
        refine Z_iload_n dX5_loses_29 rfl ?_
        refine Z_iload_n dX5_loses_30 rfl ?_
        refine Z_iload_n dX5_loses_31 rfl ?_
        refine Z_call0 (d' := 4) (zCal_V gX5_132 nX5_lostOf (by decide) dX5_loses_32) pX5_lostOf hM.1 zkl4 [_, _, _] rfl rfl (Nat.le_of_ble_eq_true rfl) (by omega) (c_lostOfW hM (by first | exact hW | (simp only [wld_zw23, wld_zw33, wld_zw27, wld_zw34, wld_zw35, wld_zw36, wld_zw0, wld_zw1, wld_zu23]; exact hW)) (by omega) (by omega) (by omega) ?_)
        refine Z_goto 39 dX5_loses_35 rfl ?_
        refine Z_ireturn dX5_loses_39 rfl rfl ?_
        exact zO_k (D2 := D) (R2 := R) (by simp [fLoses, r7, v7, r15, v15, r22, v22]) k (hR1) (f1.tr (frM.rf))
      · have r22 : rB h 0 2399 = false := rB_f h22
        refine Z_ifeq 38 dX5_loses_25 rfl (fun _ => ?_) (fun h => absurd h (by decide))
        refine Z_iconst (-1) dX5_loses_38 rfl ?_
        refine Z_ireturn dX5_loses_39 rfl rfl ?_
        exact zO_k (D2 := D) (R2 := R) (by simp [fLoses, r7, v7, r15, v15, r22]) k (hR1) (f1.tr (frM.rf))
    · have r15 : oB D b = false := rB_f (fun q => h15 ⟨q.1, by have := q.2; rw [hno] at this; omega⟩)
      refine Z_ifeq 38 dX5_loses_18 rfl (fun _ => ?_) (fun h => absurd h (by decide))
      refine Z_iconst (-1) dX5_loses_38 rfl ?_
      refine Z_ireturn dX5_loses_39 rfl rfl ?_
      exact zO_k (D2 := D) (R2 := R) (by simp [fLoses, r7, v7, r15]) k (hR1) (f1.tr (frM.rf))
  · have r7 : oB D a = false := rB_f (fun q => h7 ⟨q.1, by have := q.2; rw [hno] at this; omega⟩)
    refine Z_ifeq 38 dX5_loses_10 rfl (fun _ => ?_) (fun h => absurd h (by decide))
    refine Z_iconst (-1) dX5_loses_38 rfl ?_
    refine Z_ireturn dX5_loses_39 rfl rfl ?_
    exact zO_k (D2 := D) (R2 := R) (by simp [fLoses, r7]) k (hR1) (f1.tr (frM.rf))
end M10
