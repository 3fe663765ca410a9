set_option maxRecDepth 100000
/-! THE MODEL, part 19: ends on the data; a day slept, a clock put -/
section M19
variable {G : zG} {d C Sl : Nat} {I D W : zI} {R : List Int64} {L : zL} {P : zR} {S : zT} {Q : zQ} {no n : Nat} {s : zS}
theorem c_endsNowR (hR : mR D R I L P S) (hw : wf (wld D) no n) (hsf : sf (wld D) no n (D 23)) {ro : Option (List Nat)} (hru : ruM (wld D) ro)
    (kt : ∀ I2 s2 t, pEnd (wld D) ro no n (D 23) = some s2 → s2 0 = nI t → t ≤ 2399 → mR D R I2 L P S → frM I L I2 L → fr tE I I2 → Q (.inl (some (.int (nI t)))) I2 L P S) (kf : ∀ I2, pEnd (wld D) ro no n (D 23) = none → mR D R I2 L P S → frM I L I2 L → fr tE I I2 → Q (.inl (some (.int (-1)))) I2 L P S) : Zm G mX5_endsNow 10 C Sl [.ref 0] I L P S Q := by
  refine c_X5_endsNow hR.1 (wld_mdat hR.2.2.1) (funext fun j => dr hR.2.2.1 rfl) hw hsf hru (fun I2 h1 h2 => ?_)
  have h3 := mR_sm hR h2 h1
  have h4 : frM I L I2 L := frM.of h2 fun _ _ => tE_hi
  cases e : pEnd (wld D) ro no n (D 23) with
  | none => exact kf I2 e h3 h4 h2
  | some s2 =>
    obtain ⟨t, ht, h0⟩ := pEnd_b hw hsf e
    have := kt I2 s2 t e h0 ht h3 h4 h2
    rw [← h0] at this
    exact this
theorem c_endsFromR (hR : mR D R I L P S) (hw : wf (wld D) no n) (hi : ∀ j, 127 ≤ j → D 23 j = 0) {ro : Option (List Nat)} (hru : ruM (wld D) ro) {h : Nat} (hh : h ≤ 2399)
    (kt : ∀ I2 s2 t, pEnd (wld D) ro no n (begS (wld D) (D 23) n h) = some s2 → s2 0 = nI t → t ≤ 2399 → mR D R I2 L P S → frM I L I2 L → fr tE I I2 → Q (.inl (some (.int (nI t)))) I2 L P S) (kf : ∀ I2, pEnd (wld D) ro no n (begS (wld D) (D 23) n h) = none → mR D R I2 L P S → frM I L I2 L → fr tE I I2 → Q (.inl (some (.int (-1)))) I2 L P S) : Zm G mX5_endsFrom 10 C Sl [.ref 0, .int (nI h)] I L P S Q := by
  refine c_X5_endsFrom hR.1 (wld_mdat hR.2.2.1) (funext fun j => dr hR.2.2.1 rfl) hw hi hru hh (fun I2 h1 h2 => ?_)
  have h3 := mR_sm hR h2 h1
  have h4 : frM I L I2 L := frM.of h2 fun _ _ => tE_hi
  cases e : pEnd (wld D) ro no n (begS (wld D) (D 23) n h) with
  | none => exact kf I2 e h3 h4 h2
  | some s2 =>
    obtain ⟨t, ht, h0⟩ := pEnd_b hw (sf_begS hw hi hh) e
    have := kt I2 s2 t e h0 ht h3 h4 h2
    rw [← h0] at this
    exact this
set_option maxHeartbeats 4000000 in
theorem c_endsOnR (hR : mR D R I L P S) (hw : wf (wld D) no n) (hsf : sf (wld D) no n (D 23)) {ro : Option (List Nat)} (hru : ruM (wld D) ro) {o dd : Nat} (ho : o < 6) (hd : dd ≤ 99) (h0 : D 12 (100 * o + dd) = 0) (kt : ∀ I2 s2 t, pEnd (wld (slpD D o dd)) ro no n (D 23) = some s2 → s2 0 = nI t → t ≤ 2399 → mR D R I2 L P S → frM I L I2 L → Q (.inl (some (.int (nI t)))) I2 L P S) (kf : ∀ I2, pEnd (wld (slpD D o dd)) ro no n (D 23) = none → mR D R I2 L P S → frM I L I2 L → Q (.inl (some (.int (-1)))) I2 L P S) : Zm G mX5_endsOn 11 C Sl [.ref 0, .int (nI o), .int (nI dd)] I L P S Q := by
  have hM := hR.1
  have hR2 : mR (slpD D o dd) R (zw I 12 (100 * o + dd) (vp_nar .boolean (nI 1))) L P S := hR.zw rfl
  refine Z_entry (lv := [_, _, _, _]) (Nat.le_of_ble_eq_true rfl) rfl ?_
  refine Z_aload_n dX5_endsOn_0 rfl ?_
  refine Z_getR (r := 12) hM.1 fX5_56_4 dX5_endsOn_1 rfl (hM.2.2 12 _ rfl rfl) ?_
  refine Z_bipush (nI 100) dX5_endsOn_4 rfl ?_
  refine Z_iload_n dX5_endsOn_6 rfl ?_
  refine Z_imulN dX5_endsOn_7 ?_
  refine Z_iload_n dX5_endsOn_8 rfl ?_
  refine Z_iaddN dX5_endsOn_9 ?_
  refine Z_iconst (nI 1) dX5_endsOn_10 rfl ?_
  refine Z_zast (hM.2.1 12 _ rfl) (zix_nI (by omega) (by decide)) dX5_endsOn_11 ?_
  refine Z_aload_n dX5_endsOn_12 rfl ?_
  refine Z_call0 (d' := 10) (zCal_V gX5_463 nX5_endsNow (by decide) dX5_endsOn_13) pX5_endsNow hM.1 zkl4 [] rfl rfl (Nat.le_of_ble_eq_true rfl) (by omega) (c_endsNowR hR2 (wf_eq hw (wld_row (slp_n (by decide))) (wld_row (slp_n (by decide))) (wld_row (slp_n (by decide)))) (by rw [slp_n (by decide)]; exact sf_eq hsf (wld_row (slp_n (by decide))) (wld_row (slp_n (by decide)))) (ru_eq hru (wld_row (slp_n (by decide))) (wld_row (slp_n (by decide)))) (fun J1 s1 t1 p1a p1b p1c g1 f1 e1 => ?_) (fun J1 p1a g1 f1 e1 => ?_))
  · refine Z_istore_n (lv' := [_, _, _, _]) dX5_endsOn_16 rfl rfl (Nat.le_of_ble_eq_true rfl) ?_
    refine Z_aload_n dX5_endsOn_17 rfl ?_
    refine Z_getR (r := 12) hM.1 fX5_56_4 dX5_endsOn_18 rfl (hM.2.2 12 _ rfl rfl) ?_
    refine Z_bipush (nI 100) dX5_endsOn_21 rfl ?_
    refine Z_iload_n dX5_endsOn_23 rfl ?_
    refine Z_imulN dX5_endsOn_24 ?_
    refine Z_iload_n dX5_endsOn_25 rfl ?_
    refine Z_iaddN dX5_endsOn_26 ?_
    refine Z_iconst (nI 0) dX5_endsOn_27 rfl ?_
    refine Z_zast (hM.2.1 12 _ rfl) (zix_nI (by omega) (by decide)) dX5_endsOn_28 ?_
    refine Z_iload_n dX5_endsOn_29 rfl ?_
    refine Z_ireturn dX5_endsOn_30 rfl rfl ?_
    have e : zw (slpD D o dd) 12 (100 * o + dd) (vp_nar .boolean (nI 0)) = D := by rw [slpD, zw_zw]; exact zw_id h0
    have g9 := g1.zw (a := 12) (k := 100 * o + dd) (v := vp_nar .boolean (nI 0)) rfl
    rw [e] at g9
    exact kt _ s1 t1 (by rw [← p1a, slp_n (by decide)]) p1b p1c g9 (((frM.rf.st (by decide)).tr f1).st (by decide))
  · refine Z_istore_n (lv' := [_, _, _, _]) dX5_endsOn_16 rfl rfl (Nat.le_of_ble_eq_true rfl) ?_
    refine Z_aload_n dX5_endsOn_17 rfl ?_
    refine Z_getR (r := 12) hM.1 fX5_56_4 dX5_endsOn_18 rfl (hM.2.2 12 _ rfl rfl) ?_
    refine Z_bipush (nI 100) dX5_endsOn_21 rfl ?_
    refine Z_iload_n dX5_endsOn_23 rfl ?_
    refine Z_imulN dX5_endsOn_24 ?_
    refine Z_iload_n dX5_endsOn_25 rfl ?_
    refine Z_iaddN dX5_endsOn_26 ?_
    refine Z_iconst (nI 0) dX5_endsOn_27 rfl ?_
    refine Z_zast (hM.2.1 12 _ rfl) (zix_nI (by omega) (by decide)) dX5_endsOn_28 ?_
    refine Z_iload_n dX5_endsOn_29 rfl ?_
    refine Z_ireturn dX5_endsOn_30 rfl rfl ?_
    have e : zw (slpD D o dd) 12 (100 * o + dd) (vp_nar .boolean (nI 0)) = D := by rw [slpD, zw_zw]; exact zw_id h0
    have g9 := g1.zw (a := 12) (k := 100 * o + dd) (v := vp_nar .boolean (nI 0)) rfl
    rw [e] at g9
    exact kf _ (by rw [← p1a, slp_n (by decide)]) g9 (((frM.rf.st (by decide)).tr f1).st (by decide))
set_option maxHeartbeats 4000000 in
theorem o_sleeps (hR : mR D R I L P S) (hw : wf (wld D) no n) (hsf : sf (wld D) no n (D 23)) {ro : Option (List Nat)} (hru : ruM (wld D) ro) {o q : Int32} (k : ∀ I2 L2, mR (fSleeps D R ro no n o q).2.1 (fSleeps D R ro no n o q).2.2 I2 L2 P S → frM I L I2 L2 → Q (.inl (some (.int (fSleeps D R ro no n o q).1))) I2 L2 P S) : Zm G mX5_sleeps 12 C Sl [.ref 0, .int o, .int q] I L P S Q := by
  have hM := hR.1
  refine Z_entry (lv := [_, _, _, _, _]) (Nat.le_of_ble_eq_true rfl) rfl ?_
  refine Z_aload_n dX5_sleeps_0 rfl ?_
  refine Z_iconst (nI 0) dX5_sleeps_1 rfl ?_
  refine Z_putI hM.1 fX5_3_4 dX5_sleeps_2 rfl rfl rfl ?_
  refine Z_start hR (fun I1 hR1 f1 h00 => ?_)
  have hw8 := hw.n8
  have hw6 := hw.o6
  have hM := hR1.1
  have hD : mdat I1 = D := hR1.2.2.1
  have hW : wld I1 = wld D := wld_mdat hD
  have hs : I1 23 = D 23 := funext fun j => dr hD rfl
  have hno : noD D = no := by rw [noD, show D 0 3 = nI no from hw.o3, nI_clamp (by omega)]
  have hnn : nD D = n := by rw [nD, show D 0 16 = nI n from hw.n16, nI_clamp (by omega)]
  have hI3 : I1 0 3 = nI no := (wr hW rfl).trans hw.o3
  have hI16 : I1 0 16 = nI n := (wr hW rfl).trans hw.n16
  refine Z_aload_n dX5_sleeps_5 rfl ?_
  refine Z_iload_n dX5_sleeps_6 rfl ?_
  refine Z_call0 (d' := 1) (zCal_V gX5_77 nX5_isOffice (by decide) dX5_sleeps_7) pX5_isOffice hM.1 zkl4 [_] rfl rfl (Nat.le_of_ble_eq_true rfl) (by omega) (c_X5_isOffice hM (by omega) hI3 (fun k7 hk7 e7 => ?_) (fun h7 => ?_))
  · subst e7
    have r7 : oB D (nI k7) = true := rB_t (by rw [z_ti (by omega)]; omega) (by rw [z_ti (by omega), hno]; omega)
    have v7 : (nI k7).toNatClampNeg = k7 := nI_clamp (by omega)
    refine Z_ifeq 27 dX5_sleeps_10 rfl (fun h => absurd h (by decide)) (fun _ => ?_)
    refine Z_iload_n dX5_sleeps_13 rfl ?_
    refine Z_callS0 (d' := 1) (zCal_S gX5_86 nX5_isDay (by decide) dX5_sleeps_14) pX5_isDay [_] rfl rfl (Nat.le_of_ble_eq_true rfl) (by omega) (c_X5_isDay (fun h14a h14b => ?_) (fun h14 => ?_))
    · have r14 : rB q 0 99 = true := rB_t h14a h14b
      obtain ⟨k14, hk14, e14⟩ := z_rng (n := 99) h14a h14b (by omega)
      subst e14
      have v14 : (nI k14).toNatClampNeg = k14 := nI_clamp (by omega)
      refine Z_ifeq 27 dX5_sleeps_17 rfl (fun h => absurd h (by decide)) (fun _ => ?_)
      refine Z_aload_n dX5_sleeps_20 rfl ?_
      refine Z_getI hM.1 fX5_151_4 dX5_sleeps_21 rfl ?_
      refine Z_re ((wr (by first | exact hW | (simp only [wld_zw23, wld_zw33, wld_zw27, wld_zw34, wld_zw35, wld_zw36, wld_zw0, wld_zw1, wld_zu23]; exact hW)) rfl).trans hw.n16) ?_
      refine Z_ifneN 29 dX5_sleeps_24 rfl (by omega) (fun c24 => ?_) (fun c24 => ?_)
      · refine Z_aload_n dX5_sleeps_29 rfl ?_
        refine Z_getR (r := 12) hM.1 fX5_56_4 dX5_sleeps_30 rfl (hM.2.2 12 _ rfl rfl) ?_
        refine Z_bipush (nI 100) dX5_sleeps_33 rfl ?_
        refine Z_iload_n dX5_sleeps_35 rfl ?_
        refine Z_imulN dX5_sleeps_36 ?_
        refine Z_iload_n dX5_sleeps_37 rfl ?_
        refine Z_iaddN dX5_sleeps_38 ?_
        refine Z_zald (hM.2.1 12 _ rfl) (zix_nI (by omega) (by decide)) dX5_sleeps_39 ?_
        refine Z_re (wr (by first | exact hW | (simp only [wld_zw23, wld_zw33, wld_zw27, wld_zw34, wld_zw35, wld_zw36, wld_zw0, wld_zw1, wld_zu23]; exact hW)) rfl) ?_
        rw [show wld D 12 (100 * k7 + k14) = D 12 (100 * k7 + k14) from rfl]
        refine Z_ifeq 47 dX5_sleeps_40 rfl (fun c40 => ?_) (fun c40 => ?_)
        · refine Z_aload_n dX5_sleeps_47 rfl ?_
          refine Z_call0 (d' := 10) (zCal_V gX5_463 nX5_endsNow (by decide) dX5_sleeps_48) pX5_endsNow hM.1 zkl4 [] rfl rfl (Nat.le_of_ble_eq_true rfl) (by omega) (c_endsNowR hR1 hw hsf hru (fun J1 s1 t1 p1a p1b p1c g1 x1 e1 => ?_) (fun J1 p1a g1 x1 e1 => ?_))
          · refine Z_istore_n (lv' := [_, _, _, _, _]) dX5_sleeps_51 rfl rfl (Nat.le_of_ble_eq_true rfl) ?_
            refine Z_aload_n dX5_sleeps_52 rfl ?_
            refine Z_iload_n dX5_sleeps_53 rfl ?_
            refine Z_iload_n dX5_sleeps_54 rfl ?_
            refine Z_call0 (d' := 11) (zCal_V gX5_466 nX5_endsOn (by decide) dX5_sleeps_55) pX5_endsOn hM.1 zkl4 [_, _] rfl rfl (Nat.le_of_ble_eq_true rfl) (by omega) (c_endsOnR g1 hw hsf hru (by omega) (by omega) c40 (fun J2 s2 t2 p2a p2b p2c g2 x2 => ?_) (fun J2 p2a g2 x2 => ?_))
            · refine Z_istore (lv' := [_, _, _, _, _]) dX5_sleeps_58 rfl rfl (Nat.le_of_ble_eq_true rfl) ?_
              refine Z_iload dX5_sleeps_60 rfl ?_
              refine Z_ifltN 69 dX5_sleeps_62 rfl (by omega) ?_
              refine Z_iload_n dX5_sleeps_65 rfl ?_
              refine Z_ifgeN 75 dX5_sleeps_66 rfl (by omega) ?_
              refine Z_iload dX5_sleeps_75 rfl ?_
              refine Z_iload_n dX5_sleeps_77 rfl ?_
              refine Z_isub dX5_sleeps_78 ?_
              refine Z_ireturn dX5_sleeps_79 rfl rfl ?_
              exact zO_k (by rw [fSleeps, if_pos (by rw [r7, r14, decide_eq_false (fun e => c24 ((nI_z (by omega)).mp ((show D 0 16 = nI n from hw.n16).symm.trans e)))]; rfl), v7, v14]; rw [if_pos c40]; rw [p1a, p2a]; simp [dif, p1b, p2b]) k g2 ((f1.tr x1).tr x2)
            · refine Z_istore (lv' := [_, _, _, _, _]) dX5_sleeps_58 rfl rfl (Nat.le_of_ble_eq_true rfl) ?_
              refine Z_iload dX5_sleeps_60 rfl ?_
              refine Z_iflt 69 dX5_sleeps_62 rfl (fun c62 => ?_) (fun c62 => ?_)
              · refine Z_sipush (-9999) dX5_sleeps_69 rfl ?_
                refine Z_goto 79 dX5_sleeps_72 rfl ?_
                refine Z_ireturn dX5_sleeps_79 rfl rfl ?_
                exact zO_k (by rw [fSleeps, if_pos (by rw [r7, r14, decide_eq_false (fun e => c24 ((nI_z (by omega)).mp ((show D 0 16 = nI n from hw.n16).symm.trans e)))]; rfl), v7, v14]; rw [if_pos c40]; rw [p1a, p2a]; rfl) k g2 ((f1.tr x1).tr x2)
              · exact absurd (by decide) c62
          · refine Z_istore_n (lv' := [_, _, _, _, _]) dX5_sleeps_51 rfl rfl (Nat.le_of_ble_eq_true rfl) ?_
            refine Z_aload_n dX5_sleeps_52 rfl ?_
            refine Z_iload_n dX5_sleeps_53 rfl ?_
            refine Z_iload_n dX5_sleeps_54 rfl ?_
            refine Z_call0 (d' := 11) (zCal_V gX5_466 nX5_endsOn (by decide) dX5_sleeps_55) pX5_endsOn hM.1 zkl4 [_, _] rfl rfl (Nat.le_of_ble_eq_true rfl) (by omega) (c_endsOnR g1 hw hsf hru (by omega) (by omega) c40 (fun J2 s2 t2 p2a p2b p2c g2 x2 => ?_) (fun J2 p2a g2 x2 => ?_))
            · refine Z_istore (lv' := [_, _, _, _, _]) dX5_sleeps_58 rfl rfl (Nat.le_of_ble_eq_true rfl) ?_
              refine Z_iload dX5_sleeps_60 rfl ?_
              refine Z_ifltN 69 dX5_sleeps_62 rfl (by omega) ?_
              refine Z_iload_n dX5_sleeps_65 rfl ?_
              refine Z_ifge 75 dX5_sleeps_66 rfl (fun c66 => ?_) (fun c66 => ?_)
              · exact absurd c66 (by decide)
              · refine Z_sipush (-9999) dX5_sleeps_69 rfl ?_
                refine Z_goto 79 dX5_sleeps_72 rfl ?_
                refine Z_ireturn dX5_sleeps_79 rfl rfl ?_
                exact zO_k (by rw [fSleeps, if_pos (by rw [r7, r14, decide_eq_false (fun e => c24 ((nI_z (by omega)).mp ((show D 0 16 = nI n from hw.n16).symm.trans e)))]; rfl), v7, v14]; rw [if_pos c40]; rw [p1a, p2a]; rfl) k g2 ((f1.tr x1).tr x2)
            · refine Z_istore (lv' := [_, _, _, _, _]) dX5_sleeps_58 rfl rfl (Nat.le_of_ble_eq_true rfl) ?_
              refine Z_iload dX5_sleeps_60 rfl ?_
              refine Z_iflt 69 dX5_sleeps_62 rfl (fun c62 => ?_) (fun c62 => ?_)
              · refine Z_sipush (-9999) dX5_sleeps_69 rfl ?_
                refine Z_goto 79 dX5_sleeps_72 rfl ?_
                refine Z_ireturn dX5_sleeps_79 rfl rfl ?_
                exact zO_k (by rw [fSleeps, if_pos (by rw [r7, r14, decide_eq_false (fun e => c24 ((nI_z (by omega)).mp ((show D 0 16 = nI n from hw.n16).symm.trans e)))]; rfl), v7, v14]; rw [if_pos c40]; rw [p1a, p2a]; rfl) k g2 ((f1.tr x1).tr x2)
              · exact absurd (by decide) c62
        · refine Z_sipush (-9998) dX5_sleeps_43 rfl ?_
          refine Z_ireturn dX5_sleeps_46 rfl rfl ?_
          exact zO_k (by rw [fSleeps, if_pos (by rw [r7, r14, decide_eq_false (fun e => c24 ((nI_z (by omega)).mp ((show D 0 16 = nI n from hw.n16).symm.trans e)))]; rfl), v7, v14]; rw [if_neg c40]) k hR1 f1
      · refine Z_iconst (-1) dX5_sleeps_27 rfl ?_
        refine Z_ireturn dX5_sleeps_28 rfl rfl ?_
        exact zO_k (by simp [fSleeps, show D 0 16 = nI n from hw.n16, nI_0, r7, v7, r14, v14, c24]) k hR1 f1
    · have r14 : rB q 0 99 = false := rB_f h14
      refine Z_ifeq 27 dX5_sleeps_17 rfl (fun _ => ?_) (fun h => absurd h (by decide))
      refine Z_iconst (-1) dX5_sleeps_27 rfl ?_
      refine Z_ireturn dX5_sleeps_28 rfl rfl ?_
      exact zO_k (by simp [fSleeps, show D 0 16 = nI n from hw.n16, nI_0, r7, v7, r14]) k hR1 f1
  · have r7 : oB D o = false := rB_f (fun q => h7 ⟨q.1, by have := q.2; rw [hno] at this; omega⟩)
    refine Z_ifeq 27 dX5_sleeps_10 rfl (fun _ => ?_) (fun h => absurd h (by decide))
    refine Z_iconst (-1) dX5_sleeps_27 rfl ?_
    refine Z_ireturn dX5_sleeps_28 rfl rfl ?_
    exact zO_k (by simp [fSleeps, show D 0 16 = nI n from hw.n16, nI_0, r7]) k hR1 f1
set_option maxHeartbeats 4000000 in
theorem o_march (hR : mR D R I L P S) (hw : wf (wld D) no n) (hsf : sf (wld D) no n (D 23)) {ro : Option (List Nat)} (hru : ruM (wld D) ro) {o q : Int32} (k : ∀ I2 L2, mR (fMarch D R ro no n o q).2.1 (fMarch D R ro no n o q).2.2 I2 L2 P S → frM I L I2 L2 → Q (.inl (some (.int (fMarch D R ro no n o q).1))) I2 L2 P S) : Zm G mX5_march 12 C Sl [.ref 0, .int o, .int q] I L P S Q := by
  have hM := hR.1
  refine Z_entry (lv := [_, _, _, _, _, _, _]) (Nat.le_of_ble_eq_true rfl) rfl ?_
  refine Z_aload_n dX5_march_0 rfl ?_
  refine Z_iconst (nI 0) dX5_march_1 rfl ?_
  refine Z_putI hM.1 fX5_3_4 dX5_march_2 rfl rfl rfl ?_
  refine Z_start hR (fun I1 hR1 f1 h00 => ?_)
  have hw8 := hw.n8
  have hw6 := hw.o6
  have hM := hR1.1
  have hD : mdat I1 = D := hR1.2.2.1
  have hW : wld I1 = wld D := wld_mdat hD
  have hs : I1 23 = D 23 := funext fun j => dr hD rfl
  have hno : noD D = no := by rw [noD, show D 0 3 = nI no from hw.o3, nI_clamp (by omega)]
  have hnn : nD D = n := by rw [nD, show D 0 16 = nI n from hw.n16, nI_clamp (by omega)]
  have hI3 : I1 0 3 = nI no := (wr hW rfl).trans hw.o3
  have hI16 : I1 0 16 = nI n := (wr hW rfl).trans hw.n16
  refine Z_aload_n dX5_march_5 rfl ?_
  refine Z_iload_n dX5_march_6 rfl ?_
  refine Z_call0 (d' := 1) (zCal_V gX5_77 nX5_isOffice (by decide) dX5_march_7) pX5_isOffice hM.1 zkl4 [_] rfl rfl (Nat.le_of_ble_eq_true rfl) (by omega) (c_X5_isOffice hM (by omega) hI3 (fun k7 hk7 e7 => ?_) (fun h7 => ?_))
  · subst e7
    have r7 : oB D (nI k7) = true := rB_t (by rw [z_ti (by omega)]; omega) (by rw [z_ti (by omega), hno]; omega)
    have v7 : (nI k7).toNatClampNeg = k7 := nI_clamp (by omega)
    refine Z_ifeq 27 dX5_march_10 rfl (fun h => absurd h (by decide)) (fun _ => ?_)
    refine Z_iload_n dX5_march_13 rfl ?_
    refine Z_callS0 (d' := 1) (zCal_S gX5_81 nX5_isHour (by decide) dX5_march_14) pX5_isHour [_] rfl rfl (Nat.le_of_ble_eq_true rfl) (by omega) (c_X5_isHour (fun h14a h14b => ?_) (fun h14 => ?_))
    · have r14 : rB q 0 2399 = true := rB_t h14a h14b
      obtain ⟨k14, hk14, e14⟩ := z_rng (n := 2399) h14a h14b (by omega)
      subst e14
      have v14 : (nI k14).toNatClampNeg = k14 := nI_clamp (by omega)
      refine Z_ifeq 27 dX5_march_17 rfl (fun h => absurd h (by decide)) (fun _ => ?_)
      refine Z_aload_n dX5_march_20 rfl ?_
      refine Z_getI hM.1 fX5_151_4 dX5_march_21 rfl ?_
      refine Z_re (y := nI (n)) hI16 ?_
      refine Z_ifneN 29 dX5_march_24 rfl (by omega) (fun c24 => ?_) (fun c24 => ?_)
      · refine Z_aload_n dX5_march_29 rfl ?_
        refine Z_call0 (d' := 10) (zCal_V gX5_463 nX5_endsNow (by decide) dX5_march_30) pX5_endsNow hM.1 zkl4 [] rfl rfl (Nat.le_of_ble_eq_true rfl) (by omega) (c_endsNowR hR1 hw hsf hru (fun J1 s1 t1 p1a p1b p1c g1 x1 e1 => ?_) (fun J1 p1a g1 x1 e1 => ?_))
        · refine Z_istore_n (lv' := [_, _, _, _, _, _, _]) dX5_march_33 rfl rfl (Nat.le_of_ble_eq_true rfl) ?_
          refine Z_aload_n dX5_march_34 rfl ?_
          refine Z_getR (r := 10) hM.1 fX5_50_4 dX5_march_35 rfl (hM.2.2 10 _ rfl rfl) ?_
          refine Z_iload_n dX5_march_38 rfl ?_
          refine Z_iald (hM.2.1 10 _ rfl) (zix_nI (by omega) (by decide)) dX5_march_39 ?_
          rw [dr g1.2.2.1 rfl]
          refine Z_istore (lv' := [_, _, _, _, _, _, _]) dX5_march_40 rfl rfl (Nat.le_of_ble_eq_true rfl) ?_
          refine Z_aload_n dX5_march_42 rfl ?_
          refine Z_getR (r := 11) hM.1 fX5_53_4 dX5_march_43 rfl (hM.2.2 11 _ rfl rfl) ?_
          refine Z_iload_n dX5_march_46 rfl ?_
          refine Z_iald (hM.2.1 11 _ rfl) (zix_nI (by omega) (by decide)) dX5_march_47 ?_
          rw [dr g1.2.2.1 rfl]
          refine Z_istore (lv' := [_, _, _, _, _, _, _]) dX5_march_48 rfl rfl (Nat.le_of_ble_eq_true rfl) ?_
          refine Z_aload_n dX5_march_50 rfl ?_
          refine Z_getR (r := 10) hM.1 fX5_50_4 dX5_march_51 rfl (hM.2.2 10 _ rfl rfl) ?_
          refine Z_iload_n dX5_march_54 rfl ?_
          refine Z_iload_n dX5_march_55 rfl ?_
          refine Z_iast (hM.2.1 10 _ rfl) (zix_nI (by omega) (by decide)) dX5_march_56 ?_
          refine Z_aload_n dX5_march_57 rfl ?_
          refine Z_getR (r := 11) hM.1 fX5_53_4 dX5_march_58 rfl (hM.2.2 11 _ rfl rfl) ?_
          refine Z_iload_n dX5_march_61 rfl ?_
          refine Z_iconst (nI 1) dX5_march_62 rfl ?_
          refine Z_iast (hM.2.1 11 _ rfl) (zix_nI (by omega) (by decide)) dX5_march_63 ?_
          refine Z_aload_n dX5_march_64 rfl ?_
          refine Z_call0 (d' := 10) (zCal_V gX5_463 nX5_endsNow (by decide) dX5_march_65) pX5_endsNow hM.1 zkl4 [] rfl rfl (Nat.le_of_ble_eq_true rfl) (by omega) (c_endsNowR (D := mrcD D k7 (nI k14)) ((g1.zw (a := 10) (k := k7) (v := nI k14) rfl).zw (a := 11) (k := k7) (v := nI 1) rfl) (wf_eq hw (wld_row (mrc_n (by decide) (by decide))) (wld_row (mrc_n (by decide) (by decide))) (wld_row (mrc_n (by decide) (by decide)))) (by rw [mrc_n (by decide) (by decide)]; exact sf_eq hsf (wld_row (mrc_n (by decide) (by decide))) (wld_row (mrc_n (by decide) (by decide)))) (ru_eq hru (wld_row (mrc_n (by decide) (by decide))) (wld_row (mrc_n (by decide) (by decide)))) (fun J2 s2 t2 p2a p2b p2c g2 x2 y2 => ?_) (fun J2 p2a g2 x2 y2 => ?_))
          · have e9 : zw (zw (mrcD D k7 (nI k14)) 10 k7 (D 10 k7)) 11 k7 (D 11 k7) = D := by
              rw [mrcD]
              funext a b
              unfold zw zu
              by_cases ea : a = 11
              · subst ea; by_cases eb : b = k7
                · subst eb; simp
                · simp [eb]
              · by_cases ea2 : a = 10
                · subst ea2; by_cases eb : b = k7
                  · subst eb; simp
                  · simp [eb]
                · simp [ea, ea2]
            have g3 := (g2.zw (a := 10) (k := k7) (v := D 10 k7) rfl).zw (a := 11) (k := k7) (v := D 11 k7) rfl
            rw [e9] at g3
            rw [mrc_n (by decide) (by decide)] at p2a
            refine Z_istore (lv' := [_, _, _, _, _, _, _]) dX5_march_68 rfl rfl (Nat.le_of_ble_eq_true rfl) ?_
            refine Z_aload_n dX5_march_70 rfl ?_
            refine Z_getR (r := 10) hM.1 fX5_50_4 dX5_march_71 rfl (hM.2.2 10 _ rfl rfl) ?_
            refine Z_iload_n dX5_march_74 rfl ?_
            refine Z_iload dX5_march_75 rfl ?_
            refine Z_iast (hM.2.1 10 _ rfl) (zix_nI (by omega) (by decide)) dX5_march_77 ?_
            refine Z_aload_n dX5_march_78 rfl ?_
            refine Z_getR (r := 11) hM.1 fX5_53_4 dX5_march_79 rfl (hM.2.2 11 _ rfl rfl) ?_
            refine Z_iload_n dX5_march_82 rfl ?_
            refine Z_iload dX5_march_83 rfl ?_
            refine Z_iast (hM.2.1 11 _ rfl) (zix_nI (by omega) (by decide)) dX5_march_85 ?_
            refine Z_iload dX5_march_86 rfl ?_
            refine Z_ifltN 95 dX5_march_88 rfl (by omega) ?_
            refine Z_iload_n dX5_march_91 rfl ?_
            refine Z_ifgeN 101 dX5_march_92 rfl (by omega) ?_
            refine Z_iload dX5_march_101 rfl ?_
            refine Z_iload_n dX5_march_103 rfl ?_
            refine Z_isub dX5_march_104 ?_
            refine Z_ireturn dX5_march_105 rfl rfl ?_
            exact zO_k (by rw [fMarch, if_pos (by rw [r7, r14, decide_eq_false (fun e => c24 ((nI_z (by omega)).mp ((show D 0 16 = nI n from hw.n16).symm.trans e)))]; rfl), v7]; rw [p1a, p2a]; simp [dif, p1b, p2b]) k g3 ((((f1.tr x1).tr ((frM.rf.st (by decide)).st (by decide))).tr x2).tr ((frM.rf.st (by decide)).st (by decide)))
          · have e9 : zw (zw (mrcD D k7 (nI k14)) 10 k7 (D 10 k7)) 11 k7 (D 11 k7) = D := by
              rw [mrcD]
              funext a b
              unfold zw zu
              by_cases ea : a = 11
              · subst ea; by_cases eb : b = k7
                · subst eb; simp
                · simp [eb]
              · by_cases ea2 : a = 10
                · subst ea2; by_cases eb : b = k7
                  · subst eb; simp
                  · simp [eb]
                · simp [ea, ea2]
            have g3 := (g2.zw (a := 10) (k := k7) (v := D 10 k7) rfl).zw (a := 11) (k := k7) (v := D 11 k7) rfl
            rw [e9] at g3
            rw [mrc_n (by decide) (by decide)] at p2a
            refine Z_istore (lv' := [_, _, _, _, _, _, _]) dX5_march_68 rfl rfl (Nat.le_of_ble_eq_true rfl) ?_
            refine Z_aload_n dX5_march_70 rfl ?_
            refine Z_getR (r := 10) hM.1 fX5_50_4 dX5_march_71 rfl (hM.2.2 10 _ rfl rfl) ?_
            refine Z_iload_n dX5_march_74 rfl ?_
            refine Z_iload dX5_march_75 rfl ?_
            refine Z_iast (hM.2.1 10 _ rfl) (zix_nI (by omega) (by decide)) dX5_march_77 ?_
            refine Z_aload_n dX5_march_78 rfl ?_
            refine Z_getR (r := 11) hM.1 fX5_53_4 dX5_march_79 rfl (hM.2.2 11 _ rfl rfl) ?_
            refine Z_iload_n dX5_march_82 rfl ?_
            refine Z_iload dX5_march_83 rfl ?_
            refine Z_iast (hM.2.1 11 _ rfl) (zix_nI (by omega) (by decide)) dX5_march_85 ?_
            refine Z_iload dX5_march_86 rfl ?_
            refine Z_iflt 95 dX5_march_88 rfl (fun c88 => ?_) (fun c88 => ?_)
            · refine Z_sipush (-9999) dX5_march_95 rfl ?_
              refine Z_goto 105 dX5_march_98 rfl ?_
              refine Z_ireturn dX5_march_105 rfl rfl ?_
              exact zO_k (by rw [fMarch, if_pos (by rw [r7, r14, decide_eq_false (fun e => c24 ((nI_z (by omega)).mp ((show D 0 16 = nI n from hw.n16).symm.trans e)))]; rfl), v7]; rw [p1a, p2a]; rfl) k g3 ((((f1.tr x1).tr ((frM.rf.st (by decide)).st (by decide))).tr x2).tr ((frM.rf.st (by decide)).st (by decide)))
            · exact absurd (by decide) c88
        · refine Z_istore_n (lv' := [_, _, _, _, _, _, _]) dX5_march_33 rfl rfl (Nat.le_of_ble_eq_true rfl) ?_
          refine Z_aload_n dX5_march_34 rfl ?_
          refine Z_getR (r := 10) hM.1 fX5_50_4 dX5_march_35 rfl (hM.2.2 10 _ rfl rfl) ?_
          refine Z_iload_n dX5_march_38 rfl ?_
          refine Z_iald (hM.2.1 10 _ rfl) (zix_nI (by omega) (by decide)) dX5_march_39 ?_
          rw [dr g1.2.2.1 rfl]
          refine Z_istore (lv' := [_, _, _, _, _, _, _]) dX5_march_40 rfl rfl (Nat.le_of_ble_eq_true rfl) ?_
          refine Z_aload_n dX5_march_42 rfl ?_
          refine Z_getR (r := 11) hM.1 fX5_53_4 dX5_march_43 rfl (hM.2.2 11 _ rfl rfl) ?_
          refine Z_iload_n dX5_march_46 rfl ?_
          refine Z_iald (hM.2.1 11 _ rfl) (zix_nI (by omega) (by decide)) dX5_march_47 ?_
          rw [dr g1.2.2.1 rfl]
          refine Z_istore (lv' := [_, _, _, _, _, _, _]) dX5_march_48 rfl rfl (Nat.le_of_ble_eq_true rfl) ?_
          refine Z_aload_n dX5_march_50 rfl ?_
          refine Z_getR (r := 10) hM.1 fX5_50_4 dX5_march_51 rfl (hM.2.2 10 _ rfl rfl) ?_
          refine Z_iload_n dX5_march_54 rfl ?_
          refine Z_iload_n dX5_march_55 rfl ?_
          refine Z_iast (hM.2.1 10 _ rfl) (zix_nI (by omega) (by decide)) dX5_march_56 ?_
          refine Z_aload_n dX5_march_57 rfl ?_
          refine Z_getR (r := 11) hM.1 fX5_53_4 dX5_march_58 rfl (hM.2.2 11 _ rfl rfl) ?_
          refine Z_iload_n dX5_march_61 rfl ?_
          refine Z_iconst (nI 1) dX5_march_62 rfl ?_
          refine Z_iast (hM.2.1 11 _ rfl) (zix_nI (by omega) (by decide)) dX5_march_63 ?_
          refine Z_aload_n dX5_march_64 rfl ?_
          refine Z_call0 (d' := 10) (zCal_V gX5_463 nX5_endsNow (by decide) dX5_march_65) pX5_endsNow hM.1 zkl4 [] rfl rfl (Nat.le_of_ble_eq_true rfl) (by omega) (c_endsNowR (D := mrcD D k7 (nI k14)) ((g1.zw (a := 10) (k := k7) (v := nI k14) rfl).zw (a := 11) (k := k7) (v := nI 1) rfl) (wf_eq hw (wld_row (mrc_n (by decide) (by decide))) (wld_row (mrc_n (by decide) (by decide))) (wld_row (mrc_n (by decide) (by decide)))) (by rw [mrc_n (by decide) (by decide)]; exact sf_eq hsf (wld_row (mrc_n (by decide) (by decide))) (wld_row (mrc_n (by decide) (by decide)))) (ru_eq hru (wld_row (mrc_n (by decide) (by decide))) (wld_row (mrc_n (by decide) (by decide)))) (fun J2 s2 t2 p2a p2b p2c g2 x2 y2 => ?_) (fun J2 p2a g2 x2 y2 => ?_))
          · have e9 : zw (zw (mrcD D k7 (nI k14)) 10 k7 (D 10 k7)) 11 k7 (D 11 k7) = D := by
              rw [mrcD]
              funext a b
              unfold zw zu
              by_cases ea : a = 11
              · subst ea; by_cases eb : b = k7
                · subst eb; simp
                · simp [eb]
              · by_cases ea2 : a = 10
                · subst ea2; by_cases eb : b = k7
                  · subst eb; simp
                  · simp [eb]
                · simp [ea, ea2]
            have g3 := (g2.zw (a := 10) (k := k7) (v := D 10 k7) rfl).zw (a := 11) (k := k7) (v := D 11 k7) rfl
            rw [e9] at g3
            rw [mrc_n (by decide) (by decide)] at p2a
            refine Z_istore (lv' := [_, _, _, _, _, _, _]) dX5_march_68 rfl rfl (Nat.le_of_ble_eq_true rfl) ?_
            refine Z_aload_n dX5_march_70 rfl ?_
            refine Z_getR (r := 10) hM.1 fX5_50_4 dX5_march_71 rfl (hM.2.2 10 _ rfl rfl) ?_
            refine Z_iload_n dX5_march_74 rfl ?_
            refine Z_iload dX5_march_75 rfl ?_
            refine Z_iast (hM.2.1 10 _ rfl) (zix_nI (by omega) (by decide)) dX5_march_77 ?_
            refine Z_aload_n dX5_march_78 rfl ?_
            refine Z_getR (r := 11) hM.1 fX5_53_4 dX5_march_79 rfl (hM.2.2 11 _ rfl rfl) ?_
            refine Z_iload_n dX5_march_82 rfl ?_
            refine Z_iload dX5_march_83 rfl ?_
            refine Z_iast (hM.2.1 11 _ rfl) (zix_nI (by omega) (by decide)) dX5_march_85 ?_
            refine Z_iload dX5_march_86 rfl ?_
            refine Z_ifltN 95 dX5_march_88 rfl (by omega) ?_
            refine Z_iload_n dX5_march_91 rfl ?_
            refine Z_ifge 101 dX5_march_92 rfl (fun c92 => ?_) (fun c92 => ?_)
            · exact absurd c92 (by decide)
            · refine Z_sipush (-9999) dX5_march_95 rfl ?_
              refine Z_goto 105 dX5_march_98 rfl ?_
              refine Z_ireturn dX5_march_105 rfl rfl ?_
              exact zO_k (by rw [fMarch, if_pos (by rw [r7, r14, decide_eq_false (fun e => c24 ((nI_z (by omega)).mp ((show D 0 16 = nI n from hw.n16).symm.trans e)))]; rfl), v7]; rw [p1a, p2a]; rfl) k g3 ((((f1.tr x1).tr ((frM.rf.st (by decide)).st (by decide))).tr x2).tr ((frM.rf.st (by decide)).st (by decide)))
          · have e9 : zw (zw (mrcD D k7 (nI k14)) 10 k7 (D 10 k7)) 11 k7 (D 11 k7) = D := by
              rw [mrcD]
              funext a b
              unfold zw zu
              by_cases ea : a = 11
              · subst ea; by_cases eb : b = k7
                · subst eb; simp
                · simp [eb]
              · by_cases ea2 : a = 10
                · subst ea2; by_cases eb : b = k7
                  · subst eb; simp
                  · simp [eb]
                · simp [ea, ea2]
            have g3 := (g2.zw (a := 10) (k := k7) (v := D 10 k7) rfl).zw (a := 11) (k := k7) (v := D 11 k7) rfl
            rw [e9] at g3
            rw [mrc_n (by decide) (by decide)] at p2a
            refine Z_istore (lv' := [_, _, _, _, _, _, _]) dX5_march_68 rfl rfl (Nat.le_of_ble_eq_true rfl) ?_
            refine Z_aload_n dX5_march_70 rfl ?_
            refine Z_getR (r := 10) hM.1 fX5_50_4 dX5_march_71 rfl (hM.2.2 10 _ rfl rfl) ?_
            refine Z_iload_n dX5_march_74 rfl ?_
            refine Z_iload dX5_march_75 rfl ?_
            refine Z_iast (hM.2.1 10 _ rfl) (zix_nI (by omega) (by decide)) dX5_march_77 ?_
            refine Z_aload_n dX5_march_78 rfl ?_
            refine Z_getR (r := 11) hM.1 fX5_53_4 dX5_march_79 rfl (hM.2.2 11 _ rfl rfl) ?_
            refine Z_iload_n dX5_march_82 rfl ?_
            refine Z_iload dX5_march_83 rfl ?_
            refine Z_iast (hM.2.1 11 _ rfl) (zix_nI (by omega) (by decide)) dX5_march_85 ?_
            refine Z_iload dX5_march_86 rfl ?_
            refine Z_iflt 95 dX5_march_88 rfl (fun c88 => ?_) (fun c88 => ?_)
            · refine Z_sipush (-9999) dX5_march_95 rfl ?_
              refine Z_goto 105 dX5_march_98 rfl ?_
              refine Z_ireturn dX5_march_105 rfl rfl ?_
              exact zO_k (by rw [fMarch, if_pos (by rw [r7, r14, decide_eq_false (fun e => c24 ((nI_z (by omega)).mp ((show D 0 16 = nI n from hw.n16).symm.trans e)))]; rfl), v7]; rw [p1a, p2a]; rfl) k g3 ((((f1.tr x1).tr ((frM.rf.st (by decide)).st (by decide))).tr x2).tr ((frM.rf.st (by decide)).st (by decide)))
            · exact absurd (by decide) c88
      · refine Z_iconst (-1) dX5_march_27 rfl ?_
        refine Z_ireturn dX5_march_28 rfl rfl ?_
        exact zO_k (by simp [fMarch, show D 0 16 = nI n from hw.n16, nI_0, r7, v7, r14, v14, c24]) k hR1 f1
    · have r14 : rB q 0 2399 = false := rB_f h14
      refine Z_ifeq 27 dX5_march_17 rfl (fun _ => ?_) (fun h => absurd h (by decide))
      refine Z_iconst (-1) dX5_march_27 rfl ?_
      refine Z_ireturn dX5_march_28 rfl rfl ?_
      exact zO_k (by simp [fMarch, show D 0 16 = nI n from hw.n16, nI_0, r7, v7, r14]) k hR1 f1
  · have r7 : oB D o = false := rB_f (fun q => h7 ⟨q.1, by have := q.2; rw [hno] at this; omega⟩)
    refine Z_ifeq 27 dX5_march_10 rfl (fun _ => ?_) (fun h => absurd h (by decide))
    refine Z_iconst (-1) dX5_march_27 rfl ?_
    refine Z_ireturn dX5_march_28 rfl rfl ?_
    exact zO_k (by simp [fMarch, show D 0 16 = nI n from hw.n16, nI_0, r7]) k hR1 f1
def bfV (f : Nat) (m : Option (Nat × Nat)) : Int32 := match m with
  | none => -2
  | some b => nI (f + b.1)
set_option maxHeartbeats 4000000 in
theorem o_worst (hR : mR D R I L P S) (hw : wf (wld D) no n) (hsf : sf (wld D) no n (D 23)) {ro : Option (List Nat)} (hru : ruM (wld D) ro) {o f t : Int32} (k : ∀ I2 L2, mR (fWorst D R ro no n o f t).2.1 (fWorst D R ro no n o f t).2.2 I2 L2 P S → frM I L I2 L2 → Q (.inl (some (.int (fWorst D R ro no n o f t).1))) I2 L2 P S) : Zm G mX5_worst 12 C Sl [.ref 0, .int o, .int f, .int t] I L P S Q := by
  have hM := hR.1
  refine Z_entry (lv := [_, _, _, _, _, _, _, _]) (Nat.le_of_ble_eq_true rfl) rfl ?_
  refine Z_aload_n dX5_worst_0 rfl ?_
  refine Z_iconst (nI 0) dX5_worst_1 rfl ?_
  refine Z_putI hM.1 fX5_3_4 dX5_worst_2 rfl rfl rfl ?_
  refine Z_start hR (fun I1 hR1 f1 h00 => ?_)
  have hw8 := hw.n8
  have hw6 := hw.o6
  have hM := hR1.1
  have hD : mdat I1 = D := hR1.2.2.1
  have hW : wld I1 = wld D := wld_mdat hD
  have hs : I1 23 = D 23 := funext fun j => dr hD rfl
  have hno : noD D = no := by rw [noD, show D 0 3 = nI no from hw.o3, nI_clamp (by omega)]
  have hnn : nD D = n := by rw [nD, show D 0 16 = nI n from hw.n16, nI_clamp (by omega)]
  have hI3 : I1 0 3 = nI no := (wr hW rfl).trans hw.o3
  have hI16 : I1 0 16 = nI n := (wr hW rfl).trans hw.n16
  refine Z_aload_n dX5_worst_5 rfl ?_
  refine Z_iload_n dX5_worst_6 rfl ?_
  refine Z_call0 (d' := 1) (zCal_V gX5_77 nX5_isOffice (by decide) dX5_worst_7) pX5_isOffice hM.1 zkl4 [_] rfl rfl (Nat.le_of_ble_eq_true rfl) (by omega) (c_X5_isOffice hM (by omega) hI3 (fun k7 hk7 e7 => ?_) (fun h7 => ?_))
  · subst e7
    have r7 : oB D (nI k7) = true := rB_t (by rw [z_ti (by omega)]; omega) (by rw [z_ti (by omega), hno]; omega)
    have v7 : (nI k7).toNatClampNeg = k7 := nI_clamp (by omega)
    refine Z_ifeq 40 dX5_worst_10 rfl (fun h => absurd h (by decide)) (fun _ => ?_)
    refine Z_iload_n dX5_worst_13 rfl ?_
    refine Z_callS0 (d' := 1) (zCal_S gX5_86 nX5_isDay (by decide) dX5_worst_14) pX5_isDay [_] rfl rfl (Nat.le_of_ble_eq_true rfl) (by omega) (c_X5_isDay (fun h14a h14b => ?_) (fun h14 => ?_))
    · have r14 : rB f 0 99 = true := rB_t h14a h14b
      obtain ⟨k14, hk14, e14⟩ := z_rng (n := 99) h14a h14b (by omega)
      subst e14
      have v14 : (nI k14).toNatClampNeg = k14 := nI_clamp (by omega)
      refine Z_ifeq 40 dX5_worst_17 rfl (fun h => absurd h (by decide)) (fun _ => ?_)
      refine Z_iload_n dX5_worst_20 rfl ?_
      refine Z_i2l dX5_worst_21 ?_
      refine Z_iload_n dX5_worst_22 rfl ?_
      refine Z_i2l dX5_worst_23 ?_
      refine Z_ldc2 q1244 dX5_worst_24 ?_
      refine Z_callS0 (d' := 0) (zCal_S gX5_25 nX5_in (by decide) dX5_worst_27) pX5_in [_, _, _] rfl rfl (Nat.le_of_ble_eq_true rfl) (by omega) (c_X5_in (fun h27a h27b => ?_) (fun h27 => ?_))
      · rw [z_i64] at h27a h27b
        rw [z_i64, z_ti (by omega)] at h27a
        have r27 : rB t (nI k14).toInt 99 = true := rB_t (by rw [z_ti (by omega)]; exact h27a) h27b
        obtain ⟨q, hq, e27⟩ := z_rng (n := 99) (by omega) h27b (by omega)
        subst e27
        rw [z_ti (by omega)] at h27a
        have v27 : (nI q).toNatClampNeg = q := nI_clamp (by omega)
        refine Z_ifeq 40 dX5_worst_30 rfl (fun h => absurd h (by decide)) (fun _ => ?_)
        refine Z_aload_n dX5_worst_33 rfl ?_
        refine Z_getI hM.1 fX5_151_4 dX5_worst_34 rfl ?_
        refine Z_re ((wr (by first | exact hW | (simp only [wld_zw23, wld_zw33, wld_zw27, wld_zw34, wld_zw35, wld_zw36, wld_zw0, wld_zw1, wld_zu23]; exact hW)) rfl).trans hw.n16) ?_
        refine Z_ifneN 42 dX5_worst_37 rfl (by omega) (fun c37 => ?_) (fun c37 => ?_)
        · refine Z_bipush (-2) dX5_worst_42 rfl ?_
          refine Z_istore (lv' := [_, _, _, _, _, _, _, _]) dX5_worst_44 rfl rfl (Nat.le_of_ble_eq_true rfl) ?_
          refine Z_iconst (nI 0) dX5_worst_46 rfl ?_
          refine Z_istore (lv' := [_, _, _, _, _, _, _, _]) dX5_worst_47 rfl rfl (Nat.le_of_ble_eq_true rfl) ?_
          refine Z_iload_n dX5_worst_49 rfl ?_
          refine Z_istore (lv' := [_, _, _, _, _, _, _, _]) dX5_worst_50 rfl rfl (Nat.le_of_ble_eq_true rfl) ?_
          have lp52 : ∀ i, i ≤ q + 1 - k14 → ∀ I2, mR D R I2 L P S → frM I1 L I2 L → Zj G mX5_worst 12 C Sl 52 [.ref 0, .int (nI k7), .int (nI k14), .int (nI q), .int (bfV k14 (maxF (wstO D ro no n k7 k14) i)), .int (snV (maxF (wstO D ro no n k7 k14) i)), .int (nI (k14 + i)), .retAddr 0] [] I2 L P S Q := by
            refine zloop (q + 1 - k14) (fun i => ∀ I2, mR D R I2 L P S → frM I1 L I2 L → Zj G mX5_worst 12 C Sl 52 [.ref 0, .int (nI k7), .int (nI k14), .int (nI q), .int (bfV k14 (maxF (wstO D ro no n k7 k14) i)), .int (snV (maxF (wstO D ro no n k7 k14) i)), .int (nI (k14 + i)), .retAddr 0] [] I2 L P S Q) (fun i hi ih => ?_)
            intro I2 g1 g2
            show Zj _ _ _ _ _ _ _ _ _ _ _ _ _
            have hW : wld I2 = wld D := wld_mdat g1.2.2.1
            refine Z_iload dX5_worst_52 rfl ?_
            refine Z_iload_n dX5_worst_54 rfl ?_
            refine Z_icmpgtN 117 dX5_worst_55 rfl (by omega) (by omega) (fun c55 => ?_) (fun c55 => ?_)
            · have ei : i = q + 1 - k14 := by omega
              obtain ⟨m0, hm⟩ : ∃ m0, maxF (wstO D ro no n k7 k14) i = m0 := ⟨_, rfl⟩
              rw [hm]
              rcases m0 with _ | b
              · dsimp only [bfV, snV]
                refine Z_iload dX5_worst_117 rfl ?_
                refine Z_iflt 134 dX5_worst_119 rfl (fun c119 => ?_) (fun c119 => ?_)
                · refine Z_iload dX5_worst_134 rfl ?_
                  refine Z_ireturn dX5_worst_136 rfl rfl ?_
                  exact zO_k (D2 := D) (R2 := R) (by rw [fWorst, if_pos (by rw [r7, r14, r27, decide_eq_false (fun e => c37 ((nI_z (by omega)).mp ((show D 0 16 = nI n from hw.n16).symm.trans e)))]; rfl), v7, v14, v27, show q + 1 - k14 = i by omega, hm]) k g1 (f1.tr g2)
                · exact absurd (by decide) c119
              · dsimp only [bfV, snV]
                have hb1 := maxF_mem _ _ hm
                have hb2 := wst_b hw hsf hb1.2
                refine Z_iload dX5_worst_117 rfl ?_
                refine Z_ifltN 134 dX5_worst_119 rfl (by omega) ?_
                refine Z_aload_n dX5_worst_122 rfl ?_
                refine Z_iconst (nI 0) dX5_worst_123 rfl ?_
                refine Z_putI hM.1 fX5_11_4 dX5_worst_124 rfl rfl rfl ?_
                refine Z_aload_n dX5_worst_127 rfl ?_
                refine Z_iload dX5_worst_128 rfl ?_
                refine Z_i2l dX5_worst_130 ?_
                refine Z_call0 (d' := 0) (zCal_V gX5_18 nX5_enters (by decide) dX5_worst_131) pX5_enters hM.1 zkl4 [_] rfl rfl (Nat.le_of_ble_eq_true rfl) (by omega) (c_tell (mR_t0 g1) (by simp) (fun J1 M1 t1 q1 => ?_))
                refine Z_iload dX5_worst_134 rfl ?_
                refine Z_ireturn dX5_worst_136 rfl rfl ?_
                exact zO_k (D2 := D) (R2 := [(nI b.2).toInt64]) (by rw [fWorst, if_pos (by rw [r7, r14, r27, decide_eq_false (fun e => c37 ((nI_z (by omega)).mp ((show D 0 16 = nI n from hw.n16).symm.trans e)))]; rfl), v7, v14, v27, show q + 1 - k14 = i by omega, hm]) k t1 (f1.tr ((g2.tr (frM.rf.st (by decide))).tr q1))
            · refine Z_aload_n dX5_worst_58 rfl ?_
              refine Z_getR (r := 12) hM.1 fX5_56_4 dX5_worst_59 rfl (hM.2.2 12 _ rfl rfl) ?_
              refine Z_bipush (nI 100) dX5_worst_62 rfl ?_
              refine Z_iload_n dX5_worst_64 rfl ?_
              refine Z_imulN dX5_worst_65 ?_
              refine Z_iload dX5_worst_66 rfl ?_
              refine Z_iaddN dX5_worst_68 ?_
              refine Z_zald (hM.2.1 12 _ rfl) (zix_nI (by omega) (by decide)) dX5_worst_69 ?_
              refine Z_re (wr (by first | exact hW | (simp only [wld_zw23, wld_zw33, wld_zw27, wld_zw34, wld_zw35, wld_zw36, wld_zw0, wld_zw1, wld_zu23]; exact hW)) rfl) ?_
              rw [show wld D 12 (100 * k7 + (k14 + i)) = D 12 (100 * k7 + (k14 + i)) from rfl]
              refine Z_ifeq 77 dX5_worst_70 rfl (fun c70 => ?_) (fun c70 => ?_)
              · refine Z_aload_n dX5_worst_77 rfl ?_
                refine Z_iload_n dX5_worst_78 rfl ?_
                refine Z_iload dX5_worst_79 rfl ?_
                refine Z_call0 (d' := 11) (zCal_V gX5_466 nX5_endsOn (by decide) dX5_worst_81) pX5_endsOn hM.1 zkl4 [_, _] rfl rfl (Nat.le_of_ble_eq_true rfl) (by omega) (c_endsOnR g1 hw hsf hru (by omega) (by omega) c70 (fun J2 s1 t1 p1a p1b p1c g3 x3 => ?_) (fun J2 p1a g3 x3 => ?_))
                · refine Z_istore (lv' := [_, _, _, _, _, _, _, _]) dX5_worst_84 rfl rfl (Nat.le_of_ble_eq_true rfl) ?_
                  refine Z_iload dX5_worst_86 rfl ?_
                  refine Z_ifltN 111 dX5_worst_88 rfl (by omega) ?_
                  obtain ⟨m0, hm⟩ : ∃ m0, maxF (wstO D ro no n k7 k14) i = m0 := ⟨_, rfl⟩
                  rw [hm]
                  rcases m0 with _ | b
                  · dsimp only [bfV, snV]
                    refine Z_iload dX5_worst_91 rfl ?_
                    refine Z_iflt 103 dX5_worst_93 rfl (fun c93 => ?_) (fun c93 => ?_)
                    · refine Z_iload dX5_worst_103 rfl ?_
                      refine Z_istore (lv' := [_, _, _, _, _, _, _, _]) dX5_worst_105 rfl rfl (Nat.le_of_ble_eq_true rfl) ?_
                      refine Z_iload dX5_worst_107 rfl ?_
                      refine Z_istore (lv' := [_, _, _, _, _, _, _, _]) dX5_worst_109 rfl rfl (Nat.le_of_ble_eq_true rfl) ?_
                      refine Z_iincN (a := _) (k := 1) (lv' := [_, _, _, _, _, _, _, _]) dX5_worst_111 rfl rfl rfl rfl ?_
                      refine Z_goto 52 dX5_worst_114 rfl ?_
                      have ev : (wstO D ro no n k7 k14) i = some t1 := by show wstO _ _ _ _ _ _ _ = _; rw [wstO, if_pos c70, p1a]; show some (s1 0).toNatClampNeg = _; rw [p1b, nI_clamp (by omega)]
                      have gg := g3
                      have ff := g2.tr x3
                      have e : maxF (wstO D ro no n k7 k14) (i + 1) = some (i, t1) := by simp [maxF, ev, hm]
                      have ih2 := ih (by omega) _ gg ff
                      rw [e] at ih2
                      exact Z_fgt ih2 (by repeat first | exact zwk_n | refine zwk_f ?_ | refine zwk_c rfl ?_)
                    · exact absurd (by decide) c93
                  · dsimp only [bfV, snV]
                    have hb1 := maxF_mem _ _ hm
                    have hb2 := wst_b hw hsf hb1.2
                    refine Z_iload dX5_worst_91 rfl ?_
                    refine Z_ifltN 103 dX5_worst_93 rfl (by omega) ?_
                    refine Z_iload dX5_worst_96 rfl ?_
                    refine Z_iload dX5_worst_98 rfl ?_
                    refine Z_icmpleN 111 dX5_worst_100 rfl (by omega) (by omega) (fun c100 => ?_) (fun c100 => ?_)
                    · refine Z_iincN (a := _) (k := 1) (lv' := [_, _, _, _, _, _, _, _]) dX5_worst_111 rfl rfl rfl rfl ?_
                      refine Z_goto 52 dX5_worst_114 rfl ?_
                      have ev : (wstO D ro no n k7 k14) i = some t1 := by show wstO _ _ _ _ _ _ _ = _; rw [wstO, if_pos c70, p1a]; show some (s1 0).toNatClampNeg = _; rw [p1b, nI_clamp (by omega)]
                      have gg := g3
                      have ff := g2.tr x3
                      have e : maxF (wstO D ro no n k7 k14) (i + 1) = some b := by simp [maxF, ev, hm, c100]
                      have ih2 := ih (by omega) _ gg ff
                      rw [e] at ih2
                      exact Z_fgt ih2 (by repeat first | exact zwk_n | refine zwk_f ?_ | refine zwk_c rfl ?_)
                    · refine Z_iload dX5_worst_103 rfl ?_
                      refine Z_istore (lv' := [_, _, _, _, _, _, _, _]) dX5_worst_105 rfl rfl (Nat.le_of_ble_eq_true rfl) ?_
                      refine Z_iload dX5_worst_107 rfl ?_
                      refine Z_istore (lv' := [_, _, _, _, _, _, _, _]) dX5_worst_109 rfl rfl (Nat.le_of_ble_eq_true rfl) ?_
                      refine Z_iincN (a := _) (k := 1) (lv' := [_, _, _, _, _, _, _, _]) dX5_worst_111 rfl rfl rfl rfl ?_
                      refine Z_goto 52 dX5_worst_114 rfl ?_
                      have ev : (wstO D ro no n k7 k14) i = some t1 := by show wstO _ _ _ _ _ _ _ = _; rw [wstO, if_pos c70, p1a]; show some (s1 0).toNatClampNeg = _; rw [p1b, nI_clamp (by omega)]
                      have gg := g3
                      have ff := g2.tr x3
                      have e : maxF (wstO D ro no n k7 k14) (i + 1) = some (i, t1) := by simp [maxF, ev, hm, Nat.not_le.mpr c100]
                      have ih2 := ih (by omega) _ gg ff
                      rw [e] at ih2
                      exact Z_fgt ih2 (by repeat first | exact zwk_n | refine zwk_f ?_ | refine zwk_c rfl ?_)
                · refine Z_istore (lv' := [_, _, _, _, _, _, _, _]) dX5_worst_84 rfl rfl (Nat.le_of_ble_eq_true rfl) ?_
                  refine Z_iload dX5_worst_86 rfl ?_
                  refine Z_iflt 111 dX5_worst_88 rfl (fun c88 => ?_) (fun c88 => ?_)
                  · refine Z_iincN (a := _) (k := 1) (lv' := [_, _, _, _, _, _, _, _]) dX5_worst_111 rfl rfl rfl rfl ?_
                    refine Z_goto 52 dX5_worst_114 rfl ?_
                    have ev : (wstO D ro no n k7 k14) i = none := by show wstO _ _ _ _ _ _ _ = _; rw [wstO, if_pos c70, p1a]; rfl
                    have gg := g3
                    have ff := g2.tr x3
                    have e : maxF (wstO D ro no n k7 k14) (i + 1) = maxF (wstO D ro no n k7 k14) i := by simp [maxF, ev]
                    have ih2 := ih (by omega) _ gg ff
                    rw [e] at ih2
                    exact Z_fgt ih2 (by repeat first | exact zwk_n | refine zwk_f ?_ | refine zwk_c rfl ?_)
                  · exact absurd (by decide) c88
              · refine Z_iconst (-1) dX5_worst_73 rfl ?_
                refine Z_goto 84 dX5_worst_74 rfl ?_
                refine Z_istore (lv' := [_, _, _, _, _, _, _, _]) dX5_worst_84 rfl rfl (Nat.le_of_ble_eq_true rfl) ?_
                refine Z_iload dX5_worst_86 rfl ?_
                refine Z_iflt 111 dX5_worst_88 rfl (fun c88 => ?_) (fun c88 => ?_)
                · refine Z_iincN (a := _) (k := 1) (lv' := [_, _, _, _, _, _, _, _]) dX5_worst_111 rfl rfl rfl rfl ?_
                  refine Z_goto 52 dX5_worst_114 rfl ?_
                  have ev : (wstO D ro no n k7 k14) i = none := if_neg c70
                  have gg := g1
                  have ff := g2
                  have e : maxF (wstO D ro no n k7 k14) (i + 1) = maxF (wstO D ro no n k7 k14) i := by simp [maxF, ev]
                  have ih2 := ih (by omega) _ gg ff
                  rw [e] at ih2
                  exact Z_fgt ih2 (by repeat first | exact zwk_n | refine zwk_f ?_ | refine zwk_c rfl ?_)
                · exact absurd (by decide) c88
          exact lp52 0 (by omega) I1 hR1 frM.rf
        · refine Z_iconst (-1) dX5_worst_40 rfl ?_
          refine Z_ireturn dX5_worst_41 rfl rfl ?_
          exact zO_k (by simp [fWorst, show D 0 16 = nI n from hw.n16, nI_0, r7, v7, r14, v14, r27, c37]) k hR1 f1
      · rw [z_i64, z_i64] at h27
        have r27 : rB t (nI k14).toInt 99 = false := rB_f h27
        refine Z_ifeq 40 dX5_worst_30 rfl (fun _ => ?_) (fun h => absurd h (by decide))
        refine Z_iconst (-1) dX5_worst_40 rfl ?_
        refine Z_ireturn dX5_worst_41 rfl rfl ?_
        exact zO_k (by simp [fWorst, show D 0 16 = nI n from hw.n16, nI_0, r7, v7, r14, v14, r27]) k hR1 f1
    · have r14 : rB f 0 99 = false := rB_f h14
      refine Z_ifeq 40 dX5_worst_17 rfl (fun _ => ?_) (fun h => absurd h (by decide))
      refine Z_iconst (-1) dX5_worst_40 rfl ?_
      refine Z_ireturn dX5_worst_41 rfl rfl ?_
      exact zO_k (by simp [fWorst, show D 0 16 = nI n from hw.n16, nI_0, r7, v7, r14]) k hR1 f1
  · have r7 : oB D o = false := rB_f (fun q => h7 ⟨q.1, by have := q.2; rw [hno] at this; omega⟩)
    refine Z_ifeq 40 dX5_worst_10 rfl (fun _ => ?_) (fun h => absurd h (by decide))
    refine Z_iconst (-1) dX5_worst_40 rfl ?_
    refine Z_ireturn dX5_worst_41 rfl rfl ?_
    exact zO_k (by simp [fWorst, show D 0 16 = nI n from hw.n16, nI_0, r7]) k hR1 f1
end M19
