set_option maxRecDepth 100000
/-! THE MODEL, part 23: all in one house -/
section M23
variable {G : zG} {d C Sl : Nat} {I D W : zI} {R : List Int64} {L : zL} {P : zR} {S : zT} {Q : zQ} {no n np : Nat} {s : zS}
set_option maxHeartbeats 4000000 in
theorem c_X5_keepsBorn (hM : mOk P S) (k : ∀ I2, (∀ j, j < 8 → I2 48 j = I 20 j) → (∀ j, 8 ≤ j → I2 48 j = I 48 j) → fr (fun h _ => h == 48) I I2 → Q (.inl none) I2 L P S) : Zm G mX5_keepsBorn 0 C Sl [.ref 0] I L P S Q := by
  refine Z_entry (lv := [_, _]) (Nat.le_of_ble_eq_true rfl) rfl ?_
  refine Z_iconst (nI 0) dX5_keepsBorn_0 rfl ?_
  refine Z_istore_n (lv' := [_, _]) dX5_keepsBorn_1 rfl rfl (Nat.le_of_ble_eq_true rfl) ?_
  have lp2 : ∀ i, i ≤ 8 → ∀ I2, (∀ j, j < i → I2 48 j = I 20 j) → (∀ j, i ≤ j → I2 48 j = I 48 j) → fr (fun h _ => h == 48) I I2 → Zj G mX5_keepsBorn 0 C Sl 2 [.ref 0, .int (nI i)] [] I2 L P S Q := by
    refine zloop (8) (fun i => ∀ I2, (∀ j, j < i → I2 48 j = I 20 j) → (∀ j, i ≤ j → I2 48 j = I 48 j) → fr (fun h _ => h == 48) I I2 → Zj G mX5_keepsBorn 0 C Sl 2 [.ref 0, .int (nI i)] [] I2 L P S Q) (fun i hi ih => ?_)
    intro I2 g1 g2 g3
    show Zj _ _ _ _ _ _ _ _ _ _ _ _ _
    refine Z_iload_n dX5_keepsBorn_2 rfl ?_
    refine Z_bipush (nI 8) dX5_keepsBorn_3 rfl ?_
    refine Z_icmpgeN 26 dX5_keepsBorn_5 rfl (by omega) (by omega) (fun c5 => ?_) (fun c5 => ?_)
    · have ei : i = 8 := by omega
      subst ei
      refine Z_return dX5_keepsBorn_26 rfl ?_
      exact k I2 g1 g2 g3
    · refine Z_aload_n dX5_keepsBorn_8 rfl ?_
      refine Z_getR (r := 48) hM.1 fX5_411_4 dX5_keepsBorn_9 rfl (hM.2.2 48 _ rfl rfl) ?_
      refine Z_iload_n dX5_keepsBorn_12 rfl ?_
      refine Z_aload_n dX5_keepsBorn_13 rfl ?_
      refine Z_getR (r := 20) hM.1 fX5_143_4 dX5_keepsBorn_14 rfl (hM.2.2 20 _ rfl rfl) ?_
      refine Z_iload_n dX5_keepsBorn_17 rfl ?_
      refine Z_iald (hM.2.1 20 _ rfl) (zix_nI (by omega) (by decide)) dX5_keepsBorn_18 ?_
      refine Z_iast (hM.2.1 48 _ rfl) (zix_nI (by omega) (by decide)) dX5_keepsBorn_19 ?_
      refine Z_iincN (a := _) (k := 1) (lv' := [_, _]) dX5_keepsBorn_20 rfl rfl rfl rfl ?_
      refine Z_goto 2 dX5_keepsBorn_23 rfl ?_
      refine ih (by omega) _ (fun j hj => ?_) (fun j hj => ?_) (g3.st rfl)
      · rw [zw_a]
        by_cases e : j = i
        · subst e; rw [zu_s]; exact g3 20 j rfl
        · rw [zu_n _ _ _ e]; exact g1 j (by omega)
      · rw [zw_a, zu_n _ _ _ (by omega)]; exact g2 j (by omega)
  exact lp2 0 (by omega) I (fun j hj => absurd hj (by omega)) (fun _ _ => rfl) fr.rf
set_option maxHeartbeats 4000000 in
theorem c_X5_givesBorn (hM : mOk P S) (k : ∀ I2, (∀ j, j < 8 → I2 20 j = I 48 j) → (∀ j, 8 ≤ j → I2 20 j = I 20 j) → fr (fun h _ => h == 20) I I2 → Q (.inl none) I2 L P S) : Zm G mX5_givesBorn 0 C Sl [.ref 0] I L P S Q := by
  refine Z_entry (lv := [_, _]) (Nat.le_of_ble_eq_true rfl) rfl ?_
  refine Z_iconst (nI 0) dX5_givesBorn_0 rfl ?_
  refine Z_istore_n (lv' := [_, _]) dX5_givesBorn_1 rfl rfl (Nat.le_of_ble_eq_true rfl) ?_
  have lp2 : ∀ i, i ≤ 8 → ∀ I2, (∀ j, j < i → I2 20 j = I 48 j) → (∀ j, i ≤ j → I2 20 j = I 20 j) → fr (fun h _ => h == 20) I I2 → Zj G mX5_givesBorn 0 C Sl 2 [.ref 0, .int (nI i)] [] I2 L P S Q := by
    refine zloop (8) (fun i => ∀ I2, (∀ j, j < i → I2 20 j = I 48 j) → (∀ j, i ≤ j → I2 20 j = I 20 j) → fr (fun h _ => h == 20) I I2 → Zj G mX5_givesBorn 0 C Sl 2 [.ref 0, .int (nI i)] [] I2 L P S Q) (fun i hi ih => ?_)
    intro I2 g1 g2 g3
    show Zj _ _ _ _ _ _ _ _ _ _ _ _ _
    refine Z_iload_n dX5_givesBorn_2 rfl ?_
    refine Z_bipush (nI 8) dX5_givesBorn_3 rfl ?_
    refine Z_icmpgeN 26 dX5_givesBorn_5 rfl (by omega) (by omega) (fun c5 => ?_) (fun c5 => ?_)
    · have ei : i = 8 := by omega
      subst ei
      refine Z_return dX5_givesBorn_26 rfl ?_
      exact k I2 g1 g2 g3
    · refine Z_aload_n dX5_givesBorn_8 rfl ?_
      refine Z_getR (r := 20) hM.1 fX5_143_4 dX5_givesBorn_9 rfl (hM.2.2 20 _ rfl rfl) ?_
      refine Z_iload_n dX5_givesBorn_12 rfl ?_
      refine Z_aload_n dX5_givesBorn_13 rfl ?_
      refine Z_getR (r := 48) hM.1 fX5_411_4 dX5_givesBorn_14 rfl (hM.2.2 48 _ rfl rfl) ?_
      refine Z_iload_n dX5_givesBorn_17 rfl ?_
      refine Z_iald (hM.2.1 48 _ rfl) (zix_nI (by omega) (by decide)) dX5_givesBorn_18 ?_
      refine Z_iast (hM.2.1 20 _ rfl) (zix_nI (by omega) (by decide)) dX5_givesBorn_19 ?_
      refine Z_iincN (a := _) (k := 1) (lv' := [_, _]) dX5_givesBorn_20 rfl rfl rfl rfl ?_
      refine Z_goto 2 dX5_givesBorn_23 rfl ?_
      refine ih (by omega) _ (fun j hj => ?_) (fun j hj => ?_) (g3.st rfl)
      · rw [zw_a]
        by_cases e : j = i
        · subst e; rw [zu_s]; exact g3 48 j rfl
        · rw [zu_n _ _ _ e]; exact g1 j (by omega)
      · rw [zw_a, zu_n _ _ _ (by omega)]; exact g2 j (by omega)
  exact lp2 0 (by omega) I (fun j hj => absurd hj (by omega)) (fun _ _ => rfl) fr.rf
def tg1 (D : zI) (o i : Nat) : zI := zu D 20 (fun p => if p < i then nI o else D 20 p)
theorem tg1_s {o i : Nat} : zw (tg1 D o i) 20 i (nI o) = tg1 D o (i + 1) := by
  unfold tg1
  rw [show zw (zu D 20 fun p => if p < i then nI o else D 20 p) 20 i (nI o) = zu D 20 (zu (fun p => if p < i then nI o else D 20 p) i (nI o)) from by unfold zw; rw [zu_s, zu_zu]]
  congr 1
  funext j
  unfold zu
  by_cases e : j = i
  · subst e; simp
  · by_cases h : j < i
    · simp [e, h, show j < i + 1 by omega]
    · simp [e, h, show ¬ j < i + 1 by omega]
theorem tg1_0 {o : Nat} : tg1 D o 0 = D := by
  unfold tg1
  exact zu_id D 20
/-- all is put back -/
theorem tg_back {o : Nat} (h37 : D 0 37 = 0) (hn : n ≤ 8) : zu (zw (zw (zw (zw (tgD D no n o) 0 37 (nI 0)) 8 o (D 8 o)) 9 o (D 9 o)) 26 0 (D 26 0)) 20 (D 20) = D := by
  funext a
  by_cases e20 : a = 20
  · subst e20; rw [zu_s]
  rw [zu_n _ _ _ e20]
  by_cases e26 : a = 26
  · subst e26
    rw [zw_a, zw_n _ _ _ _ (by decide), zw_n _ _ _ _ (by decide), zw_n _ _ _ _ (by decide)]
    unfold tgD
    rw [zw_n _ _ _ _ (by decide), zw_n _ _ _ _ (by decide), zw_n _ _ _ _ (by decide), zw_a, zu_zu, zu_n _ _ _ (by decide), zu_id]
  rw [zw_n _ _ _ _ e26]
  by_cases e9 : a = 9
  · subst e9
    rw [zw_a, zw_n _ _ _ _ (by decide), zw_n _ _ _ _ (by decide)]
    unfold tgD
    rw [zw_n _ _ _ _ (by decide), zw_n _ _ _ _ (by decide), zw_a, zu_zu, zw_n _ _ _ _ (by decide), zu_n _ _ _ (by decide), zu_id]
  rw [zw_n _ _ _ _ e9]
  by_cases e8 : a = 8
  · subst e8
    rw [zw_a, zw_n _ _ _ _ (by decide)]
    unfold tgD
    rw [zw_n _ _ _ _ (by decide), zw_a, zu_zu, zw_n _ _ _ _ (by decide), zw_n _ _ _ _ (by decide), zu_n _ _ _ (by decide), zu_id]
  rw [zw_n _ _ _ _ e8]
  by_cases e0 : a = 0
  · subst e0
    rw [zw_a, tgD_0, zu_zu, show nI 0 = D 0 37 from h37.symm, zu_id]
  · rw [zw_n _ _ _ _ e0]
    exact tgD_n ⟨e0, e8, e9, e20, e26⟩
set_option maxHeartbeats 8000000 in
theorem o_together (hR : mR D R I L P S) (hw : wf (wld D) no n) (hi9 : ∀ j, 127 ≤ j → D 23 j = 0) (h37 : D 0 37 = 0) {o h : Int32} (k : ∀ I2 L2, mR (fTogether D R no n o h).2.1 (fTogether D R no n o h).2.2 I2 L2 P S → frM I L I2 L2 → Q (.inl (some (.int (fTogether D R no n o h).1))) I2 L2 P S) : Zm G mX5_together 12 C Sl [.ref 0, .int o, .int h] I L P S Q := by
  have hM := hR.1
  refine Z_entry (lv := [_, _, _, _, _, _, _, _]) (Nat.le_of_ble_eq_true rfl) rfl ?_
  refine Z_aload_n dX5_together_0 rfl ?_
  refine Z_iconst (nI 0) dX5_together_1 rfl ?_
  refine Z_putI hM.1 fX5_3_4 dX5_together_2 rfl rfl rfl ?_
  refine Z_start hR (fun I1 hR1 f1 h00 => ?_)
  have hw8 := hw.n8
  have hw6 := hw.o6
  have hM := hR1.1
  have hD : mdat I1 = D := hR1.2.2.1
  have hW : wld I1 = wld D := wld_mdat hD
  have hs : I1 23 = D 23 := funext fun j => dr hD rfl
  have hno : noD D = no := by rw [noD, show D 0 3 = nI no from hw.o3, nI_clamp (by omega)]
  have hnn : nD D = n := by rw [nD, show D 0 16 = nI n from hw.n16, nI_clamp (by omega)]
  have hI3 : I1 0 3 = nI no := (wr hW rfl).trans hw.o3
  have hI16 : I1 0 16 = nI n := (wr hW rfl).trans hw.n16
  refine Z_aload_n dX5_together_5 rfl ?_
  refine Z_iload_n dX5_together_6 rfl ?_
  refine Z_call0 (d' := 1) (zCal_V gX5_77 nX5_isOffice (by decide) dX5_together_7) pX5_isOffice hM.1 zkl4 [_] rfl rfl (Nat.le_of_ble_eq_true rfl) (by omega) (c_X5_isOffice hM (by omega) hI3 (fun k7 hk7 e7 => ?_) (fun h7 => ?_))
  · subst e7
    have r7 : oB D (nI k7) = true := rB_t (by rw [z_ti (by omega)]; omega) (by rw [z_ti (by omega), hno]; omega)
    have v7 : (nI k7).toNatClampNeg = k7 := nI_clamp (by omega)
    refine Z_ifeq 27 dX5_together_10 rfl (fun h => absurd h (by decide)) (fun _ => ?_)
    refine Z_iload_n dX5_together_13 rfl ?_
    refine Z_callS0 (d' := 1) (zCal_S gX5_81 nX5_isHour (by decide) dX5_together_14) pX5_isHour [_] rfl rfl (Nat.le_of_ble_eq_true rfl) (by omega) (c_X5_isHour (fun h14a h14b => ?_) (fun h14 => ?_))
    · have r14 : rB h 0 2399 = true := rB_t h14a h14b
      obtain ⟨k14, hk14, e14⟩ := z_rng (n := 2399) h14a h14b (by omega)
      subst e14
      have v14 : (nI k14).toNatClampNeg = k14 := nI_clamp (by omega)
      refine Z_ifeq 27 dX5_together_17 rfl (fun h => absurd h (by decide)) (fun _ => ?_)
      refine Z_aload_n dX5_together_20 rfl ?_
      refine Z_getI hM.1 fX5_151_4 dX5_together_21 rfl ?_
      refine Z_re (y := nI (n)) hI16 ?_
      refine Z_ifneN 29 dX5_together_24 rfl (by omega) (fun c24 => ?_) (fun c24 => ?_)
      · refine Z_aload_n dX5_together_29 rfl ?_
        refine Z_getR (r := 26) hM.1 fX5_199_4 dX5_together_30 rfl (hM.2.2 26 _ rfl rfl) ?_
        refine Z_iconst (nI 0) dX5_together_33 rfl ?_
        refine Z_iald (hM.2.1 26 _ rfl) (zix_nI (by omega) (by decide)) dX5_together_34 ?_
        refine Z_re (dr hD rfl) ?_
        refine Z_istore_n (lv' := [_, _, _, _, _, _, _, _]) dX5_together_35 rfl rfl (Nat.le_of_ble_eq_true rfl) ?_
        refine Z_aload_n dX5_together_36 rfl ?_
        refine Z_getR (r := 9) hM.1 fX5_47_4 dX5_together_37 rfl (hM.2.2 9 _ rfl rfl) ?_
        refine Z_iload_n dX5_together_40 rfl ?_
        refine Z_iald (hM.2.1 9 _ rfl) (zix_nI (by omega) (by decide)) dX5_together_41 ?_
        refine Z_re (dr hD rfl) ?_
        refine Z_istore (lv' := [_, _, _, _, _, _, _, _]) dX5_together_42 rfl rfl (Nat.le_of_ble_eq_true rfl) ?_
        refine Z_aload_n dX5_together_44 rfl ?_
        refine Z_getR (r := 8) hM.1 fX5_44_4 dX5_together_45 rfl (hM.2.2 8 _ rfl rfl) ?_
        refine Z_iload_n dX5_together_48 rfl ?_
        refine Z_iald (hM.2.1 8 _ rfl) (zix_nI (by omega) (by decide)) dX5_together_49 ?_
        refine Z_re (dr hD rfl) ?_
        refine Z_istore (lv' := [_, _, _, _, _, _, _, _]) dX5_together_50 rfl rfl (Nat.le_of_ble_eq_true rfl) ?_
        refine Z_iconst (nI 0) dX5_together_52 rfl ?_
        refine Z_istore (lv' := [_, _, _, _, _, _, _, _]) dX5_together_53 rfl rfl (Nat.le_of_ble_eq_true rfl) ?_
        refine Z_iconst (nI 0) dX5_together_55 rfl ?_
        refine Z_istore (lv' := [_, _, _, _, _, _, _, _]) dX5_together_56 rfl rfl (Nat.le_of_ble_eq_true rfl) ?_
        have lp58 : ∀ i, i ≤ no → Zj G mX5_together 12 C Sl 58 [.ref 0, .int (nI k7), .int (nI k14), .int (D 26 0), .int (D 9 k7), .int (D 8 k7), .int (sumI (D 8) i), .int (nI i)] [] I1 L P S Q := by
          refine zloop (no) (fun i => Zj G mX5_together 12 C Sl 58 [.ref 0, .int (nI k7), .int (nI k14), .int (D 26 0), .int (D 9 k7), .int (D 8 k7), .int (sumI (D 8) i), .int (nI i)] [] I1 L P S Q) (fun i hi ih => ?_)
          show Zj _ _ _ _ _ _ _ _ _ _ _ _ _
          refine Z_iload dX5_together_58 rfl ?_
          refine Z_aload_n dX5_together_60 rfl ?_
          refine Z_getI hM.1 fX5_22_4 dX5_together_61 rfl ?_
          refine Z_re (y := nI (no)) hI3 ?_
          refine Z_icmpgeN 85 dX5_together_64 rfl (by omega) (by omega) (fun c64 => ?_) (fun c64 => ?_)
          · have ei : i = no := by omega
            rw [ei]
            refine Z_aload_n dX5_together_85 rfl ?_
            refine Z_call0 (d' := 0) (zCal_V gX5_419 nX5_keepsBorn (by decide) dX5_together_86) pX5_keepsBorn hM.1 zkl4 [] rfl rfl (Nat.le_of_ble_eq_true rfl) (by omega) (c_X5_keepsBorn hM (fun Ik z1 z2 z3 => ?_))
            have gk : mR D R Ik L P S := ⟨hR1.1, hR1.2.1, (md_fr z3 fun a k h => by
              by_cases e : a = 48
              · subst e; exact absurd h (by simp [dAt, wAt])
              · simp [e]).trans hD, (z3 0 1 rfl).trans hR1.2.2.2.1, hR1.2.2.2.2⟩
            refine Z_iconst (nI 0) dX5_together_89 rfl ?_
            refine Z_istore (lv' := [_, _, _, _, _, _, _, _]) dX5_together_90 rfl rfl (Nat.le_of_ble_eq_true rfl) ?_
            have lp92 : ∀ j, j ≤ n → ∀ I2, mR (tg1 D k7 j) R I2 L P S → (∀ j, j < 8 → I2 48 j = D 20 j) → frM I1 L I2 L → Zj G mX5_together 12 C Sl 92 [.ref 0, .int (nI k7), .int (nI k14), .int (D 26 0), .int (D 9 k7), .int (D 8 k7), .int (sumI (D 8) no), .int (nI j)] [] I2 L P S Q := by
              refine zloop (n) (fun j => ∀ I2, mR (tg1 D k7 j) R I2 L P S → (∀ j, j < 8 → I2 48 j = D 20 j) → frM I1 L I2 L → Zj G mX5_together 12 C Sl 92 [.ref 0, .int (nI k7), .int (nI k14), .int (D 26 0), .int (D 9 k7), .int (D 8 k7), .int (sumI (D 8) no), .int (nI j)] [] I2 L P S Q) (fun j hj ihj => ?_)
              intro I2 g1 g3 f2
              show Zj _ _ _ _ _ _ _ _ _ _ _ _ _
              refine Z_iload dX5_together_92 rfl ?_
              refine Z_aload_n dX5_together_94 rfl ?_
              refine Z_getI hM.1 fX5_151_4 dX5_together_95 rfl ?_
              refine Z_re (y := nI (n)) ((dr g1.2.2.1 rfl).trans hw.n16) ?_
              refine Z_icmpgeN 115 dX5_together_98 rfl (by omega) (by omega) (fun c98 => ?_) (fun c98 => ?_)
              · have ei2 : j = n := by omega
                rw [ei2] at g1
                refine Z_aload_n dX5_together_115 rfl ?_
                refine Z_getR (r := 26) hM.1 fX5_199_4 dX5_together_116 rfl (hM.2.2 26 _ rfl rfl) ?_
                refine Z_iconst (nI 0) dX5_together_119 rfl ?_
                refine Z_iconst (nI 0) dX5_together_120 rfl ?_
                refine Z_iast (hM.2.1 26 _ rfl) (zix_nI (by omega) (by decide)) dX5_together_121 ?_
                refine Z_aload_n dX5_together_122 rfl ?_
                refine Z_getR (r := 9) hM.1 fX5_47_4 dX5_together_123 rfl (hM.2.2 9 _ rfl rfl) ?_
                refine Z_iload_n dX5_together_126 rfl ?_
                refine Z_bipush (nI 63) dX5_together_127 rfl ?_
                refine Z_iast (hM.2.1 9 _ rfl) (zix_nI (by omega) (by decide)) dX5_together_129 ?_
                refine Z_aload_n dX5_together_130 rfl ?_
                refine Z_getR (r := 8) hM.1 fX5_44_4 dX5_together_131 rfl (hM.2.2 8 _ rfl rfl) ?_
                refine Z_iload_n dX5_together_134 rfl ?_
                refine Z_bipush (nI 9) dX5_together_135 rfl ?_
                refine Z_iload dX5_together_137 rfl ?_
                refine Z_callS0 (d' := 0) (zCal_S gX5_95 nJ5_min (by decide) dX5_together_139) pJ5_min [_, _] rfl rfl (Nat.le_of_ble_eq_true rfl) (by omega) (c_J5_min ?_)
                refine Z_iast (hM.2.1 8 _ rfl) (zix_nI (by omega) (by decide)) dX5_together_142 ?_
                refine Z_aload_n dX5_together_143 rfl ?_
                refine Z_iconst (nI 1) dX5_together_144 rfl ?_
                refine Z_putI hM.1 fX5_271_4 dX5_together_145 rfl rfl rfl ?_
                refine Z_aload_n dX5_together_148 rfl ?_
                refine Z_aload_n dX5_together_149 rfl ?_
                refine Z_getR (r := 24) hM.1 fX5_322_4 dX5_together_150 rfl (hM.2.2 24 _ rfl rfl) ?_
                refine Z_call0 (d' := 0) (zCal_V gX5_325 nX5_putsBy (by decide) dX5_together_153) pX5_putsBy hM.1 zkl4 [_] rfl rfl (Nat.le_of_ble_eq_true rfl) (by omega) (c_X5_putsBy hM (fun Ia a1 a2 a3 => ?_))
                have hRt : mR (tgD D no n k7) R (zw (zw (zw (zw I2 26 0 (nI 0)) 9 k7 (nI 63)) 8 k7 (mn (nI 9) (sumI (D 8) no))) 0 37 (nI 1)) L P S := by have := (((g1.zw (a := 26) (k := 0) (v := nI 0) rfl).zw (a := 9) (k := k7) (v := nI 63) rfl).zw (a := 8) (k := k7) (v := mn (nI 9) (sumI (D 8) no)) rfl).zw (a := 0) (k := 37) (v := nI 1) rfl; exact this
                have hWt : wld Ia = wld (tgD D no n k7) := (wld_fr a3 fun a k h => t24_E (k := k) (tE_w h)).trans (wld_mdat hRt.2.2.1)
                have hst : Ia 23 = D 23 := (a3.s23 fun _ => rfl).trans ((funext fun j => dr hRt.2.2.1 rfl).trans (tgD_n (by decide)))
                have hwt := tg_wf hw hk7
                have hsfb := sf_begS hwt hi9 hk14
                refine Z_aload_n dX5_together_156 rfl ?_
                refine Z_iload_n dX5_together_157 rfl ?_
                refine Z_call0 (d' := 1) (zCal_V gX5_303 nX5_begins (by decide) dX5_together_158) pX5_begins hM.1 zkl4 [_] rfl rfl (Nat.le_of_ble_eq_true rfl) (by omega) (c_X5_begins hM hWt hst hwt ?_)
                refine Z_aload_n dX5_together_161 rfl ?_
                refine Z_call0 (d' := 10) (zCal_V gX5_329 nX5_tellsEnd (by decide) dX5_together_162) pX5_tellsEnd hM.1 zkl4 [] rfl rfl (Nat.le_of_ble_eq_true rfl) (by omega) (c_X5_tellsEnd hM (wld_zu23.trans hWt) (zu_s _ _ _) hwt hsfb tg_ru (fun I2 L2 s2 t b1 b2 b3 b4 b5 b6 b7 => ?_) (fun I2 b1 b2 b3 => ?_))
                · refine Z_istore (lv' := [_, _, _, _, _, _, _, _]) dX5_together_165 rfl rfl (Nat.le_of_ble_eq_true rfl) ?_
                  refine Z_aload_n dX5_together_167 rfl ?_
                  refine Z_aload_n dX5_together_168 rfl ?_
                  refine Z_getR (r := 24) hM.1 fX5_322_4 dX5_together_169 rfl (hM.2.2 24 _ rfl rfl) ?_
                  refine Z_call0 (d' := 0) (zCal_V gX5_332 nX5_takesBack (by decide) dX5_together_172) pX5_takesBack hM.1 zkl4 [_] rfl rfl (Nat.le_of_ble_eq_true rfl) (by omega) (c_X5_takesBack hM (fun Ic c1 c2 c3 => ?_))
                  refine Z_aload_n dX5_together_175 rfl ?_
                  refine Z_iconst (nI 0) dX5_together_176 rfl ?_
                  refine Z_putI hM.1 fX5_271_4 dX5_together_177 rfl rfl rfl ?_
                  refine Z_aload_n dX5_together_180 rfl ?_
                  refine Z_getR (r := 8) hM.1 fX5_44_4 dX5_together_181 rfl (hM.2.2 8 _ rfl rfl) ?_
                  refine Z_iload_n dX5_together_184 rfl ?_
                  refine Z_iload dX5_together_185 rfl ?_
                  refine Z_iast (hM.2.1 8 _ rfl) (zix_nI (by omega) (by decide)) dX5_together_187 ?_
                  refine Z_aload_n dX5_together_188 rfl ?_
                  refine Z_getR (r := 9) hM.1 fX5_47_4 dX5_together_189 rfl (hM.2.2 9 _ rfl rfl) ?_
                  refine Z_iload_n dX5_together_192 rfl ?_
                  refine Z_iload dX5_together_193 rfl ?_
                  refine Z_iast (hM.2.1 9 _ rfl) (zix_nI (by omega) (by decide)) dX5_together_195 ?_
                  refine Z_aload_n dX5_together_196 rfl ?_
                  refine Z_getR (r := 26) hM.1 fX5_199_4 dX5_together_197 rfl (hM.2.2 26 _ rfl rfl) ?_
                  refine Z_iconst (nI 0) dX5_together_200 rfl ?_
                  refine Z_iload_n dX5_together_201 rfl ?_
                  refine Z_iast (hM.2.1 26 _ rfl) (zix_nI (by omega) (by decide)) dX5_together_202 ?_
                  refine Z_aload_n dX5_together_203 rfl ?_
                  refine Z_call0 (d' := 0) (zCal_V gX5_431 nX5_givesBorn (by decide) dX5_together_204) pX5_givesBorn hM.1 zkl4 [] rfl rfl (Nat.le_of_ble_eq_true rfl) (by omega) (c_X5_givesBorn hM (fun Iz z1 z2 z3 => ?_))
                  have x1 : fr tY (zu Ia 23 (begS (wld (tgD D no n k7)) (D 23) n k14)) I2 := b5
                  have y1 : fr tQ _ Ic := ((((a3.wk fun _ _ h => t24_E (tE_Q h)).su fun _ => rfl).tr (x1.wk fun _ _ => tY_Q)).tr (c3.wk fun _ _ h => t23_E (tE_Q h)))
                  have y2 : Ic 23 = (tgD D no n k7) 23 := row_back (fun j hj => by rw [tgD_n (by decide)]; exact hi9 j hj) (fun j hj => (x1 24 j rfl).trans ((a1 j hj).trans (congrFun (funext fun j => dr hRt.2.2.1 rfl : _ = (tgD D no n k7) 23) j))) c1 (fun j hj => (c2 j hj).trans (by rw [b4]; exact b3.hi hj))
                  have g5 := mR_of0 hRt y1 y2 ⟨(c3 0 1 rfl).trans b6.1, b6.2⟩
                  have g6 := (((g5.zw (a := 0) (k := 37) (v := nI 0) rfl).zw (a := 8) (k := k7) (v := D 8 k7) rfl).zw (a := 9) (k := k7) (v := D 9 k7) rfl).zw (a := 26) (k := 0) (v := D 26 0) rfl
                  have y3 : frM _ L Ic L2 := frM_of y1 b7
                  have k48 : ∀ j, j < 8 → Ic 48 j = D 20 j := fun j hj => (y1 48 j rfl).trans (g3 j hj)
                  refine Z_iload dX5_together_207 rfl ?_
                  refine Z_ireturn dX5_together_209 rfl rfl ?_
                  have g7 : mR D (endR n (begS (wld (tgD D no n k7)) (D 23) n k14) s2) Iz L2 P S := by
                    obtain ⟨h1, h2, h3, h4⟩ := g6
                    refine ⟨h1, h2, ?_, (z3 0 1 rfl).trans h4.1, h4.2⟩
                    rw [← tg_back (D := D) (no := no) (n := n) (o := k7) h37 (by omega)]
                    funext a k
                    by_cases e : a = 20
                    · subst e
                      rw [zu_s]
                      show Iz 20 k = D 20 k
                      by_cases hk : k < 8
                      · rw [z1 k hk]; exact k48 k hk
                      · rw [z2 k (by omega)]
                        have := dr h3 (a := 20) (k := k) rfl
                        rw [this, zw_n _ _ _ _ (by decide), zw_n _ _ _ _ (by decide), zw_n _ _ _ _ (by decide), zw_n _ _ _ _ (by decide), tgD_20]; exact if_neg (by omega)
                    · rw [zu_n _ _ _ e, ← h3]
                      unfold mdat
                      split
                      · next q => exact z3 a k (by simp [e])
                      · rfl
                  have f7 : frM I L Iz L2 := ((((((f1.tr f2).st (by decide)).st (by decide)).st (by decide)).st (by decide)).tr y3 |>.st (by decide) |>.st (by decide) |>.st (by decide) |>.st (by decide)).tr (frM.of z3 fun a k h => by simp; omega)
                  exact zO_k (D2 := D) (R2 := endR n (begS (wld (tgD D no n k7)) (D 23) n k14) s2) (by rw [fTogether, if_pos (by rw [r7, r14, decide_eq_false (fun e => c24 ((nI_z (by omega)).mp ((show D 0 16 = nI n from hw.n16).symm.trans e)))]; rfl), v7, v14]; dsimp only; rw [b1]; simp [b2]) k g7 f7
                · refine Z_istore (lv' := [_, _, _, _, _, _, _, _]) dX5_together_165 rfl rfl (Nat.le_of_ble_eq_true rfl) ?_
                  refine Z_aload_n dX5_together_167 rfl ?_
                  refine Z_aload_n dX5_together_168 rfl ?_
                  refine Z_getR (r := 24) hM.1 fX5_322_4 dX5_together_169 rfl (hM.2.2 24 _ rfl rfl) ?_
                  refine Z_call0 (d' := 0) (zCal_V gX5_332 nX5_takesBack (by decide) dX5_together_172) pX5_takesBack hM.1 zkl4 [_] rfl rfl (Nat.le_of_ble_eq_true rfl) (by omega) (c_X5_takesBack hM (fun Ic c1 c2 c3 => ?_))
                  refine Z_aload_n dX5_together_175 rfl ?_
                  refine Z_iconst (nI 0) dX5_together_176 rfl ?_
                  refine Z_putI hM.1 fX5_271_4 dX5_together_177 rfl rfl rfl ?_
                  refine Z_aload_n dX5_together_180 rfl ?_
                  refine Z_getR (r := 8) hM.1 fX5_44_4 dX5_together_181 rfl (hM.2.2 8 _ rfl rfl) ?_
                  refine Z_iload_n dX5_together_184 rfl ?_
                  refine Z_iload dX5_together_185 rfl ?_
                  refine Z_iast (hM.2.1 8 _ rfl) (zix_nI (by omega) (by decide)) dX5_together_187 ?_
                  refine Z_aload_n dX5_together_188 rfl ?_
                  refine Z_getR (r := 9) hM.1 fX5_47_4 dX5_together_189 rfl (hM.2.2 9 _ rfl rfl) ?_
                  refine Z_iload_n dX5_together_192 rfl ?_
                  refine Z_iload dX5_together_193 rfl ?_
                  refine Z_iast (hM.2.1 9 _ rfl) (zix_nI (by omega) (by decide)) dX5_together_195 ?_
                  refine Z_aload_n dX5_together_196 rfl ?_
                  refine Z_getR (r := 26) hM.1 fX5_199_4 dX5_together_197 rfl (hM.2.2 26 _ rfl rfl) ?_
                  refine Z_iconst (nI 0) dX5_together_200 rfl ?_
                  refine Z_iload_n dX5_together_201 rfl ?_
                  refine Z_iast (hM.2.1 26 _ rfl) (zix_nI (by omega) (by decide)) dX5_together_202 ?_
                  refine Z_aload_n dX5_together_203 rfl ?_
                  refine Z_call0 (d' := 0) (zCal_V gX5_431 nX5_givesBorn (by decide) dX5_together_204) pX5_givesBorn hM.1 zkl4 [] rfl rfl (Nat.le_of_ble_eq_true rfl) (by omega) (c_X5_givesBorn hM (fun Iz z1 z2 z3 => ?_))
                  have x1 : fr tY (zu Ia 23 (begS (wld (tgD D no n k7)) (D 23) n k14)) I2 := b3.wk fun _ _ => tP_Y
                  have y1 : fr tQ _ Ic := ((((a3.wk fun _ _ h => t24_E (tE_Q h)).su fun _ => rfl).tr (x1.wk fun _ _ => tY_Q)).tr (c3.wk fun _ _ h => t23_E (tE_Q h)))
                  have y2 : Ic 23 = (tgD D no n k7) 23 := row_back (fun j hj => by rw [tgD_n (by decide)]; exact hi9 j hj) (fun j hj => (x1 24 j rfl).trans ((a1 j hj).trans (congrFun (funext fun j => dr hRt.2.2.1 rfl : _ = (tgD D no n k7) 23) j))) c1 (fun j hj => (c2 j hj).trans (b2 j hj))
                  have g5 := mR_of0 hRt y1 y2 ⟨(c3 0 1 rfl).trans ((b3 0 1 rfl).trans ((a3 0 1 rfl).trans hRt.2.2.2.1)), hRt.2.2.2.2⟩
                  have g6 := (((g5.zw (a := 0) (k := 37) (v := nI 0) rfl).zw (a := 8) (k := k7) (v := D 8 k7) rfl).zw (a := 9) (k := k7) (v := D 9 k7) rfl).zw (a := 26) (k := 0) (v := D 26 0) rfl
                  have y3 : frM _ L Ic L := frM_of y1 fun _ _ => rfl
                  have k48 : ∀ j, j < 8 → Ic 48 j = D 20 j := fun j hj => (y1 48 j rfl).trans (g3 j hj)
                  refine Z_iload dX5_together_207 rfl ?_
                  refine Z_ireturn dX5_together_209 rfl rfl ?_
                  have g7 : mR D (R) Iz L P S := by
                    obtain ⟨h1, h2, h3, h4⟩ := g6
                    refine ⟨h1, h2, ?_, (z3 0 1 rfl).trans h4.1, h4.2⟩
                    rw [← tg_back (D := D) (no := no) (n := n) (o := k7) h37 (by omega)]
                    funext a k
                    by_cases e : a = 20
                    · subst e
                      rw [zu_s]
                      show Iz 20 k = D 20 k
                      by_cases hk : k < 8
                      · rw [z1 k hk]; exact k48 k hk
                      · rw [z2 k (by omega)]
                        have := dr h3 (a := 20) (k := k) rfl
                        rw [this, zw_n _ _ _ _ (by decide), zw_n _ _ _ _ (by decide), zw_n _ _ _ _ (by decide), zw_n _ _ _ _ (by decide), tgD_20]; exact if_neg (by omega)
                    · rw [zu_n _ _ _ e, ← h3]
                      unfold mdat
                      split
                      · next q => exact z3 a k (by simp [e])
                      · rfl
                  have f7 : frM I L Iz L := ((((((f1.tr f2).st (by decide)).st (by decide)).st (by decide)).st (by decide)).tr y3 |>.st (by decide) |>.st (by decide) |>.st (by decide) |>.st (by decide)).tr (frM.of z3 fun a k h => by simp; omega)
                  exact zO_k (D2 := D) (R2 := R) (by rw [fTogether, if_pos (by rw [r7, r14, decide_eq_false (fun e => c24 ((nI_z (by omega)).mp ((show D 0 16 = nI n from hw.n16).symm.trans e)))]; rfl), v7, v14]; dsimp only; rw [b1]) k g7 f7
              · refine Z_aload_n dX5_together_101 rfl ?_
                refine Z_getR (r := 20) hM.1 fX5_143_4 dX5_together_102 rfl (hM.2.2 20 _ rfl rfl) ?_
                refine Z_iload dX5_together_105 rfl ?_
                refine Z_iload_n dX5_together_107 rfl ?_
                refine Z_iast (hM.2.1 20 _ rfl) (zix_nI (by omega) (by decide)) dX5_together_108 ?_
                refine Z_iincN (a := _) (k := 1) (lv' := [_, _, _, _, _, _, _, _]) dX5_together_109 rfl rfl rfl rfl ?_
                refine Z_goto 92 dX5_together_112 rfl ?_
                exact ihj (by omega) _ (by rw [← tg1_s]; exact g1.zw rfl) (fun j hj => (congrFun (zw_n _ _ _ _ (by decide)) j).trans (g3 j hj)) (f2.st (by decide))
            exact lp92 0 (by omega) _ (by rw [tg1_0]; exact gk) (fun j hj => (z1 j hj).trans (dr hD rfl)) (frM.of z3 fun a k h => by simp; omega)
          · refine Z_iload dX5_together_67 rfl ?_
            refine Z_aload_n dX5_together_69 rfl ?_
            refine Z_getR (r := 8) hM.1 fX5_44_4 dX5_together_70 rfl (hM.2.2 8 _ rfl rfl) ?_
            refine Z_iload dX5_together_73 rfl ?_
            refine Z_iald (hM.2.1 8 _ rfl) (zix_nI (by omega) (by decide)) dX5_together_75 ?_
            refine Z_re (dr hD rfl) ?_
            refine Z_iadd dX5_together_76 ?_
            refine Z_istore (lv' := [_, _, _, _, _, _, _, _]) dX5_together_77 rfl rfl (Nat.le_of_ble_eq_true rfl) ?_
            refine Z_iincN (a := _) (k := 1) (lv' := [_, _, _, _, _, _, _, _]) dX5_together_79 rfl rfl rfl rfl ?_
            refine Z_goto 58 dX5_together_82 rfl ?_
            exact ih (by omega)
        exact lp58 0 (by omega)
      · refine Z_iconst (-1) dX5_together_27 rfl ?_
        refine Z_ireturn dX5_together_28 rfl rfl ?_
        exact zO_k (by simp [fTogether, show D 0 16 = nI n from hw.n16, nI_0, r7, v7, r14, v14, c24]) k hR1 f1
    · have r14 : rB h 0 2399 = false := rB_f h14
      refine Z_ifeq 27 dX5_together_17 rfl (fun _ => ?_) (fun h => absurd h (by decide))
      refine Z_iconst (-1) dX5_together_27 rfl ?_
      refine Z_ireturn dX5_together_28 rfl rfl ?_
      exact zO_k (by simp [fTogether, show D 0 16 = nI n from hw.n16, nI_0, r7, v7, r14]) k hR1 f1
  · have r7 : oB D o = false := rB_f (fun q => h7 ⟨q.1, by have := q.2; rw [hno] at this; omega⟩)
    refine Z_ifeq 27 dX5_together_10 rfl (fun _ => ?_) (fun h => absurd h (by decide))
    refine Z_iconst (-1) dX5_together_27 rfl ?_
    refine Z_ireturn dX5_together_28 rfl rfl ?_
    exact zO_k (by simp [fTogether, show D 0 16 = nI n from hw.n16, nI_0, r7]) k hR1 f1
end M23
