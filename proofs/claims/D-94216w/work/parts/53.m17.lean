set_option maxRecDepth 100000
/-! THE MODEL, part 17: an end that is told; who judges -/
section M17
variable {G : zG} {d C Sl : Nat} {I D W : zI} {R : List Int64} {L : zL} {P : zR} {S : zT} {Q : zQ} {no n : Nat} {s : zS}
def tR : Nat → Nat → Bool := fun h k => h == 0 && k == 1
def tQ : Nat → Nat → Bool := fun h k => tE h k || tR h k
def tY : Nat → Nat → Bool := fun h k => tP h k || tR h k
theorem tP_Y {a k : Nat} (h : tY a k = false) : tP a k = false := by
  unfold tY at h
  simp only [Bool.or_eq_false_iff] at h
  exact h.1
theorem tR_Y {a k : Nat} (h : tY a k = false) : tR a k = false := by
  unfold tY at h
  simp only [Bool.or_eq_false_iff] at h
  exact h.2
theorem tR_w {a k : Nat} (h : wAt a k = true) : tR a k = false := by
  unfold tR
  by_cases e : a = 0
  · subst e
    by_cases e2 : k = 1
    · subst e2; exact absurd h (by decide)
    · simp [e2]
  · simp [e]
theorem tQ_w {a k : Nat} (h : wAt a k = true) : tQ a k = false := by
  unfold tQ
  rw [tE_w h, tR_w h]; rfl
theorem tE_Q {a k : Nat} (h : tQ a k = false) : tE a k = false := by
  unfold tQ at h
  simp only [Bool.or_eq_false_iff] at h
  exact h.1
theorem tR_Q {a k : Nat} (h : tQ a k = false) : tR a k = false := by
  unfold tQ at h
  simp only [Bool.or_eq_false_iff] at h
  exact h.2
theorem tY_Q {a k : Nat} (h : tQ a k = false) : tY a k = false := by
  unfold tY
  rw [tP_E (tE_Q h), tR_Q h]; rfl
theorem tQ_hi {a k : Nat} (h : 100 ≤ a) : tQ a k = false := by
  unfold tQ tR
  rw [tE_hi h]
  simp [show ¬ a = 0 by omega]
theorem dAt_tQ {a k : Nat} (h : dAt a k = true) (ha : ¬ a = 23) : tQ a k = false := by
  unfold tQ
  rw [dAt_tE h ha, Bool.false_or]
  unfold tR
  by_cases e : a = 0
  · subst e
    by_cases e2 : k = 1
    · subst e2; exact absurd h (by decide)
    · simp [e2]
  · simp [e]
abbrev frL (L L2 : zL) : Prop := ∀ a, a ≠ 2 → L2 a = L a
theorem mR_of {R2 : List Int64} {I1 I2 : zI} {L2 : zL} {s : zS} (h : mR D R I1 L P S) (hf : fr tQ I1 I2) (h23 : I2 23 = s) (hr : mRw R2 I2 L2) : mR (zu D 23 s) R2 I2 L2 P S := by
  obtain ⟨h1, h2, h3, h4⟩ := h
  refine ⟨h1, h2, ?_, hr⟩
  funext a k
  by_cases e : a = 23
  · subst e
    rw [zu_s, ← h23]
    rfl
  · rw [zu_n _ _ _ e, ← h3]
    unfold mdat
    split
    · next q => exact hf a k (dAt_tQ q e)
    · rfl
theorem mR_of0 {R2 : List Int64} {I1 I2 : zI} {L2 : zL} (h : mR D R I1 L P S) (hf : fr tQ I1 I2) (h23 : I2 23 = D 23) (hr : mRw R2 I2 L2) : mR D R2 I2 L2 P S := by
  have := mR_of h hf h23 hr
  rwa [zu_id] at this
theorem frM_of {I1 I2 : zI} {L2 : zL} (hf : fr tQ I1 I2) (hl : frL L L2) : frM I1 L I2 L2 := fun a ha => ⟨funext fun k => hf a k (tQ_hi ha), hl a (by omega)⟩
theorem mRw.tl (h : mRw R I L) (v : Int64) : mRw (R ++ [v]) (zw I 0 1 (nI (R.length + 1))) (zw L 2 R.length v) := by
  refine ⟨by rw [zw_s, List.length_append]; rfl, fun k hk => ?_⟩
  rw [zw_a]
  by_cases e : k = R.length
  · subst e; rw [zu_s]; simp
  · rw [zu_n _ _ _ e, h.2 k (by simp at hk; omega)]
    simp [List.getElem?_append_left (show k < R.length by simp at hk; omega)]
theorem c_tellW (hM : mOk P S) (h : mRw R I L) (hl : R.length < 24) {v : Int64} (k : ∀ I2 L2, mRw (R ++ [v]) I2 L2 → fr tR I I2 → frL L L2 → Q (.inl none) I2 L2 P S) : Zm G mX5_enters 0 C Sl [.ref 0, .long v] I L P S Q :=
  c_X5_enters hM hl h.1 (k _ _ (h.tl v) (fr.rf.st rfl) (fun a ha => zw_n _ _ _ _ ha))
theorem frL.tr {L1 L2 L3 : zL} (h : frL L1 L2) (h' : frL L2 L3) : frL L1 L3 := fun a ha => (h' a ha).trans (h a ha)
set_option maxHeartbeats 4000000 in
theorem c_X5_tellsEnd (hM : mOk P S) (hW : wld I = W) (hs : I 23 = s) (hw : wf W no n) (hsf : sf W no n s) {ro : Option (List Nat)} (hru : ruM W ro) (kt : ∀ I2 L2 s2 t, pEnd W ro no n s = some s2 → s2 0 = nI t → sf W no n s2 → I2 23 = s2 → fr tY I I2 → mRw (endR n s s2) I2 L2 → frL L L2 → Q (.inl (some (.int (nI t)))) I2 L2 P S) (kf : ∀ I2, pEnd W ro no n s = none → (∀ j, 127 ≤ j → I2 23 j = 0) → fr tP I I2 → Q (.inl (some (.int (-2)))) I2 L P S) : Zm G mX5_tellsEnd 10 C Sl [.ref 0] I L P S Q := by
  have hn8 := hw.n8
  have ho6 := hw.o6
  refine Z_entry (lv := [_, _, _, _, _, _]) (Nat.le_of_ble_eq_true rfl) rfl ?_
  refine Z_aload_n dX5_tellsEnd_0 rfl ?_
  refine Z_bipush (nI 51) dX5_tellsEnd_1 rfl ?_
  refine Z_call0 (d' := 0) (zCal_V gX5_316 nX5_sumOf (by decide) dX5_tellsEnd_3) pX5_sumOf hM.1 zkl4 [_] rfl rfl (Nat.le_of_ble_eq_true rfl) (by omega) (c_X5_sumOf hM (by first | exact hW | (simp only [wld_zw23, wld_zw33, wld_zw27, wld_zw34, wld_zw35, wld_zw36, wld_zw0, wld_zw1, wld_zu23]; exact hW)) hs hw (by decide) ?_)
  refine Z_istore_n (lv' := [_, _, _, _, _, _]) dX5_tellsEnd_6 rfl rfl (Nat.le_of_ble_eq_true rfl) ?_
  refine Z_aload_n dX5_tellsEnd_7 rfl ?_
  refine Z_bipush (nI 59) dX5_tellsEnd_8 rfl ?_
  refine Z_call0 (d' := 0) (zCal_V gX5_316 nX5_sumOf (by decide) dX5_tellsEnd_10) pX5_sumOf hM.1 zkl4 [_] rfl rfl (Nat.le_of_ble_eq_true rfl) (by omega) (c_X5_sumOf hM (by first | exact hW | (simp only [wld_zw23, wld_zw33, wld_zw27, wld_zw34, wld_zw35, wld_zw36, wld_zw0, wld_zw1, wld_zu23]; exact hW)) hs hw (by decide) ?_)
  refine Z_istore_n (lv' := [_, _, _, _, _, _]) dX5_tellsEnd_13 rfl rfl (Nat.le_of_ble_eq_true rfl) ?_
  refine Z_aload_n dX5_tellsEnd_14 rfl ?_
  refine Z_getR (r := 23) hM.1 fX5_140_4 dX5_tellsEnd_15 rfl (hM.2.2 23 _ rfl rfl) ?_
  refine Z_iconst (nI 1) dX5_tellsEnd_18 rfl ?_
  refine Z_iald (hM.2.1 23 _ rfl) (zix_nI (by omega) (by decide)) dX5_tellsEnd_19 ?_
  refine Z_re (congrFun hs _) ?_
  refine Z_istore_n (lv' := [_, _, _, _, _, _]) dX5_tellsEnd_20 rfl rfl (Nat.le_of_ble_eq_true rfl) ?_
  refine Z_aload_n dX5_tellsEnd_21 rfl ?_
  refine Z_call0 (d' := 9) (zCal_V gX5_319 nX5_goesOn (by decide) dX5_tellsEnd_22) pX5_goesOn hM.1 zkl4 [] rfl rfl (Nat.le_of_ble_eq_true rfl) (by omega) (c_X5_goesOn hM hW hs hw hsf hru (fun I2 s2 t b1 b2 b3 b4 b5 b6 => ?_) (fun I2 b1 b5 b6 => ?_))
  · have hs := b5
    have hW : wld I2 = W := (wld_fr b6 fun _ _ => tP_w).trans hW
    refine Z_istore (lv' := [_, _, _, _, _, _]) dX5_tellsEnd_25 rfl rfl (Nat.le_of_ble_eq_true rfl) ?_
    refine Z_iload dX5_tellsEnd_27 rfl ?_
    refine Z_ifgeN 35 dX5_tellsEnd_29 rfl (by omega) ?_
    refine Z_aload_n dX5_tellsEnd_35 rfl ?_
    refine Z_iconst (nI 0) dX5_tellsEnd_36 rfl ?_
    refine Z_putI hM.1 fX5_11_4 dX5_tellsEnd_37 rfl rfl rfl ?_
    refine Z_iconst (nI 0) dX5_tellsEnd_40 rfl ?_
    refine Z_istore (lv' := [_, _, _, _, _, _]) dX5_tellsEnd_41 rfl rfl (Nat.le_of_ble_eq_true rfl) ?_
    have lp43 : ∀ i, i ≤ n → ∀ I3 L3, mRw ((List.range i).map (fun p => (s2 (35 + p)).toInt64)) I3 L3 → fr tR I2 I3 → frL L L3 → Zj G mX5_tellsEnd 10 C Sl 43 [.ref 0, .int (sumI (fun p => s (51 + p)) n), .int (sumI (fun p => s (59 + p)) n), .int (s 1), .int (nI t), .int (nI i)] [] I3 L3 P S Q := by
      refine zloop (n) (fun i => ∀ I3 L3, mRw ((List.range i).map (fun p => (s2 (35 + p)).toInt64)) I3 L3 → fr tR I2 I3 → frL L L3 → Zj G mX5_tellsEnd 10 C Sl 43 [.ref 0, .int (sumI (fun p => s (51 + p)) n), .int (sumI (fun p => s (59 + p)) n), .int (s 1), .int (nI t), .int (nI i)] [] I3 L3 P S Q) (fun i hi ih => ?_)
      intro I3 L3 g1 g2 g3
      show Zj _ _ _ _ _ _ _ _ _ _ _ _ _
      have hs : I3 23 = s2 := (g2.s23 fun _ => rfl).trans hs
      have hW : wld I3 = W := (wld_fr g2 fun _ _ => tR_w).trans hW
      refine Z_iload dX5_tellsEnd_43 rfl ?_
      refine Z_aload_n dX5_tellsEnd_45 rfl ?_
      refine Z_getI hM.1 fX5_151_4 dX5_tellsEnd_46 rfl ?_
      refine Z_re ((wr (by first | exact hW | (simp only [wld_zw23, wld_zw33, wld_zw27, wld_zw34, wld_zw35, wld_zw36, wld_zw0, wld_zw1, wld_zu23]; exact hW)) rfl).trans hw.n16) ?_
      refine Z_icmpgeN 73 dX5_tellsEnd_49 rfl (by omega) (by omega) (fun c49 => ?_) (fun c49 => ?_)
      · obtain rfl : i = n := by omega
        refine Z_aload_n dX5_tellsEnd_73 rfl ?_
        refine Z_aload_n dX5_tellsEnd_74 rfl ?_
        refine Z_bipush (nI 51) dX5_tellsEnd_75 rfl ?_
        refine Z_call0 (d' := 0) (zCal_V gX5_316 nX5_sumOf (by decide) dX5_tellsEnd_77) pX5_sumOf hM.1 zkl4 [_] rfl rfl (Nat.le_of_ble_eq_true rfl) (by omega) (c_X5_sumOf hM (by first | exact hW | (simp only [wld_zw23, wld_zw33, wld_zw27, wld_zw34, wld_zw35, wld_zw36, wld_zw0, wld_zw1, wld_zu23]; exact hW)) hs hw (by decide) ?_)
        refine Z_iload_n dX5_tellsEnd_80 rfl ?_
        refine Z_isub dX5_tellsEnd_81 ?_
        refine Z_i2l dX5_tellsEnd_82 ?_
        refine Z_call0 (d' := 0) (zCal_V gX5_18 nX5_enters (by decide) dX5_tellsEnd_83) pX5_enters hM.1 zkl4 [_] rfl rfl (Nat.le_of_ble_eq_true rfl) (by omega) (c_tellW hM g1 (by simp; omega) (fun J1 M1 u1 v1 w1 => ?_))
        have hs : J1 23 = s2 := (v1.s23 fun _ => rfl).trans hs
        have hW : wld J1 = W := (wld_fr v1 fun _ _ => tR_w).trans hW
        refine Z_aload_n dX5_tellsEnd_86 rfl ?_
        refine Z_aload_n dX5_tellsEnd_87 rfl ?_
        refine Z_bipush (nI 59) dX5_tellsEnd_88 rfl ?_
        refine Z_call0 (d' := 0) (zCal_V gX5_316 nX5_sumOf (by decide) dX5_tellsEnd_90) pX5_sumOf hM.1 zkl4 [_] rfl rfl (Nat.le_of_ble_eq_true rfl) (by omega) (c_X5_sumOf hM (by first | exact hW | (simp only [wld_zw23, wld_zw33, wld_zw27, wld_zw34, wld_zw35, wld_zw36, wld_zw0, wld_zw1, wld_zu23]; exact hW)) hs hw (by decide) ?_)
        refine Z_iload_n dX5_tellsEnd_93 rfl ?_
        refine Z_isub dX5_tellsEnd_94 ?_
        refine Z_i2l dX5_tellsEnd_95 ?_
        refine Z_call0 (d' := 0) (zCal_V gX5_18 nX5_enters (by decide) dX5_tellsEnd_96) pX5_enters hM.1 zkl4 [_] rfl rfl (Nat.le_of_ble_eq_true rfl) (by omega) (c_tellW hM u1 (by simp; omega) (fun J2 M2 u2 v2 w2 => ?_))
        have hs : J2 23 = s2 := (v2.s23 fun _ => rfl).trans hs
        have hW : wld J2 = W := (wld_fr v2 fun _ _ => tR_w).trans hW
        refine Z_aload_n dX5_tellsEnd_99 rfl ?_
        refine Z_aload_n dX5_tellsEnd_100 rfl ?_
        refine Z_getR (r := 23) hM.1 fX5_140_4 dX5_tellsEnd_101 rfl (hM.2.2 23 _ rfl rfl) ?_
        refine Z_iconst (nI 1) dX5_tellsEnd_104 rfl ?_
        refine Z_iald (hM.2.1 23 _ rfl) (zix_nI (by omega) (by decide)) dX5_tellsEnd_105 ?_
        refine Z_re (congrFun hs _) ?_
        refine Z_iload_n dX5_tellsEnd_106 rfl ?_
        refine Z_isub dX5_tellsEnd_107 ?_
        refine Z_i2l dX5_tellsEnd_108 ?_
        refine Z_call0 (d' := 0) (zCal_V gX5_18 nX5_enters (by decide) dX5_tellsEnd_109) pX5_enters hM.1 zkl4 [_] rfl rfl (Nat.le_of_ble_eq_true rfl) (by omega) (c_tellW hM u2 (by simp; omega) (fun J3 M3 u3 v3 w3 => ?_))
        have hs : J3 23 = s2 := (v3.s23 fun _ => rfl).trans hs
        have hW : wld J3 = W := (wld_fr v3 fun _ _ => tR_w).trans hW
        refine Z_iload dX5_tellsEnd_112 rfl ?_
        refine Z_ireturn dX5_tellsEnd_114 rfl rfl ?_
        refine kt _ _ s2 t b1 b2 b4 hs (((b6.wk fun _ _ => tP_Y).tr (g2.wk fun _ _ => tR_Y)).tr (((v1.tr v2).tr v3).wk fun _ _ => tR_Y)) ?_ (((g3.tr w1).tr w2).tr w3)
        rw [List.append_assoc, List.append_assoc] at u3
        exact u3
      · refine Z_aload_n dX5_tellsEnd_52 rfl ?_
        refine Z_aload_n dX5_tellsEnd_53 rfl ?_
        refine Z_getR (r := 23) hM.1 fX5_140_4 dX5_tellsEnd_54 rfl (hM.2.2 23 _ rfl rfl) ?_
        refine Z_bipush (nI 35) dX5_tellsEnd_57 rfl ?_
        refine Z_iload dX5_tellsEnd_59 rfl ?_
        refine Z_iaddN dX5_tellsEnd_61 ?_
        refine Z_iald (hM.2.1 23 _ rfl) (zix_nI (by omega) (by decide)) dX5_tellsEnd_62 ?_
        refine Z_re (congrFun hs _) ?_
        refine Z_i2l dX5_tellsEnd_63 ?_
        refine Z_call0 (d' := 0) (zCal_V gX5_18 nX5_enters (by decide) dX5_tellsEnd_64) pX5_enters hM.1 zkl4 [_] rfl rfl (Nat.le_of_ble_eq_true rfl) (by omega) (c_tellW hM g1 (by simp; omega) (fun J0 M0 u0 v0 w0 => ?_))
        have hs : J0 23 = s2 := (v0.s23 fun _ => rfl).trans hs
        have hW : wld J0 = W := (wld_fr v0 fun _ _ => tR_w).trans hW
        refine Z_iincN (a := _) (k := 1) (lv' := [_, _, _, _, _, _]) dX5_tellsEnd_67 rfl rfl rfl rfl ?_
        refine Z_goto 43 dX5_tellsEnd_70 rfl ?_
        exact ih (by omega) _ _ (by rw [List.range_succ, List.map_append]; exact u0) (g2.tr v0) (g3.tr w0)
    exact lp43 0 (by omega) _ L ⟨rfl, fun k hk => absurd hk (by simp)⟩ (fr.rf.st rfl) (fun _ _ => rfl)
  · refine Z_istore (lv' := [_, _, _, _, _, _]) dX5_tellsEnd_25 rfl rfl (Nat.le_of_ble_eq_true rfl) ?_
    refine Z_iload dX5_tellsEnd_27 rfl ?_
    refine Z_ifge 35 dX5_tellsEnd_29 rfl (fun c29 => ?_) (fun c29 => ?_)
    · exact absurd c29 (by decide)
    · refine Z_bipush (-2) dX5_tellsEnd_32 rfl ?_
      refine Z_ireturn dX5_tellsEnd_34 rfl rfl ?_
      exact kf I2 b1 b5 b6
set_option maxHeartbeats 4000000 in
theorem o_ends (hR : mR D R I L P S) (hw : wf (wld D) no n) (hsf : sf (wld D) no n (D 23)) {ro : Option (List Nat)} (hru : ruM (wld D) ro) (k : ∀ I2 L2, mR (fEnds D R ro no n).2.1 (fEnds D R ro no n).2.2 I2 L2 P S → frM I L I2 L2 → Q (.inl (some (.int (fEnds D R ro no n).1))) I2 L2 P S) : Zm G mX5_ends 11 C Sl [.ref 0] I L P S Q := by
  have hM := hR.1
  refine Z_entry (lv := [_, _]) (Nat.le_of_ble_eq_true rfl) rfl ?_
  refine Z_aload_n dX5_ends_0 rfl ?_
  refine Z_iconst (nI 0) dX5_ends_1 rfl ?_
  refine Z_putI hM.1 fX5_3_4 dX5_ends_2 rfl rfl rfl ?_
  refine Z_start hR (fun I1 hR1 f1 h00 => ?_)
  have hw8 := hw.n8
  have hw6 := hw.o6
  have hM := hR1.1
  have hD : mdat I1 = D := hR1.2.2.1
  have hW : wld I1 = wld D := wld_mdat hD
  have hs : I1 23 = D 23 := funext fun j => dr hD rfl
  have hno : noD D = no := by rw [noD, show D 0 3 = nI no from hw.o3, nI_clamp (by omega)]
  have hnn : nD D = n := by rw [nD, show D 0 16 = nI n from hw.n16, nI_clamp (by omega)]
  have hI3 : I1 0 3 = nI no := (wr hW rfl).trans hw.o3
  have hI16 : I1 0 16 = nI n := (wr hW rfl).trans hw.n16
  refine Z_aload_n dX5_ends_5 rfl ?_
  refine Z_getI hM.1 fX5_151_4 dX5_ends_6 rfl ?_
  refine Z_re ((wr (by first | exact hW | (simp only [wld_zw23, wld_zw33, wld_zw27, wld_zw34, wld_zw35, wld_zw36, wld_zw0, wld_zw1, wld_zu23]; exact hW)) rfl).trans hw.n16) ?_
  refine Z_ifneN 14 dX5_ends_9 rfl (by omega) (fun c9 => ?_) (fun c9 => ?_)
  · refine Z_aload_n dX5_ends_14 rfl ?_
    refine Z_aload_n dX5_ends_15 rfl ?_
    refine Z_getR (r := 24) hM.1 fX5_322_4 dX5_ends_16 rfl (hM.2.2 24 _ rfl rfl) ?_
    refine Z_call0 (d' := 0) (zCal_V gX5_325 nX5_putsBy (by decide) dX5_ends_19) pX5_putsBy hM.1 zkl4 [_] rfl rfl (Nat.le_of_ble_eq_true rfl) (by omega) (c_X5_putsBy hM (fun Ia a1 a2 a3 => ?_))
    have hWa : wld Ia = wld D := (wld_fr a3 fun a k h => t24_E (k := k) (tE_w h)).trans hW
    have hsa : Ia 23 = D 23 := (a3.s23 fun _ => rfl).trans hs
    refine Z_aload_n dX5_ends_22 rfl ?_
    refine Z_call0 (d' := 10) (zCal_V gX5_329 nX5_tellsEnd (by decide) dX5_ends_23) pX5_tellsEnd hM.1 zkl4 [] rfl rfl (Nat.le_of_ble_eq_true rfl) (by omega) (c_X5_tellsEnd hM hWa hsa hw hsf hru (fun I2 L2 s2 t b1 b2 b3 b4 b5 b6 b7 => ?_) (fun I2 b1 b2 b3 => ?_))
    · refine Z_istore_n (lv' := [_, _]) dX5_ends_26 rfl rfl (Nat.le_of_ble_eq_true rfl) ?_
      refine Z_aload_n dX5_ends_27 rfl ?_
      refine Z_aload_n dX5_ends_28 rfl ?_
      refine Z_getR (r := 24) hM.1 fX5_322_4 dX5_ends_29 rfl (hM.2.2 24 _ rfl rfl) ?_
      refine Z_call0 (d' := 0) (zCal_V gX5_332 nX5_takesBack (by decide) dX5_ends_32) pX5_takesBack hM.1 zkl4 [_] rfl rfl (Nat.le_of_ble_eq_true rfl) (by omega) (c_X5_takesBack hM (fun Ic c1 c2 c3 => ?_))
      refine Z_iload_n dX5_ends_35 rfl ?_
      refine Z_ireturn dX5_ends_36 rfl rfl ?_
      have n0 : ¬ D 0 16 = 0 := fun e => c9 ((nI_z (by omega)).mp ((show D 0 16 = nI n from hw.n16).symm.trans e))
      have q1 : fr tQ I1 Ic := (((a3.wk fun _ _ h => t24_E (tE_Q h)).tr (b5.wk fun _ _ => tY_Q)).tr (c3.wk fun _ _ h => t23_E (tE_Q h)))
      have q2 : Ic 23 = D 23 := row_back (fun j hj => hsf.hi hj) (fun j hj => (b5 24 j rfl).trans ((a1 j hj).trans (congrFun hs j))) c1 (fun j hj => (c2 j hj).trans (by rw [b4]; exact b3.hi hj))
      exact zO_k (D2 := D) (R2 := endR n (D 23) s2) (by rw [fEnds, if_neg n0, b1]; simp [b2]) k (mR_of0 hR1 q1 q2 ⟨(c3 0 1 rfl).trans b6.1, b6.2⟩) (f1.tr (frM_of q1 b7))
    · refine Z_istore_n (lv' := [_, _]) dX5_ends_26 rfl rfl (Nat.le_of_ble_eq_true rfl) ?_
      refine Z_aload_n dX5_ends_27 rfl ?_
      refine Z_aload_n dX5_ends_28 rfl ?_
      refine Z_getR (r := 24) hM.1 fX5_322_4 dX5_ends_29 rfl (hM.2.2 24 _ rfl rfl) ?_
      refine Z_call0 (d' := 0) (zCal_V gX5_332 nX5_takesBack (by decide) dX5_ends_32) pX5_takesBack hM.1 zkl4 [_] rfl rfl (Nat.le_of_ble_eq_true rfl) (by omega) (c_X5_takesBack hM (fun Ic c1 c2 c3 => ?_))
      refine Z_iload_n dX5_ends_35 rfl ?_
      refine Z_ireturn dX5_ends_36 rfl rfl ?_
      have n0 : ¬ D 0 16 = 0 := fun e => c9 ((nI_z (by omega)).mp ((show D 0 16 = nI n from hw.n16).symm.trans e))
      have q1 : fr tQ I1 Ic := ((((a3.wk fun _ _ => t24_E).tr (b3.wk fun _ _ => tP_E)).tr (c3.wk fun _ _ => t23_E)).wk fun _ _ => tE_Q)
      have q2 : Ic 23 = D 23 := row_back (fun j hj => hsf.hi hj) (fun j hj => (b3 24 j rfl).trans ((a1 j hj).trans (congrFun hs j))) c1 (fun j hj => (c2 j hj).trans (b2 j hj))
      exact zO_k (D2 := D) (R2 := R) (by rw [fEnds, if_neg n0, b1]) k (mR_of0 hR1 q1 q2 ⟨(c3 0 1 rfl).trans ((b3 0 1 rfl).trans ((a3 0 1 rfl).trans hR1.2.2.2.1)), hR1.2.2.2.2⟩) (f1.tr (frM_of q1 fun _ _ => rfl))
  · refine Z_iconst (-1) dX5_ends_12 rfl ?_
    refine Z_ireturn dX5_ends_13 rfl rfl ?_
    exact zO_k (by rw [fEnds, if_pos (by rw [show D 0 16 = nI n from hw.n16, c9]; rfl)]) k hR1 f1
set_option maxHeartbeats 4000000 in
theorem s_jclose (hM : mOk P S) (hW : wld I = W) (hs : I 23 = s) (hw : wf W no n) (hsf : sf W no n s) {hr : Nat} (h0 : s 0 = nI hr) (hr9 : hr < 2399) {ro : Option (List Nat)} (hru : ruM W ro) {s0 : zS} (hz : s = (wrks W n s0).1) (h00 : s0 0 = nI hr) (h34 : I 0 34 = rdyB W s0 n) {x : Int32} (k : ∀ I2, I2 23 = hrS W ro no n s0 → fr tP I I2 → Zj G mX5_judge 11 C Sl 25 [.ref 0, .int x, .retAddr 0, .retAddr 0, .retAddr 0] [] I2 L P S Q) : Zj G mX5_judge 11 C Sl 203 [.ref 0, .int x, .retAddr 0, .retAddr 0, .retAddr 0] [] I L P S Q := by
  refine Z_aload_n dX5_judge_203 rfl ?_
  refine Z_call0 (d' := 7) (zCal_V gX5_300 nX5_closes (by decide) dX5_judge_204) pX5_closes hM.1 zkl4 [] rfl rfl (Nat.le_of_ble_eq_true rfl) (by omega) (c_X5_closes hM hW hs hw hsf h0 (by omega) h34 hru (fun I3 g7 g8 => ?_))
  refine Z_aload_n dX5_judge_207 rfl ?_
  refine Z_getR (r := 23) hM.1 fX5_140_4 dX5_judge_208 rfl (hM.2.2 23 _ rfl rfl) ?_
  refine Z_iconst (nI 0) dX5_judge_211 rfl ?_
  refine Z_dup2_11 dX5_judge_212 rfl rfl ?_
  refine Z_iald (hM.2.1 23 _ rfl) (zix_nI (by omega) (by decide)) dX5_judge_213 ?_
  refine Z_re (y := nI (hr)) (by rw [g7]; exact clss_0.trans h0) ?_
  refine Z_iconst (nI 1) dX5_judge_214 rfl ?_
  refine Z_iaddN dX5_judge_215 ?_
  refine Z_iast (hM.2.1 23 _ rfl) (zix_nI (by omega) (by decide)) dX5_judge_216 ?_
  refine Z_goto 25 dX5_judge_217 rfl ?_
  refine k _ ?_ ((g8.wk fun _ _ => tC_P).st rfl)
  have e0 : (s0 0).toNatClampNeg = hr := by rw [h00, nI_clamp (by omega)]
  rw [zw_a, g7, hrS, ← hz, e0, h00, nI_add]
set_option maxHeartbeats 40000000 in
theorem o_judge (hR : mR D R I L P S) (hw : wf (wld D) no n) (hsf : sf (wld D) no n (D 23)) {ro : Option (List Nat)} (hru : ruM (wld D) ro) (k : ∀ I2 L2, mR (fJudge D R ro no n).2.1 (fJudge D R ro no n).2.2 I2 L2 P S → frM I L I2 L2 → Q (.inl (some (.int (fJudge D R ro no n).1))) I2 L2 P S) : Zm G mX5_judge 11 C Sl [.ref 0] I L P S Q := by
  have hM := hR.1
  obtain ⟨t0, ht0, h0⟩ := hsf.now
  obtain ⟨b, hb⟩ : ∃ b, t0 + b = 2399 := ⟨2399 - t0, by omega⟩
  have eb : 2399 - (D 23 0).toNatClampNeg = b := by rw [h0, nI_clamp (by omega)]; omega
  have hsf0 := hsf
  refine Z_entry (lv := [_, _, _, _, _]) (Nat.le_of_ble_eq_true rfl) rfl ?_
  refine Z_aload_n dX5_judge_0 rfl ?_
  refine Z_iconst (nI 0) dX5_judge_1 rfl ?_
  refine Z_putI hM.1 fX5_3_4 dX5_judge_2 rfl rfl rfl ?_
  refine Z_start hR (fun I1 hR1 f1 h00 => ?_)
  have hw8 := hw.n8
  have hw6 := hw.o6
  have hM := hR1.1
  have hD : mdat I1 = D := hR1.2.2.1
  have hW : wld I1 = wld D := wld_mdat hD
  have hs : I1 23 = D 23 := funext fun j => dr hD rfl
  have hno : noD D = no := by rw [noD, show D 0 3 = nI no from hw.o3, nI_clamp (by omega)]
  have hnn : nD D = n := by rw [nD, show D 0 16 = nI n from hw.n16, nI_clamp (by omega)]
  have hI3 : I1 0 3 = nI no := (wr hW rfl).trans hw.o3
  have hI16 : I1 0 16 = nI n := (wr hW rfl).trans hw.n16
  refine Z_aload_n dX5_judge_5 rfl ?_
  refine Z_getI hM.1 fX5_151_4 dX5_judge_6 rfl ?_
  refine Z_re ((wr (by first | exact hW | (simp only [wld_zw23, wld_zw33, wld_zw27, wld_zw34, wld_zw35, wld_zw36, wld_zw0, wld_zw1, wld_zu23]; exact hW)) rfl).trans hw.n16) ?_
  refine Z_ifneN 14 dX5_judge_9 rfl (by omega) (fun c9 => ?_) (fun c9 => ?_)
  · refine Z_aload_n dX5_judge_14 rfl ?_
    refine Z_aload_n dX5_judge_15 rfl ?_
    refine Z_getR (r := 24) hM.1 fX5_322_4 dX5_judge_16 rfl (hM.2.2 24 _ rfl rfl) ?_
    refine Z_call0 (d' := 0) (zCal_V gX5_325 nX5_putsBy (by decide) dX5_judge_19) pX5_putsBy hM.1 zkl4 [_] rfl rfl (Nat.le_of_ble_eq_true rfl) (by omega) (c_X5_putsBy hM (fun Ia a1 a2 a3 => ?_))
    have hs0 := hs
    have hW : wld Ia = wld D := (wld_fr a3 fun a k h => t24_E (k := k) (tE_w h)).trans hW
    have hWa := hW
    have hs : Ia 23 = D 23 := (a3.s23 fun _ => rfl).trans hs
    refine Z_bipush (-2) dX5_judge_22 rfl ?_
    refine Z_istore_n (lv' := [_, _, _, _, _]) dX5_judge_24 rfl rfl (Nat.le_of_ble_eq_true rfl) ?_
    have lp25 : ∀ i, i ≤ b → ∀ I2 s2, s2 0 = nI (t0 + i) → sf (wld D) no n s2 → fr tP Ia I2 → jdgN (wld D) ro no n (b - i) s2 = jdgN (wld D) ro no n b (D 23) → I2 23 = s2 → Zj G mX5_judge 11 C Sl 25 [.ref 0, .int (-2), .retAddr 0, .retAddr 0, .retAddr 0] [] I2 L P S Q := by
      refine zloop (b) (fun i => ∀ I2 s2, s2 0 = nI (t0 + i) → sf (wld D) no n s2 → fr tP Ia I2 → jdgN (wld D) ro no n (b - i) s2 = jdgN (wld D) ro no n b (D 23) → I2 23 = s2 → Zj G mX5_judge 11 C Sl 25 [.ref 0, .int (-2), .retAddr 0, .retAddr 0, .retAddr 0] [] I2 L P S Q) (fun i hi ih => ?_)
      intro I2 s2 g1 hsf g3 g4 hs
      show Zj _ _ _ _ _ _ _ _ _ _ _ _ _
      have hW : wld I2 = wld D := (wld_fr g3 fun _ _ => tP_w).trans hWa
      refine Z_iload_n dX5_judge_25 rfl ?_
      refine Z_ifge 220 dX5_judge_26 rfl (fun c26 => ?_) (fun c26 => ?_)
      · exact absurd c26 (by decide)
      · refine Z_aload_n dX5_judge_29 rfl ?_
        refine Z_call0 (d' := 1) (zCal_V gX5_313 nX5_isAllDone (by decide) dX5_judge_30) pX5_isAllDone hM.1 zkl4 [] rfl rfl (Nat.le_of_ble_eq_true rfl) (by omega) (c_X5_isAllDone hM (by first | exact hW | (simp only [wld_zw23, wld_zw33, wld_zw27, wld_zw34, wld_zw35, wld_zw36, wld_zw0, wld_zw1, wld_zu23]; exact hW)) hs hw (fun h30 => ?_) (fun h30 => ?_))
        · refine Z_ifne 220 dX5_judge_33 rfl (fun _ => ?_) (fun h => absurd h (by decide))
          refine Z_aload_n dX5_judge_220 rfl ?_
          refine Z_aload_n dX5_judge_221 rfl ?_
          refine Z_getR (r := 24) hM.1 fX5_322_4 dX5_judge_222 rfl (hM.2.2 24 _ rfl rfl) ?_
          refine Z_call0 (d' := 0) (zCal_V gX5_332 nX5_takesBack (by decide) dX5_judge_225) pX5_takesBack hM.1 zkl4 [_] rfl rfl (Nat.le_of_ble_eq_true rfl) (by omega) (c_X5_takesBack hM (fun Ic c1 c2 c3 => ?_))
          refine Z_iload_n dX5_judge_228 rfl ?_
          refine Z_ireturn dX5_judge_229 rfl rfl ?_
          have n0 : ¬ D 0 16 = 0 := fun e => c9 ((nI_z (by omega)).mp ((show D 0 16 = nI n from hw.n16).symm.trans e))
          have hz : jdgN (wld D) ro no n b (D 23) = none := by rw [← g4]; cases h : b - i <;> simp [jdgN, h30]
          have q1 : fr tQ I1 Ic := ((((a3.wk fun _ _ => t24_E).tr (g3.wk fun _ _ => tP_E)).tr (c3.wk fun _ _ => t23_E)).wk fun _ _ => tE_Q)
          have q2 : Ic 23 = D 23 := row_back (fun j hj => hsf0.hi hj) (fun j hj => (g3 24 j rfl).trans ((a1 j hj).trans (congrFun hs0 j))) c1 (fun j hj => (c2 j hj).trans (by rw [hs]; exact hsf.hi hj))
          exact zO_k (D2 := D) (R2 := R) (by rw [fJudge, if_neg n0, eb, hz]) k (mR_of0 hR1 q1 q2 ⟨(c3 0 1 rfl).trans ((g3 0 1 rfl).trans ((a3 0 1 rfl).trans hR1.2.2.2.1)), hR1.2.2.2.2⟩) (f1.tr (frM_of q1 fun _ _ => rfl))
        · refine Z_ifne 220 dX5_judge_33 rfl (fun h => absurd h (by decide)) (fun _ => ?_)
          refine Z_aload_n dX5_judge_36 rfl ?_
          refine Z_getR (r := 23) hM.1 fX5_140_4 dX5_judge_37 rfl (hM.2.2 23 _ rfl rfl) ?_
          refine Z_iconst (nI 0) dX5_judge_40 rfl ?_
          refine Z_iald (hM.2.1 23 _ rfl) (zix_nI (by omega) (by decide)) dX5_judge_41 ?_
          refine Z_re (congrFun hs _) ?_
          refine Z_re (y := nI (t0 + i)) g1 ?_
          refine Z_sipush (nI 2399) dX5_judge_42 rfl ?_
          refine Z_icmpgeN 220 dX5_judge_45 rfl (by omega) (by omega) (fun c45 => ?_) (fun c45 => ?_)
          · refine Z_aload_n dX5_judge_220 rfl ?_
            refine Z_aload_n dX5_judge_221 rfl ?_
            refine Z_getR (r := 24) hM.1 fX5_322_4 dX5_judge_222 rfl (hM.2.2 24 _ rfl rfl) ?_
            refine Z_call0 (d' := 0) (zCal_V gX5_332 nX5_takesBack (by decide) dX5_judge_225) pX5_takesBack hM.1 zkl4 [_] rfl rfl (Nat.le_of_ble_eq_true rfl) (by omega) (c_X5_takesBack hM (fun Ic c1 c2 c3 => ?_))
            refine Z_iload_n dX5_judge_228 rfl ?_
            refine Z_ireturn dX5_judge_229 rfl rfl ?_
            have n0 : ¬ D 0 16 = 0 := fun e => c9 ((nI_z (by omega)).mp ((show D 0 16 = nI n from hw.n16).symm.trans e))
            have hz : jdgN (wld D) ro no n b (D 23) = none := by rw [← g4]; rw [show b - i = 0 by omega]; rfl
            have q1 : fr tQ I1 Ic := ((((a3.wk fun _ _ => t24_E).tr (g3.wk fun _ _ => tP_E)).tr (c3.wk fun _ _ => t23_E)).wk fun _ _ => tE_Q)
            have q2 : Ic 23 = D 23 := row_back (fun j hj => hsf0.hi hj) (fun j hj => (g3 24 j rfl).trans ((a1 j hj).trans (congrFun hs0 j))) c1 (fun j hj => (c2 j hj).trans (by rw [hs]; exact hsf.hi hj))
            exact zO_k (D2 := D) (R2 := R) (by rw [fJudge, if_neg n0, eb, hz]) k (mR_of0 hR1 q1 q2 ⟨(c3 0 1 rfl).trans ((g3 0 1 rfl).trans ((a3 0 1 rfl).trans hR1.2.2.2.1)), hR1.2.2.2.2⟩) (f1.tr (frM_of q1 fun _ _ => rfl))
          · refine Z_aload_n dX5_judge_48 rfl ?_
            refine Z_getR (r := 23) hM.1 fX5_140_4 dX5_judge_49 rfl (hM.2.2 23 _ rfl rfl) ?_
            refine Z_iconst (nI 0) dX5_judge_52 rfl ?_
            refine Z_iald (hM.2.1 23 _ rfl) (zix_nI (by omega) (by decide)) dX5_judge_53 ?_
            refine Z_re (congrFun hs _) ?_
            refine Z_re (y := nI (t0 + i)) g1 ?_
            refine Z_istore_n (lv' := [_, _, _, _, _]) dX5_judge_54 rfl rfl (Nat.le_of_ble_eq_true rfl) ?_
            refine Z_aload_n dX5_judge_55 rfl ?_
            refine Z_call0 (d' := 3) (zCal_V gX5_296 nX5_works (by decide) dX5_judge_56) pX5_works hM.1 zkl4 [] rfl rfl (Nat.le_of_ble_eq_true rfl) (by omega) (c_X5_works hM hW hs hw hsf g1 (by omega) rfl (fun I3 g => ?_))
            have e1 : (s2 0).toNatClampNeg = t0 + i := by rw [g1, nI_clamp (by omega)]
            have hT : wrkN (wld D) (rdyB (wld D) s2 n) (t0 + i) (s2, nI 0, nI 0, fun _ => nI 0) n = wrks (wld D) n s2 := by rw [wrks, e1]
            rw [hT] at g
            obtain ⟨w1, w2, w3, w4, w5, w6⟩ := g
            have hW3 : wld I3 = wld D := (wld_fr w6 fun _ _ => tW_w).trans hW
            have hs3 : sf (wld D) no n (wrks (wld D) n s2).1 := sf_wrks hsf hw
            have hW2 := hW
            have hW := hW3
            refine Z_iconst (nI 0) dX5_judge_59 rfl ?_
            refine Z_istore_n (lv' := [_, _, _, _, _]) dX5_judge_60 rfl rfl (Nat.le_of_ble_eq_true rfl) ?_
            have lp61 : ∀ j, j ≤ n → jdN (wld D) no (rdyB (wld D) s2 n) (wrks (wld D) n s2) (t0 + i) j = none → Zj G mX5_judge 11 C Sl 61 [.ref 0, .int (-2), .int (nI (t0 + i)), .int (nI j), .retAddr 0] [] I3 L P S Q := by
              refine zloop (n) (fun j => jdN (wld D) no (rdyB (wld D) s2 n) (wrks (wld D) n s2) (t0 + i) j = none → Zj G mX5_judge 11 C Sl 61 [.ref 0, .int (-2), .int (nI (t0 + i)), .int (nI j), .retAddr 0] [] I3 L P S Q) (fun j hj ihj => ?_)
              intro hN
              show Zj _ _ _ _ _ _ _ _ _ _ _ _ _
              refine Z_iload_n dX5_judge_61 rfl ?_
              refine Z_aload_n dX5_judge_62 rfl ?_
              refine Z_getI hM.1 fX5_151_4 dX5_judge_63 rfl ?_
              refine Z_re ((wr (by first | exact hW | (simp only [wld_zw23, wld_zw33, wld_zw27, wld_zw34, wld_zw35, wld_zw36, wld_zw0, wld_zw1, wld_zu23]; exact hW)) rfl).trans hw.n16) ?_
              refine Z_icmpgeN 203 dX5_judge_66 rfl (by omega) (by omega) (fun c66 => ?_) (fun c66 => ?_)
              · have ej : j = n := by omega
                rw [ej] at hN
                refine Z_fgt (s_jclose (x := -2) (ro := ro) (s := (wrks (wld D) n s2).1) (s0 := s2) hM hW3 w1 hw hs3 ((wrks_0).trans g1) (by omega) hru rfl g1 w2 (fun I5 y1 y2 => ?_)) (by repeat first | exact zwk_n | refine zwk_f ?_ | refine zwk_c rfl ?_)
                exact ih (by omega) I5 _ (hrS_0 g1) (sf_hrS hsf hw g1 (by omega)) ((g3.tr (w6.wk fun _ _ => tW_P)).tr y2) (by rw [← g4, show b - i = (b - (i + 1)) + 1 by omega]; simp [jdgN, h30, e1, hN]) y1
              · refine Z_iload_n dX5_judge_69 rfl ?_
                refine Z_ifge 203 dX5_judge_70 rfl (fun c70 => ?_) (fun c70 => ?_)
                · exact absurd c70 (by decide)
                · refine Z_aload_n dX5_judge_73 rfl ?_
                  refine Z_getI hM.1 fX5_278_4 dX5_judge_74 rfl ?_
                  refine Z_re w2 ?_
                  refine Z_iload_n dX5_judge_77 rfl ?_
                  refine Z_callS0 (d' := 0) (zCal_S gX5_137 nX5_has (by decide) dX5_judge_78) pX5_has [_, _] rfl rfl (Nat.le_of_ble_eq_true rfl) (by omega) (c_X5_has (fun h78 => ?_) (fun h78 => ?_))
                  · refine Z_ifeq 197 dX5_judge_81 rfl (fun h => absurd h (by decide)) (fun _ => ?_)
                    refine Z_aload_n dX5_judge_84 rfl ?_
                    refine Z_getI hM.1 fX5_281_4 dX5_judge_85 rfl ?_
                    refine Z_re w3 ?_
                    refine Z_iload_n dX5_judge_88 rfl ?_
                    refine Z_callS0 (d' := 0) (zCal_S gX5_137 nX5_has (by decide) dX5_judge_89) pX5_has [_, _] rfl rfl (Nat.le_of_ble_eq_true rfl) (by omega) (c_X5_has (fun h89 => ?_) (fun h89 => ?_))
                    · refine Z_ifne 197 dX5_judge_92 rfl (fun _ => ?_) (fun h => absurd h (by decide))
                      refine Z_iincN (a := _) (k := 1) (lv' := [_, _, _, _, _]) dX5_judge_197 rfl rfl rfl rfl ?_
                      refine Z_goto 61 dX5_judge_200 rfl ?_
                      exact Z_fgt (ihj (by omega) (by simp [jdN, hN, jdI, h78, h89])) (by repeat first | exact zwk_n | refine zwk_f ?_ | refine zwk_c rfl ?_)
                    · refine Z_ifne 197 dX5_judge_92 rfl (fun h => absurd h (by decide)) (fun _ => ?_)
                      refine Z_aload_n dX5_judge_95 rfl ?_
                      refine Z_getI hM.1 fX5_284_4 dX5_judge_96 rfl ?_
                      refine Z_re w4 ?_
                      refine Z_iload_n dX5_judge_99 rfl ?_
                      refine Z_callS0 (d' := 0) (zCal_S gX5_137 nX5_has (by decide) dX5_judge_100) pX5_has [_, _] rfl rfl (Nat.le_of_ble_eq_true rfl) (by omega) (c_X5_has (fun h100 => ?_) (fun h100 => ?_))
                      · refine Z_ifeq 109 dX5_judge_103 rfl (fun h => absurd h (by decide)) (fun _ => ?_)
                        refine Z_goto 197 dX5_judge_106 rfl ?_
                        refine Z_iincN (a := _) (k := 1) (lv' := [_, _, _, _, _]) dX5_judge_197 rfl rfl rfl rfl ?_
                        refine Z_goto 61 dX5_judge_200 rfl ?_
                        exact Z_fgt (ihj (by omega) (by simp [jdN, hN, jdI, h78, h89, h100])) (by repeat first | exact zwk_n | refine zwk_f ?_ | refine zwk_c rfl ?_)
                      · refine Z_ifeq 109 dX5_judge_103 rfl (fun _ => ?_) (fun h => absurd h (by decide))
                        refine Z_iconst (nI 0) dX5_judge_109 rfl ?_
                        refine Z_istore (lv' := [_, _, _, _, _]) dX5_judge_110 rfl rfl (Nat.le_of_ble_eq_true rfl) ?_
                        have lp112 : ∀ q, q ≤ no → fstB (fun o => canW (wld D) (wrks (wld D) n s2).2.2.2 (t0 + i) j o) q = none → Zj G mX5_judge 11 C Sl 112 [.ref 0, .int (-2), .int (nI (t0 + i)), .int (nI j), .int (nI q)] [] I3 L P S Q := by
                          refine zloop (no) (fun q => fstB (fun o => canW (wld D) (wrks (wld D) n s2).2.2.2 (t0 + i) j o) q = none → Zj G mX5_judge 11 C Sl 112 [.ref 0, .int (-2), .int (nI (t0 + i)), .int (nI j), .int (nI q)] [] I3 L P S Q) (fun q hq ihq => ?_)
                          intro hF
                          show Zj _ _ _ _ _ _ _ _ _ _ _ _ _
                          refine Z_iload dX5_judge_112 rfl ?_
                          refine Z_aload_n dX5_judge_114 rfl ?_
                          refine Z_getI hM.1 fX5_22_4 dX5_judge_115 rfl ?_
                          refine Z_re ((wr (by first | exact hW | (simp only [wld_zw23, wld_zw33, wld_zw27, wld_zw34, wld_zw35, wld_zw36, wld_zw0, wld_zw1, wld_zu23]; exact hW)) rfl).trans hw.o3) ?_
                          refine Z_icmpgeN 197 dX5_judge_118 rfl (by omega) (by omega) (fun c118 => ?_) (fun c118 => ?_)
                          · have eq : q = no := by omega
                            rw [eq] at hF
                            refine Z_iincN (a := _) (k := 1) (lv' := [_, _, _, _, _]) dX5_judge_197 rfl rfl rfl rfl ?_
                            refine Z_goto 61 dX5_judge_200 rfl ?_
                            exact Z_fgt (ihj (by omega) (by simp [jdN, hN, jdI, h78, h89, h100, hF])) (by repeat first | exact zwk_n | refine zwk_f ?_ | refine zwk_c rfl ?_)
                          · refine Z_iload_n dX5_judge_121 rfl ?_
                            refine Z_ifge 197 dX5_judge_122 rfl (fun c122 => ?_) (fun c122 => ?_)
                            · exact absurd c122 (by decide)
                            · refine Z_aload_n dX5_judge_125 rfl ?_
                              refine Z_iload dX5_judge_126 rfl ?_
                              refine Z_iload_n dX5_judge_128 rfl ?_
                              refine Z_call0 (d' := 2) (zCal_V gX5_120 nX5_isOpen (by decide) dX5_judge_129) pX5_isOpen hM.1 zkl4 [_, _] rfl rfl (Nat.le_of_ble_eq_true rfl) (by omega) (c_isOpenW hM (by first | exact hW | (simp only [wld_zw23, wld_zw33, wld_zw27, wld_zw34, wld_zw35, wld_zw36, wld_zw0, wld_zw1, wld_zu23]; exact hW)) (by omega) (fun h129 => ?_) (fun h129 => ?_))
                              · refine Z_ifeq 191 dX5_judge_132 rfl (fun h => absurd h (by decide)) (fun _ => ?_)
                                refine Z_aload_n dX5_judge_135 rfl ?_
                                refine Z_getR (r := 9) hM.1 fX5_47_4 dX5_judge_136 rfl (hM.2.2 9 _ rfl rfl) ?_
                                refine Z_iload dX5_judge_139 rfl ?_
                                refine Z_iald (hM.2.1 9 _ rfl) (zix_nI (by omega) (by decide)) dX5_judge_141 ?_
                                refine Z_re (wr (by first | exact hW | (simp only [wld_zw23, wld_zw33, wld_zw27, wld_zw34, wld_zw35, wld_zw36, wld_zw0, wld_zw1, wld_zu23]; exact hW)) rfl) ?_
                                refine Z_aload_n dX5_judge_142 rfl ?_
                                refine Z_getR (r := 17) hM.1 fX5_154_4 dX5_judge_143 rfl (hM.2.2 17 _ rfl rfl) ?_
                                refine Z_iload_n dX5_judge_146 rfl ?_
                                refine Z_iald (hM.2.1 17 _ rfl) (zix_nI (by omega) (by decide)) dX5_judge_147 ?_
                                refine Z_re (wr (by first | exact hW | (simp only [wld_zw23, wld_zw33, wld_zw27, wld_zw34, wld_zw35, wld_zw36, wld_zw0, wld_zw1, wld_zu23]; exact hW)) rfl) ?_
                                refine Z_callS0 (d' := 0) (zCal_S gX5_137 nX5_has (by decide) dX5_judge_148) pX5_has [_, _] rfl rfl (Nat.le_of_ble_eq_true rfl) (by omega) (c_X5_has (fun h148 => ?_) (fun h148 => ?_))
                                · refine Z_ifeq 191 dX5_judge_151 rfl (fun h => absurd h (by decide)) (fun _ => ?_)
                                  refine Z_aload_n dX5_judge_154 rfl ?_
                                  refine Z_getR (r := 33) hM.1 fX5_287_4 dX5_judge_155 rfl (hM.2.2 33 _ rfl rfl) ?_
                                  refine Z_iload dX5_judge_158 rfl ?_
                                  refine Z_iald (hM.2.1 33 _ rfl) (zix_nI (by omega) (by decide)) dX5_judge_160 ?_
                                  refine Z_re (w5 q (by omega)) ?_
                                  refine Z_aload_n dX5_judge_161 rfl ?_
                                  refine Z_getR (r := 8) hM.1 fX5_44_4 dX5_judge_162 rfl (hM.2.2 8 _ rfl rfl) ?_
                                  refine Z_iload dX5_judge_165 rfl ?_
                                  refine Z_iald (hM.2.1 8 _ rfl) (zix_nI (by omega) (by decide)) dX5_judge_167 ?_
                                  refine Z_re (wr (by first | exact hW | (simp only [wld_zw23, wld_zw33, wld_zw27, wld_zw34, wld_zw35, wld_zw36, wld_zw0, wld_zw1, wld_zu23]; exact hW)) rfl) ?_
                                  refine Z_icmpge 191 dX5_judge_168 rfl (fun c168 => ?_) (fun c168 => ?_)
                                  · refine Z_iincN (a := _) (k := 1) (lv' := [_, _, _, _, _]) dX5_judge_191 rfl rfl rfl rfl ?_
                                    refine Z_goto 112 dX5_judge_194 rfl ?_
                                    exact ihq (by omega) (by rw [fstB, hF]; exact if_neg (by rw [canW, h129, h148, decide_eq_false (Int32.not_lt.mpr c168)]; decide))
                                  · refine Z_iload_n dX5_judge_171 rfl ?_
                                    refine Z_istore_n (lv' := [_, _, _, _, _]) dX5_judge_172 rfl rfl (Nat.le_of_ble_eq_true rfl) ?_
                                    refine Z_aload_n dX5_judge_173 rfl ?_
                                    refine Z_iconst (nI 0) dX5_judge_174 rfl ?_
                                    refine Z_putI hM.1 fX5_11_4 dX5_judge_175 rfl rfl rfl ?_
                                    refine Z_aload_n dX5_judge_178 rfl ?_
                                    refine Z_iload_n dX5_judge_179 rfl ?_
                                    refine Z_i2l dX5_judge_180 ?_
                                    refine Z_call0 (d' := 0) (zCal_V gX5_18 nX5_enters (by decide) dX5_judge_181) pX5_enters hM.1 zkl4 [_] rfl rfl (Nat.le_of_ble_eq_true rfl) (by omega) (c_tellW hM (R := []) (I := zw I3 0 1 (nI 0)) (L := L) ⟨rfl, fun k hk => absurd hk (by simp)⟩ (by simp) (fun J0 M0 u0 v0 w0 => ?_))
                                    refine Z_aload_n dX5_judge_184 rfl ?_
                                    refine Z_iload dX5_judge_185 rfl ?_
                                    refine Z_i2l dX5_judge_187 ?_
                                    refine Z_call0 (d' := 0) (zCal_V gX5_18 nX5_enters (by decide) dX5_judge_188) pX5_enters hM.1 zkl4 [_] rfl rfl (Nat.le_of_ble_eq_true rfl) (by omega) (c_tellW hM u0 (by simp) (fun J1 M1 u1 v1 w1b => ?_))
                                    have hW : wld J1 = wld D := (wld_fr (v0.tr v1) fun _ _ => tR_w).trans ((wld_zw rfl).trans hW3)
                                    refine Z_iincN (a := _) (k := 1) (lv' := [_, _, _, _, _]) dX5_judge_191 rfl rfl rfl rfl ?_
                                    refine Z_goto 112 dX5_judge_194 rfl ?_
                                    refine Z_iload dX5_judge_112 rfl ?_
                                    refine Z_aload_n dX5_judge_114 rfl ?_
                                    refine Z_getI hM.1 fX5_22_4 dX5_judge_115 rfl ?_
                                    refine Z_re ((wr (by first | exact hW | (simp only [wld_zw23, wld_zw33, wld_zw27, wld_zw34, wld_zw35, wld_zw36, wld_zw0, wld_zw1, wld_zu23]; exact hW)) rfl).trans hw.o3) ?_
                                    refine Z_icmpgeN 197 dX5_judge_118 rfl (by omega) (by omega) (fun c118 => ?_) (fun c118 => ?_)
                                    · refine Z_iincN (a := _) (k := 1) (lv' := [_, _, _, _, _]) dX5_judge_197 rfl rfl rfl rfl ?_
                                      refine Z_goto 61 dX5_judge_200 rfl ?_
                                      refine Z_iload_n dX5_judge_61 rfl ?_
                                      refine Z_aload_n dX5_judge_62 rfl ?_
                                      refine Z_getI hM.1 fX5_151_4 dX5_judge_63 rfl ?_
                                      refine Z_re ((wr (by first | exact hW | (simp only [wld_zw23, wld_zw33, wld_zw27, wld_zw34, wld_zw35, wld_zw36, wld_zw0, wld_zw1, wld_zu23]; exact hW)) rfl).trans hw.n16) ?_
                                      refine Z_icmpgeN 203 dX5_judge_66 rfl (by omega) (by omega) (fun c66 => ?_) (fun c66 => ?_)
                                      · refine Z_fgt (s_jclose (x := nI (t0 + i)) (ro := ro) (s := (wrks (wld D) n s2).1) (s0 := s2) hM (wld_fr (v0.tr v1) (fun _ _ => tR_w) |>.trans ((wld_zw rfl).trans hW3)) (((v0.tr v1).s23 fun _ => rfl).trans ((zw_n _ _ _ _ (by decide)).trans w1)) hw hs3 ((wrks_0).trans g1) (by omega) hru rfl g1 (((v0.tr v1) 0 34 rfl).trans w2) (fun I5 y1 y2 => ?_)) (by repeat first | exact zwk_n | refine zwk_f ?_ | refine zwk_c rfl ?_)
                                        refine Z_iload_n dX5_judge_25 rfl ?_
                                        refine Z_ifgeN 220 dX5_judge_26 rfl (by omega) ?_
                                        refine Z_aload_n dX5_judge_220 rfl ?_
                                        refine Z_aload_n dX5_judge_221 rfl ?_
                                        refine Z_getR (r := 24) hM.1 fX5_322_4 dX5_judge_222 rfl (hM.2.2 24 _ rfl rfl) ?_
                                        refine Z_call0 (d' := 0) (zCal_V gX5_332 nX5_takesBack (by decide) dX5_judge_225) pX5_takesBack hM.1 zkl4 [_] rfl rfl (Nat.le_of_ble_eq_true rfl) (by omega) (c_X5_takesBack hM (fun Ic c1 c2 c3 => ?_))
                                        refine Z_iload_n dX5_judge_228 rfl ?_
                                        refine Z_ireturn dX5_judge_229 rfl rfl ?_
                                        have n0 : ¬ D 0 16 = 0 := fun e => c9 ((nI_z (by omega)).mp ((show D 0 16 = nI n from hw.n16).symm.trans e))
                                        have f1q : fstB (fun o => canW (wld D) (wrks (wld D) n s2).2.2.2 (t0 + i) j o) no = some q := fstB_up (a := q + 1) (by rw [fstB, hF]; exact if_pos (by rw [canW, h129, h148, decide_eq_true (Int32.not_le.mp c168)]; decide)) no (by omega)
                                        have f2q : jdN (wld D) no (rdyB (wld D) s2 n) (wrks (wld D) n s2) (t0 + i) n = some (j, q) := jdN_up (a := j + 1) (by simp [jdN, hN, jdI, h78, h89, h100, f1q]) n (by omega)
                                        have hz : jdgN (wld D) ro no n b (D 23) = some (t0 + i, j, q) := by rw [← g4, show b - i = (b - (i + 1)) + 1 by omega]; simp [jdgN, h30, e1, f2q]
                                        have x1 : fr tY Ia I5 := (((g3.wk fun _ _ => tP_Y).tr (w6.wk fun _ _ h => tW_P (tP_Y h))).st rfl |>.tr ((v0.tr v1).wk fun _ _ => tR_Y)).tr (y2.wk fun _ _ => tP_Y)
                                        have q1 : fr tQ I1 Ic := ((a3.wk fun _ _ h => t24_E (tE_Q h)).tr (x1.wk fun _ _ => tY_Q)).tr (c3.wk fun _ _ h => t23_E (tE_Q h))
                                        have q2 : Ic 23 = D 23 := row_back (fun j hj => hsf0.hi hj) (fun j hj => (x1 24 j rfl).trans ((a1 j hj).trans (congrFun hs0 j))) c1 (fun j hj => (c2 j hj).trans (by rw [y1]; exact (sf_hrS hsf hw g1 (by omega)).hi hj))
                                        exact zO_k (D2 := D) (R2 := [(nI j).toInt64, (nI q).toInt64]) (by rw [fJudge, if_neg n0, eb, hz]) k (mR_of0 hR1 q1 q2 ⟨(c3 0 1 rfl).trans ((y2 0 1 rfl).trans u1.1), u1.2⟩) (f1.tr (frM_of q1 (w0.tr w1b)))
                                      · refine Z_iload_n dX5_judge_69 rfl ?_
                                        refine Z_ifgeN 203 dX5_judge_70 rfl (by omega) ?_
                                        refine Z_fgt (s_jclose (x := nI (t0 + i)) (ro := ro) (s := (wrks (wld D) n s2).1) (s0 := s2) hM (wld_fr (v0.tr v1) (fun _ _ => tR_w) |>.trans ((wld_zw rfl).trans hW3)) (((v0.tr v1).s23 fun _ => rfl).trans ((zw_n _ _ _ _ (by decide)).trans w1)) hw hs3 ((wrks_0).trans g1) (by omega) hru rfl g1 (((v0.tr v1) 0 34 rfl).trans w2) (fun I5 y1 y2 => ?_)) (by repeat first | exact zwk_n | refine zwk_f ?_ | refine zwk_c rfl ?_)
                                        refine Z_iload_n dX5_judge_25 rfl ?_
                                        refine Z_ifgeN 220 dX5_judge_26 rfl (by omega) ?_
                                        refine Z_aload_n dX5_judge_220 rfl ?_
                                        refine Z_aload_n dX5_judge_221 rfl ?_
                                        refine Z_getR (r := 24) hM.1 fX5_322_4 dX5_judge_222 rfl (hM.2.2 24 _ rfl rfl) ?_
                                        refine Z_call0 (d' := 0) (zCal_V gX5_332 nX5_takesBack (by decide) dX5_judge_225) pX5_takesBack hM.1 zkl4 [_] rfl rfl (Nat.le_of_ble_eq_true rfl) (by omega) (c_X5_takesBack hM (fun Ic c1 c2 c3 => ?_))
                                        refine Z_iload_n dX5_judge_228 rfl ?_
                                        refine Z_ireturn dX5_judge_229 rfl rfl ?_
                                        have n0 : ¬ D 0 16 = 0 := fun e => c9 ((nI_z (by omega)).mp ((show D 0 16 = nI n from hw.n16).symm.trans e))
                                        have f1q : fstB (fun o => canW (wld D) (wrks (wld D) n s2).2.2.2 (t0 + i) j o) no = some q := fstB_up (a := q + 1) (by rw [fstB, hF]; exact if_pos (by rw [canW, h129, h148, decide_eq_true (Int32.not_le.mp c168)]; decide)) no (by omega)
                                        have f2q : jdN (wld D) no (rdyB (wld D) s2 n) (wrks (wld D) n s2) (t0 + i) n = some (j, q) := jdN_up (a := j + 1) (by simp [jdN, hN, jdI, h78, h89, h100, f1q]) n (by omega)
                                        have hz : jdgN (wld D) ro no n b (D 23) = some (t0 + i, j, q) := by rw [← g4, show b - i = (b - (i + 1)) + 1 by omega]; simp [jdgN, h30, e1, f2q]
                                        have x1 : fr tY Ia I5 := (((g3.wk fun _ _ => tP_Y).tr (w6.wk fun _ _ h => tW_P (tP_Y h))).st rfl |>.tr ((v0.tr v1).wk fun _ _ => tR_Y)).tr (y2.wk fun _ _ => tP_Y)
                                        have q1 : fr tQ I1 Ic := ((a3.wk fun _ _ h => t24_E (tE_Q h)).tr (x1.wk fun _ _ => tY_Q)).tr (c3.wk fun _ _ h => t23_E (tE_Q h))
                                        have q2 : Ic 23 = D 23 := row_back (fun j hj => hsf0.hi hj) (fun j hj => (x1 24 j rfl).trans ((a1 j hj).trans (congrFun hs0 j))) c1 (fun j hj => (c2 j hj).trans (by rw [y1]; exact (sf_hrS hsf hw g1 (by omega)).hi hj))
                                        exact zO_k (D2 := D) (R2 := [(nI j).toInt64, (nI q).toInt64]) (by rw [fJudge, if_neg n0, eb, hz]) k (mR_of0 hR1 q1 q2 ⟨(c3 0 1 rfl).trans ((y2 0 1 rfl).trans u1.1), u1.2⟩) (f1.tr (frM_of q1 (w0.tr w1b)))
                                    · refine Z_iload_n dX5_judge_121 rfl ?_
                                      refine Z_ifgeN 197 dX5_judge_122 rfl (by omega) ?_
                                      refine Z_iincN (a := _) (k := 1) (lv' := [_, _, _, _, _]) dX5_judge_197 rfl rfl rfl rfl ?_
                                      refine Z_goto 61 dX5_judge_200 rfl ?_
                                      refine Z_iload_n dX5_judge_61 rfl ?_
                                      refine Z_aload_n dX5_judge_62 rfl ?_
                                      refine Z_getI hM.1 fX5_151_4 dX5_judge_63 rfl ?_
                                      refine Z_re ((wr (by first | exact hW | (simp only [wld_zw23, wld_zw33, wld_zw27, wld_zw34, wld_zw35, wld_zw36, wld_zw0, wld_zw1, wld_zu23]; exact hW)) rfl).trans hw.n16) ?_
                                      refine Z_icmpgeN 203 dX5_judge_66 rfl (by omega) (by omega) (fun c66 => ?_) (fun c66 => ?_)
                                      · refine Z_fgt (s_jclose (x := nI (t0 + i)) (ro := ro) (s := (wrks (wld D) n s2).1) (s0 := s2) hM (wld_fr (v0.tr v1) (fun _ _ => tR_w) |>.trans ((wld_zw rfl).trans hW3)) (((v0.tr v1).s23 fun _ => rfl).trans ((zw_n _ _ _ _ (by decide)).trans w1)) hw hs3 ((wrks_0).trans g1) (by omega) hru rfl g1 (((v0.tr v1) 0 34 rfl).trans w2) (fun I5 y1 y2 => ?_)) (by repeat first | exact zwk_n | refine zwk_f ?_ | refine zwk_c rfl ?_)
                                        refine Z_iload_n dX5_judge_25 rfl ?_
                                        refine Z_ifgeN 220 dX5_judge_26 rfl (by omega) ?_
                                        refine Z_aload_n dX5_judge_220 rfl ?_
                                        refine Z_aload_n dX5_judge_221 rfl ?_
                                        refine Z_getR (r := 24) hM.1 fX5_322_4 dX5_judge_222 rfl (hM.2.2 24 _ rfl rfl) ?_
                                        refine Z_call0 (d' := 0) (zCal_V gX5_332 nX5_takesBack (by decide) dX5_judge_225) pX5_takesBack hM.1 zkl4 [_] rfl rfl (Nat.le_of_ble_eq_true rfl) (by omega) (c_X5_takesBack hM (fun Ic c1 c2 c3 => ?_))
                                        refine Z_iload_n dX5_judge_228 rfl ?_
                                        refine Z_ireturn dX5_judge_229 rfl rfl ?_
                                        have n0 : ¬ D 0 16 = 0 := fun e => c9 ((nI_z (by omega)).mp ((show D 0 16 = nI n from hw.n16).symm.trans e))
                                        have f1q : fstB (fun o => canW (wld D) (wrks (wld D) n s2).2.2.2 (t0 + i) j o) no = some q := fstB_up (a := q + 1) (by rw [fstB, hF]; exact if_pos (by rw [canW, h129, h148, decide_eq_true (Int32.not_le.mp c168)]; decide)) no (by omega)
                                        have f2q : jdN (wld D) no (rdyB (wld D) s2 n) (wrks (wld D) n s2) (t0 + i) n = some (j, q) := jdN_up (a := j + 1) (by simp [jdN, hN, jdI, h78, h89, h100, f1q]) n (by omega)
                                        have hz : jdgN (wld D) ro no n b (D 23) = some (t0 + i, j, q) := by rw [← g4, show b - i = (b - (i + 1)) + 1 by omega]; simp [jdgN, h30, e1, f2q]
                                        have x1 : fr tY Ia I5 := (((g3.wk fun _ _ => tP_Y).tr (w6.wk fun _ _ h => tW_P (tP_Y h))).st rfl |>.tr ((v0.tr v1).wk fun _ _ => tR_Y)).tr (y2.wk fun _ _ => tP_Y)
                                        have q1 : fr tQ I1 Ic := ((a3.wk fun _ _ h => t24_E (tE_Q h)).tr (x1.wk fun _ _ => tY_Q)).tr (c3.wk fun _ _ h => t23_E (tE_Q h))
                                        have q2 : Ic 23 = D 23 := row_back (fun j hj => hsf0.hi hj) (fun j hj => (x1 24 j rfl).trans ((a1 j hj).trans (congrFun hs0 j))) c1 (fun j hj => (c2 j hj).trans (by rw [y1]; exact (sf_hrS hsf hw g1 (by omega)).hi hj))
                                        exact zO_k (D2 := D) (R2 := [(nI j).toInt64, (nI q).toInt64]) (by rw [fJudge, if_neg n0, eb, hz]) k (mR_of0 hR1 q1 q2 ⟨(c3 0 1 rfl).trans ((y2 0 1 rfl).trans u1.1), u1.2⟩) (f1.tr (frM_of q1 (w0.tr w1b)))
                                      · refine Z_iload_n dX5_judge_69 rfl ?_
                                        refine Z_ifgeN 203 dX5_judge_70 rfl (by omega) ?_
                                        refine Z_fgt (s_jclose (x := nI (t0 + i)) (ro := ro) (s := (wrks (wld D) n s2).1) (s0 := s2) hM (wld_fr (v0.tr v1) (fun _ _ => tR_w) |>.trans ((wld_zw rfl).trans hW3)) (((v0.tr v1).s23 fun _ => rfl).trans ((zw_n _ _ _ _ (by decide)).trans w1)) hw hs3 ((wrks_0).trans g1) (by omega) hru rfl g1 (((v0.tr v1) 0 34 rfl).trans w2) (fun I5 y1 y2 => ?_)) (by repeat first | exact zwk_n | refine zwk_f ?_ | refine zwk_c rfl ?_)
                                        refine Z_iload_n dX5_judge_25 rfl ?_
                                        refine Z_ifgeN 220 dX5_judge_26 rfl (by omega) ?_
                                        refine Z_aload_n dX5_judge_220 rfl ?_
                                        refine Z_aload_n dX5_judge_221 rfl ?_
                                        refine Z_getR (r := 24) hM.1 fX5_322_4 dX5_judge_222 rfl (hM.2.2 24 _ rfl rfl) ?_
                                        refine Z_call0 (d' := 0) (zCal_V gX5_332 nX5_takesBack (by decide) dX5_judge_225) pX5_takesBack hM.1 zkl4 [_] rfl rfl (Nat.le_of_ble_eq_true rfl) (by omega) (c_X5_takesBack hM (fun Ic c1 c2 c3 => ?_))
                                        refine Z_iload_n dX5_judge_228 rfl ?_
                                        refine Z_ireturn dX5_judge_229 rfl rfl ?_
                                        have n0 : ¬ D 0 16 = 0 := fun e => c9 ((nI_z (by omega)).mp ((show D 0 16 = nI n from hw.n16).symm.trans e))
                                        have f1q : fstB (fun o => canW (wld D) (wrks (wld D) n s2).2.2.2 (t0 + i) j o) no = some q := fstB_up (a := q + 1) (by rw [fstB, hF]; exact if_pos (by rw [canW, h129, h148, decide_eq_true (Int32.not_le.mp c168)]; decide)) no (by omega)
                                        have f2q : jdN (wld D) no (rdyB (wld D) s2 n) (wrks (wld D) n s2) (t0 + i) n = some (j, q) := jdN_up (a := j + 1) (by simp [jdN, hN, jdI, h78, h89, h100, f1q]) n (by omega)
                                        have hz : jdgN (wld D) ro no n b (D 23) = some (t0 + i, j, q) := by rw [← g4, show b - i = (b - (i + 1)) + 1 by omega]; simp [jdgN, h30, e1, f2q]
                                        have x1 : fr tY Ia I5 := (((g3.wk fun _ _ => tP_Y).tr (w6.wk fun _ _ h => tW_P (tP_Y h))).st rfl |>.tr ((v0.tr v1).wk fun _ _ => tR_Y)).tr (y2.wk fun _ _ => tP_Y)
                                        have q1 : fr tQ I1 Ic := ((a3.wk fun _ _ h => t24_E (tE_Q h)).tr (x1.wk fun _ _ => tY_Q)).tr (c3.wk fun _ _ h => t23_E (tE_Q h))
                                        have q2 : Ic 23 = D 23 := row_back (fun j hj => hsf0.hi hj) (fun j hj => (x1 24 j rfl).trans ((a1 j hj).trans (congrFun hs0 j))) c1 (fun j hj => (c2 j hj).trans (by rw [y1]; exact (sf_hrS hsf hw g1 (by omega)).hi hj))
                                        exact zO_k (D2 := D) (R2 := [(nI j).toInt64, (nI q).toInt64]) (by rw [fJudge, if_neg n0, eb, hz]) k (mR_of0 hR1 q1 q2 ⟨(c3 0 1 rfl).trans ((y2 0 1 rfl).trans u1.1), u1.2⟩) (f1.tr (frM_of q1 (w0.tr w1b)))
                                · refine Z_ifeq 191 dX5_judge_151 rfl (fun _ => ?_) (fun h => absurd h (by decide))
                                  refine Z_iincN (a := _) (k := 1) (lv' := [_, _, _, _, _]) dX5_judge_191 rfl rfl rfl rfl ?_
                                  refine Z_goto 112 dX5_judge_194 rfl ?_
                                  exact ihq (by omega) (by rw [fstB, hF]; exact if_neg (by simp [canW, h129, h148]))
                              · refine Z_ifeq 191 dX5_judge_132 rfl (fun _ => ?_) (fun h => absurd h (by decide))
                                refine Z_iincN (a := _) (k := 1) (lv' := [_, _, _, _, _]) dX5_judge_191 rfl rfl rfl rfl ?_
                                refine Z_goto 112 dX5_judge_194 rfl ?_
                                exact ihq (by omega) (by rw [fstB, hF]; exact if_neg (by simp [canW, h129]))
                        exact lp112 0 (by omega) rfl
                  · refine Z_ifeq 197 dX5_judge_81 rfl (fun _ => ?_) (fun h => absurd h (by decide))
                    refine Z_iincN (a := _) (k := 1) (lv' := [_, _, _, _, _]) dX5_judge_197 rfl rfl rfl rfl ?_
                    refine Z_goto 61 dX5_judge_200 rfl ?_
                    exact Z_fgt (ihj (by omega) (by simp [jdN, hN, jdI, h78])) (by repeat first | exact zwk_n | refine zwk_f ?_ | refine zwk_c rfl ?_)
            exact lp61 0 (by omega) rfl
    exact lp25 0 (by omega) Ia (D 23) h0 hsf fr.rf rfl hs
  · refine Z_iconst (-1) dX5_judge_12 rfl ?_
    refine Z_ireturn dX5_judge_13 rfl rfl ?_
    exact zO_k (by rw [fJudge, if_pos (by rw [show D 0 16 = nI n from hw.n16, c9]; rfl)]) k hR1 f1
end M17
