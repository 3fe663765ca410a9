set_option maxRecDepth 100000
/-! THE MODEL, part 8: hours that go by; the end -/
section M8
variable {G : zG} {d C Sl : Nat} {I I2 W : zI} {L : zL} {P : zR} {S : zT} {Q : zQ} {s : zS} {no n : Nat}
def tP : Nat → Nat → Bool := fun h k => tW h k || h == 27
theorem tP_w {a k : Nat} (h : wAt a k = true) : tP a k = false := by
  unfold tP
  rw [tW_w h, Bool.false_or]
  exact t27_w h
theorem tC_P {a k : Nat} (h : tP a k = false) : tC a k = false := by
  unfold tP tW at h
  unfold tC
  simp only [Bool.or_eq_false_iff] at h ⊢
  exact ⟨h.1.1, h.2⟩
theorem tW_P {a k : Nat} (h : tP a k = false) : tW a k = false := by
  unfold tP at h
  simp only [Bool.or_eq_false_iff] at h
  exact h.1
set_option maxHeartbeats 4000000 in
theorem c_X5_passes (hM : mOk P S) (hW : wld I = W) (hs : I 23 = s) (hw : wf W no n) (hsf : sf W no n s) {hr : Nat} (h0 : s 0 = nI hr) (hr9 : hr < 2399) {ro : Option (List Nat)} (hru : ruM W ro) (k : ∀ I2, I2 23 = hrS W ro no n s → fr tP I I2 → Q (.inl none) I2 L P S) : Zm G mX5_passes 8 C Sl [.ref 0] I L P S Q := by
  refine Z_entry (lv := [_]) (Nat.le_of_ble_eq_true rfl) rfl ?_
  refine Z_aload_n dX5_passes_0 rfl ?_
  refine Z_call0 (d' := 3) (zCal_V gX5_296 nX5_works (by decide) dX5_passes_1) pX5_works hM.1 zkl4 [] rfl rfl (Nat.le_of_ble_eq_true rfl) (by omega) (c_X5_works hM hW hs hw hsf h0 (by omega) rfl (fun I2 g => ?_))
  obtain ⟨g1, g2, g3, g4, g5, g6⟩ := g
  have hW2 : wld I2 = W := (wld_fr g6 fun _ _ => tW_w).trans hW
  have hs1 := sf_wrkN (rd := rdyB W s n) (t := (s, nI 0, nI 0, fun _ => nI 0)) (hr := hr) hsf hw (by omega) n (Nat.le_refl _)
  refine Z_aload_n dX5_passes_4 rfl ?_
  refine Z_call0 (d' := 7) (zCal_V gX5_300 nX5_closes (by decide) dX5_passes_5) pX5_closes hM.1 zkl4 [] rfl rfl (Nat.le_of_ble_eq_true rfl) (by omega) (c_X5_closes hM hW2 g1 hw hs1 ((wrkN_0 n).trans h0) (by omega) g2 hru (fun I3 g7 g8 => ?_))
  have e0 : (s 0).toNatClampNeg = hr := by rw [h0, nI_clamp (by omega)]
  refine Z_aload_n dX5_passes_8 rfl ?_
  refine Z_getR (r := 23) hM.1 fX5_140_4 dX5_passes_9 rfl (hM.2.2 23 _ rfl rfl) ?_
  refine Z_iconst (nI 0) dX5_passes_12 rfl ?_
  refine Z_dup2_11 dX5_passes_13 rfl rfl ?_
  refine Z_iald (hM.2.1 23 _ rfl) (zix_nI (by omega) (by decide)) dX5_passes_14 ?_
  refine Z_re (y := s 0) (by rw [g7, clss_0]; exact wrkN_0 n) ?_
  refine Z_iconst (nI 1) dX5_passes_15 rfl ?_
  refine Z_iadd dX5_passes_16 ?_
  refine Z_iast (hM.2.1 23 _ rfl) (zix_nI (by omega) (by decide)) dX5_passes_17 ?_
  refine Z_return dX5_passes_18 rfl ?_
  refine k _ ?_ (((g6.wk fun _ _ => tW_P).tr (g8.wk fun _ _ => tC_P)).st rfl)
  rw [zw_a, g7, hrS, wrks, e0]
set_option maxHeartbeats 4000000 in
theorem c_X5_goesOn (hM : mOk P S) (hW : wld I = W) (hs : I 23 = s) (hw : wf W no n) (hsf : sf W no n s) {ro : Option (List Nat)} (hru : ruM W ro) (kt : ∀ I2 s2 t, pEnd W ro no n s = some s2 → s2 0 = nI t → t ≤ 2399 → sf W no n s2 → I2 23 = s2 → fr tP I I2 → Q (.inl (some (.int (nI t)))) I2 L P S) (kf : ∀ I2, pEnd W ro no n s = none → (∀ j, 127 ≤ j → I2 23 j = 0) → fr tP I I2 → Q (.inl (some (.int (-1)))) I2 L P S) : Zm G mX5_goesOn 9 C Sl [.ref 0] I L P S Q := by
  have hn8 := hw.n8
  have ho6 := hw.o6
  have hW0 := hW
  obtain ⟨t0, ht0, h0⟩ := hsf.now
  obtain ⟨b, hb⟩ : ∃ b, t0 + b = 2399 := ⟨2399 - t0, by omega⟩
  refine Z_entry (lv := [_, _]) (Nat.le_of_ble_eq_true rfl) rfl ?_
  refine Z_aload_n dX5_goesOn_0 rfl ?_
  refine Z_getR (r := 23) hM.1 fX5_140_4 dX5_goesOn_1 rfl (hM.2.2 23 _ rfl rfl) ?_
  refine Z_iconst (nI 0) dX5_goesOn_4 rfl ?_
  refine Z_iald (hM.2.1 23 _ rfl) (zix_nI (by omega) (by decide)) dX5_goesOn_5 ?_
  refine Z_re (congrFun hs _) ?_
  refine Z_re (y := nI (t0)) h0 ?_
  refine Z_istore_n (lv' := [_, _]) dX5_goesOn_6 rfl rfl (Nat.le_of_ble_eq_true rfl) ?_
  refine Z_aload_n dX5_goesOn_7 rfl ?_
  refine Z_call0 (d' := 1) (zCal_V gX5_313 nX5_isAllDone (by decide) dX5_goesOn_8) pX5_isAllDone hM.1 zkl4 [] rfl rfl (Nat.le_of_ble_eq_true rfl) (by omega) (c_X5_isAllDone hM (by first | exact hW | (simp only [wld_zw23, wld_zw33, wld_zw27, wld_zw34, wld_zw35, wld_zw36, wld_zw0, wld_zw1, wld_zu23]; exact hW)) hs hw (fun h8 => ?_) (fun h8 => ?_))
  · refine Z_ifeq 16 dX5_goesOn_11 rfl (fun h => absurd h (by decide)) (fun _ => ?_)
    refine Z_iload_n dX5_goesOn_14 rfl ?_
    refine Z_ireturn dX5_goesOn_15 rfl rfl ?_
    have hpe : pEnd W ro no n s = some s := endN_dn h8 _
    exact kt I s t0 hpe h0 ht0 hsf hs fr.rf
  · refine Z_ifeq 16 dX5_goesOn_11 rfl (fun _ => ?_) (fun h => absurd h (by decide))
    have lp16 : ∀ i, i ≤ b → ∀ I2 s2, s2 0 = nI (t0 + i) → sf W no n s2 → fr tP I I2 → endN W ro no n (b - i) s2 = pEnd W ro no n s → I2 23 = s2 → Zj G mX5_goesOn 9 C Sl 16 [.ref 0, .int (nI t0)] [] I2 L P S Q := by
      refine zloop (b) (fun i => ∀ I2 s2, s2 0 = nI (t0 + i) → sf W no n s2 → fr tP I I2 → endN W ro no n (b - i) s2 = pEnd W ro no n s → I2 23 = s2 → Zj G mX5_goesOn 9 C Sl 16 [.ref 0, .int (nI t0)] [] I2 L P S Q) (fun i hi ih => ?_)
      intro I2 s2 g1 hsf g3 g4 hs
      show Zj _ _ _ _ _ _ _ _ _ _ _ _ _
      have hW : wld I2 = W := (wld_fr g3 fun _ _ => tP_w).trans hW0
      refine Z_aload_n dX5_goesOn_16 rfl ?_
      refine Z_call0 (d' := 1) (zCal_V gX5_313 nX5_isAllDone (by decide) dX5_goesOn_17) pX5_isAllDone hM.1 zkl4 [] rfl rfl (Nat.le_of_ble_eq_true rfl) (by omega) (c_X5_isAllDone hM (by first | exact hW | (simp only [wld_zw23, wld_zw33, wld_zw27, wld_zw34, wld_zw35, wld_zw36, wld_zw0, wld_zw1, wld_zu23]; exact hW)) hs hw (fun h17 => ?_) (fun h17 => ?_))
      · refine Z_ifne 44 dX5_goesOn_20 rfl (fun _ => ?_) (fun h => absurd h (by decide))
        refine Z_aload_n dX5_goesOn_44 rfl ?_
        refine Z_getR (r := 23) hM.1 fX5_140_4 dX5_goesOn_45 rfl (hM.2.2 23 _ rfl rfl) ?_
        refine Z_iconst (nI 0) dX5_goesOn_48 rfl ?_
        refine Z_iald (hM.2.1 23 _ rfl) (zix_nI (by omega) (by decide)) dX5_goesOn_49 ?_
        refine Z_re (congrFun hs _) ?_
        refine Z_re (y := nI (t0 + i)) g1 ?_
        refine Z_ireturn dX5_goesOn_50 rfl rfl ?_
        rw [endN_dn h17] at g4
        exact kt I2 s2 (t0 + i) g4.symm g1 (by omega) hsf hs g3
      · refine Z_ifne 44 dX5_goesOn_20 rfl (fun h => absurd h (by decide)) (fun _ => ?_)
        refine Z_aload_n dX5_goesOn_23 rfl ?_
        refine Z_getR (r := 23) hM.1 fX5_140_4 dX5_goesOn_24 rfl (hM.2.2 23 _ rfl rfl) ?_
        refine Z_iconst (nI 0) dX5_goesOn_27 rfl ?_
        refine Z_iald (hM.2.1 23 _ rfl) (zix_nI (by omega) (by decide)) dX5_goesOn_28 ?_
        refine Z_re (congrFun hs _) ?_
        refine Z_re (y := nI (t0 + i)) g1 ?_
        refine Z_sipush (nI 2399) dX5_goesOn_29 rfl ?_
        refine Z_icmpltN 37 dX5_goesOn_32 rfl (by omega) (by omega) (fun c32 => ?_) (fun c32 => ?_)
        · refine Z_aload_n dX5_goesOn_37 rfl ?_
          refine Z_call0 (d' := 8) (zCal_V gX5_308 nX5_passes (by decide) dX5_goesOn_38) pX5_passes hM.1 zkl4 [] rfl rfl (Nat.le_of_ble_eq_true rfl) (by omega) (c_X5_passes hM hW hs hw hsf g1 (by omega) hru (fun I3 g5 g6 => ?_))
          refine Z_goto 16 dX5_goesOn_41 rfl ?_
          exact ih (by omega) I3 _ (hrS_0 g1) (sf_hrS hsf hw g1 (by omega)) (g3.tr g6) (by rw [← g4, show b - i = (b - (i + 1)) + 1 by omega, endN_nd h17]) g5
        · refine Z_iconst (-1) dX5_goesOn_35 rfl ?_
          refine Z_ireturn dX5_goesOn_36 rfl rfl ?_
          have hz : b - i = 0 := by omega
          rw [hz, endN_0 h17] at g4
          exact kf I2 g4.symm (fun j hj => by rw [hs]; exact hsf.hi hj) g3
    exact lp16 0 (by omega) I s h0 hsf fr.rf (by rw [pEnd, h0, nI_clamp (by omega), show 2399 - t0 = b - 0 by omega]) hs
end M8
