set_option maxRecDepth 100000
/-! THE MODEL, part 9: how it ends from now, from an hour on -/
section M9
variable {G : zG} {d C Sl : Nat} {I I2 W : zI} {L : zL} {P : zR} {S : zT} {Q : zQ} {s : zS} {no n : Nat}
def tE : Nat → Nat → Bool := fun h k => tP h k || h == 24
theorem tE_w {a k : Nat} (h : wAt a k = true) : tE a k = false := by
  unfold tE
  rw [tP_w h, Bool.false_or]
  by_cases e : a = 24
  · subst e; exact absurd h (by simp [wAt])
  · simp [e]
theorem tP_E {a k : Nat} (h : tE a k = false) : tP a k = false := by
  unfold tE at h
  simp only [Bool.or_eq_false_iff] at h
  exact h.1
theorem t24_E {a k : Nat} (h : tE a k = false) : (a == 24) = false := by
  unfold tE at h
  simp only [Bool.or_eq_false_iff] at h
  exact h.2
theorem t23_E {a k : Nat} (h : tE a k = false) : (a == 23) = false := by
  unfold tE tP tW at h
  simp only [Bool.or_eq_false_iff] at h
  exact h.1.1.1
set_option maxHeartbeats 4000000 in
theorem c_X5_endsNow (hM : mOk P S) (hW : wld I = W) (hs : I 23 = s) (hw : wf W no n) (hsf : sf W no n s) {ro : Option (List Nat)} (hru : ruM W ro) (k : ∀ I2, I2 23 = s → fr tE I I2 → Q (.inl (some (.int (endV (pEnd W ro no n s))))) I2 L P S) : Zm G mX5_endsNow 10 C Sl [.ref 0] I L P S Q := by
  refine Z_entry (lv := [_, _]) (Nat.le_of_ble_eq_true rfl) rfl ?_
  refine Z_aload_n dX5_endsNow_0 rfl ?_
  refine Z_aload_n dX5_endsNow_1 rfl ?_
  refine Z_getR (r := 24) hM.1 fX5_322_4 dX5_endsNow_2 rfl (hM.2.2 24 _ rfl rfl) ?_
  refine Z_call0 (d' := 0) (zCal_V gX5_325 nX5_putsBy (by decide) dX5_endsNow_5) pX5_putsBy hM.1 zkl4 [_] rfl rfl (Nat.le_of_ble_eq_true rfl) (by omega) (c_X5_putsBy hM (fun Ia a1 a2 a3 => ?_))
  have hWa : wld Ia = W := (wld_fr a3 fun a k h => t24_E (k := k) (tE_w h)).trans hW
  have hsa : Ia 23 = s := (a3.s23 fun _ => rfl).trans hs
  refine Z_aload_n dX5_endsNow_8 rfl ?_
  refine Z_call0 (d' := 9) (zCal_V gX5_319 nX5_goesOn (by decide) dX5_endsNow_9) pX5_goesOn hM.1 zkl4 [] rfl rfl (Nat.le_of_ble_eq_true rfl) (by omega) (c_X5_goesOn hM hWa hsa hw hsf hru (fun Ib s2 t b1 b2 b3 b4 b5 b6 => ?_) (fun Ib b1 b5 b6 => ?_))
  · have b5 : ∀ j, 127 ≤ j → Ib 23 j = 0 := fun j hj => by rw [b5]; exact b4.hi hj
    refine Z_istore_n (lv' := [_, _]) dX5_endsNow_12 rfl rfl (Nat.le_of_ble_eq_true rfl) ?_
    refine Z_aload_n dX5_endsNow_13 rfl ?_
    refine Z_aload_n dX5_endsNow_14 rfl ?_
    refine Z_getR (r := 24) hM.1 fX5_322_4 dX5_endsNow_15 rfl (hM.2.2 24 _ rfl rfl) ?_
    refine Z_call0 (d' := 0) (zCal_V gX5_332 nX5_takesBack (by decide) dX5_endsNow_18) pX5_takesBack hM.1 zkl4 [_] rfl rfl (Nat.le_of_ble_eq_true rfl) (by omega) (c_X5_takesBack hM (fun Ic c1 c2 c3 => ?_))
    refine Z_iload_n dX5_endsNow_21 rfl ?_
    refine Z_ireturn dX5_endsNow_22 rfl rfl ?_
    refine zQe ?_ (k Ic (row_back (fun j hj => hsf.hi hj) (fun j hj => (b6 24 j rfl).trans ((a1 j hj).trans (congrFun hs j))) c1 (fun j hj => (c2 j hj).trans (b5 j hj))) (((a3.wk fun _ _ => t24_E).tr (b6.wk fun _ _ => tP_E)).tr (c3.wk fun _ _ => t23_E)))
    rw [b1]; exact b2.symm
  · refine Z_istore_n (lv' := [_, _]) dX5_endsNow_12 rfl rfl (Nat.le_of_ble_eq_true rfl) ?_
    refine Z_aload_n dX5_endsNow_13 rfl ?_
    refine Z_aload_n dX5_endsNow_14 rfl ?_
    refine Z_getR (r := 24) hM.1 fX5_322_4 dX5_endsNow_15 rfl (hM.2.2 24 _ rfl rfl) ?_
    refine Z_call0 (d' := 0) (zCal_V gX5_332 nX5_takesBack (by decide) dX5_endsNow_18) pX5_takesBack hM.1 zkl4 [_] rfl rfl (Nat.le_of_ble_eq_true rfl) (by omega) (c_X5_takesBack hM (fun Ic c1 c2 c3 => ?_))
    refine Z_iload_n dX5_endsNow_21 rfl ?_
    refine Z_ireturn dX5_endsNow_22 rfl rfl ?_
    refine zQe ?_ (k Ic (row_back (fun j hj => hsf.hi hj) (fun j hj => (b6 24 j rfl).trans ((a1 j hj).trans (congrFun hs j))) c1 (fun j hj => (c2 j hj).trans (b5 j hj))) (((a3.wk fun _ _ => t24_E).tr (b6.wk fun _ _ => tP_E)).tr (c3.wk fun _ _ => t23_E)))
    rw [b1]; rfl
set_option maxHeartbeats 4000000 in
theorem c_X5_endsFrom (hM : mOk P S) (hW : wld I = W) (hs : I 23 = s) (hw : wf W no n) (hi : ∀ j, 127 ≤ j → s j = 0) {ro : Option (List Nat)} (hru : ruM W ro) {h : Nat} (hh : h ≤ 2399) (k : ∀ I2, I2 23 = s → fr tE I I2 → Q (.inl (some (.int (endV (pEnd W ro no n (begS W s n h)))))) I2 L P S) : Zm G mX5_endsFrom 10 C Sl [.ref 0, .int (nI h)] I L P S Q := by
  refine Z_entry (lv := [_, _, _]) (Nat.le_of_ble_eq_true rfl) rfl ?_
  refine Z_aload_n dX5_endsFrom_0 rfl ?_
  refine Z_aload_n dX5_endsFrom_1 rfl ?_
  refine Z_getR (r := 24) hM.1 fX5_322_4 dX5_endsFrom_2 rfl (hM.2.2 24 _ rfl rfl) ?_
  refine Z_call0 (d' := 0) (zCal_V gX5_325 nX5_putsBy (by decide) dX5_endsFrom_5) pX5_putsBy hM.1 zkl4 [_] rfl rfl (Nat.le_of_ble_eq_true rfl) (by omega) (c_X5_putsBy hM (fun Ia a1 a2 a3 => ?_))
  have hWa : wld Ia = W := (wld_fr a3 fun a k h => t24_E (k := k) (tE_w h)).trans hW
  have hsa : Ia 23 = s := (a3.s23 fun _ => rfl).trans hs
  refine Z_aload_n dX5_endsFrom_8 rfl ?_
  refine Z_iload_n dX5_endsFrom_9 rfl ?_
  refine Z_call0 (d' := 1) (zCal_V gX5_303 nX5_begins (by decide) dX5_endsFrom_10) pX5_begins hM.1 zkl4 [_] rfl rfl (Nat.le_of_ble_eq_true rfl) (by omega) (c_X5_begins hM hWa hsa hw ?_)
  refine Z_aload_n dX5_endsFrom_13 rfl ?_
  refine Z_call0 (d' := 9) (zCal_V gX5_319 nX5_goesOn (by decide) dX5_endsFrom_14) pX5_goesOn hM.1 zkl4 [] rfl rfl (Nat.le_of_ble_eq_true rfl) (by omega) (c_X5_goesOn hM (wld_zu23.trans hWa) (zu_s _ _ _) hw (sf_begS hw hi hh) hru (fun Ib s2 t b1 b2 b3 b4 b5 b6 => ?_) (fun Ib b1 b5 b6 => ?_))
  · have b5 : ∀ j, 127 ≤ j → Ib 23 j = 0 := fun j hj => by rw [b5]; exact b4.hi hj
    refine Z_istore_n (lv' := [_, _, _]) dX5_endsFrom_17 rfl rfl (Nat.le_of_ble_eq_true rfl) ?_
    refine Z_aload_n dX5_endsFrom_18 rfl ?_
    refine Z_aload_n dX5_endsFrom_19 rfl ?_
    refine Z_getR (r := 24) hM.1 fX5_322_4 dX5_endsFrom_20 rfl (hM.2.2 24 _ rfl rfl) ?_
    refine Z_call0 (d' := 0) (zCal_V gX5_332 nX5_takesBack (by decide) dX5_endsFrom_23) pX5_takesBack hM.1 zkl4 [_] rfl rfl (Nat.le_of_ble_eq_true rfl) (by omega) (c_X5_takesBack hM (fun Ic c1 c2 c3 => ?_))
    refine Z_iload_n dX5_endsFrom_26 rfl ?_
    refine Z_ireturn dX5_endsFrom_27 rfl rfl ?_
    have b7 : fr tE I Ib := ((a3.wk fun _ _ => t24_E).su fun _ => rfl).tr (b6.wk fun _ _ => tP_E)
    refine zQe ?_ (k Ic (row_back hi (fun j hj => (b6 24 j rfl).trans ((a1 j hj).trans (congrFun hs j))) c1 (fun j hj => (c2 j hj).trans (b5 j hj))) (b7.tr (c3.wk fun _ _ => t23_E)))
    rw [b1]; exact b2.symm
  · refine Z_istore_n (lv' := [_, _, _]) dX5_endsFrom_17 rfl rfl (Nat.le_of_ble_eq_true rfl) ?_
    refine Z_aload_n dX5_endsFrom_18 rfl ?_
    refine Z_aload_n dX5_endsFrom_19 rfl ?_
    refine Z_getR (r := 24) hM.1 fX5_322_4 dX5_endsFrom_20 rfl (hM.2.2 24 _ rfl rfl) ?_
    refine Z_call0 (d' := 0) (zCal_V gX5_332 nX5_takesBack (by decide) dX5_endsFrom_23) pX5_takesBack hM.1 zkl4 [_] rfl rfl (Nat.le_of_ble_eq_true rfl) (by omega) (c_X5_takesBack hM (fun Ic c1 c2 c3 => ?_))
    refine Z_iload_n dX5_endsFrom_26 rfl ?_
    refine Z_ireturn dX5_endsFrom_27 rfl rfl ?_
    have b7 : fr tE I Ib := ((a3.wk fun _ _ => t24_E).su fun _ => rfl).tr (b6.wk fun _ _ => tP_E)
    refine zQe ?_ (k Ic (row_back hi (fun j hj => (b6 24 j rfl).trans ((a1 j hj).trans (congrFun hs j))) c1 (fun j hj => (c2 j hj).trans (b5 j hj))) (b7.tr (c3.wk fun _ _ => t23_E)))
    rw [b1]; rfl
end M9
