set_option maxRecDepth 100000
/-! THE MODEL, part 2: an office at an hour; what is lost -/
section M2
variable {G : zG} {d C Sl : Nat} {I : zI} {L : zL} {P : zR} {S : zT} {Q : zQ}
set_option maxHeartbeats 4000000 in
theorem c_X5_isOpen (hM : mOk P S) {o h : Nat} (ho : o < 6) (kt : opn I o h = true → Q (.inl (some (.int (nI 1)))) I L P S) (kf : opn I o h = false → Q (.inl (some (.int (nI 0)))) I L P S) : Zm G mX5_isOpen 2 C Sl [.ref 0, .int (nI o), .int (nI h)] I L P S Q := by
  refine Z_entry (lv := [_, _, _, _, _, _]) (Nat.le_of_ble_eq_true rfl) rfl ?_
  refine Z_iload_n dX5_isOpen_0 rfl ?_
  refine Z_aload_n dX5_isOpen_1 rfl ?_
  refine Z_getR (r := 4) hM.1 fX5_31_4 dX5_isOpen_2 rfl (hM.2.2 4 _ rfl rfl) ?_
  refine Z_iload_n dX5_isOpen_5 rfl ?_
  refine Z_iald (hM.2.1 4 _ rfl) (zix_nI (by omega) (by decide)) dX5_isOpen_6 ?_
  refine Z_iadd dX5_isOpen_7 ?_
  refine Z_iload_n dX5_isOpen_8 rfl ?_
  refine Z_aload_n dX5_isOpen_9 rfl ?_
  refine Z_getR (r := 10) hM.1 fX5_50_4 dX5_isOpen_10 rfl (hM.2.2 10 _ rfl rfl) ?_
  refine Z_iload_n dX5_isOpen_13 rfl ?_
  refine Z_iald (hM.2.1 10 _ rfl) (zix_nI (by omega) (by decide)) dX5_isOpen_14 ?_
  refine Z_cut2 28 (.int (if nI h < I 10 o then nI 0 else I 11 o)) (fun jn28 => ?_) ?_
  · refine Z_icmplt 27 dX5_isOpen_15 rfl (fun c15 => ?_) (fun c15 => ?_)
    · refine Z_iconst (nI 0) dX5_isOpen_27 rfl ?_
      exact Z_re (by simp [c15]) jn28
    · refine Z_aload_n dX5_isOpen_18 rfl ?_
      refine Z_getR (r := 11) hM.1 fX5_53_4 dX5_isOpen_19 rfl (hM.2.2 11 _ rfl rfl) ?_
      refine Z_iload_n dX5_isOpen_22 rfl ?_
      refine Z_iald (hM.2.1 11 _ rfl) (zix_nI (by omega) (by decide)) dX5_isOpen_23 ?_
      refine Z_goto 28 dX5_isOpen_24 rfl ?_
      exact Z_re (by simp [c15]) jn28
  · refine Z_iadd dX5_isOpen_28 ?_
    refine Z_istore_n (lv' := [_, _, _, _, _, _]) dX5_isOpen_29 rfl rfl (Nat.le_of_ble_eq_true rfl) ?_
    refine Z_iload_n dX5_isOpen_30 rfl ?_
    refine Z_aload_n dX5_isOpen_31 rfl ?_
    refine Z_getR (r := 5) hM.1 fX5_35_4 dX5_isOpen_32 rfl (hM.2.2 5 _ rfl rfl) ?_
    refine Z_iload_n dX5_isOpen_35 rfl ?_
    refine Z_iald (hM.2.1 5 _ rfl) (zix_nI (by omega) (by decide)) dX5_isOpen_36 ?_
    refine Z_isub dX5_isOpen_37 ?_
    refine Z_bipush (nI 24) dX5_isOpen_38 rfl ?_
    refine Z_callS0 (d' := 0) (zCal_S gX5_114 nJ5_floorMod (by decide) dX5_isOpen_40) pJ5_floorMod [_, _] rfl rfl (Nat.le_of_ble_eq_true rfl) (by omega) (c_J5_floorMod (by decide)  ?_)
    refine Z_istore (lv' := [_, _, _, _, _, _]) dX5_isOpen_43 rfl rfl (Nat.le_of_ble_eq_true rfl) ?_
    refine Z_iload_n dX5_isOpen_45 rfl ?_
    refine Z_iload dX5_isOpen_46 rfl ?_
    refine Z_isub dX5_isOpen_48 ?_
    refine Z_bipush (nI 24) dX5_isOpen_49 rfl ?_
    refine Z_callS0 (d' := 0) (zCal_S gX5_117 nJ5_floorDiv (by decide) dX5_isOpen_51) pJ5_floorDiv [_, _] rfl rfl (Nat.le_of_ble_eq_true rfl) (by omega) (c_J5_floorDiv (by decide)  ?_)
    refine Z_topi (fun dy hdy => ?_)
    refine Z_istore (lv' := [_, _, _, _, _, _]) dX5_isOpen_54 rfl rfl (Nat.le_of_ble_eq_true rfl) ?_
    refine Z_iload dX5_isOpen_56 rfl ?_
    refine Z_aload_n dX5_isOpen_58 rfl ?_
    refine Z_getR (r := 6) hM.1 fX5_38_4 dX5_isOpen_59 rfl (hM.2.2 6 _ rfl rfl) ?_
    refine Z_iload_n dX5_isOpen_62 rfl ?_
    refine Z_iald (hM.2.1 6 _ rfl) (zix_nI (by omega) (by decide)) dX5_isOpen_63 ?_
    refine Z_icmpge 94 dX5_isOpen_64 rfl (fun c64 => ?_) (fun c64 => ?_)
    · refine Z_iconst (nI 0) dX5_isOpen_94 rfl ?_
      refine Z_ireturn dX5_isOpen_95 rfl rfl ?_
      exact kf (by rw [opn]; exact if_neg (Int32.not_lt.mpr c64))
    · refine Z_iload dX5_isOpen_67 rfl ?_
      refine Z_callS0 (d' := 1) (zCal_S gX5_86 nX5_isDay (by decide) dX5_isOpen_69) pX5_isDay [_] rfl rfl (Nat.le_of_ble_eq_true rfl) (by omega) (c_X5_isDay (fun h69a h69b => ?_) (fun h69 => ?_))
      · obtain ⟨dk, hdk, rfl⟩ := z_rng (n := 99) h69a h69b (by decide)
        refine Z_ifeq 90 dX5_isOpen_72 rfl (fun h => absurd h (by decide)) (fun _ => ?_)
        refine Z_aload_n dX5_isOpen_75 rfl ?_
        refine Z_getR (r := 12) hM.1 fX5_56_4 dX5_isOpen_76 rfl (hM.2.2 12 _ rfl rfl) ?_
        refine Z_bipush (nI 100) dX5_isOpen_79 rfl ?_
        refine Z_iload_n dX5_isOpen_81 rfl ?_
        refine Z_imulN dX5_isOpen_82 ?_
        refine Z_iload dX5_isOpen_83 rfl ?_
        refine Z_iaddN dX5_isOpen_85 ?_
        refine Z_zald (hM.2.1 12 _ rfl) (zix_nI (by omega) (by decide)) dX5_isOpen_86 ?_
        refine Z_ifne 94 dX5_isOpen_87 rfl (fun c87 => ?_) (fun c87 => ?_)
        · refine Z_iconst (nI 0) dX5_isOpen_94 rfl ?_
          refine Z_ireturn dX5_isOpen_95 rfl rfl ?_
          have e : opD I o h = nI dk := hdy.symm
          have g : opG I o h < I 6 o := Int32.not_le.mp c64
          have f : opF I o (nI dk) = decide (I 12 (100 * o + dk) = 0) := by rw [opF, if_pos ⟨h69a, h69b⟩, nI_clamp (by omega)]
          exact kf (by rw [opn, if_pos g, e, f]; simp [c87])
        · refine Z_iconst (nI 1) dX5_isOpen_90 rfl ?_
          refine Z_goto 95 dX5_isOpen_91 rfl ?_
          refine Z_ireturn dX5_isOpen_95 rfl rfl ?_
          have e : opD I o h = nI dk := hdy.symm
          have g : opG I o h < I 6 o := Int32.not_le.mp c64
          have f : opF I o (nI dk) = decide (I 12 (100 * o + dk) = 0) := by rw [opF, if_pos ⟨h69a, h69b⟩, nI_clamp (by omega)]
          exact kt (by rw [opn, if_pos g, e, f]; simp [c87])
      · refine Z_ifeq 90 dX5_isOpen_72 rfl (fun _ => ?_) (fun h => absurd h (by decide))
        refine Z_iconst (nI 1) dX5_isOpen_90 rfl ?_
        refine Z_goto 95 dX5_isOpen_91 rfl ?_
        refine Z_ireturn dX5_isOpen_95 rfl rfl ?_
        have e : opD I o h = dy := hdy.symm
        have g : opG I o h < I 6 o := Int32.not_le.mp c64
        exact kt (by rw [opn, if_pos g, opF, e, if_neg h69])
set_option maxHeartbeats 4000000 in
theorem c_X5_overlapOf (hM : mOk P S) {a b h : Nat} (ha : a < 6) (hb : b < 6) (hh : h < 2 ^ 30) (k : Q (.inl (some (.int (nI (ovl I a b h))))) I L P S) : Zm G mX5_overlapOf 3 C Sl [.ref 0, .int (nI a), .int (nI b), .int (nI h)] I L P S Q := by
  refine Z_entry (lv := [_, _, _, _, _, _]) (Nat.le_of_ble_eq_true rfl) rfl ?_
  refine Z_iconst (nI 0) dX5_overlapOf_0 rfl ?_
  refine Z_istore (lv' := [_, _, _, _, _, _]) dX5_overlapOf_1 rfl rfl (Nat.le_of_ble_eq_true rfl) ?_
  refine Z_iload_n dX5_overlapOf_3 rfl ?_
  refine Z_istore (lv' := [_, _, _, _, _, _]) dX5_overlapOf_4 rfl rfl (Nat.le_of_ble_eq_true rfl) ?_
  have lp6 : ∀ i, i ≤ 24 → Zj G mX5_overlapOf 3 C Sl 6 [.ref 0, .int (nI a), .int (nI b), .int (nI h), .int (nI (cntB (fun i => opn I a (h + i) && opn I b (h + i)) i)), .int (nI (h + i))] [] I L P S Q := by
    refine zloop (24) (fun i => Zj G mX5_overlapOf 3 C Sl 6 [.ref 0, .int (nI a), .int (nI b), .int (nI h), .int (nI (cntB (fun i => opn I a (h + i) && opn I b (h + i)) i)), .int (nI (h + i))] [] I L P S Q) (fun i hi ih => ?_)
    show Zj _ _ _ _ _ _ _ _ _ _ _ _ _
    refine Z_iload dX5_overlapOf_6 rfl ?_
    refine Z_iload_n dX5_overlapOf_8 rfl ?_
    refine Z_bipush (nI 24) dX5_overlapOf_9 rfl ?_
    refine Z_iaddN dX5_overlapOf_11 ?_
    refine Z_icmpgeN 54 dX5_overlapOf_12 rfl (by omega) (by omega) (fun c12 => ?_) (fun c12 => ?_)
    · obtain rfl : i = 24 := by omega
      refine Z_iload dX5_overlapOf_54 rfl ?_
      refine Z_ireturn dX5_overlapOf_56 rfl rfl ?_
      exact k
    · refine Z_iload dX5_overlapOf_15 rfl ?_
      refine Z_aload_n dX5_overlapOf_17 rfl ?_
      refine Z_iload_n dX5_overlapOf_18 rfl ?_
      refine Z_iload dX5_overlapOf_19 rfl ?_
      refine Z_call0 (d' := 2) (zCal_V gX5_120 nX5_isOpen (by decide) dX5_overlapOf_21) pX5_isOpen hM.1 zkl4 [_, _] rfl rfl (Nat.le_of_ble_eq_true rfl) (by omega) (c_X5_isOpen hM (by omega) (fun h21 => ?_) (fun h21 => ?_))
      · refine Z_ifeq 41 dX5_overlapOf_24 rfl (fun h => absurd h (by decide)) (fun _ => ?_)
        refine Z_aload_n dX5_overlapOf_27 rfl ?_
        refine Z_iload_n dX5_overlapOf_28 rfl ?_
        refine Z_iload dX5_overlapOf_29 rfl ?_
        refine Z_call0 (d' := 2) (zCal_V gX5_120 nX5_isOpen (by decide) dX5_overlapOf_31) pX5_isOpen hM.1 zkl4 [_, _] rfl rfl (Nat.le_of_ble_eq_true rfl) (by omega) (c_X5_isOpen hM (by omega) (fun h31 => ?_) (fun h31 => ?_))
        · refine Z_ifeq 41 dX5_overlapOf_34 rfl (fun h => absurd h (by decide)) (fun _ => ?_)
          refine Z_iconst (nI 1) dX5_overlapOf_37 rfl ?_
          refine Z_goto 42 dX5_overlapOf_38 rfl ?_
          refine Z_callS0 (d' := 0) (zCal_S gX5_124 nX5_flag (by decide) dX5_overlapOf_42) pX5_flag [_] rfl rfl (Nat.le_of_ble_eq_true rfl) (by omega) (c_X5_flag (by first | decide | assumption) ?_)
          refine Z_iaddN dX5_overlapOf_45 ?_
          refine Z_istore (lv' := [_, _, _, _, _, _]) dX5_overlapOf_46 rfl rfl (Nat.le_of_ble_eq_true rfl) ?_
          refine Z_iincN (a := _) (k := 1) (lv' := [_, _, _, _, _, _]) dX5_overlapOf_48 rfl rfl rfl rfl ?_
          refine Z_goto 6 dX5_overlapOf_51 rfl ?_
          have ih2 := ih (by omega)
          simp only [cntB, bI, c12, h21, h31, Bool.and_self, Bool.and_false, Bool.false_and, Bool.true_and, Bool.and_true, Bool.not_true, Bool.not_false, Bool.or_true, Bool.true_or, Bool.or_false, Bool.false_or, Bool.false_eq_true, if_true, if_false, reduceIte] at ih2
          exact ih2
        · refine Z_ifeq 41 dX5_overlapOf_34 rfl (fun _ => ?_) (fun h => absurd h (by decide))
          refine Z_iconst (nI 0) dX5_overlapOf_41 rfl ?_
          refine Z_callS0 (d' := 0) (zCal_S gX5_124 nX5_flag (by decide) dX5_overlapOf_42) pX5_flag [_] rfl rfl (Nat.le_of_ble_eq_true rfl) (by omega) (c_X5_flag (by first | decide | assumption) ?_)
          refine Z_iaddN dX5_overlapOf_45 ?_
          refine Z_istore (lv' := [_, _, _, _, _, _]) dX5_overlapOf_46 rfl rfl (Nat.le_of_ble_eq_true rfl) ?_
          refine Z_iincN (a := _) (k := 1) (lv' := [_, _, _, _, _, _]) dX5_overlapOf_48 rfl rfl rfl rfl ?_
          refine Z_goto 6 dX5_overlapOf_51 rfl ?_
          have ih2 := ih (by omega)
          simp only [cntB, bI, c12, h21, h31, Bool.and_self, Bool.and_false, Bool.false_and, Bool.true_and, Bool.and_true, Bool.not_true, Bool.not_false, Bool.or_true, Bool.true_or, Bool.or_false, Bool.false_or, Bool.false_eq_true, if_true, if_false, reduceIte] at ih2
          exact ih2
      · refine Z_ifeq 41 dX5_overlapOf_24 rfl (fun _ => ?_) (fun h => absurd h (by decide))
        refine Z_iconst (nI 0) dX5_overlapOf_41 rfl ?_
        refine Z_callS0 (d' := 0) (zCal_S gX5_124 nX5_flag (by decide) dX5_overlapOf_42) pX5_flag [_] rfl rfl (Nat.le_of_ble_eq_true rfl) (by omega) (c_X5_flag (by first | decide | assumption) ?_)
        refine Z_iaddN dX5_overlapOf_45 ?_
        refine Z_istore (lv' := [_, _, _, _, _, _]) dX5_overlapOf_46 rfl rfl (Nat.le_of_ble_eq_true rfl) ?_
        refine Z_iincN (a := _) (k := 1) (lv' := [_, _, _, _, _, _]) dX5_overlapOf_48 rfl rfl rfl rfl ?_
        refine Z_goto 6 dX5_overlapOf_51 rfl ?_
        have ih2 := ih (by omega)
        simp only [cntB, bI, c12, h21, Bool.and_self, Bool.and_false, Bool.false_and, Bool.true_and, Bool.and_true, Bool.not_true, Bool.not_false, Bool.or_true, Bool.true_or, Bool.or_false, Bool.false_or, Bool.false_eq_true, if_true, if_false, reduceIte] at ih2
        exact ih2
  exact lp6 0 (by omega)
set_option maxHeartbeats 4000000 in
theorem c_X5_lostOf (hM : mOk P S) {a b h : Nat} (ha : a < 6) (hb : b < 6) (hh : h < 2 ^ 30) (k : Q (.inl (some (.int (lst I a b h)))) I L P S) : Zm G mX5_lostOf 4 C Sl [.ref 0, .int (nI a), .int (nI b), .int (nI h)] I L P S Q := by
  refine Z_entry (lv := [_, _, _, _]) (Nat.le_of_ble_eq_true rfl) rfl ?_
  refine Z_iload_n dX5_lostOf_0 rfl ?_
  refine Z_iload_n dX5_lostOf_1 rfl ?_
  refine Z_icmpneN 7 dX5_lostOf_2 rfl (by omega) (by omega) (fun c2 => ?_) (fun c2 => ?_)
  · refine Z_iconst (nI 0) dX5_lostOf_7 rfl ?_
    refine Z_aload_n dX5_lostOf_8 rfl ?_
    refine Z_getI hM.1 fX5_108_4 dX5_lostOf_9 rfl ?_
    refine Z_aload_n dX5_lostOf_12 rfl ?_
    refine Z_getR (r := 13) hM.1 fX5_60_4 dX5_lostOf_13 rfl (hM.2.2 13 _ rfl rfl) ?_
    refine Z_bipush (nI 6) dX5_lostOf_16 rfl ?_
    refine Z_iload_n dX5_lostOf_18 rfl ?_
    refine Z_imulN dX5_lostOf_19 ?_
    refine Z_iload_n dX5_lostOf_20 rfl ?_
    refine Z_iaddN dX5_lostOf_21 ?_
    refine Z_iald (hM.2.1 13 _ rfl) (zix_nI (by omega) (by decide)) dX5_lostOf_22 ?_
    refine Z_isub dX5_lostOf_23 ?_
    refine Z_callS0 (d' := 0) (zCal_S gX5_101 nJ5_max (by decide) dX5_lostOf_24) pJ5_max [_, _] rfl rfl (Nat.le_of_ble_eq_true rfl) (by omega) (c_J5_max  ?_)
    refine Z_aload_n dX5_lostOf_27 rfl ?_
    refine Z_iload_n dX5_lostOf_28 rfl ?_
    refine Z_iload_n dX5_lostOf_29 rfl ?_
    refine Z_iload_n dX5_lostOf_30 rfl ?_
    refine Z_call0 (d' := 3) (zCal_V gX5_128 nX5_overlapOf (by decide) dX5_lostOf_31) pX5_overlapOf hM.1 zkl4 [_, _, _] rfl rfl (Nat.le_of_ble_eq_true rfl) (by omega) (c_X5_overlapOf hM (by omega) (by omega) (by omega)  ?_)
    refine Z_cut1 42 (.int (if ovl I a b h = 0 then nI 2 else nI 0)) (fun jn42 => ?_) ?_
    · have ovl4 := ovl_le I a b h
      refine Z_ifneN 41 dX5_lostOf_34 rfl (by omega) (fun c34 => ?_) (fun c34 => ?_)
      · refine Z_iconst (nI 0) dX5_lostOf_41 rfl ?_
        exact Z_re (by simp [c2, c34]) jn42
      · refine Z_iconst (nI 2) dX5_lostOf_37 rfl ?_
        refine Z_goto 42 dX5_lostOf_38 rfl ?_
        exact Z_re (by simp [c2, c34]) jn42
    · refine Z_iadd dX5_lostOf_42 ?_
      refine Z_ireturn dX5_lostOf_43 rfl rfl ?_
      exact zQe (by rw [lst, if_neg c2]) k
  · refine Z_iconst (nI 0) dX5_lostOf_5 rfl ?_
    refine Z_ireturn dX5_lostOf_6 rfl rfl ?_
    exact zQe (by rw [lst, if_pos c2]) k
end M2
