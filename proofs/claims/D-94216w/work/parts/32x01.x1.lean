set_option maxRecDepth 100000
/-! THE COMPONENT, part 1: an office, a world -/
section X1
variable {G : zG} {d C Sl : Nat} {I D W : zI} {R : List Int64} {L : zL} {P : zR} {S : zT} {Q : zQ} {no n np : Nat} {s : zS} {oh ph : Nat → Nat}
set_option maxHeartbeats 4000000 in
theorem c_X1_in {v lo hi : Int32} (kt : lo.toInt ≤ v.toInt → v.toInt ≤ hi.toInt → Q (.inl (some (.int (nI 1)))) I L P S) (kf : ¬ (lo.toInt ≤ v.toInt ∧ v.toInt ≤ hi.toInt) → Q (.inl (some (.int (nI 0)))) I L P S) : Zm G mX1_in 0 C Sl [.int v, .int lo, .int hi] I L P S Q := by
  refine Z_entry (lv := [_, _, _]) (Nat.le_of_ble_eq_true rfl) rfl ?_
  refine Z_iload_n dX1_in_0 rfl ?_
  refine Z_iload_n dX1_in_1 rfl ?_
  refine Z_icmplt 14 dX1_in_2 rfl (fun c2 => ?_) (fun c2 => ?_)
  · refine Z_iconst (nI 0) dX1_in_14 rfl ?_
    refine Z_ireturn dX1_in_15 rfl rfl ?_
    exact kf (fun q => Int32.not_lt.mpr (Int32.le_iff_toInt_le.mpr q.1) c2)
  · refine Z_iload_n dX1_in_5 rfl ?_
    refine Z_iload_n dX1_in_6 rfl ?_
    refine Z_icmpgt 14 dX1_in_7 rfl (fun c7 => ?_) (fun c7 => ?_)
    · refine Z_iconst (nI 0) dX1_in_14 rfl ?_
      refine Z_ireturn dX1_in_15 rfl rfl ?_
      exact kf (fun q => Int32.not_lt.mpr (Int32.le_iff_toInt_le.mpr q.2) c7)
    · refine Z_iconst (nI 1) dX1_in_10 rfl ?_
      refine Z_goto 15 dX1_in_11 rfl ?_
      refine Z_ireturn dX1_in_15 rfl rfl ?_
      exact kt (Int32.le_iff_toInt_le.mp (Int32.not_lt.mp c2)) (Int32.le_iff_toInt_le.mp (Int32.not_lt.mp c7))
set_option maxHeartbeats 4000000 in
theorem c_X1_has {x k : Int32} (kt : zbit x k = true → Q (.inl (some (.int (nI 1)))) I L P S) (kf : zbit x k = false → Q (.inl (some (.int (nI 0)))) I L P S) : Zm G mX1_has 0 C Sl [.int x, .int k] I L P S Q := by
  refine Z_entry (lv := [_, _]) (Nat.le_of_ble_eq_true rfl) rfl ?_
  refine Z_iload_n dX1_has_0 rfl ?_
  refine Z_iload_n dX1_has_1 rfl ?_
  refine Z_ishr dX1_has_2 ?_
  refine Z_iconst (nI 1) dX1_has_3 rfl ?_
  refine Z_iand dX1_has_4 ?_
  refine Z_iconst (nI 1) dX1_has_5 rfl ?_
  refine Z_icmpne 13 dX1_has_6 rfl (fun c6 => ?_) (fun c6 => ?_)
  · refine Z_iconst (nI 0) dX1_has_13 rfl ?_
    refine Z_ireturn dX1_has_14 rfl rfl ?_
    exact kf (by simpa [zbit] using c6)
  · refine Z_iconst (nI 1) dX1_has_9 rfl ?_
    refine Z_goto 14 dX1_has_10 rfl ?_
    refine Z_ireturn dX1_has_14 rfl rfl ?_
    exact kt (by simpa [zbit] using c6)
set_option maxHeartbeats 4000000 in
theorem c_X1_isHour {h : Int32} (kt : 0 ≤ h.toInt → h.toInt ≤ 2399 → Q (.inl (some (.int (nI 1)))) I L P S) (kf : ¬ (0 ≤ h.toInt ∧ h.toInt ≤ 2399) → Q (.inl (some (.int (nI 0)))) I L P S) : Zm G mX1_isHour 1 C Sl [.int h] I L P S Q := by
  refine Z_entry (lv := [_]) (Nat.le_of_ble_eq_true rfl) rfl ?_
  refine Z_iload_n dX1_isHour_0 rfl ?_
  refine Z_iconst (nI 0) dX1_isHour_1 rfl ?_
  refine Z_sipush (nI 2399) dX1_isHour_2 rfl ?_
  refine Z_callS0 (d' := 0) (zCal_S gX1_3 nX1_in (by decide) dX1_isHour_5) pX1_in [_, _, _] rfl rfl (Nat.le_of_ble_eq_true rfl) (by omega) (c_X1_in (fun h5a h5b => ?_) (fun h5 => ?_))
  · refine Z_ireturn dX1_isHour_8 rfl rfl ?_
    exact kt h5a h5b
  · refine Z_ireturn dX1_isHour_8 rfl rfl ?_
    exact kf h5
theorem oRw.z {a o : Nat} (h : oRw I a W o) : I a 0 = W 4 o := h.1.1
theorem wRw.kn {h a b : Nat} (g : wRw S P I h W no oh) (h6 : no ≤ 6) (ha : a < no) (hb : b < no) : I (h + 3 + a) b = W 13 (6 * a + b) := by
  rw [g.2.1 a b (by omega) (by omega), if_pos ⟨ha, hb⟩]
set_option maxHeartbeats 4000000 in
theorem c_X6_isOpen {a o h : Nat} (hO : oOk S P a) (hR : oRw I a W o) (kt : opn W o h = true → Q (.inl (some (.int (nI 1)))) I L P S) (kf : opn W o h = false → Q (.inl (some (.int (nI 0)))) I L P S) : Zm G mX6_isOpen 1 C Sl [.ref a, .int (nI h)] I L P S Q := by
  refine Z_entry (lv := [_, _, _, _, _]) (Nat.le_of_ble_eq_true rfl) rfl ?_
  refine Z_iload_n dX6_isOpen_0 rfl ?_
  refine Z_aload_n dX6_isOpen_1 rfl ?_
  refine Z_getI hO.1 fX6_15_5 dX6_isOpen_2 rfl ?_
  refine Z_re hR.1.1 ?_
  refine Z_iadd dX6_isOpen_5 ?_
  refine Z_cut0 22 (.int (if nI h < W 10 o then nI 0 else W 11 o)) (fun jn22 => ?_) ?_
  · refine Z_iload_n dX6_isOpen_6 rfl ?_
    refine Z_aload_n dX6_isOpen_7 rfl ?_
    refine Z_getI hO.1 fX6_34_5 dX6_isOpen_8 rfl ?_
    refine Z_re hR.2.1.2.2.1 ?_
    refine Z_icmplt 21 dX6_isOpen_11 rfl (fun c11 => ?_) (fun c11 => ?_)
    · refine Z_iconst (nI 0) dX6_isOpen_21 rfl ?_
      exact Z_re (by simp [c11]) jn22
    · refine Z_aload_n dX6_isOpen_14 rfl ?_
      refine Z_getI hO.1 fX6_37_5 dX6_isOpen_15 rfl ?_
      refine Z_re hR.2.1.2.2.2 ?_
      refine Z_goto 22 dX6_isOpen_18 rfl ?_
      exact Z_re (by simp [c11]) jn22
  · refine Z_iadd dX6_isOpen_22 ?_
    refine Z_istore_n (lv' := [_, _, _, _, _]) dX6_isOpen_23 rfl rfl (Nat.le_of_ble_eq_true rfl) ?_
    refine Z_iload_n dX6_isOpen_24 rfl ?_
    refine Z_aload_n dX6_isOpen_25 rfl ?_
    refine Z_getI hO.1 fX6_19_5 dX6_isOpen_26 rfl ?_
    refine Z_re hR.1.2.1 ?_
    refine Z_isub dX6_isOpen_29 ?_
    refine Z_bipush (nI 24) dX6_isOpen_30 rfl ?_
    refine Z_callS0 (d' := 0) (zCal_S gX6_40 nJ5_floorMod (by decide) dX6_isOpen_32) pJ5_floorMod [_, _] rfl rfl (Nat.le_of_ble_eq_true rfl) (by omega) (c_J5_floorMod (by decide)  ?_)
    refine Z_istore_n (lv' := [_, _, _, _, _]) dX6_isOpen_35 rfl rfl (Nat.le_of_ble_eq_true rfl) ?_
    refine Z_iload_n dX6_isOpen_36 rfl ?_
    refine Z_aload_n dX6_isOpen_37 rfl ?_
    refine Z_getI hO.1 fX6_22_5 dX6_isOpen_38 rfl ?_
    refine Z_re hR.1.2.2.1 ?_
    refine Z_icmplt 46 dX6_isOpen_41 rfl (fun c41 => ?_) (fun c41 => ?_)
    · refine Z_iload_n dX6_isOpen_46 rfl ?_
      refine Z_iload_n dX6_isOpen_47 rfl ?_
      refine Z_isub dX6_isOpen_48 ?_
      refine Z_bipush (nI 24) dX6_isOpen_49 rfl ?_
      refine Z_callS0 (d' := 0) (zCal_S gX6_46 nJ5_floorDiv (by decide) dX6_isOpen_51) pJ5_floorDiv [_, _] rfl rfl (Nat.le_of_ble_eq_true rfl) (by omega) (c_J5_floorDiv (by decide)  ?_)
      refine Z_topi (fun dy hdy => ?_)
      refine Z_istore (lv' := [_, _, _, _, _]) dX6_isOpen_54 rfl rfl (Nat.le_of_ble_eq_true rfl) ?_
      refine Z_iload dX6_isOpen_56 rfl ?_
      refine Z_iconst (nI 0) dX6_isOpen_58 rfl ?_
      refine Z_bipush (nI 99) dX6_isOpen_59 rfl ?_
      refine Z_callS0 (d' := 0) (zCal_SN q328 q83 q515 q327 nX1_in (by decide) dX6_isOpen_61) pX1_in [_, _, _] rfl rfl (Nat.le_of_ble_eq_true rfl) (by omega) (c_X1_in (fun h61a h61b => ?_) (fun h61 => ?_))
      · obtain ⟨dk, hdk, rfl⟩ := z_rng (n := 99) h61a h61b (by decide)
        refine Z_ifeq 77 dX6_isOpen_64 rfl (fun h => absurd h (by decide)) (fun _ => ?_)
        refine Z_aload_n dX6_isOpen_67 rfl ?_
        refine Z_getR (r := (a + 8)) hO.1 fX6_9_5 dX6_isOpen_68 rfl hO.2.2 ?_
        refine Z_iload dX6_isOpen_71 rfl ?_
        refine Z_zald hO.2.1 (zix_nI (by omega) (by decide)) dX6_isOpen_73 ?_
        refine Z_re (hR.2.2 dk (by omega)) ?_
        refine Z_ifne 81 dX6_isOpen_74 rfl (fun c74 => ?_) (fun c74 => ?_)
        · refine Z_iconst (nI 0) dX6_isOpen_81 rfl ?_
          refine Z_ireturn dX6_isOpen_82 rfl rfl ?_
          have e : opD W o h = nI dk := hdy.symm
          have g : opG W o h < W 6 o := c41
          have f : opF W o (nI dk) = decide (W 12 (100 * o + dk) = 0) := by rw [opF, if_pos ⟨h61a, h61b⟩, nI_clamp (by omega)]
          exact kf (by rw [opn, if_pos g, e, f]; simp [c74])
        · refine Z_iconst (nI 1) dX6_isOpen_77 rfl ?_
          refine Z_goto 82 dX6_isOpen_78 rfl ?_
          refine Z_ireturn dX6_isOpen_82 rfl rfl ?_
          have e : opD W o h = nI dk := hdy.symm
          have g : opG W o h < W 6 o := c41
          have f : opF W o (nI dk) = decide (W 12 (100 * o + dk) = 0) := by rw [opF, if_pos ⟨h61a, h61b⟩, nI_clamp (by omega)]
          exact kt (by rw [opn, if_pos g, e, f]; simp [c74])
      · refine Z_ifeq 77 dX6_isOpen_64 rfl (fun _ => ?_) (fun h => absurd h (by decide))
        refine Z_iconst (nI 1) dX6_isOpen_77 rfl ?_
        refine Z_goto 82 dX6_isOpen_78 rfl ?_
        refine Z_ireturn dX6_isOpen_82 rfl rfl ?_
        have e : opD W o h = dy := hdy.symm
        have g : opG W o h < W 6 o := c41
        exact kt (by rw [opn, if_pos g, opF, e, if_neg (show ¬ (0 ≤ dy.toInt ∧ dy.toInt ≤ 99) from h61)])
    · refine Z_iconst (nI 0) dX6_isOpen_44 rfl ?_
      refine Z_ireturn dX6_isOpen_45 rfl rfl ?_
      exact kf (by rw [opn]; exact if_neg c41)
set_option maxHeartbeats 4000000 in
theorem c_X2_overlap {h : Nat} (hO : wdO S P h) (hR : wRw S P I h W no oh) (h6 : no ≤ 6) {a b t : Nat} (ha : a < no) (hb : b < no) (ht : t < 2 ^ 30) (k : Q (.inl (some (.int (nI (ovl W a b t))))) I L P S) : Zm G mX2_overlap 2 C Sl [.ref h, .int (nI a), .int (nI b), .int (nI t)] I L P S Q := by
  refine Z_entry (lv := [_, _, _, _, _, _]) (Nat.le_of_ble_eq_true rfl) rfl ?_
  refine Z_iconst (nI 0) dX2_overlap_0 rfl ?_
  refine Z_istore (lv' := [_, _, _, _, _, _]) dX2_overlap_1 rfl rfl (Nat.le_of_ble_eq_true rfl) ?_
  refine Z_iload_n dX2_overlap_3 rfl ?_
  refine Z_istore (lv' := [_, _, _, _, _, _]) dX2_overlap_4 rfl rfl (Nat.le_of_ble_eq_true rfl) ?_
  have lp6 : ∀ i, i ≤ 24 → Zj G mX2_overlap 2 C Sl 6 [.ref h, .int (nI a), .int (nI b), .int (nI t), .int (nI (cntB (fun i => opn W a (t + i) && opn W b (t + i)) i)), .int (nI (t + i))] [] I L P S Q := by
    refine zloop (24) (fun i => Zj G mX2_overlap 2 C Sl 6 [.ref h, .int (nI a), .int (nI b), .int (nI t), .int (nI (cntB (fun i => opn W a (t + i) && opn W b (t + i)) i)), .int (nI (t + i))] [] I L P S Q) (fun i hi ih => ?_)
    show Zj _ _ _ _ _ _ _ _ _ _ _ _ _
    refine Z_iload dX2_overlap_6 rfl ?_
    refine Z_iload_n dX2_overlap_8 rfl ?_
    refine Z_bipush (nI 24) dX2_overlap_9 rfl ?_
    refine Z_iaddN dX2_overlap_11 ?_
    refine Z_icmpgeN 59 dX2_overlap_12 rfl (by omega) (by omega) (fun c12 => ?_) (fun c12 => ?_)
    · have ei : i = 24 := by omega
      subst ei
      refine Z_iload dX2_overlap_59 rfl ?_
      refine Z_ireturn dX2_overlap_61 rfl rfl ?_
      exact k
    · refine Z_iload dX2_overlap_15 rfl ?_
      refine Z_aload_n dX2_overlap_17 rfl ?_
      refine Z_getR (r := (h + 1)) hO.1 fX2_11_1 dX2_overlap_18 rfl hO.2.1.2 ?_
      refine Z_iload_n dX2_overlap_21 rfl ?_
      refine Z_aald (r := (oh a)) hO.2.1.1 (by simp [zTys]) rfl (zix_nI (by omega) (by decide)) (hR.2.2 a (by omega)).1 dX2_overlap_22 ?_
      refine Z_iload dX2_overlap_23 rfl ?_
      refine Z_call0 (d' := 1) (zCal_V gX2_42 nX6_isOpen (by decide) dX2_overlap_25) pX6_isOpen (hR.2.2 a (by omega)).2.1.1 zkl5 [_] rfl rfl (Nat.le_of_ble_eq_true rfl) (by omega) (c_X6_isOpen (hR.2.2 a (by omega)).2.1 (hR.2.2 a (by omega)).2.2 (fun h25 => ?_) (fun h25 => ?_))
      · refine Z_ifeq 49 dX2_overlap_28 rfl (fun h => absurd h (by decide)) (fun _ => ?_)
        refine Z_aload_n dX2_overlap_31 rfl ?_
        refine Z_getR (r := (h + 1)) hO.1 fX2_11_1 dX2_overlap_32 rfl hO.2.1.2 ?_
        refine Z_iload_n dX2_overlap_35 rfl ?_
        refine Z_aald (r := (oh b)) hO.2.1.1 (by simp [zTys]) rfl (zix_nI (by omega) (by decide)) (hR.2.2 b (by omega)).1 dX2_overlap_36 ?_
        refine Z_iload dX2_overlap_37 rfl ?_
        refine Z_call0 (d' := 1) (zCal_V gX2_42 nX6_isOpen (by decide) dX2_overlap_39) pX6_isOpen (hR.2.2 b (by omega)).2.1.1 zkl5 [_] rfl rfl (Nat.le_of_ble_eq_true rfl) (by omega) (c_X6_isOpen (hR.2.2 b (by omega)).2.1 (hR.2.2 b (by omega)).2.2 (fun h39 => ?_) (fun h39 => ?_))
        · refine Z_ifeq 49 dX2_overlap_42 rfl (fun h => absurd h (by decide)) (fun _ => ?_)
          refine Z_iconst (nI 1) dX2_overlap_45 rfl ?_
          refine Z_goto 50 dX2_overlap_46 rfl ?_
          refine Z_iaddN dX2_overlap_50 ?_
          refine Z_istore (lv' := [_, _, _, _, _, _]) dX2_overlap_51 rfl rfl (Nat.le_of_ble_eq_true rfl) ?_
          refine Z_iincN (a := _) (k := 1) (lv' := [_, _, _, _, _, _]) dX2_overlap_53 rfl rfl rfl rfl ?_
          refine Z_goto 6 dX2_overlap_56 rfl ?_
          have ih2 := ih (by omega)
          simp only [cntB, bI, c12, h25, h39, Bool.and_self, Bool.and_false, Bool.false_and, Bool.true_and, Bool.and_true, Bool.not_true, Bool.not_false, Bool.or_true, Bool.true_or, Bool.or_false, Bool.false_or, Bool.false_eq_true, if_true, if_false, reduceIte] at ih2
          exact ih2
        · refine Z_ifeq 49 dX2_overlap_42 rfl (fun _ => ?_) (fun h => absurd h (by decide))
          refine Z_iconst (nI 0) dX2_overlap_49 rfl ?_
          refine Z_iaddN dX2_overlap_50 ?_
          refine Z_istore (lv' := [_, _, _, _, _, _]) dX2_overlap_51 rfl rfl (Nat.le_of_ble_eq_true rfl) ?_
          refine Z_iincN (a := _) (k := 1) (lv' := [_, _, _, _, _, _]) dX2_overlap_53 rfl rfl rfl rfl ?_
          refine Z_goto 6 dX2_overlap_56 rfl ?_
          have ih2 := ih (by omega)
          simp only [cntB, bI, c12, h25, h39, Bool.and_self, Bool.and_false, Bool.false_and, Bool.true_and, Bool.and_true, Bool.not_true, Bool.not_false, Bool.or_true, Bool.true_or, Bool.or_false, Bool.false_or, Bool.false_eq_true, if_true, if_false, reduceIte] at ih2
          exact ih2
      · refine Z_ifeq 49 dX2_overlap_28 rfl (fun _ => ?_) (fun h => absurd h (by decide))
        refine Z_iconst (nI 0) dX2_overlap_49 rfl ?_
        refine Z_iaddN dX2_overlap_50 ?_
        refine Z_istore (lv' := [_, _, _, _, _, _]) dX2_overlap_51 rfl rfl (Nat.le_of_ble_eq_true rfl) ?_
        refine Z_iincN (a := _) (k := 1) (lv' := [_, _, _, _, _, _]) dX2_overlap_53 rfl rfl rfl rfl ?_
        refine Z_goto 6 dX2_overlap_56 rfl ?_
        have ih2 := ih (by omega)
        simp only [cntB, bI, c12, h25, Bool.and_self, Bool.and_false, Bool.false_and, Bool.true_and, Bool.and_true, Bool.not_true, Bool.not_false, Bool.or_true, Bool.true_or, Bool.or_false, Bool.false_or, Bool.false_eq_true, if_true, if_false, reduceIte] at ih2
        exact ih2
  exact lp6 0 (by omega)
set_option maxHeartbeats 4000000 in
theorem c_X2_lost {h : Nat} (hO : wdO S P h) (hR : wRw S P I h W no oh) (h6 : no ≤ 6) {a b t : Nat} (ha : a < no) (hb : b < no) (ht : t < 2 ^ 30) (k : Q (.inl (some (.int (lst W a b t)))) I L P S) : Zm G mX2_lost 3 C Sl [.ref h, .int (nI a), .int (nI b), .int (nI t)] I L P S Q := by
  refine Z_entry (lv := [_, _, _, _]) (Nat.le_of_ble_eq_true rfl) rfl ?_
  refine Z_iload_n dX2_lost_0 rfl ?_
  refine Z_iload_n dX2_lost_1 rfl ?_
  refine Z_icmpneN 9 dX2_lost_2 rfl (by omega) (by omega) (fun c2 => ?_) (fun c2 => ?_)
  · refine Z_iconst (nI 0) dX2_lost_9 rfl ?_
    refine Z_aload_n dX2_lost_10 rfl ?_
    refine Z_getI hO.1 fX2_17_1 dX2_lost_11 rfl ?_
    refine Z_re hR.1.2.1 ?_
    refine Z_aload_n dX2_lost_14 rfl ?_
    refine Z_getR (r := (h + 2)) hO.1 fX2_26_1 dX2_lost_15 rfl hO.2.2.1.2 ?_
    refine Z_iload_n dX2_lost_18 rfl ?_
    refine Z_aald (r := (h + 3 + a)) hO.2.2.1.1 (by simp [zTys]) rfl (zix_nI (by omega) (by decide)) (hO.2.2.2 a (by omega)).2 dX2_lost_19 ?_
    refine Z_iload_n dX2_lost_20 rfl ?_
    refine Z_iald (hO.2.2.2 a (by omega)).1 (zix_nI (by omega) (by decide)) dX2_lost_21 ?_
    refine Z_re (hR.kn h6 ha hb) ?_
    refine Z_isub dX2_lost_22 ?_
    refine Z_callS0 (d' := 0) (zCal_S gX2_46 nJ5_max (by decide) dX2_lost_23) pJ5_max [_, _] rfl rfl (Nat.le_of_ble_eq_true rfl) (by omega) (c_J5_max  ?_)
    refine Z_aload_n dX2_lost_26 rfl ?_
    refine Z_iload_n dX2_lost_27 rfl ?_
    refine Z_iload_n dX2_lost_28 rfl ?_
    refine Z_iload_n dX2_lost_29 rfl ?_
    refine Z_call0 (d' := 2) (zCal_V gX2_52 nX2_overlap (by decide) dX2_lost_30) pX2_overlap hO.1 zkl1 [_, _, _] rfl rfl (Nat.le_of_ble_eq_true rfl) (by omega) (c_X2_overlap hO hR h6 (by omega) (by omega) (by omega) ?_)
    have ovl4 := ovl_le W a b t
    refine Z_cut1 41 (.int (if ovl W a b t = 0 then nI 2 else nI 0)) (fun jn41 => ?_) ?_
    · refine Z_ifneN 40 dX2_lost_33 rfl (by omega) (fun c33 => ?_) (fun c33 => ?_)
      · refine Z_iconst (nI 0) dX2_lost_40 rfl ?_
        exact Z_re (by simp [c2, c33]) jn41
      · refine Z_iconst (nI 2) dX2_lost_36 rfl ?_
        refine Z_goto 41 dX2_lost_37 rfl ?_
        exact Z_re (by simp [c2, c33]) jn41
    · refine Z_iadd dX2_lost_41 ?_
      refine Z_ireturn dX2_lost_42 rfl rfl ?_
      exact zQe (by rw [lst, if_neg c2]) k
  · refine Z_iconst (nI 0) dX2_lost_5 rfl ?_
    refine Z_goto 42 dX2_lost_6 rfl ?_
    refine Z_ireturn dX2_lost_42 rfl rfl ?_
    exact zQe (by rw [lst, if_pos c2]) k
set_option maxHeartbeats 4000000 in
theorem c_X2_wrong {h : Nat} (hO : wdO S P h) (hR : wRw S P I h W no oh) (h6 : no ≤ 6) {a b : Nat} (ha : a < no) (hb : b < no) (k : Q (.inl (some (.int (W 0 15 * (nI 10 - W 13 (6 * a + b)) / nI 10)))) I L P S) : Zm G mX2_wrong 0 C Sl [.ref h, .int (nI a), .int (nI b)] I L P S Q := by
  refine Z_entry (lv := [_, _, _]) (Nat.le_of_ble_eq_true rfl) rfl ?_
  refine Z_aload_n dX2_wrong_0 rfl ?_
  refine Z_getI hO.1 fX2_21_1 dX2_wrong_1 rfl ?_
  refine Z_re hR.1.2.2 ?_
  refine Z_bipush (nI 10) dX2_wrong_4 rfl ?_
  refine Z_aload_n dX2_wrong_6 rfl ?_
  refine Z_getR (r := (h + 2)) hO.1 fX2_26_1 dX2_wrong_7 rfl hO.2.2.1.2 ?_
  refine Z_iload_n dX2_wrong_10 rfl ?_
  refine Z_aald (r := (h + 3 + a)) hO.2.2.1.1 (by simp [zTys]) rfl (zix_nI (by omega) (by decide)) (hO.2.2.2 a (by omega)).2 dX2_wrong_11 ?_
  refine Z_iload_n dX2_wrong_12 rfl ?_
  refine Z_iald (hO.2.2.2 a (by omega)).1 (zix_nI (by omega) (by decide)) dX2_wrong_13 ?_
  refine Z_re (hR.kn h6 ha hb) ?_
  refine Z_isub dX2_wrong_14 ?_
  refine Z_imul dX2_wrong_15 ?_
  refine Z_bipush (nI 10) dX2_wrong_16 rfl ?_
  refine Z_idiv dX2_wrong_18 (by decide) ?_
  refine Z_ireturn dX2_wrong_19 rfl rfl ?_
  exact k
set_option maxHeartbeats 4000000 in
theorem c_X2_hasCraft {h : Nat} (hO : wdO S P h) (hR : wRw S P I h W no oh) (h6 : no ≤ 6) {o : Nat} (ho : o < no) {c : Int32} (kt : zbit (W 9 o) c = true → Q (.inl (some (.int (nI 1)))) I L P S) (kf : zbit (W 9 o) c = false → Q (.inl (some (.int (nI 0)))) I L P S) : Zm G mX2_hasCraft 1 C Sl [.ref h, .int (nI o), .int c] I L P S Q := by
  refine Z_entry (lv := [_, _, _]) (Nat.le_of_ble_eq_true rfl) rfl ?_
  refine Z_aload_n dX2_hasCraft_0 rfl ?_
  refine Z_getR (r := (h + 1)) hO.1 fX2_11_1 dX2_hasCraft_1 rfl hO.2.1.2 ?_
  refine Z_iload_n dX2_hasCraft_4 rfl ?_
  refine Z_aald (r := (oh o)) hO.2.1.1 (by simp [zTys]) rfl (zix_nI (by omega) (by decide)) (hR.2.2 o (by omega)).1 dX2_hasCraft_5 ?_
  refine Z_getI (hR.2.2 o (by omega)).2.1.1 fX2_56_5 dX2_hasCraft_6 rfl ?_
  refine Z_re (hR.2.2 o (by omega)).2.2.2.1.2.1 ?_
  refine Z_iload_n dX2_hasCraft_9 rfl ?_
  refine Z_callS0 (d' := 0) (zCal_SN q545 q83 q543 q544 nX1_has (by decide) dX2_hasCraft_10) pX1_has [_, _] rfl rfl (Nat.le_of_ble_eq_true rfl) (by omega) (c_X1_has (fun h10 => ?_) (fun h10 => ?_))
  · refine Z_ireturn dX2_hasCraft_13 rfl rfl ?_
    exact kt h10
  · refine Z_ireturn dX2_hasCraft_13 rfl rfl ?_
    exact kf h10
end X1
