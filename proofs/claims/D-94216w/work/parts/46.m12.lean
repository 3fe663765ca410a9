set_option maxRecDepth 100000
/-! THE MODEL, part 12: what is asked of a piece; the tape; what is kept -/
section M12
variable {G : zG} {d C Sl : Nat} {I D : zI} {R : List Int64} {L : zL} {P : zR} {S : zT} {Q : zQ} {no n : Nat}
set_option maxHeartbeats 4000000 in
theorem o_count (hR : mR D R I L P S) (hw : wf (wld D) no n) {x : Int32} (k : ∀ I2 L2, mR (fCount D R n x).2.1 (fCount D R n x).2.2 I2 L2 P S → frM I L I2 L2 → Q (.inl (some (.int (fCount D R n x).1))) I2 L2 P S) : Zm G mX5_count 4 C Sl [.ref 0, .int x] I L P S Q := by
  have hM := hR.1
  refine Z_entry (lv := [_, _]) (Nat.le_of_ble_eq_true rfl) rfl ?_
  refine Z_aload_n dX5_count_0 rfl ?_
  refine Z_iconst (nI 0) dX5_count_1 rfl ?_
  refine Z_putI hM.1 fX5_3_4 dX5_count_2 rfl rfl rfl ?_
  refine Z_start hR (fun I1 hR1 f1 h00 => ?_)
  have hw8 := hw.n8
  have hw6 := hw.o6
  have hM := hR1.1
  have hD : mdat I1 = D := hR1.2.2.1
  have hW : wld I1 = wld D := wld_mdat hD
  have hs : I1 23 = D 23 := funext fun j => dr hD rfl
  have hno : noD D = no := by rw [noD, show D 0 3 = nI no from hw.o3, nI_clamp (by omega)]
  have hnn : nD D = n := by rw [nD, show D 0 16 = nI n from hw.n16, nI_clamp (by omega)]
  have hI3 : I1 0 3 = nI no := (wr hW rfl).trans hw.o3
  have hI16 : I1 0 16 = nI n := (wr hW rfl).trans hw.n16
  refine Z_iload_n dX5_count_5 rfl ?_
  by_cases hx : 0 ≤ x.toInt ∧ x.toInt ≤ 9
  · obtain ⟨q, hq, rfl⟩ := z_rng (n := 9) hx.1 hx.2 (by decide)
    obtain rfl | rfl | rfl | rfl | rfl | rfl | rfl | rfl | rfl | rfl : q = 0 ∨ q = 1 ∨ q = 2 ∨ q = 3 ∨ q = 4 ∨ q = 5 ∨ q = 6 ∨ q = 7 ∨ q = 8 ∨ q = 9 := by omega
    · refine Z_tableIn 60 dX5_count_6 (by decide) (by decide) rfl rfl ?_
      refine Z_aload_n dX5_count_60 rfl ?_
      refine Z_getI hM.1 fX5_22_4 dX5_count_61 rfl ?_
      refine Z_re ((wr (by first | exact hW | (simp only [wld_zw23, wld_zw33, wld_zw27, wld_zw34, wld_zw35, wld_zw36, wld_zw0, wld_zw1, wld_zu23]; exact hW)) rfl).trans hw.o3) ?_
      refine Z_ireturn dX5_count_64 rfl rfl ?_
      exact zO_k (by simp [fCount, nI_eq, show D 0 3 = nI no from hw.o3, show D 0 16 = nI n from hw.n16]) k hR1 f1
    · refine Z_tableIn 65 dX5_count_6 (by decide) (by decide) rfl rfl ?_
      refine Z_aload_n dX5_count_65 rfl ?_
      refine Z_getI hM.1 fX5_151_4 dX5_count_66 rfl ?_
      refine Z_re ((wr (by first | exact hW | (simp only [wld_zw23, wld_zw33, wld_zw27, wld_zw34, wld_zw35, wld_zw36, wld_zw0, wld_zw1, wld_zu23]; exact hW)) rfl).trans hw.n16) ?_
      refine Z_ireturn dX5_count_69 rfl rfl ?_
      exact zO_k (by simp [fCount, nI_eq, show D 0 3 = nI no from hw.o3, show D 0 16 = nI n from hw.n16]) k hR1 f1
    · refine Z_tableIn 70 dX5_count_6 (by decide) (by decide) rfl rfl ?_
      refine Z_aload_n dX5_count_70 rfl ?_
      refine Z_getR (r := 23) hM.1 fX5_140_4 dX5_count_71 rfl (hM.2.2 23 _ rfl rfl) ?_
      refine Z_iconst (nI 0) dX5_count_74 rfl ?_
      refine Z_iald (hM.2.1 23 _ rfl) (zix_nI (by omega) (by decide)) dX5_count_75 ?_
      refine Z_re (congrFun hs _) ?_
      refine Z_ireturn dX5_count_76 rfl rfl ?_
      exact zO_k (by simp [fCount, nI_eq, show D 0 3 = nI no from hw.o3, show D 0 16 = nI n from hw.n16]) k hR1 f1
    · refine Z_tableIn 77 dX5_count_6 (by decide) (by decide) rfl rfl ?_
      refine Z_aload_n dX5_count_77 rfl ?_
      refine Z_call0 (d' := 2) (zCal_V gX5_475 nX5_doneBits (by decide) dX5_count_78) pX5_doneBits hM.1 zkl4 [] rfl rfl (Nat.le_of_ble_eq_true rfl) (by omega) (c_X5_doneBits hM (by first | exact hW | (simp only [wld_zw23, wld_zw33, wld_zw27, wld_zw34, wld_zw35, wld_zw36, wld_zw0, wld_zw1, wld_zu23]; exact hW)) hs hw ?_)
      refine Z_ireturn dX5_count_81 rfl rfl ?_
      exact zO_k (by simp [fCount, nI_eq, show D 0 3 = nI no from hw.o3, show D 0 16 = nI n from hw.n16]) k hR1 f1
    · refine Z_tableIn 82 dX5_count_6 (by decide) (by decide) rfl rfl ?_
      refine Z_aload_n dX5_count_82 rfl ?_
      refine Z_getI hM.1 fX5_434_4 dX5_count_83 rfl ?_
      refine Z_re (dr hD rfl) ?_
      refine Z_ireturn dX5_count_86 rfl rfl ?_
      exact zO_k (by simp [fCount, nI_eq, show D 0 3 = nI no from hw.o3, show D 0 16 = nI n from hw.n16]) k hR1 f1
    · refine Z_tableIn 87 dX5_count_6 (by decide) (by decide) rfl rfl ?_
      refine Z_aload_n dX5_count_87 rfl ?_
      refine Z_bipush (nI 51) dX5_count_88 rfl ?_
      refine Z_call0 (d' := 0) (zCal_V gX5_316 nX5_sumOf (by decide) dX5_count_90) pX5_sumOf hM.1 zkl4 [_] rfl rfl (Nat.le_of_ble_eq_true rfl) (by omega) (c_X5_sumOf hM (by first | exact hW | (simp only [wld_zw23, wld_zw33, wld_zw27, wld_zw34, wld_zw35, wld_zw36, wld_zw0, wld_zw1, wld_zu23]; exact hW)) hs hw (by decide) ?_)
      refine Z_ireturn dX5_count_93 rfl rfl ?_
      exact zO_k (by simp [fCount, nI_eq, show D 0 3 = nI no from hw.o3, show D 0 16 = nI n from hw.n16]) k hR1 f1
    · refine Z_tableIn 94 dX5_count_6 (by decide) (by decide) rfl rfl ?_
      refine Z_aload_n dX5_count_94 rfl ?_
      refine Z_bipush (nI 59) dX5_count_95 rfl ?_
      refine Z_call0 (d' := 0) (zCal_V gX5_316 nX5_sumOf (by decide) dX5_count_97) pX5_sumOf hM.1 zkl4 [_] rfl rfl (Nat.le_of_ble_eq_true rfl) (by omega) (c_X5_sumOf hM (by first | exact hW | (simp only [wld_zw23, wld_zw33, wld_zw27, wld_zw34, wld_zw35, wld_zw36, wld_zw0, wld_zw1, wld_zu23]; exact hW)) hs hw (by decide) ?_)
      refine Z_ireturn dX5_count_100 rfl rfl ?_
      exact zO_k (by simp [fCount, nI_eq, show D 0 3 = nI no from hw.o3, show D 0 16 = nI n from hw.n16]) k hR1 f1
    · refine Z_tableIn 101 dX5_count_6 (by decide) (by decide) rfl rfl ?_
      refine Z_aload_n dX5_count_101 rfl ?_
      refine Z_getR (r := 23) hM.1 fX5_140_4 dX5_count_102 rfl (hM.2.2 23 _ rfl rfl) ?_
      refine Z_iconst (nI 1) dX5_count_105 rfl ?_
      refine Z_iald (hM.2.1 23 _ rfl) (zix_nI (by omega) (by decide)) dX5_count_106 ?_
      refine Z_re (congrFun hs _) ?_
      refine Z_ireturn dX5_count_107 rfl rfl ?_
      exact zO_k (by simp [fCount, nI_eq, show D 0 3 = nI no from hw.o3, show D 0 16 = nI n from hw.n16]) k hR1 f1
    · refine Z_tableIn 108 dX5_count_6 (by decide) (by decide) rfl rfl ?_
      refine Z_aload_n dX5_count_108 rfl ?_
      refine Z_getI hM.1 fX5_11_4 dX5_count_109 rfl ?_
      refine Z_re hR1.2.2.2.1 ?_
      refine Z_ireturn dX5_count_112 rfl rfl ?_
      exact zO_k (by simp [fCount, nI_eq, show D 0 3 = nI no from hw.o3, show D 0 16 = nI n from hw.n16]) k hR1 f1
    · refine Z_tableIn 113 dX5_count_6 (by decide) (by decide) rfl rfl ?_
      refine Z_aload_n dX5_count_113 rfl ?_
      refine Z_getI hM.1 fX5_170_4 dX5_count_114 rfl ?_
      refine Z_re (dr hD rfl) ?_
      refine Z_ireturn dX5_count_117 rfl rfl ?_
      exact zO_k (by simp [fCount, nI_eq, show D 0 3 = nI no from hw.o3, show D 0 16 = nI n from hw.n16]) k hR1 f1
  · have n0 : ¬ x = nI 0 := by rintro rfl; exact hx (by decide)
    have n1 : ¬ x = nI 1 := by rintro rfl; exact hx (by decide)
    have n2 : ¬ x = nI 2 := by rintro rfl; exact hx (by decide)
    have n3 : ¬ x = nI 3 := by rintro rfl; exact hx (by decide)
    have n4 : ¬ x = nI 4 := by rintro rfl; exact hx (by decide)
    have n5 : ¬ x = nI 5 := by rintro rfl; exact hx (by decide)
    have n6 : ¬ x = nI 6 := by rintro rfl; exact hx (by decide)
    have n7 : ¬ x = nI 7 := by rintro rfl; exact hx (by decide)
    have n8 : ¬ x = nI 8 := by rintro rfl; exact hx (by decide)
    have n9 : ¬ x = nI 9 := by rintro rfl; exact hx (by decide)
    refine Z_tableOut 118 dX5_count_6 (by omega) rfl ?_
    refine Z_iconst (-1) dX5_count_118 rfl ?_
    refine Z_ireturn dX5_count_119 rfl rfl ?_
    exact zO_k (by simp [fCount, nI_eq, show D 0 3 = nI no from hw.o3, show D 0 16 = nI n from hw.n16, n0, n1, n2, n3, n4, n5, n6, n7, n8, n9]) k hR1 f1
set_option maxHeartbeats 4000000 in
theorem o_end (hR : mR D R I L P S) (hw : wf (wld D) no n) {x : Int32} (k : ∀ I2 L2, mR (fEnd D R x).2.1 (fEnd D R x).2.2 I2 L2 P S → frM I L I2 L2 → Q (.inl (some (.int (fEnd D R x).1))) I2 L2 P S) : Zm G mX5_end 2 C Sl [.ref 0, .int x] I L P S Q := by
  have hM := hR.1
  refine Z_entry (lv := [_, _]) (Nat.le_of_ble_eq_true rfl) rfl ?_
  refine Z_aload_n dX5_end_0 rfl ?_
  refine Z_iconst (nI 0) dX5_end_1 rfl ?_
  refine Z_putI hM.1 fX5_3_4 dX5_end_2 rfl rfl rfl ?_
  refine Z_start hR (fun I1 hR1 f1 h00 => ?_)
  have hw8 := hw.n8
  have hw6 := hw.o6
  have hM := hR1.1
  have hD : mdat I1 = D := hR1.2.2.1
  have hW : wld I1 = wld D := wld_mdat hD
  have hs : I1 23 = D 23 := funext fun j => dr hD rfl
  have hno : noD D = no := by rw [noD, show D 0 3 = nI no from hw.o3, nI_clamp (by omega)]
  have hnn : nD D = n := by rw [nD, show D 0 16 = nI n from hw.n16, nI_clamp (by omega)]
  have hI3 : I1 0 3 = nI no := (wr hW rfl).trans hw.o3
  have hI16 : I1 0 16 = nI n := (wr hW rfl).trans hw.n16
  refine Z_iload_n dX5_end_5 rfl ?_
  refine Z_i2l dX5_end_6 ?_
  refine Z_lconst (0) dX5_end_7 rfl ?_
  refine Z_aload_n dX5_end_8 rfl ?_
  refine Z_getI hM.1 fX5_170_4 dX5_end_9 rfl ?_
  refine Z_re (dr hD rfl) ?_
  refine Z_i2l dX5_end_12 ?_
  refine Z_callS0 (d' := 0) (zCal_S gX5_25 nX5_in (by decide) dX5_end_13) pX5_in [_, _, _] rfl rfl (Nat.le_of_ble_eq_true rfl) (by omega) (c_X5_in (fun h13a h13b => ?_) (fun h13 => ?_))
  · rw [z_i64] at h13a
    rw [z_i64, z_i64] at h13b
    have r13 : rB x 0 (D 0 29).toInt = true := rB_t h13a h13b
    refine Z_ifne 21 dX5_end_16 rfl (fun _ => ?_) (fun h => absurd h (by decide))
    refine Z_aload_n dX5_end_21 rfl ?_
    refine Z_iload_n dX5_end_22 rfl ?_
    refine Z_putI hM.1 fX5_170_4 dX5_end_23 rfl rfl rfl ?_
    refine Z_iconst (nI 1) dX5_end_26 rfl ?_
    refine Z_ireturn dX5_end_27 rfl rfl ?_
    exact zO_k (D2 := zw D 0 29 x) (R2 := R) (by simp [fEnd, r13]) k (hR1.zw rfl) (f1.tr (frM.rf.st (by decide)))
  · rw [z_i64, z_i64] at h13
    have r13 : rB x 0 (D 0 29).toInt = false := rB_f h13
    refine Z_ifne 21 dX5_end_16 rfl (fun h => absurd h (by decide)) (fun _ => ?_)
    refine Z_iconst (nI 0) dX5_end_19 rfl ?_
    refine Z_ireturn dX5_end_20 rfl rfl ?_
    exact zO_k (D2 := D) (R2 := R) (by simp [fEnd, r13]) k (hR1) (f1.tr (frM.rf))
set_option maxHeartbeats 4000000 in
theorem o_of (hR : mR D R I L P S) (hw : wf (wld D) no n) {y x : Int32} (k : ∀ I2, mR D R I2 L P S → frM I L I2 L → I2 0 0 = nI (bI (fOf D y x).isNone) → Q (.inl (some (.int ((fOf D y x).getD (nI 0))))) I2 L P S) : Zm G mX5_of 2 C Sl [.ref 0, .int y, .int x] I L P S Q := by
  have hM := hR.1
  refine Z_entry (lv := [_, _, _]) (Nat.le_of_ble_eq_true rfl) rfl ?_
  refine Z_aload_n dX5_of_0 rfl ?_
  refine Z_iconst (nI 0) dX5_of_1 rfl ?_
  refine Z_putI hM.1 fX5_3_4 dX5_of_2 rfl rfl rfl ?_
  refine Z_start hR (fun I1 hR1 f1 h00 => ?_)
  have hw8 := hw.n8
  have hw6 := hw.o6
  have hM := hR1.1
  have hD : mdat I1 = D := hR1.2.2.1
  have hW : wld I1 = wld D := wld_mdat hD
  have hs : I1 23 = D 23 := funext fun j => dr hD rfl
  have hno : noD D = no := by rw [noD, show D 0 3 = nI no from hw.o3, nI_clamp (by omega)]
  have hnn : nD D = n := by rw [nD, show D 0 16 = nI n from hw.n16, nI_clamp (by omega)]
  have hI3 : I1 0 3 = nI no := (wr hW rfl).trans hw.o3
  have hI16 : I1 0 16 = nI n := (wr hW rfl).trans hw.n16
  refine Z_aload_n dX5_of_5 rfl ?_
  refine Z_iload_n dX5_of_6 rfl ?_
  refine Z_call0 (d' := 1) (zCal_V gX5_256 nX5_isPiece (by decide) dX5_of_7) pX5_isPiece hM.1 zkl4 [_] rfl rfl (Nat.le_of_ble_eq_true rfl) (by omega) (c_X5_isPiece hM (by omega) hI16 (fun k7 hk7 e7 => ?_) (fun h7 => ?_))
  · subst e7
    have r7 : pB D (nI k7) = true := rB_t (by rw [z_ti (by omega)]; omega) (by rw [z_ti (by omega), hnn]; omega)
    have v7 : (nI k7).toNatClampNeg = k7 := nI_clamp (by omega)
    refine Z_ifeq 25 dX5_of_10 rfl (fun h => absurd h (by decide)) (fun _ => ?_)
    refine Z_iload_n dX5_of_13 rfl ?_
    refine Z_i2l dX5_of_14 ?_
    refine Z_lconst (0) dX5_of_15 rfl ?_
    refine Z_ldc2 q1514 dX5_of_16 ?_
    refine Z_callS0 (d' := 0) (zCal_S gX5_25 nX5_in (by decide) dX5_of_19) pX5_in [_, _, _] rfl rfl (Nat.le_of_ble_eq_true rfl) (by omega) (c_X5_in (fun h19a h19b => ?_) (fun h19 => ?_))
    · rw [z_i64] at h19a h19b
      have r19 : rB x 0 8 = true := rB_t h19a h19b
      obtain ⟨q, hq, e19⟩ := z_rng (n := 8) h19a h19b (by decide)
      subst e19
      refine Z_ifne 30 dX5_of_22 rfl (fun _ => ?_) (fun h => absurd h (by decide))
      refine Z_iload_n dX5_of_30 rfl ?_
      obtain rfl | rfl | rfl | rfl | rfl | rfl | rfl | rfl | rfl : q = 0 ∨ q = 1 ∨ q = 2 ∨ q = 3 ∨ q = 4 ∨ q = 5 ∨ q = 6 ∨ q = 7 ∨ q = 8 := by omega
      · refine Z_tableIn 76 dX5_of_31 (by decide) (by decide) rfl rfl ?_
        refine Z_aload_n dX5_of_76 rfl ?_
        refine Z_getR (r := 23) hM.1 fX5_140_4 dX5_of_77 rfl (hM.2.2 23 _ rfl rfl) ?_
        refine Z_iconst (nI 3) dX5_of_80 rfl ?_
        refine Z_iload_n dX5_of_81 rfl ?_
        refine Z_iaddN dX5_of_82 ?_
        refine Z_iald (hM.2.1 23 _ rfl) (zix_nI (by omega) (by decide)) dX5_of_83 ?_
        refine Z_re (congrFun hs _) ?_
        refine Z_ireturn dX5_of_84 rfl rfl ?_
        exact zV_k (by simp [fOf, fOfv, nI_eq, bI, r7, v7, r19]) k hR1 f1 h00
      · refine Z_tableIn 85 dX5_of_31 (by decide) (by decide) rfl rfl ?_
        refine Z_aload_n dX5_of_85 rfl ?_
        refine Z_getR (r := 23) hM.1 fX5_140_4 dX5_of_86 rfl (hM.2.2 23 _ rfl rfl) ?_
        refine Z_bipush (nI 11) dX5_of_89 rfl ?_
        refine Z_iload_n dX5_of_91 rfl ?_
        refine Z_iaddN dX5_of_92 ?_
        refine Z_iald (hM.2.1 23 _ rfl) (zix_nI (by omega) (by decide)) dX5_of_93 ?_
        refine Z_re (congrFun hs _) ?_
        refine Z_ireturn dX5_of_94 rfl rfl ?_
        exact zV_k (by simp [fOf, fOfv, nI_eq, bI, r7, v7, r19]) k hR1 f1 h00
      · refine Z_tableIn 95 dX5_of_31 (by decide) (by decide) rfl rfl ?_
        refine Z_aload_n dX5_of_95 rfl ?_
        refine Z_getR (r := 23) hM.1 fX5_140_4 dX5_of_96 rfl (hM.2.2 23 _ rfl rfl) ?_
        refine Z_bipush (nI 19) dX5_of_99 rfl ?_
        refine Z_iload_n dX5_of_101 rfl ?_
        refine Z_iaddN dX5_of_102 ?_
        refine Z_iald (hM.2.1 23 _ rfl) (zix_nI (by omega) (by decide)) dX5_of_103 ?_
        refine Z_re (congrFun hs _) ?_
        refine Z_ireturn dX5_of_104 rfl rfl ?_
        exact zV_k (by simp [fOf, fOfv, nI_eq, bI, r7, v7, r19]) k hR1 f1 h00
      · refine Z_tableIn 105 dX5_of_31 (by decide) (by decide) rfl rfl ?_
        refine Z_aload_n dX5_of_105 rfl ?_
        refine Z_getR (r := 23) hM.1 fX5_140_4 dX5_of_106 rfl (hM.2.2 23 _ rfl rfl) ?_
        refine Z_bipush (nI 27) dX5_of_109 rfl ?_
        refine Z_iload_n dX5_of_111 rfl ?_
        refine Z_iaddN dX5_of_112 ?_
        refine Z_iald (hM.2.1 23 _ rfl) (zix_nI (by omega) (by decide)) dX5_of_113 ?_
        refine Z_re (congrFun hs _) ?_
        refine Z_ireturn dX5_of_114 rfl rfl ?_
        exact zV_k (by simp [fOf, fOfv, nI_eq, bI, r7, v7, r19]) k hR1 f1 h00
      · refine Z_tableIn 115 dX5_of_31 (by decide) (by decide) rfl rfl ?_
        refine Z_aload_n dX5_of_115 rfl ?_
        refine Z_getR (r := 23) hM.1 fX5_140_4 dX5_of_116 rfl (hM.2.2 23 _ rfl rfl) ?_
        refine Z_bipush (nI 35) dX5_of_119 rfl ?_
        refine Z_iload_n dX5_of_121 rfl ?_
        refine Z_iaddN dX5_of_122 ?_
        refine Z_iald (hM.2.1 23 _ rfl) (zix_nI (by omega) (by decide)) dX5_of_123 ?_
        refine Z_re (congrFun hs _) ?_
        refine Z_ireturn dX5_of_124 rfl rfl ?_
        exact zV_k (by simp [fOf, fOfv, nI_eq, bI, r7, v7, r19]) k hR1 f1 h00
      · refine Z_tableIn 125 dX5_of_31 (by decide) (by decide) rfl rfl ?_
        refine Z_aload_n dX5_of_125 rfl ?_
        refine Z_getR (r := 23) hM.1 fX5_140_4 dX5_of_126 rfl (hM.2.2 23 _ rfl rfl) ?_
        refine Z_bipush (nI 43) dX5_of_129 rfl ?_
        refine Z_iload_n dX5_of_131 rfl ?_
        refine Z_iaddN dX5_of_132 ?_
        refine Z_iald (hM.2.1 23 _ rfl) (zix_nI (by omega) (by decide)) dX5_of_133 ?_
        refine Z_re (congrFun hs _) ?_
        refine Z_ireturn dX5_of_134 rfl rfl ?_
        exact zV_k (by simp [fOf, fOfv, nI_eq, bI, r7, v7, r19]) k hR1 f1 h00
      · refine Z_tableIn 135 dX5_of_31 (by decide) (by decide) rfl rfl ?_
        refine Z_aload_n dX5_of_135 rfl ?_
        refine Z_getR (r := 23) hM.1 fX5_140_4 dX5_of_136 rfl (hM.2.2 23 _ rfl rfl) ?_
        refine Z_bipush (nI 51) dX5_of_139 rfl ?_
        refine Z_iload_n dX5_of_141 rfl ?_
        refine Z_iaddN dX5_of_142 ?_
        refine Z_iald (hM.2.1 23 _ rfl) (zix_nI (by omega) (by decide)) dX5_of_143 ?_
        refine Z_re (congrFun hs _) ?_
        refine Z_ireturn dX5_of_144 rfl rfl ?_
        exact zV_k (by simp [fOf, fOfv, nI_eq, bI, r7, v7, r19]) k hR1 f1 h00
      · refine Z_tableIn 145 dX5_of_31 (by decide) (by decide) rfl rfl ?_
        refine Z_aload_n dX5_of_145 rfl ?_
        refine Z_getR (r := 23) hM.1 fX5_140_4 dX5_of_146 rfl (hM.2.2 23 _ rfl rfl) ?_
        refine Z_bipush (nI 59) dX5_of_149 rfl ?_
        refine Z_iload_n dX5_of_151 rfl ?_
        refine Z_iaddN dX5_of_152 ?_
        refine Z_iald (hM.2.1 23 _ rfl) (zix_nI (by omega) (by decide)) dX5_of_153 ?_
        refine Z_re (congrFun hs _) ?_
        refine Z_ireturn dX5_of_154 rfl rfl ?_
        exact zV_k (by simp [fOf, fOfv, nI_eq, bI, r7, v7, r19]) k hR1 f1 h00
      · refine Z_tableOut 155 dX5_of_31 (by decide) rfl ?_
        refine Z_aload_n dX5_of_155 rfl ?_
        refine Z_iload_n dX5_of_156 rfl ?_
        refine Z_call0 (d' := 1) (zCal_V gX5_268 nX5_isReady (by decide) dX5_of_157) pX5_isReady hM.1 zkl4 [_] rfl rfl (Nat.le_of_ble_eq_true rfl) (by omega) (c_X5_isReady hM (by first | exact hW | (simp only [wld_zw23, wld_zw33, wld_zw27, wld_zw34, wld_zw35, wld_zw36, wld_zw0, wld_zw1, wld_zu23]; exact hW)) hs (by omega) (fun h157 => ?_) (fun h157 => ?_))
        · refine Z_callS0 (d' := 0) (zCal_S gX5_124 nX5_flag (by decide) dX5_of_160) pX5_flag [_] rfl rfl (Nat.le_of_ble_eq_true rfl) (by omega) (c_X5_flag (by first | decide | assumption) ?_)
          refine Z_ireturn dX5_of_163 rfl rfl ?_
          exact zV_k (by simp [fOf, fOfv, nI_eq, bI, r7, v7, r19, h157]) k hR1 f1 h00
        · refine Z_callS0 (d' := 0) (zCal_S gX5_124 nX5_flag (by decide) dX5_of_160) pX5_flag [_] rfl rfl (Nat.le_of_ble_eq_true rfl) (by omega) (c_X5_flag (by first | decide | assumption) ?_)
          refine Z_ireturn dX5_of_163 rfl rfl ?_
          exact zV_k (by simp [fOf, fOfv, nI_eq, bI, r7, v7, r19, h157]) k hR1 f1 h00
    · rw [z_i64] at h19
      have r19 : rB x 0 8 = false := rB_f h19
      refine Z_ifne 30 dX5_of_22 rfl (fun h => absurd h (by decide)) (fun _ => ?_)
      refine Z_aload_n dX5_of_25 rfl ?_
      refine Z_call0 (d' := 0) (zCal_V gX5_259 nX5_refuse (by decide) dX5_of_26) pX5_refuse hM.1 zkl4 [] rfl rfl (Nat.le_of_ble_eq_true rfl) (by omega) (c_X5_refuse hM  ?_)
      refine Z_ireturn dX5_of_29 rfl rfl ?_
      exact zV_n (by simp [fOf, r7, v7, r19]) k hR1.z0 (f1.tr (frM.rf.st (by decide))) rfl
  · have r7 : pB D y = false := rB_f (fun q => h7 ⟨q.1, by have := q.2; rw [hnn] at this; omega⟩)
    refine Z_ifeq 25 dX5_of_10 rfl (fun _ => ?_) (fun h => absurd h (by decide))
    refine Z_aload_n dX5_of_25 rfl ?_
    refine Z_call0 (d' := 0) (zCal_V gX5_259 nX5_refuse (by decide) dX5_of_26) pX5_refuse hM.1 zkl4 [] rfl rfl (Nat.le_of_ble_eq_true rfl) (by omega) (c_X5_refuse hM  ?_)
    refine Z_ireturn dX5_of_29 rfl rfl ?_
    exact zV_n (by simp [fOf, r7]) k hR1.z0 (f1.tr (frM.rf.st (by decide))) rfl
theorem t27_E {a k : Nat} (h : tE a k = false) : t27 a k = false := by
  have h := tP_E h
  unfold tP at h
  simp only [Bool.or_eq_false_iff] at h
  exact h.2
theorem ru_len {W : zI} {ro : Option (List Nat)} (h : ruM W ro) : ∃ m, m ≤ 40 ∧ W 26 0 = nI m ∧ (ro = none → m = 0) ∧ ∀ e, ro = some e → 0 < m := by
  cases ro with
  | none => exact ⟨0, by omega, h, fun _ => rfl, fun e q => absurd q (by simp)⟩
  | some e =>
    obtain ⟨⟨f, hf⟩, h1, h2, h3⟩ := h
    exact ⟨e.length, h2, h1, fun q => absurd q (by simp), fun e2 q => by cases q; exact isE_pos hf⟩
set_option maxHeartbeats 4000000 in
theorem o_value (hR : mR D R I L P S) (hw : wf (wld D) no n) (hsf : sf (wld D) no n (D 23)) {ro : Option (List Nat)} (hru : ruM (wld D) ro) {y x : Int32} (k : ∀ I2, mR D R I2 L P S → frM I L I2 L → I2 0 0 = nI (bI (fVal D ro y x).isNone) → Q (.inl (some (.int ((fVal D ro y x).getD (nI 0))))) I2 L P S) : Zm G mX5_value 7 C Sl [.ref 0, .int y, .int x] I L P S Q := by
  obtain ⟨t0, ht0, h0⟩ := hsf.now
  have e2 : (D 23 0).toNatClampNeg = t0 := by rw [h0, nI_clamp (by omega)]
  obtain ⟨m, hm4, hm, hz, he⟩ := ru_len hru
  have hM := hR.1
  refine Z_entry (lv := [_, _, _]) (Nat.le_of_ble_eq_true rfl) rfl ?_
  refine Z_aload_n dX5_value_0 rfl ?_
  refine Z_iconst (nI 0) dX5_value_1 rfl ?_
  refine Z_putI hM.1 fX5_3_4 dX5_value_2 rfl rfl rfl ?_
  refine Z_start hR (fun I1 hR1 f1 h00 => ?_)
  have hw8 := hw.n8
  have hw6 := hw.o6
  have hM := hR1.1
  have hD : mdat I1 = D := hR1.2.2.1
  have hW : wld I1 = wld D := wld_mdat hD
  have hs : I1 23 = D 23 := funext fun j => dr hD rfl
  have hno : noD D = no := by rw [noD, show D 0 3 = nI no from hw.o3, nI_clamp (by omega)]
  have hnn : nD D = n := by rw [nD, show D 0 16 = nI n from hw.n16, nI_clamp (by omega)]
  have hI3 : I1 0 3 = nI no := (wr hW rfl).trans hw.o3
  have hI16 : I1 0 16 = nI n := (wr hW rfl).trans hw.n16
  refine Z_aload_n dX5_value_5 rfl ?_
  refine Z_iload_n dX5_value_6 rfl ?_
  refine Z_call0 (d' := 1) (zCal_V gX5_256 nX5_isPiece (by decide) dX5_value_7) pX5_isPiece hM.1 zkl4 [_] rfl rfl (Nat.le_of_ble_eq_true rfl) (by omega) (c_X5_isPiece hM (by omega) hI16 (fun k7 hk7 e7 => ?_) (fun h7 => ?_))
  · subst e7
    have r7 : pB D (nI k7) = true := rB_t (by rw [z_ti (by omega)]; omega) (by rw [z_ti (by omega), hnn]; omega)
    have v7 : (nI k7).toNatClampNeg = k7 := nI_clamp (by omega)
    refine Z_ifeq 30 dX5_value_10 rfl (fun h => absurd h (by decide)) (fun _ => ?_)
    refine Z_aload_n dX5_value_13 rfl ?_
    refine Z_iload_n dX5_value_14 rfl ?_
    refine Z_call0 (d' := 1) (zCal_V gX5_77 nX5_isOffice (by decide) dX5_value_15) pX5_isOffice hM.1 zkl4 [_] rfl rfl (Nat.le_of_ble_eq_true rfl) (by omega) (c_X5_isOffice hM (by omega) hI3 (fun k15 hk15 e15 => ?_) (fun h15 => ?_))
    · subst e15
      have r15 : oB D (nI k15) = true := rB_t (by rw [z_ti (by omega)]; omega) (by rw [z_ti (by omega), hno]; omega)
      have v15 : (nI k15).toNatClampNeg = k15 := nI_clamp (by omega)
      refine Z_ifeq 30 dX5_value_18 rfl (fun h => absurd h (by decide)) (fun _ => ?_)
      refine Z_aload_n dX5_value_21 rfl ?_
      refine Z_getR (r := 26) hM.1 fX5_199_4 dX5_value_22 rfl (hM.2.2 26 _ rfl rfl) ?_
      refine Z_iconst (nI 0) dX5_value_25 rfl ?_
      refine Z_iald (hM.2.1 26 _ rfl) (zix_nI (by omega) (by decide)) dX5_value_26 ?_
      refine Z_re (y := nI (m)) ((wr hW rfl).trans hm) ?_
      refine Z_ifneN 35 dX5_value_27 rfl (by omega) (fun c27 => ?_) (fun c27 => ?_)
      · obtain ⟨a, ha6, ha⟩ := hsf.pl hk7
        obtain ⟨e, rfl⟩ : ∃ e, ro = some e := by cases ro with | none => exact absurd (hz rfl) c27 | some e => exact ⟨e, rfl⟩
        refine Z_aload_n dX5_value_35 rfl ?_
        refine Z_iload_n dX5_value_36 rfl ?_
        refine Z_iload_n dX5_value_37 rfl ?_
        refine Z_aload_n dX5_value_38 rfl ?_
        refine Z_getR (r := 23) hM.1 fX5_140_4 dX5_value_39 rfl (hM.2.2 23 _ rfl rfl) ?_
        refine Z_iconst (nI 0) dX5_value_42 rfl ?_
        refine Z_iald (hM.2.1 23 _ rfl) (zix_nI (by omega) (by decide)) dX5_value_43 ?_
        refine Z_re (congrFun hs _) ?_
        refine Z_re (y := nI (t0)) h0 ?_
        refine Z_iconst (nI 1) dX5_value_44 rfl ?_
        refine Z_iaddN dX5_value_45 ?_
        refine Z_call0 (d' := 6) (zCal_V gX5_262 nX5_worked (by decide) dX5_value_46) pX5_worked hM.1 zkl4 [_, _, _] rfl rfl (Nat.le_of_ble_eq_true rfl) (by omega) (c_X5_worked hM hW hs (by omega) (by omega) (by omega) ha (by omega) hru (fun I3 g => ?_))
        refine Z_ireturn dX5_value_49 rfl rfl ?_
        exact zV_k (by simp [fVal, e2, r7, v7, r15, v15]) (fun I2 a b c => k I2 a b c) (mR_sm hR1 (g.wk fun _ _ => t27_E) ((g.s23 fun _ => rfl).trans hs)) (f1.tr (frM.of (g.wk fun _ _ => t27_E) fun _ _ => tE_hi)) ((g 0 0 rfl).trans h00)
      · refine Z_aload_n dX5_value_30 rfl ?_
        refine Z_call0 (d' := 0) (zCal_V gX5_259 nX5_refuse (by decide) dX5_value_31) pX5_refuse hM.1 zkl4 [] rfl rfl (Nat.le_of_ble_eq_true rfl) (by omega) (c_X5_refuse hM  ?_)
        refine Z_ireturn dX5_value_34 rfl rfl ?_
        exact zV_n (by cases ro with | none => rfl | some e => first | (simp [fVal, r7, v7, r15, v15, c27]; done) | exact absurd c27 (by have := he e rfl; omega)) k hR1.z0 (f1.tr (frM.rf.st (by decide))) rfl
    · have r15 : oB D x = false := rB_f (fun q => h15 ⟨q.1, by have := q.2; rw [hno] at this; omega⟩)
      refine Z_ifeq 30 dX5_value_18 rfl (fun _ => ?_) (fun h => absurd h (by decide))
      refine Z_aload_n dX5_value_30 rfl ?_
      refine Z_call0 (d' := 0) (zCal_V gX5_259 nX5_refuse (by decide) dX5_value_31) pX5_refuse hM.1 zkl4 [] rfl rfl (Nat.le_of_ble_eq_true rfl) (by omega) (c_X5_refuse hM  ?_)
      refine Z_ireturn dX5_value_34 rfl rfl ?_
      exact zV_n (by cases ro with | none => rfl | some e => first | (simp [fVal, r7, v7, r15]; done) | exact absurd c27 (by have := he e rfl; omega)) k hR1.z0 (f1.tr (frM.rf.st (by decide))) rfl
  · have r7 : pB D y = false := rB_f (fun q => h7 ⟨q.1, by have := q.2; rw [hnn] at this; omega⟩)
    refine Z_ifeq 30 dX5_value_10 rfl (fun _ => ?_) (fun h => absurd h (by decide))
    refine Z_aload_n dX5_value_30 rfl ?_
    refine Z_call0 (d' := 0) (zCal_V gX5_259 nX5_refuse (by decide) dX5_value_31) pX5_refuse hM.1 zkl4 [] rfl rfl (Nat.le_of_ble_eq_true rfl) (by omega) (c_X5_refuse hM  ?_)
    refine Z_ireturn dX5_value_34 rfl rfl ?_
    exact zV_n (by cases ro with | none => rfl | some e => first | (simp [fVal, r7]; done) | exact absurd c27 (by have := he e rfl; omega)) k hR1.z0 (f1.tr (frM.rf.st (by decide))) rfl
set_option maxHeartbeats 4000000 in
theorem o_row (hR : mR D R I L P S) (hw : wf (wld D) no n) (hRl : R.length ≤ 24) {x : Int32} (ks : ∀ v, fRow R x = some v → ∀ I2, mR D R I2 L P S → frM I L I2 L → I2 0 0 = nI 0 → Q (.inl (some (.long v))) I2 L P S) (kn : fRow R x = none → ∀ I2, mR D R I2 L P S → frM I L I2 L → I2 0 0 = nI 1 → Q (.inl (some (.long 0))) I2 L P S) : Zm G mX5_row 2 C Sl [.ref 0, .int x] I L P S Q := by
  have hM := hR.1
  refine Z_entry (lv := [_, _]) (Nat.le_of_ble_eq_true rfl) rfl ?_
  refine Z_aload_n dX5_row_0 rfl ?_
  refine Z_iconst (nI 0) dX5_row_1 rfl ?_
  refine Z_putI hM.1 fX5_3_4 dX5_row_2 rfl rfl rfl ?_
  refine Z_start hR (fun I1 hR1 f1 h00 => ?_)
  have hw8 := hw.n8
  have hw6 := hw.o6
  have hM := hR1.1
  have hD : mdat I1 = D := hR1.2.2.1
  have hW : wld I1 = wld D := wld_mdat hD
  have hs : I1 23 = D 23 := funext fun j => dr hD rfl
  have hno : noD D = no := by rw [noD, show D 0 3 = nI no from hw.o3, nI_clamp (by omega)]
  have hnn : nD D = n := by rw [nD, show D 0 16 = nI n from hw.n16, nI_clamp (by omega)]
  have hI3 : I1 0 3 = nI no := (wr hW rfl).trans hw.o3
  have hI16 : I1 0 16 = nI n := (wr hW rfl).trans hw.n16
  refine Z_iload_n dX5_row_5 rfl ?_
  refine Z_i2l dX5_row_6 ?_
  refine Z_lconst (0) dX5_row_7 rfl ?_
  refine Z_aload_n dX5_row_8 rfl ?_
  refine Z_getI hM.1 fX5_11_4 dX5_row_9 rfl ?_
  refine Z_re hR1.2.2.2.1 ?_
  refine Z_iconst (nI 1) dX5_row_12 rfl ?_
  refine Z_isub dX5_row_13 ?_
  refine Z_i2l dX5_row_14 ?_
  refine Z_callS0 (d' := 0) (zCal_S gX5_25 nX5_in (by decide) dX5_row_15) pX5_in [_, _, _] rfl rfl (Nat.le_of_ble_eq_true rfl) (by omega) (c_X5_in (fun h15a h15b => ?_) (fun h15 => ?_))
  · rw [z_i64] at h15a
    rw [z_i64, z_i64, z_pred (by omega)] at h15b
    have r15 : rB x 0 ((R.length : Int) - 1) = true := rB_t h15a h15b
    obtain ⟨q, hq, e15⟩ := z_rng (n := 24) h15a (by omega) (by decide)
    subst e15
    have v15 : (nI q).toNatClampNeg = q := nI_clamp (by omega)
    rw [z_ti (by omega)] at h15b
    have hq2 : q < R.length := by omega
    refine Z_ifne 28 dX5_row_18 rfl (fun _ => ?_) (fun h => absurd h (by decide))
    refine Z_aload_n dX5_row_28 rfl ?_
    refine Z_getR (r := 2) hM.1 fX5_7_4 dX5_row_29 rfl (hM.2.2 2 _ rfl rfl) ?_
    refine Z_iload_n dX5_row_32 rfl ?_
    refine Z_lald (hM.2.1 2 _ rfl) (zix_nI (by omega) (by decide)) dX5_row_33 ?_
    refine Z_lreturn dX5_row_34 rfl ?_
    exact zQl (hR1.2.2.2.2 q hq2) (ks _ (by simp [fRow, r15, v15]) _ hR1 f1 h00)
  · rw [z_i64, z_i64, z_pred (by omega)] at h15
    have r15 : rB x 0 ((R.length : Int) - 1) = false := rB_f h15
    refine Z_ifne 28 dX5_row_18 rfl (fun h => absurd h (by decide)) (fun _ => ?_)
    refine Z_aload_n dX5_row_21 rfl ?_
    refine Z_iconst (nI 1) dX5_row_22 rfl ?_
    refine Z_putI hM.1 fX5_3_4 dX5_row_23 rfl rfl rfl ?_
    refine Z_lconst (0) dX5_row_26 rfl ?_
    refine Z_lreturn dX5_row_27 rfl ?_
    exact kn (by simp [fRow, r15]) _ hR1.z0 (f1.tr (frM.rf.st (by decide))) rfl
end M12
