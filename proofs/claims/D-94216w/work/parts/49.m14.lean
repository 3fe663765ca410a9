set_option maxRecDepth 100000
/-! THE MODEL, part 14: offices are opened -/
section M14
variable {G : zG} {d C Sl : Nat} {I D : zI} {R : List Int64} {L : zL} {P : zR} {S : zT} {Q : zQ} {no n : Nat}
set_option maxHeartbeats 4000000 in
theorem c_X5_opens (hR : mR D R I L P S) {o : Nat} (h3 : D 0 3 = nI o) (ho : o < 6) {z f l y m c : Int32} (k : ∀ I2, mR (opnS D o z f l y m c) R I2 L P S → frM I L I2 L → Q (.inl none) I2 L P S) : Zm G mX5_opens 0 C Sl [.ref 0, .int z, .int f, .int l, .int y, .int m, .int c] I L P S Q := by
  have hM := hR.1
  have hD := hR.2.2.1
  refine Z_entry (lv := [_, _, _, _, _, _, _, _, _]) (Nat.le_of_ble_eq_true rfl) rfl ?_
  refine Z_aload_n dX5_opens_0 rfl ?_
  refine Z_getI hM.1 fX5_22_4 dX5_opens_1 rfl ?_
  refine Z_re (y := nI (o)) ((dr hD rfl).trans h3) ?_
  refine Z_istore (lv' := [_, _, _, _, _, _, _, _, _]) dX5_opens_4 rfl rfl (Nat.le_of_ble_eq_true rfl) ?_
  refine Z_aload_n dX5_opens_6 rfl ?_
  refine Z_getR (r := 4) hM.1 fX5_31_4 dX5_opens_7 rfl (hM.2.2 4 _ rfl rfl) ?_
  refine Z_iload dX5_opens_10 rfl ?_
  refine Z_iload_n dX5_opens_12 rfl ?_
  refine Z_iast (hM.2.1 4 _ rfl) (zix_nI (by omega) (by decide)) dX5_opens_13 ?_
  refine Z_aload_n dX5_opens_14 rfl ?_
  refine Z_getR (r := 5) hM.1 fX5_35_4 dX5_opens_15 rfl (hM.2.2 5 _ rfl rfl) ?_
  refine Z_iload dX5_opens_18 rfl ?_
  refine Z_iload_n dX5_opens_20 rfl ?_
  refine Z_iast (hM.2.1 5 _ rfl) (zix_nI (by omega) (by decide)) dX5_opens_21 ?_
  refine Z_aload_n dX5_opens_22 rfl ?_
  refine Z_getR (r := 6) hM.1 fX5_38_4 dX5_opens_23 rfl (hM.2.2 6 _ rfl rfl) ?_
  refine Z_iload dX5_opens_26 rfl ?_
  refine Z_iload_n dX5_opens_28 rfl ?_
  refine Z_iast (hM.2.1 6 _ rfl) (zix_nI (by omega) (by decide)) dX5_opens_29 ?_
  refine Z_aload_n dX5_opens_30 rfl ?_
  refine Z_getR (r := 7) hM.1 fX5_41_4 dX5_opens_31 rfl (hM.2.2 7 _ rfl rfl) ?_
  refine Z_iload dX5_opens_34 rfl ?_
  refine Z_iload dX5_opens_36 rfl ?_
  refine Z_iast (hM.2.1 7 _ rfl) (zix_nI (by omega) (by decide)) dX5_opens_38 ?_
  refine Z_aload_n dX5_opens_39 rfl ?_
  refine Z_getR (r := 8) hM.1 fX5_44_4 dX5_opens_40 rfl (hM.2.2 8 _ rfl rfl) ?_
  refine Z_iload dX5_opens_43 rfl ?_
  refine Z_iload dX5_opens_45 rfl ?_
  refine Z_iast (hM.2.1 8 _ rfl) (zix_nI (by omega) (by decide)) dX5_opens_47 ?_
  refine Z_aload_n dX5_opens_48 rfl ?_
  refine Z_getR (r := 9) hM.1 fX5_47_4 dX5_opens_49 rfl (hM.2.2 9 _ rfl rfl) ?_
  refine Z_iload dX5_opens_52 rfl ?_
  refine Z_iload dX5_opens_54 rfl ?_
  refine Z_iast (hM.2.1 9 _ rfl) (zix_nI (by omega) (by decide)) dX5_opens_56 ?_
  refine Z_aload_n dX5_opens_57 rfl ?_
  refine Z_getR (r := 10) hM.1 fX5_50_4 dX5_opens_58 rfl (hM.2.2 10 _ rfl rfl) ?_
  refine Z_iload dX5_opens_61 rfl ?_
  refine Z_iconst (nI 0) dX5_opens_63 rfl ?_
  refine Z_iast (hM.2.1 10 _ rfl) (zix_nI (by omega) (by decide)) dX5_opens_64 ?_
  refine Z_aload_n dX5_opens_65 rfl ?_
  refine Z_getR (r := 11) hM.1 fX5_53_4 dX5_opens_66 rfl (hM.2.2 11 _ rfl rfl) ?_
  refine Z_iload dX5_opens_69 rfl ?_
  refine Z_iconst (nI 0) dX5_opens_71 rfl ?_
  refine Z_iast (hM.2.1 11 _ rfl) (zix_nI (by omega) (by decide)) dX5_opens_72 ?_
  refine Z_iconst (nI 0) dX5_opens_73 rfl ?_
  refine Z_istore (lv' := [_, _, _, _, _, _, _, _, _]) dX5_opens_74 rfl rfl (Nat.le_of_ble_eq_true rfl) ?_
  have lp76 : ∀ i, i ≤ 100 → ∀ I2, mR (fstN (opn0 D o z f l y m c) o i) R I2 L P S → frM I L I2 L → Zj G mX5_opens 0 C Sl 76 [.ref 0, .int z, .int f, .int l, .int y, .int m, .int c, .int (nI o), .int (nI i)] [] I2 L P S Q := by
    refine zloop (100) (fun i => ∀ I2, mR (fstN (opn0 D o z f l y m c) o i) R I2 L P S → frM I L I2 L → Zj G mX5_opens 0 C Sl 76 [.ref 0, .int z, .int f, .int l, .int y, .int m, .int c, .int (nI o), .int (nI i)] [] I2 L P S Q) (fun i hi ih => ?_)
    intro I2 g1 g2
    show Zj _ _ _ _ _ _ _ _ _ _ _ _ _
    refine Z_iload dX5_opens_76 rfl ?_
    refine Z_bipush (nI 100) dX5_opens_78 rfl ?_
    refine Z_icmpgeN 103 dX5_opens_80 rfl (by omega) (by omega) (fun c80 => ?_) (fun c80 => ?_)
    · obtain rfl : i = 100 := by omega
      refine Z_iconst (nI 0) dX5_opens_103 rfl ?_
      refine Z_istore (lv' := [_, _, _, _, _, _, _, _, _]) dX5_opens_104 rfl rfl (Nat.le_of_ble_eq_true rfl) ?_
      have lp106 : ∀ j, j ≤ 6 → ∀ I2, mR (knwN (fstN (opn0 D o z f l y m c) o 100) o j) R I2 L P S → frM I L I2 L → Zj G mX5_opens 0 C Sl 106 [.ref 0, .int z, .int f, .int l, .int y, .int m, .int c, .int (nI o), .int (nI j)] [] I2 L P S Q := by
        refine zloop (6) (fun j => ∀ I2, mR (knwN (fstN (opn0 D o z f l y m c) o 100) o j) R I2 L P S → frM I L I2 L → Zj G mX5_opens 0 C Sl 106 [.ref 0, .int z, .int f, .int l, .int y, .int m, .int c, .int (nI o), .int (nI j)] [] I2 L P S Q) (fun j hj ihj => ?_)
        intro I2 g1 g2
        show Zj _ _ _ _ _ _ _ _ _ _ _ _ _
        refine Z_iload dX5_opens_106 rfl ?_
        refine Z_bipush (nI 6) dX5_opens_108 rfl ?_
        refine Z_icmpgeN 147 dX5_opens_110 rfl (by omega) (by omega) (fun c110 => ?_) (fun c110 => ?_)
        · obtain rfl : j = 6 := by omega
          refine Z_aload_n dX5_opens_147 rfl ?_
          refine Z_getR (r := 13) hM.1 fX5_60_4 dX5_opens_148 rfl (hM.2.2 13 _ rfl rfl) ?_
          refine Z_bipush (nI 6) dX5_opens_151 rfl ?_
          refine Z_iload dX5_opens_153 rfl ?_
          refine Z_imulN dX5_opens_155 ?_
          refine Z_iload dX5_opens_156 rfl ?_
          refine Z_iaddN dX5_opens_158 ?_
          refine Z_bipush (nI 9) dX5_opens_159 rfl ?_
          refine Z_iast (hM.2.1 13 _ rfl) (zix_nI (by omega) (by decide)) dX5_opens_161 ?_
          refine Z_aload_n dX5_opens_162 rfl ?_
          refine Z_dup dX5_opens_163 rfl ?_
          refine Z_getI hM.1 fX5_22_4 dX5_opens_164 rfl ?_
          refine Z_re (y := nI (o)) ((dr g1.2.2.1 rfl).trans ((congrFun ((knwN_n (by decide) 6).trans ((fstN_n (by decide) 100).trans opn0_0)) 3).trans h3)) ?_
          refine Z_iconst (nI 1) dX5_opens_167 rfl ?_
          refine Z_iaddN dX5_opens_168 ?_
          refine Z_putI hM.1 fX5_22_4 dX5_opens_169 rfl rfl rfl ?_
          refine Z_return dX5_opens_172 rfl ?_
          exact k _ ((g1.zw rfl).zw rfl) ((g2.st (by decide)).st (by decide))
        · refine Z_aload_n dX5_opens_113 rfl ?_
          refine Z_getR (r := 13) hM.1 fX5_60_4 dX5_opens_114 rfl (hM.2.2 13 _ rfl rfl) ?_
          refine Z_bipush (nI 6) dX5_opens_117 rfl ?_
          refine Z_iload dX5_opens_119 rfl ?_
          refine Z_imulN dX5_opens_121 ?_
          refine Z_iload dX5_opens_122 rfl ?_
          refine Z_iaddN dX5_opens_124 ?_
          refine Z_iconst (nI 0) dX5_opens_125 rfl ?_
          refine Z_iast (hM.2.1 13 _ rfl) (zix_nI (by omega) (by decide)) dX5_opens_126 ?_
          refine Z_aload_n dX5_opens_127 rfl ?_
          refine Z_getR (r := 13) hM.1 fX5_60_4 dX5_opens_128 rfl (hM.2.2 13 _ rfl rfl) ?_
          refine Z_bipush (nI 6) dX5_opens_131 rfl ?_
          refine Z_iload dX5_opens_133 rfl ?_
          refine Z_imulN dX5_opens_135 ?_
          refine Z_iload dX5_opens_136 rfl ?_
          refine Z_iaddN dX5_opens_138 ?_
          refine Z_iconst (nI 0) dX5_opens_139 rfl ?_
          refine Z_iast (hM.2.1 13 _ rfl) (zix_nI (by omega) (by decide)) dX5_opens_140 ?_
          refine Z_iincN (a := _) (k := 1) (lv' := [_, _, _, _, _, _, _, _, _]) dX5_opens_141 rfl rfl rfl rfl ?_
          refine Z_goto 106 dX5_opens_144 rfl ?_
          exact ihj (by omega) _ ((g1.zw rfl).zw rfl) ((g2.st (by decide)).st (by decide))
      exact lp106 0 (by omega) _ g1 g2
    · refine Z_aload_n dX5_opens_83 rfl ?_
      refine Z_getR (r := 12) hM.1 fX5_56_4 dX5_opens_84 rfl (hM.2.2 12 _ rfl rfl) ?_
      refine Z_bipush (nI 100) dX5_opens_87 rfl ?_
      refine Z_iload dX5_opens_89 rfl ?_
      refine Z_imulN dX5_opens_91 ?_
      refine Z_iload dX5_opens_92 rfl ?_
      refine Z_iaddN dX5_opens_94 ?_
      refine Z_iconst (nI 0) dX5_opens_95 rfl ?_
      refine Z_zast (hM.2.1 12 _ rfl) (zix_nI (by omega) (by decide)) dX5_opens_96 ?_
      refine Z_iincN (a := _) (k := 1) (lv' := [_, _, _, _, _, _, _, _, _]) dX5_opens_97 rfl rfl rfl rfl ?_
      refine Z_goto 76 dX5_opens_100 rfl ?_
      exact ih (by omega) _ (g1.zw rfl) (g2.st (by decide))
  exact lp76 0 (by omega) _ ((((((((hR.zw rfl).zw rfl).zw rfl).zw rfl).zw rfl).zw rfl).zw rfl).zw rfl) ((((((((frM.rf.st (by decide)).st (by decide)).st (by decide)).st (by decide)).st (by decide)).st (by decide)).st (by decide)).st (by decide))
set_option maxHeartbeats 4000000 in
theorem o_office (hR : mR D R I L P S) (hw : wf (wld D) no n) {t l y c : Int32} (k : ∀ I2 L2, mR (fOffice D R t l y c).2.1 (fOffice D R t l y c).2.2 I2 L2 P S → frM I L I2 L2 → Q (.inl (some (.int (fOffice D R t l y c).1))) I2 L2 P S) : Zm G mX5_office 2 C Sl [.ref 0, .int t, .int l, .int y, .int c] I L P S Q := by
  have hM := hR.1
  refine Z_entry (lv := [_, _, _, _, _, _]) (Nat.le_of_ble_eq_true rfl) rfl ?_
  refine Z_aload_n dX5_office_0 rfl ?_
  refine Z_iconst (nI 0) dX5_office_1 rfl ?_
  refine Z_putI hM.1 fX5_3_4 dX5_office_2 rfl rfl rfl ?_
  refine Z_start hR (fun I1 hR1 f1 h00 => ?_)
  have hw8 := hw.n8
  have hw6 := hw.o6
  have hM := hR1.1
  have hD : mdat I1 = D := hR1.2.2.1
  have hW : wld I1 = wld D := wld_mdat hD
  have hs : I1 23 = D 23 := funext fun j => dr hD rfl
  have hno : noD D = no := by rw [noD, show D 0 3 = nI no from hw.o3, nI_clamp (by omega)]
  have hnn : nD D = n := by rw [nD, show D 0 16 = nI n from hw.n16, nI_clamp (by omega)]
  have hI3 : I1 0 3 = nI no := (wr hW rfl).trans hw.o3
  have hI16 : I1 0 16 = nI n := (wr hW rfl).trans hw.n16
  refine Z_iload_n dX5_office_5 rfl ?_
  refine Z_i2l dX5_office_6 ?_
  refine Z_lconst (0) dX5_office_7 rfl ?_
  refine Z_ldc2 q1239 dX5_office_8 ?_
  refine Z_callS0 (d' := 0) (zCal_S gX5_25 nX5_in (by decide) dX5_office_11) pX5_in [_, _, _] rfl rfl (Nat.le_of_ble_eq_true rfl) (by omega) (c_X5_in (fun h11a h11b => ?_) (fun h11 => ?_))
  · rw [z_i64] at h11a h11b
    have r11 : rB (t) 0 575 = true := rB_t h11a h11b
    refine Z_ifeq 82 dX5_office_14 rfl (fun h => absurd h (by decide)) (fun _ => ?_)
    refine Z_iload_n dX5_office_17 rfl ?_
    refine Z_i2l dX5_office_18 ?_
    refine Z_lconst (1) dX5_office_19 rfl ?_
    refine Z_ldc2 q1243 dX5_office_20 ?_
    refine Z_callS0 (d' := 0) (zCal_S gX5_25 nX5_in (by decide) dX5_office_23) pX5_in [_, _, _] rfl rfl (Nat.le_of_ble_eq_true rfl) (by omega) (c_X5_in (fun h23a h23b => ?_) (fun h23 => ?_))
    · rw [z_i64] at h23a h23b
      have r23 : rB (l) 1 16 = true := rB_t h23a h23b
      refine Z_ifeq 82 dX5_office_26 rfl (fun h => absurd h (by decide)) (fun _ => ?_)
      refine Z_iload_n dX5_office_29 rfl ?_
      refine Z_i2l dX5_office_30 ?_
      refine Z_lconst (1) dX5_office_31 rfl ?_
      refine Z_ldc2 q1244 dX5_office_32 ?_
      refine Z_callS0 (d' := 0) (zCal_S gX5_25 nX5_in (by decide) dX5_office_35) pX5_in [_, _, _] rfl rfl (Nat.le_of_ble_eq_true rfl) (by omega) (c_X5_in (fun h35a h35b => ?_) (fun h35 => ?_))
      · rw [z_i64] at h35a h35b
        have r35 : rB (y) 1 99 = true := rB_t h35a h35b
        refine Z_ifeq 82 dX5_office_38 rfl (fun h => absurd h (by decide)) (fun _ => ?_)
        refine Z_iload dX5_office_41 rfl ?_
        refine Z_iflt 82 dX5_office_43 rfl (fun c43 => ?_) (fun c43 => ?_)
        · refine Z_iconst (nI 0) dX5_office_82 rfl ?_
          refine Z_istore (lv' := [_, _, _, _, _, _]) dX5_office_83 rfl rfl (Nat.le_of_ble_eq_true rfl) ?_
          refine Z_iload dX5_office_85 rfl ?_
          refine Z_ifeq 99 dX5_office_87 rfl (fun _ => ?_) (fun h => absurd h (by decide))
          refine Z_iconst (-1) dX5_office_99 rfl ?_
          refine Z_ireturn dX5_office_100 rfl rfl ?_
          exact zO_k (by simp [fOffice, show D 0 3 = nI no from hw.o3, nI_eq, r11, r23, r35, c43]) k hR1 f1
        · refine Z_iload dX5_office_46 rfl ?_
          refine Z_bipush (nI 64) dX5_office_48 rfl ?_
          refine Z_idiv dX5_office_50 (by decide) ?_
          refine Z_i2l dX5_office_51 ?_
          refine Z_lconst (1) dX5_office_52 rfl ?_
          refine Z_ldc2 q1245 dX5_office_53 ?_
          refine Z_callS0 (d' := 0) (zCal_S gX5_25 nX5_in (by decide) dX5_office_56) pX5_in [_, _, _] rfl rfl (Nat.le_of_ble_eq_true rfl) (by omega) (c_X5_in (fun h56a h56b => ?_) (fun h56 => ?_))
          · rw [z_i64] at h56a h56b
            have r56 : rB (c / nI 64) 1 9 = true := rB_t h56a h56b
            refine Z_ifeq 82 dX5_office_59 rfl (fun h => absurd h (by decide)) (fun _ => ?_)
            refine Z_iload dX5_office_62 rfl ?_
            refine Z_bipush (nI 64) dX5_office_64 rfl ?_
            refine Z_irem dX5_office_66 (by decide) ?_
            refine Z_i2l dX5_office_67 ?_
            refine Z_lconst (1) dX5_office_68 rfl ?_
            refine Z_ldc2 q1246 dX5_office_69 ?_
            refine Z_callS0 (d' := 0) (zCal_S gX5_25 nX5_in (by decide) dX5_office_72) pX5_in [_, _, _] rfl rfl (Nat.le_of_ble_eq_true rfl) (by omega) (c_X5_in (fun h72a h72b => ?_) (fun h72 => ?_))
            · rw [z_i64] at h72a h72b
              have r72 : rB (c - c / nI 64 * nI 64) 1 63 = true := rB_t h72a h72b
              refine Z_ifeq 82 dX5_office_75 rfl (fun h => absurd h (by decide)) (fun _ => ?_)
              refine Z_iconst (nI 1) dX5_office_78 rfl ?_
              refine Z_goto 83 dX5_office_79 rfl ?_
              refine Z_istore (lv' := [_, _, _, _, _, _]) dX5_office_83 rfl rfl (Nat.le_of_ble_eq_true rfl) ?_
              refine Z_iload dX5_office_85 rfl ?_
              refine Z_ifeq 99 dX5_office_87 rfl (fun h => absurd h (by decide)) (fun _ => ?_)
              refine Z_aload_n dX5_office_90 rfl ?_
              refine Z_getI hM.1 fX5_22_4 dX5_office_91 rfl ?_
              refine Z_re (y := nI (no)) hI3 ?_
              refine Z_bipush (nI 6) dX5_office_94 rfl ?_
              refine Z_icmpneN 101 dX5_office_96 rfl (by omega) (by omega) (fun c96 => ?_) (fun c96 => ?_)
              · refine Z_aload_n dX5_office_101 rfl ?_
                refine Z_iload_n dX5_office_102 rfl ?_
                refine Z_bipush (nI 24) dX5_office_103 rfl ?_
                refine Z_idiv dX5_office_105 (by decide) ?_
                refine Z_iload_n dX5_office_106 rfl ?_
                refine Z_bipush (nI 24) dX5_office_107 rfl ?_
                refine Z_irem dX5_office_109 (by decide) ?_
                refine Z_iload_n dX5_office_110 rfl ?_
                refine Z_iload_n dX5_office_111 rfl ?_
                refine Z_iload dX5_office_112 rfl ?_
                refine Z_bipush (nI 64) dX5_office_114 rfl ?_
                refine Z_idiv dX5_office_116 (by decide) ?_
                refine Z_iload dX5_office_117 rfl ?_
                refine Z_bipush (nI 64) dX5_office_119 rfl ?_
                refine Z_irem dX5_office_121 (by decide) ?_
                refine Z_call0 (d' := 0) (zCal_V gX5_73 nX5_opens (by decide) dX5_office_122) pX5_opens hM.1 zkl4 [_, _, _, _, _, _] rfl rfl (Nat.le_of_ble_eq_true rfl) (by omega) (c_X5_opens hR1 (o := no) hw.o3 (by omega) (fun I2 g1 g2 => ?_))
                refine Z_aload_n dX5_office_125 rfl ?_
                refine Z_getI hM.1 fX5_22_4 dX5_office_126 rfl ?_
                refine Z_re (y := nI (no + 1)) ((dr g1.2.2.1 rfl).trans opnS_3) ?_
                refine Z_iconst (nI 1) dX5_office_129 rfl ?_
                refine Z_isubN dX5_office_130 (by omega) ?_
                refine Z_ireturn dX5_office_131 rfl rfl ?_
                have v3 : (nI no).toNatClampNeg = no := nI_clamp (by omega)
                have c96b : ¬ nI no = nI 6 := fun e => c96 ((nI_eq (by omega) (by decide)).mp e)
                exact zO_k (D2 := opnS D no (t / nI 24) (t - t / nI 24 * nI 24) l y (c / nI 64) (c - c / nI 64 * nI 64)) (R2 := R) (by simp [fOffice, show D 0 3 = nI no from hw.o3, v3, c96b, r11, r23, r35, c43, r56, r72]) k g1 (f1.tr g2)
              · have c96 : no = 6 := c96
                refine Z_iconst (-1) dX5_office_99 rfl ?_
                refine Z_ireturn dX5_office_100 rfl rfl ?_
                exact zO_k (by simp [fOffice, show D 0 3 = nI no from hw.o3, nI_eq, r11, r23, r35, c43, r56, r72, c96]) k hR1 f1
            · rw [z_i64] at h72
              have r72 : rB (c - c / nI 64 * nI 64) 1 63 = false := rB_f h72
              refine Z_ifeq 82 dX5_office_75 rfl (fun _ => ?_) (fun h => absurd h (by decide))
              refine Z_iconst (nI 0) dX5_office_82 rfl ?_
              refine Z_istore (lv' := [_, _, _, _, _, _]) dX5_office_83 rfl rfl (Nat.le_of_ble_eq_true rfl) ?_
              refine Z_iload dX5_office_85 rfl ?_
              refine Z_ifeq 99 dX5_office_87 rfl (fun _ => ?_) (fun h => absurd h (by decide))
              refine Z_iconst (-1) dX5_office_99 rfl ?_
              refine Z_ireturn dX5_office_100 rfl rfl ?_
              exact zO_k (by simp [fOffice, show D 0 3 = nI no from hw.o3, nI_eq, r11, r23, r35, c43, r56, r72]) k hR1 f1
          · rw [z_i64] at h56
            have r56 : rB (c / nI 64) 1 9 = false := rB_f h56
            refine Z_ifeq 82 dX5_office_59 rfl (fun _ => ?_) (fun h => absurd h (by decide))
            refine Z_iconst (nI 0) dX5_office_82 rfl ?_
            refine Z_istore (lv' := [_, _, _, _, _, _]) dX5_office_83 rfl rfl (Nat.le_of_ble_eq_true rfl) ?_
            refine Z_iload dX5_office_85 rfl ?_
            refine Z_ifeq 99 dX5_office_87 rfl (fun _ => ?_) (fun h => absurd h (by decide))
            refine Z_iconst (-1) dX5_office_99 rfl ?_
            refine Z_ireturn dX5_office_100 rfl rfl ?_
            exact zO_k (by simp [fOffice, show D 0 3 = nI no from hw.o3, nI_eq, r11, r23, r35, c43, r56]) k hR1 f1
      · rw [z_i64] at h35
        have r35 : rB (y) 1 99 = false := rB_f h35
        refine Z_ifeq 82 dX5_office_38 rfl (fun _ => ?_) (fun h => absurd h (by decide))
        refine Z_iconst (nI 0) dX5_office_82 rfl ?_
        refine Z_istore (lv' := [_, _, _, _, _, _]) dX5_office_83 rfl rfl (Nat.le_of_ble_eq_true rfl) ?_
        refine Z_iload dX5_office_85 rfl ?_
        refine Z_ifeq 99 dX5_office_87 rfl (fun _ => ?_) (fun h => absurd h (by decide))
        refine Z_iconst (-1) dX5_office_99 rfl ?_
        refine Z_ireturn dX5_office_100 rfl rfl ?_
        exact zO_k (by simp [fOffice, show D 0 3 = nI no from hw.o3, nI_eq, r11, r23, r35]) k hR1 f1
    · rw [z_i64] at h23
      have r23 : rB (l) 1 16 = false := rB_f h23
      refine Z_ifeq 82 dX5_office_26 rfl (fun _ => ?_) (fun h => absurd h (by decide))
      refine Z_iconst (nI 0) dX5_office_82 rfl ?_
      refine Z_istore (lv' := [_, _, _, _, _, _]) dX5_office_83 rfl rfl (Nat.le_of_ble_eq_true rfl) ?_
      refine Z_iload dX5_office_85 rfl ?_
      refine Z_ifeq 99 dX5_office_87 rfl (fun _ => ?_) (fun h => absurd h (by decide))
      refine Z_iconst (-1) dX5_office_99 rfl ?_
      refine Z_ireturn dX5_office_100 rfl rfl ?_
      exact zO_k (by simp [fOffice, show D 0 3 = nI no from hw.o3, nI_eq, r11, r23]) k hR1 f1
  · rw [z_i64] at h11
    have r11 : rB (t) 0 575 = false := rB_f h11
    refine Z_ifeq 82 dX5_office_14 rfl (fun _ => ?_) (fun h => absurd h (by decide))
    refine Z_iconst (nI 0) dX5_office_82 rfl ?_
    refine Z_istore (lv' := [_, _, _, _, _, _]) dX5_office_83 rfl rfl (Nat.le_of_ble_eq_true rfl) ?_
    refine Z_iload dX5_office_85 rfl ?_
    refine Z_ifeq 99 dX5_office_87 rfl (fun _ => ?_) (fun h => absurd h (by decide))
    refine Z_iconst (-1) dX5_office_99 rfl ?_
    refine Z_ireturn dX5_office_100 rfl rfl ?_
    exact zO_k (by simp [fOffice, show D 0 3 = nI no from hw.o3, nI_eq, r11]) k hR1 f1
end M14
