set_option maxRecDepth 100000
/-! THE MODEL, part 15: pieces are opened -/
section M15
variable {G : zG} {d C Sl : Nat} {I D : zI} {R : List Int64} {L : zL} {P : zR} {S : zT} {Q : zQ} {no n : Nat}
set_option maxHeartbeats 4000000 in
theorem o_piece (hR : mR D R I L P S) (hw : wf (wld D) no n) {f l a b q : Int32} (k : ∀ I2 L2, mR (fPiece D R f l a b q).2.1 (fPiece D R f l a b q).2.2 I2 L2 P S → frM I L I2 L2 → Q (.inl (some (.int (fPiece D R f l a b q).1))) I2 L2 P S) : Zm G mX5_piece 2 C Sl [.ref 0, .int f, .int l, .int a, .int b, .int q] I L P S Q := by
  have hM := hR.1
  refine Z_entry (lv := [_, _, _, _, _, _, _]) (Nat.le_of_ble_eq_true rfl) rfl ?_
  refine Z_aload_n dX5_piece_0 rfl ?_
  refine Z_iconst (nI 0) dX5_piece_1 rfl ?_
  refine Z_putI hM.1 fX5_3_4 dX5_piece_2 rfl rfl rfl ?_
  refine Z_start hR (fun I1 hR1 f1 h00 => ?_)
  have hw8 := hw.n8
  have hw6 := hw.o6
  have hM := hR1.1
  have hD : mdat I1 = D := hR1.2.2.1
  have hW : wld I1 = wld D := wld_mdat hD
  have hs : I1 23 = D 23 := funext fun j => dr hD rfl
  have hno : noD D = no := by rw [noD, show D 0 3 = nI no from hw.o3, nI_clamp (by omega)]
  have hnn : nD D = n := by rw [nD, show D 0 16 = nI n from hw.n16, nI_clamp (by omega)]
  have hI3 : I1 0 3 = nI no := (wr hW rfl).trans hw.o3
  have hI16 : I1 0 16 = nI n := (wr hW rfl).trans hw.n16
  refine Z_iload_n dX5_piece_5 rfl ?_
  refine Z_iflt 67 dX5_piece_6 rfl (fun c6 => ?_) (fun c6 => ?_)
  · refine Z_iconst (nI 0) dX5_piece_67 rfl ?_
    refine Z_istore (lv' := [_, _, _, _, _, _, _]) dX5_piece_68 rfl rfl (Nat.le_of_ble_eq_true rfl) ?_
    refine Z_iload dX5_piece_70 rfl ?_
    refine Z_ifeq 99 dX5_piece_72 rfl (fun _ => ?_) (fun h => absurd h (by decide))
    refine Z_iconst (-1) dX5_piece_99 rfl ?_
    refine Z_ireturn dX5_piece_100 rfl rfl ?_
    exact zO_k (by simp [fPiece, c6, -Int32.toInt_sub]) k hR1 f1
  · refine Z_iload_n dX5_piece_9 rfl ?_
    refine Z_bipush (nI 6) dX5_piece_10 rfl ?_
    refine Z_idiv dX5_piece_12 (by decide) ?_
    refine Z_i2l dX5_piece_13 ?_
    refine Z_lconst (1) dX5_piece_14 rfl ?_
    refine Z_ldc2 q1338 dX5_piece_15 ?_
    refine Z_callS0 (d' := 0) (zCal_S gX5_25 nX5_in (by decide) dX5_piece_18) pX5_in [_, _, _] rfl rfl (Nat.le_of_ble_eq_true rfl) (by omega) (c_X5_in (fun h18a h18b => ?_) (fun h18 => ?_))
    · rw [z_i64] at h18a h18b
      have r18 : rB (f / nI 6) 1 60 = true := rB_t h18a h18b
      refine Z_ifeq 67 dX5_piece_21 rfl (fun h => absurd h (by decide)) (fun _ => ?_)
      refine Z_iload_n dX5_piece_24 rfl ?_
      refine Z_i2l dX5_piece_25 ?_
      refine Z_lconst (1) dX5_piece_26 rfl ?_
      refine Z_ldc2 q1338 dX5_piece_27 ?_
      refine Z_callS0 (d' := 0) (zCal_S gX5_25 nX5_in (by decide) dX5_piece_30) pX5_in [_, _, _] rfl rfl (Nat.le_of_ble_eq_true rfl) (by omega) (c_X5_in (fun h30a h30b => ?_) (fun h30 => ?_))
      · rw [z_i64] at h30a h30b
        have r30 : rB (l) 1 60 = true := rB_t h30a h30b
        refine Z_ifeq 67 dX5_piece_33 rfl (fun h => absurd h (by decide)) (fun _ => ?_)
        refine Z_iload_n dX5_piece_36 rfl ?_
        refine Z_i2l dX5_piece_37 ?_
        refine Z_lconst (0) dX5_piece_38 rfl ?_
        refine Z_iconst (nI 1) dX5_piece_39 rfl ?_
        refine Z_aload_n dX5_piece_40 rfl ?_
        refine Z_getI hM.1 fX5_151_4 dX5_piece_41 rfl ?_
        refine Z_re (dr hD rfl) ?_
        refine Z_ishl dX5_piece_44 ?_
        refine Z_iconst (nI 1) dX5_piece_45 rfl ?_
        refine Z_isub dX5_piece_46 ?_
        refine Z_i2l dX5_piece_47 ?_
        refine Z_callS0 (d' := 0) (zCal_S gX5_25 nX5_in (by decide) dX5_piece_48) pX5_in [_, _, _] rfl rfl (Nat.le_of_ble_eq_true rfl) (by omega) (c_X5_in (fun h48a h48b => ?_) (fun h48 => ?_))
        · rw [z_i64] at h48a
          rw [z_i64, z_i64] at h48b
          have r48 : rB a 0 ((nI 1 <<< (D 0 16 &&& 31)) - nI 1).toInt = true := rB_t h48a h48b
          refine Z_ifeq 67 dX5_piece_51 rfl (fun h => absurd h (by decide)) (fun _ => ?_)
          refine Z_aload_n dX5_piece_54 rfl ?_
          refine Z_iload dX5_piece_55 rfl ?_
          refine Z_call0 (d' := 1) (zCal_V gX5_77 nX5_isOffice (by decide) dX5_piece_57) pX5_isOffice hM.1 zkl4 [_] rfl rfl (Nat.le_of_ble_eq_true rfl) (by omega) (c_X5_isOffice hM (by omega) hI3 (fun k57 hk57 e57 => ?_) (fun h57 => ?_))
          · subst e57
            have r57 : oB D (nI k57) = true := rB_t (by rw [z_ti (by omega)]; omega) (by rw [z_ti (by omega), hno]; omega)
            have v57 : (nI k57).toNatClampNeg = k57 := nI_clamp (by omega)
            refine Z_ifeq 67 dX5_piece_60 rfl (fun h => absurd h (by decide)) (fun _ => ?_)
            refine Z_iconst (nI 1) dX5_piece_63 rfl ?_
            refine Z_goto 68 dX5_piece_64 rfl ?_
            refine Z_istore (lv' := [_, _, _, _, _, _, _]) dX5_piece_68 rfl rfl (Nat.le_of_ble_eq_true rfl) ?_
            refine Z_iload dX5_piece_70 rfl ?_
            refine Z_ifeq 99 dX5_piece_72 rfl (fun h => absurd h (by decide)) (fun _ => ?_)
            refine Z_iload dX5_piece_75 rfl ?_
            refine Z_iconst (-1) dX5_piece_77 rfl ?_
            refine Z_icmpeq 90 dX5_piece_78 rfl (fun c78 => ?_) (fun c78 => ?_)
            · refine Z_aload_n dX5_piece_90 rfl ?_
              refine Z_getI hM.1 fX5_151_4 dX5_piece_91 rfl ?_
              refine Z_re (y := nI (n)) hI16 ?_
              refine Z_bipush (nI 8) dX5_piece_94 rfl ?_
              refine Z_icmpneN 101 dX5_piece_96 rfl (by omega) (by omega) (fun c96 => ?_) (fun c96 => ?_)
              · refine Z_aload_n dX5_piece_101 rfl ?_
                refine Z_getR (r := 17) hM.1 fX5_154_4 dX5_piece_102 rfl (hM.2.2 17 _ rfl rfl) ?_
                refine Z_aload_n dX5_piece_105 rfl ?_
                refine Z_getI hM.1 fX5_151_4 dX5_piece_106 rfl ?_
                refine Z_re (y := nI (n)) hI16 ?_
                refine Z_iload_n dX5_piece_109 rfl ?_
                refine Z_bipush (nI 6) dX5_piece_110 rfl ?_
                refine Z_irem dX5_piece_112 (by decide) ?_
                refine Z_iast (hM.2.1 17 _ rfl) (zix_nI (by omega) (by decide)) dX5_piece_113 ?_
                refine Z_aload_n dX5_piece_114 rfl ?_
                refine Z_getR (r := 22) hM.1 fX5_157_4 dX5_piece_115 rfl (hM.2.2 22 _ rfl rfl) ?_
                refine Z_aload_n dX5_piece_118 rfl ?_
                refine Z_getI hM.1 fX5_151_4 dX5_piece_119 rfl ?_
                refine Z_re (y := nI (n)) hI16 ?_
                refine Z_iload_n dX5_piece_122 rfl ?_
                refine Z_bipush (nI 6) dX5_piece_123 rfl ?_
                refine Z_idiv dX5_piece_125 (by decide) ?_
                refine Z_iast (hM.2.1 22 _ rfl) (zix_nI (by omega) (by decide)) dX5_piece_126 ?_
                refine Z_aload_n dX5_piece_127 rfl ?_
                refine Z_getR (r := 18) hM.1 fX5_146_4 dX5_piece_128 rfl (hM.2.2 18 _ rfl rfl) ?_
                refine Z_aload_n dX5_piece_131 rfl ?_
                refine Z_getI hM.1 fX5_151_4 dX5_piece_132 rfl ?_
                refine Z_re (y := nI (n)) hI16 ?_
                refine Z_iload_n dX5_piece_135 rfl ?_
                refine Z_iast (hM.2.1 18 _ rfl) (zix_nI (by omega) (by decide)) dX5_piece_136 ?_
                refine Z_aload_n dX5_piece_137 rfl ?_
                refine Z_getR (r := 19) hM.1 fX5_160_4 dX5_piece_138 rfl (hM.2.2 19 _ rfl rfl) ?_
                refine Z_aload_n dX5_piece_141 rfl ?_
                refine Z_getI hM.1 fX5_151_4 dX5_piece_142 rfl ?_
                refine Z_re (y := nI (n)) hI16 ?_
                refine Z_iload_n dX5_piece_145 rfl ?_
                refine Z_iast (hM.2.1 19 _ rfl) (zix_nI (by omega) (by decide)) dX5_piece_146 ?_
                refine Z_aload_n dX5_piece_147 rfl ?_
                refine Z_getR (r := 20) hM.1 fX5_143_4 dX5_piece_148 rfl (hM.2.2 20 _ rfl rfl) ?_
                refine Z_aload_n dX5_piece_151 rfl ?_
                refine Z_getI hM.1 fX5_151_4 dX5_piece_152 rfl ?_
                refine Z_re (y := nI (n)) hI16 ?_
                refine Z_iload dX5_piece_155 rfl ?_
                refine Z_iast (hM.2.1 20 _ rfl) (zix_nI (by omega) (by decide)) dX5_piece_157 ?_
                refine Z_aload_n dX5_piece_158 rfl ?_
                refine Z_getR (r := 21) hM.1 fX5_163_4 dX5_piece_159 rfl (hM.2.2 21 _ rfl rfl) ?_
                refine Z_aload_n dX5_piece_162 rfl ?_
                refine Z_getI hM.1 fX5_151_4 dX5_piece_163 rfl ?_
                refine Z_re (y := nI (n)) hI16 ?_
                refine Z_iload dX5_piece_166 rfl ?_
                refine Z_iast (hM.2.1 21 _ rfl) (zix_nI (by omega) (by decide)) dX5_piece_168 ?_
                have g : mR (pce0 D n f l a (nI k57) (q)) R _ L P S := (((((hR1.zw (a := 17) (k := n) (v := f - f / nI 6 * nI 6) rfl).zw (a := 22) (k := n) (v := f / nI 6) rfl).zw (a := 18) (k := n) (v := l) rfl).zw (a := 19) (k := n) (v := a) rfl).zw (a := 20) (k := n) (v := nI k57) rfl).zw (a := 21) (k := n) (v := q) rfl
                refine Z_aload_n dX5_piece_169 rfl ?_
                refine Z_aload_n dX5_piece_170 rfl ?_
                refine Z_getI hM.1 fX5_151_4 dX5_piece_171 rfl ?_
                refine Z_re (y := nI (n)) hI16 ?_
                refine Z_call0 (d' := 0) (zCal_V gX5_166 nX5_lays (by decide) dX5_piece_174) pX5_lays hM.1 zkl4 [_] rfl rfl (Nat.le_of_ble_eq_true rfl) (by omega) (c_X5_lays hM (wld_mdat g.2.2.1) hs (by omega) ?_)
                refine Z_aload_n dX5_piece_177 rfl ?_
                refine Z_dup dX5_piece_178 rfl ?_
                refine Z_getI hM.1 fX5_151_4 dX5_piece_179 rfl ?_
                refine Z_re (y := nI (n)) hI16 ?_
                refine Z_iconst (nI 1) dX5_piece_182 rfl ?_
                refine Z_iaddN dX5_piece_183 ?_
                refine Z_putI hM.1 fX5_151_4 dX5_piece_184 rfl rfl rfl ?_
                refine Z_aload_n dX5_piece_187 rfl ?_
                refine Z_getI hM.1 fX5_151_4 dX5_piece_188 rfl ?_
                refine Z_re (y := nI (n + 1)) (zw_s _ _ _ _) ?_
                refine Z_iconst (nI 1) dX5_piece_191 rfl ?_
                refine Z_isubN dX5_piece_192 (by omega) ?_
                refine Z_ireturn dX5_piece_193 rfl rfl ?_
                have v16 : (D 0 16).toNatClampNeg = n := by rw [show D 0 16 = nI n from hw.n16, nI_clamp (by omega)]
                have c96b : ¬ D 0 16 = nI 8 := fun e => c96 ((nI_eq (by omega) (by decide)).mp ((show D 0 16 = nI n from hw.n16).symm.trans e))
                have p16 : D 0 16 + nI 1 = nI (n + 1) := by rw [show D 0 16 = nI n from hw.n16, nI_add]
                have q16 : D 0 16 = nI (n + 1 - 1) := hw.n16
                exact zO_k (D2 := zw (zu (pce0 D n f l a (nI k57) (q)) 23 (layS (wld (pce0 D n f l a (nI k57) (q))) (D 23) n)) 0 16 (nI (n + 1))) (R2 := R) (by simp [fPiece, v16, c96b, p16, c6, r18, r30, r48, r57, v57, c78, -Int32.toInt_sub]; exact q16) k ((mR_fr g (fr.rf.su fun _ => rfl) (zu_s _ _ _)).zw rfl) (f1.tr (((((((((frM.rf.st (by decide)).st (by decide)).st (by decide)).st (by decide)).st (by decide)).st (by decide)).su (by decide)).st (by decide))))
              · have c96z : D 0 16 = nI 8 := by rw [show D 0 16 = nI n from hw.n16, c96]
                refine Z_iconst (-1) dX5_piece_99 rfl ?_
                refine Z_ireturn dX5_piece_100 rfl rfl ?_
                exact zO_k (by simp [fPiece, c6, r18, r30, r48, r57, v57, c78, c96z, -Int32.toInt_sub]) k hR1 f1
            · refine Z_aload_n dX5_piece_81 rfl ?_
              refine Z_iload dX5_piece_82 rfl ?_
              refine Z_call0 (d' := 1) (zCal_V gX5_77 nX5_isOffice (by decide) dX5_piece_84) pX5_isOffice hM.1 zkl4 [_] rfl rfl (Nat.le_of_ble_eq_true rfl) (by omega) (c_X5_isOffice hM (by omega) hI3 (fun k84 hk84 e84 => ?_) (fun h84 => ?_))
              · subst e84
                have r84 : oB D (nI k84) = true := rB_t (by rw [z_ti (by omega)]; omega) (by rw [z_ti (by omega), hno]; omega)
                have v84 : (nI k84).toNatClampNeg = k84 := nI_clamp (by omega)
                refine Z_ifeq 99 dX5_piece_87 rfl (fun h => absurd h (by decide)) (fun _ => ?_)
                refine Z_aload_n dX5_piece_90 rfl ?_
                refine Z_getI hM.1 fX5_151_4 dX5_piece_91 rfl ?_
                refine Z_re (y := nI (n)) hI16 ?_
                refine Z_bipush (nI 8) dX5_piece_94 rfl ?_
                refine Z_icmpneN 101 dX5_piece_96 rfl (by omega) (by omega) (fun c96 => ?_) (fun c96 => ?_)
                · refine Z_aload_n dX5_piece_101 rfl ?_
                  refine Z_getR (r := 17) hM.1 fX5_154_4 dX5_piece_102 rfl (hM.2.2 17 _ rfl rfl) ?_
                  refine Z_aload_n dX5_piece_105 rfl ?_
                  refine Z_getI hM.1 fX5_151_4 dX5_piece_106 rfl ?_
                  refine Z_re (y := nI (n)) hI16 ?_
                  refine Z_iload_n dX5_piece_109 rfl ?_
                  refine Z_bipush (nI 6) dX5_piece_110 rfl ?_
                  refine Z_irem dX5_piece_112 (by decide) ?_
                  refine Z_iast (hM.2.1 17 _ rfl) (zix_nI (by omega) (by decide)) dX5_piece_113 ?_
                  refine Z_aload_n dX5_piece_114 rfl ?_
                  refine Z_getR (r := 22) hM.1 fX5_157_4 dX5_piece_115 rfl (hM.2.2 22 _ rfl rfl) ?_
                  refine Z_aload_n dX5_piece_118 rfl ?_
                  refine Z_getI hM.1 fX5_151_4 dX5_piece_119 rfl ?_
                  refine Z_re (y := nI (n)) hI16 ?_
                  refine Z_iload_n dX5_piece_122 rfl ?_
                  refine Z_bipush (nI 6) dX5_piece_123 rfl ?_
                  refine Z_idiv dX5_piece_125 (by decide) ?_
                  refine Z_iast (hM.2.1 22 _ rfl) (zix_nI (by omega) (by decide)) dX5_piece_126 ?_
                  refine Z_aload_n dX5_piece_127 rfl ?_
                  refine Z_getR (r := 18) hM.1 fX5_146_4 dX5_piece_128 rfl (hM.2.2 18 _ rfl rfl) ?_
                  refine Z_aload_n dX5_piece_131 rfl ?_
                  refine Z_getI hM.1 fX5_151_4 dX5_piece_132 rfl ?_
                  refine Z_re (y := nI (n)) hI16 ?_
                  refine Z_iload_n dX5_piece_135 rfl ?_
                  refine Z_iast (hM.2.1 18 _ rfl) (zix_nI (by omega) (by decide)) dX5_piece_136 ?_
                  refine Z_aload_n dX5_piece_137 rfl ?_
                  refine Z_getR (r := 19) hM.1 fX5_160_4 dX5_piece_138 rfl (hM.2.2 19 _ rfl rfl) ?_
                  refine Z_aload_n dX5_piece_141 rfl ?_
                  refine Z_getI hM.1 fX5_151_4 dX5_piece_142 rfl ?_
                  refine Z_re (y := nI (n)) hI16 ?_
                  refine Z_iload_n dX5_piece_145 rfl ?_
                  refine Z_iast (hM.2.1 19 _ rfl) (zix_nI (by omega) (by decide)) dX5_piece_146 ?_
                  refine Z_aload_n dX5_piece_147 rfl ?_
                  refine Z_getR (r := 20) hM.1 fX5_143_4 dX5_piece_148 rfl (hM.2.2 20 _ rfl rfl) ?_
                  refine Z_aload_n dX5_piece_151 rfl ?_
                  refine Z_getI hM.1 fX5_151_4 dX5_piece_152 rfl ?_
                  refine Z_re (y := nI (n)) hI16 ?_
                  refine Z_iload dX5_piece_155 rfl ?_
                  refine Z_iast (hM.2.1 20 _ rfl) (zix_nI (by omega) (by decide)) dX5_piece_157 ?_
                  refine Z_aload_n dX5_piece_158 rfl ?_
                  refine Z_getR (r := 21) hM.1 fX5_163_4 dX5_piece_159 rfl (hM.2.2 21 _ rfl rfl) ?_
                  refine Z_aload_n dX5_piece_162 rfl ?_
                  refine Z_getI hM.1 fX5_151_4 dX5_piece_163 rfl ?_
                  refine Z_re (y := nI (n)) hI16 ?_
                  refine Z_iload dX5_piece_166 rfl ?_
                  refine Z_iast (hM.2.1 21 _ rfl) (zix_nI (by omega) (by decide)) dX5_piece_168 ?_
                  have g : mR (pce0 D n f l a (nI k57) (nI k84)) R _ L P S := (((((hR1.zw (a := 17) (k := n) (v := f - f / nI 6 * nI 6) rfl).zw (a := 22) (k := n) (v := f / nI 6) rfl).zw (a := 18) (k := n) (v := l) rfl).zw (a := 19) (k := n) (v := a) rfl).zw (a := 20) (k := n) (v := nI k57) rfl).zw (a := 21) (k := n) (v := nI k84) rfl
                  refine Z_aload_n dX5_piece_169 rfl ?_
                  refine Z_aload_n dX5_piece_170 rfl ?_
                  refine Z_getI hM.1 fX5_151_4 dX5_piece_171 rfl ?_
                  refine Z_re (y := nI (n)) hI16 ?_
                  refine Z_call0 (d' := 0) (zCal_V gX5_166 nX5_lays (by decide) dX5_piece_174) pX5_lays hM.1 zkl4 [_] rfl rfl (Nat.le_of_ble_eq_true rfl) (by omega) (c_X5_lays hM (wld_mdat g.2.2.1) hs (by omega) ?_)
                  refine Z_aload_n dX5_piece_177 rfl ?_
                  refine Z_dup dX5_piece_178 rfl ?_
                  refine Z_getI hM.1 fX5_151_4 dX5_piece_179 rfl ?_
                  refine Z_re (y := nI (n)) hI16 ?_
                  refine Z_iconst (nI 1) dX5_piece_182 rfl ?_
                  refine Z_iaddN dX5_piece_183 ?_
                  refine Z_putI hM.1 fX5_151_4 dX5_piece_184 rfl rfl rfl ?_
                  refine Z_aload_n dX5_piece_187 rfl ?_
                  refine Z_getI hM.1 fX5_151_4 dX5_piece_188 rfl ?_
                  refine Z_re (y := nI (n + 1)) (zw_s _ _ _ _) ?_
                  refine Z_iconst (nI 1) dX5_piece_191 rfl ?_
                  refine Z_isubN dX5_piece_192 (by omega) ?_
                  refine Z_ireturn dX5_piece_193 rfl rfl ?_
                  have v16 : (D 0 16).toNatClampNeg = n := by rw [show D 0 16 = nI n from hw.n16, nI_clamp (by omega)]
                  have c96b : ¬ D 0 16 = nI 8 := fun e => c96 ((nI_eq (by omega) (by decide)).mp ((show D 0 16 = nI n from hw.n16).symm.trans e))
                  have p16 : D 0 16 + nI 1 = nI (n + 1) := by rw [show D 0 16 = nI n from hw.n16, nI_add]
                  have q16 : D 0 16 = nI (n + 1 - 1) := hw.n16
                  exact zO_k (D2 := zw (zu (pce0 D n f l a (nI k57) (nI k84)) 23 (layS (wld (pce0 D n f l a (nI k57) (nI k84))) (D 23) n)) 0 16 (nI (n + 1))) (R2 := R) (by simp [fPiece, v16, c96b, p16, c6, r18, r30, r48, r57, v57, c78, r84, v84, -Int32.toInt_sub]; exact q16) k ((mR_fr g (fr.rf.su fun _ => rfl) (zu_s _ _ _)).zw rfl) (f1.tr (((((((((frM.rf.st (by decide)).st (by decide)).st (by decide)).st (by decide)).st (by decide)).st (by decide)).su (by decide)).st (by decide))))
                · have c96z : D 0 16 = nI 8 := by rw [show D 0 16 = nI n from hw.n16, c96]
                  refine Z_iconst (-1) dX5_piece_99 rfl ?_
                  refine Z_ireturn dX5_piece_100 rfl rfl ?_
                  exact zO_k (by simp [fPiece, c6, r18, r30, r48, r57, v57, c78, r84, v84, c96z, -Int32.toInt_sub]) k hR1 f1
              · have r84 : oB D q = false := rB_f (fun q => h84 ⟨q.1, by have := q.2; rw [hno] at this; omega⟩)
                refine Z_ifeq 99 dX5_piece_87 rfl (fun _ => ?_) (fun h => absurd h (by decide))
                refine Z_iconst (-1) dX5_piece_99 rfl ?_
                refine Z_ireturn dX5_piece_100 rfl rfl ?_
                exact zO_k (by simp [fPiece, c6, r18, r30, r48, r57, v57, c78, r84, -Int32.toInt_sub]) k hR1 f1
          · have r57 : oB D b = false := rB_f (fun q => h57 ⟨q.1, by have := q.2; rw [hno] at this; omega⟩)
            refine Z_ifeq 67 dX5_piece_60 rfl (fun _ => ?_) (fun h => absurd h (by decide))
            refine Z_iconst (nI 0) dX5_piece_67 rfl ?_
            refine Z_istore (lv' := [_, _, _, _, _, _, _]) dX5_piece_68 rfl rfl (Nat.le_of_ble_eq_true rfl) ?_
            refine Z_iload dX5_piece_70 rfl ?_
            refine Z_ifeq 99 dX5_piece_72 rfl (fun _ => ?_) (fun h => absurd h (by decide))
            refine Z_iconst (-1) dX5_piece_99 rfl ?_
            refine Z_ireturn dX5_piece_100 rfl rfl ?_
            exact zO_k (by simp [fPiece, c6, r18, r30, r48, r57, -Int32.toInt_sub]) k hR1 f1
        · rw [z_i64, z_i64] at h48
          have r48 : rB a 0 ((nI 1 <<< (D 0 16 &&& 31)) - nI 1).toInt = false := rB_f h48
          refine Z_ifeq 67 dX5_piece_51 rfl (fun _ => ?_) (fun h => absurd h (by decide))
          refine Z_iconst (nI 0) dX5_piece_67 rfl ?_
          refine Z_istore (lv' := [_, _, _, _, _, _, _]) dX5_piece_68 rfl rfl (Nat.le_of_ble_eq_true rfl) ?_
          refine Z_iload dX5_piece_70 rfl ?_
          refine Z_ifeq 99 dX5_piece_72 rfl (fun _ => ?_) (fun h => absurd h (by decide))
          refine Z_iconst (-1) dX5_piece_99 rfl ?_
          refine Z_ireturn dX5_piece_100 rfl rfl ?_
          exact zO_k (by simp [fPiece, c6, r18, r30, r48, -Int32.toInt_sub]) k hR1 f1
      · rw [z_i64] at h30
        have r30 : rB (l) 1 60 = false := rB_f h30
        refine Z_ifeq 67 dX5_piece_33 rfl (fun _ => ?_) (fun h => absurd h (by decide))
        refine Z_iconst (nI 0) dX5_piece_67 rfl ?_
        refine Z_istore (lv' := [_, _, _, _, _, _, _]) dX5_piece_68 rfl rfl (Nat.le_of_ble_eq_true rfl) ?_
        refine Z_iload dX5_piece_70 rfl ?_
        refine Z_ifeq 99 dX5_piece_72 rfl (fun _ => ?_) (fun h => absurd h (by decide))
        refine Z_iconst (-1) dX5_piece_99 rfl ?_
        refine Z_ireturn dX5_piece_100 rfl rfl ?_
        exact zO_k (by simp [fPiece, c6, r18, r30, -Int32.toInt_sub]) k hR1 f1
    · rw [z_i64] at h18
      have r18 : rB (f / nI 6) 1 60 = false := rB_f h18
      refine Z_ifeq 67 dX5_piece_21 rfl (fun _ => ?_) (fun h => absurd h (by decide))
      refine Z_iconst (nI 0) dX5_piece_67 rfl ?_
      refine Z_istore (lv' := [_, _, _, _, _, _, _]) dX5_piece_68 rfl rfl (Nat.le_of_ble_eq_true rfl) ?_
      refine Z_iload dX5_piece_70 rfl ?_
      refine Z_ifeq 99 dX5_piece_72 rfl (fun _ => ?_) (fun h => absurd h (by decide))
      refine Z_iconst (-1) dX5_piece_99 rfl ?_
      refine Z_ireturn dX5_piece_100 rfl rfl ?_
      exact zO_k (by simp [fPiece, c6, r18, -Int32.toInt_sub]) k hR1 f1
end M15
