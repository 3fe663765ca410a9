set_option maxRecDepth 100000
/-! THE MODEL, part 16: a sheet; dark hours -/
section M16
variable {G : zG} {d C Sl : Nat} {I D : zI} {R : List Int64} {L : zL} {P : zR} {S : zT} {Q : zQ} {no n : Nat}

theorem mR.kn {D I : zI} {R : List Int64} {L : zL} {P : zR} {S : zT} {a b : Nat} {v : Int32} (h : mR D R I L P S) : mR (stKn D a b v) R (stKn I a b v) L P S := (h.zw rfl).zw rfl
theorem frM.kn {I I' : zI} {L L' : zL} {a b : Nat} {v : Int32} (h : frM I L I' L') : frM I L (stKn I' a b v) L' := (h.st (by decide)).st (by decide)
set_option maxHeartbeats 4000000 in
theorem s_sheet (hR : mR D R I L P S) (h3 : D 0 3 = nI no) (h6 : no ≤ 6) {o : Nat} (ho : o < 6) {y m f t : Int32} (k : ∀ I2, mR (shD D o y m f t no) R I2 L P S → frM I L I2 L → Q (.inl (some (.int (shS D o y m f t no)))) I2 L P S) : Zj G mX5_sheet 3 C Sl 45 [.ref 0, .int (nI o), .int y, .int m, .int f, .int t, .retAddr 0, .retAddr 0, .retAddr 0, .retAddr 0] [] I L P S Q := by
  have hM := hR.1
  refine Z_iload dX5_sheet_45 rfl ?_
  refine Z_istore (lv' := [_, _, _, _, _, _, _, _, _, _]) dX5_sheet_47 rfl rfl (Nat.le_of_ble_eq_true rfl) ?_
  refine Z_iconst (nI 0) dX5_sheet_49 rfl ?_
  refine Z_istore (lv' := [_, _, _, _, _, _, _, _, _, _]) dX5_sheet_50 rfl rfl (Nat.le_of_ble_eq_true rfl) ?_
  refine Z_iconst (nI 0) dX5_sheet_52 rfl ?_
  refine Z_istore (lv' := [_, _, _, _, _, _, _, _, _, _]) dX5_sheet_53 rfl rfl (Nat.le_of_ble_eq_true rfl) ?_
  have lp55 : ∀ i, i ≤ no → ∀ I2, mR (shD D o y m f t i) R I2 L P S → frM I L I2 L → Zj G mX5_sheet 3 C Sl 55 [.ref 0, .int (nI o), .int y, .int m, .int f, .int t, .int (shV f t i), .int (shS D o y m f t i), .int (nI i), .retAddr 0] [] I2 L P S Q := by
    refine zloop (no) (fun i => ∀ I2, mR (shD D o y m f t i) R I2 L P S → frM I L I2 L → Zj G mX5_sheet 3 C Sl 55 [.ref 0, .int (nI o), .int y, .int m, .int f, .int t, .int (shV f t i), .int (shS D o y m f t i), .int (nI i), .retAddr 0] [] I2 L P S Q) (fun i hi ih => ?_)
    intro I2 g1 g2
    show Zj _ _ _ _ _ _ _ _ _ _ _ _ _
    refine Z_iload dX5_sheet_55 rfl ?_
    refine Z_aload_n dX5_sheet_57 rfl ?_
    refine Z_getI hM.1 fX5_22_4 dX5_sheet_58 rfl ?_
    refine Z_re (y := nI (no)) ((dr g1.2.2.1 rfl).trans ((congrFun (shD_n (by decide) i) 3).trans h3)) ?_
    refine Z_icmpgeN 173 dX5_sheet_61 rfl (by omega) (by omega) (fun c61 => ?_) (fun c61 => ?_)
    · obtain rfl : i = no := by omega
      refine Z_iload dX5_sheet_173 rfl ?_
      refine Z_ireturn dX5_sheet_175 rfl rfl ?_
      exact k _ g1 g2
    · refine Z_cut0 96 (.int (shI y (shV f t i))) (fun jn96 => ?_) ?_
      · refine Z_iload_n dX5_sheet_64 rfl ?_
        refine Z_iconst (nI 3) dX5_sheet_65 rfl ?_
        refine Z_icmpne 73 dX5_sheet_66 rfl (fun c66 => ?_) (fun c66 => ?_)
        · refine Z_iload_n dX5_sheet_73 rfl ?_
          refine Z_ifne 83 dX5_sheet_74 rfl (fun c74 => ?_) (fun c74 => ?_)
          · refine Z_iload_n dX5_sheet_83 rfl ?_
            refine Z_iconst (nI 1) dX5_sheet_84 rfl ?_
            refine Z_icmpne 94 dX5_sheet_85 rfl (fun c85 => ?_) (fun c85 => ?_)
            · refine Z_iload dX5_sheet_94 rfl ?_
              exact Z_re (by first | rw [shI, if_pos c66] | rw [shI, if_neg c66, if_pos c74] | rw [shI, if_neg c66, if_neg c74, if_pos c85] | rw [shI, if_neg c66, if_neg c74, if_neg c85]) jn96
            · refine Z_iload dX5_sheet_88 rfl ?_
              refine Z_i2s dX5_sheet_90 ?_
              refine Z_goto 96 dX5_sheet_91 rfl ?_
              exact Z_re (by first | rw [shI, if_pos c66] | rw [shI, if_neg c66, if_pos c74] | rw [shI, if_neg c66, if_neg c74, if_pos c85] | rw [shI, if_neg c66, if_neg c74, if_neg c85]) jn96
          · refine Z_iload dX5_sheet_77 rfl ?_
            refine Z_i2b dX5_sheet_79 ?_
            refine Z_goto 96 dX5_sheet_80 rfl ?_
            exact Z_re (by first | rw [shI, if_pos c66] | rw [shI, if_neg c66, if_pos c74] | rw [shI, if_neg c66, if_neg c74, if_pos c85] | rw [shI, if_neg c66, if_neg c74, if_neg c85]) jn96
        · refine Z_iconst (nI 0) dX5_sheet_69 rfl ?_
          refine Z_goto 96 dX5_sheet_70 rfl ?_
          exact Z_re (by first | rw [shI, if_pos c66] | rw [shI, if_neg c66, if_pos c74] | rw [shI, if_neg c66, if_neg c74, if_pos c85] | rw [shI, if_neg c66, if_neg c74, if_neg c85]) jn96
      · refine Z_istore (lv' := [_, _, _, _, _, _, _, _, _, _]) dX5_sheet_96 rfl rfl (Nat.le_of_ble_eq_true rfl) ?_
        refine Z_iload dX5_sheet_98 rfl ?_
        refine Z_iload_n dX5_sheet_100 rfl ?_
        refine Z_icmpeqN 133 dX5_sheet_101 rfl (by omega) (by omega) (fun c101 => ?_) (fun c101 => ?_)
        · refine Z_iload dX5_sheet_133 rfl ?_
          refine Z_iload dX5_sheet_135 rfl ?_
          refine Z_iload_n dX5_sheet_137 rfl ?_
          refine Z_icmpneN 145 dX5_sheet_138 rfl (by omega) (by omega) (fun c138 => ?_) (fun c138 => ?_)
          · exact absurd c101 c138
          · refine Z_iconst (nI 0) dX5_sheet_141 rfl ?_
            refine Z_goto 157 dX5_sheet_142 rfl ?_
            refine Z_iadd dX5_sheet_157 ?_
            refine Z_istore (lv' := [_, _, _, _, _, _, _, _, _, _]) dX5_sheet_158 rfl rfl (Nat.le_of_ble_eq_true rfl) ?_
            refine Z_iload dX5_sheet_160 rfl ?_
            refine Z_iload dX5_sheet_162 rfl ?_
            refine Z_iadd dX5_sheet_164 ?_
            refine Z_istore (lv' := [_, _, _, _, _, _, _, _, _, _]) dX5_sheet_165 rfl rfl (Nat.le_of_ble_eq_true rfl) ?_
            refine Z_iincN (a := _) (k := 1) (lv' := [_, _, _, _, _, _, _, _, _, _]) dX5_sheet_167 rfl rfl rfl rfl ?_
            refine Z_goto 55 dX5_sheet_170 rfl ?_
            have e1 : ¬ shW y m o i = true := by first | (rw [shW, decide_eq_true c101]; simp) | (rw [shW, decide_eq_false c106, decide_eq_true c112]; simp)
            have e2 : shD D o y m f t (i + 1) = shD D o y m f t i := by rw [shD, if_neg e1]
            have g3 : mR (shD D o y m f t (i + 1)) R I2 L P S := by rw [e2]; exact g1
            have g4 := g2
            have ih2 := ih (by omega) _ g3 g4
            have e3 : shS D o y m f t (i + 1) = shS D o y m f t i + nI 0 := by rw [shS, if_pos c101]
            rw [e3] at ih2
            exact Z_fgt ih2 (by repeat first | exact zwk_n | refine zwk_f ?_ | refine zwk_c rfl ?_)
        · refine Z_iload_n dX5_sheet_104 rfl ?_
          refine Z_iconst (nI 3) dX5_sheet_105 rfl ?_
          refine Z_icmpeq 115 dX5_sheet_106 rfl (fun c106 => ?_) (fun c106 => ?_)
          · refine Z_aload_n dX5_sheet_115 rfl ?_
            refine Z_iload_n dX5_sheet_116 rfl ?_
            refine Z_iload dX5_sheet_117 rfl ?_
            refine Z_iconst (nI 0) dX5_sheet_119 rfl ?_
            refine Z_bipush (nI 9) dX5_sheet_120 rfl ?_
            refine Z_iload dX5_sheet_122 rfl ?_
            refine Z_callS0 (d' := 0) (zCal_S gX5_95 nJ5_min (by decide) dX5_sheet_124) pJ5_min [_, _] rfl rfl (Nat.le_of_ble_eq_true rfl) (by omega) (c_J5_min ?_)
            refine Z_callS0 (d' := 0) (zCal_S gX5_101 nJ5_max (by decide) dX5_sheet_127) pJ5_max [_, _] rfl rfl (Nat.le_of_ble_eq_true rfl) (by omega) (c_J5_max ?_)
            refine Z_call0 (d' := 0) (zCal_V gX5_89 nX5_knows (by decide) dX5_sheet_130) pX5_knows hM.1 zkl4 [_, _, _] rfl rfl (Nat.le_of_ble_eq_true rfl) (by omega) (c_X5_knows hM (by omega) (by omega) ?_)
            refine Z_iload dX5_sheet_133 rfl ?_
            refine Z_iload dX5_sheet_135 rfl ?_
            refine Z_iload_n dX5_sheet_137 rfl ?_
            refine Z_icmpneN 145 dX5_sheet_138 rfl (by omega) (by omega) (fun c138 => ?_) (fun c138 => ?_)
            · refine Z_aload_n dX5_sheet_145 rfl ?_
              refine Z_getR (r := 13) hM.1 fX5_60_4 dX5_sheet_146 rfl (hM.2.2 13 _ rfl rfl) ?_
              refine Z_bipush (nI 6) dX5_sheet_149 rfl ?_
              refine Z_iload_n dX5_sheet_151 rfl ?_
              refine Z_imulN dX5_sheet_152 ?_
              refine Z_iload dX5_sheet_153 rfl ?_
              refine Z_iaddN dX5_sheet_155 ?_
              refine Z_iald (hM.2.1 13 _ rfl) (zix_nI (by omega) (by decide)) dX5_sheet_156 ?_
              refine Z_iadd dX5_sheet_157 ?_
              refine Z_istore (lv' := [_, _, _, _, _, _, _, _, _, _]) dX5_sheet_158 rfl rfl (Nat.le_of_ble_eq_true rfl) ?_
              refine Z_iload dX5_sheet_160 rfl ?_
              refine Z_iload dX5_sheet_162 rfl ?_
              refine Z_iadd dX5_sheet_164 ?_
              refine Z_istore (lv' := [_, _, _, _, _, _, _, _, _, _]) dX5_sheet_165 rfl rfl (Nat.le_of_ble_eq_true rfl) ?_
              refine Z_iincN (a := _) (k := 1) (lv' := [_, _, _, _, _, _, _, _, _, _]) dX5_sheet_167 rfl rfl rfl rfl ?_
              refine Z_goto 55 dX5_sheet_170 rfl ?_
              have e1 : shW y m o i = true := by first | (rw [shW, decide_eq_false c101, decide_eq_true c106]; rfl) | (rw [shW, decide_eq_false c101, decide_eq_false c112]; simp)
              have e2 : shD D o y m f t (i + 1) = stKn (shD D o y m f t i) o i (mx (nI 0) (mn (nI 9) (shI y (shV f t i)))) := by rw [shD, if_pos e1]
              have g3 : mR (shD D o y m f t (i + 1)) R (stKn I2 o i (mx (nI 0) (mn (nI 9) (shI y (shV f t i))))) L P S := by rw [e2]; exact g1.kn
              have g4 := frM.kn (a := o) (b := i) (v := mx (nI 0) (mn (nI 9) (shI y (shV f t i)))) g2
              have ih2 := ih (by omega) _ g3 g4
              have e3 := dr g3.2.2.1 (a := 13) (k := 6 * o + i) rfl
              have e4 : shS D o y m f t (i + 1) = shS D o y m f t i + shD D o y m f t (i + 1) 13 (6 * o + i) := by rw [shS, if_neg c101]
              rw [e4, ← e3] at ih2
              exact Z_fgt ih2 (by repeat first | exact zwk_n | refine zwk_f ?_ | refine zwk_c rfl ?_)
            · exact absurd c138 c101
          · refine Z_iload dX5_sheet_109 rfl ?_
            refine Z_iload_n dX5_sheet_111 rfl ?_
            refine Z_icmpge 133 dX5_sheet_112 rfl (fun c112 => ?_) (fun c112 => ?_)
            · refine Z_iload dX5_sheet_133 rfl ?_
              refine Z_iload dX5_sheet_135 rfl ?_
              refine Z_iload_n dX5_sheet_137 rfl ?_
              refine Z_icmpneN 145 dX5_sheet_138 rfl (by omega) (by omega) (fun c138 => ?_) (fun c138 => ?_)
              · refine Z_aload_n dX5_sheet_145 rfl ?_
                refine Z_getR (r := 13) hM.1 fX5_60_4 dX5_sheet_146 rfl (hM.2.2 13 _ rfl rfl) ?_
                refine Z_bipush (nI 6) dX5_sheet_149 rfl ?_
                refine Z_iload_n dX5_sheet_151 rfl ?_
                refine Z_imulN dX5_sheet_152 ?_
                refine Z_iload dX5_sheet_153 rfl ?_
                refine Z_iaddN dX5_sheet_155 ?_
                refine Z_iald (hM.2.1 13 _ rfl) (zix_nI (by omega) (by decide)) dX5_sheet_156 ?_
                refine Z_iadd dX5_sheet_157 ?_
                refine Z_istore (lv' := [_, _, _, _, _, _, _, _, _, _]) dX5_sheet_158 rfl rfl (Nat.le_of_ble_eq_true rfl) ?_
                refine Z_iload dX5_sheet_160 rfl ?_
                refine Z_iload dX5_sheet_162 rfl ?_
                refine Z_iadd dX5_sheet_164 ?_
                refine Z_istore (lv' := [_, _, _, _, _, _, _, _, _, _]) dX5_sheet_165 rfl rfl (Nat.le_of_ble_eq_true rfl) ?_
                refine Z_iincN (a := _) (k := 1) (lv' := [_, _, _, _, _, _, _, _, _, _]) dX5_sheet_167 rfl rfl rfl rfl ?_
                refine Z_goto 55 dX5_sheet_170 rfl ?_
                have e1 : ¬ shW y m o i = true := by first | (rw [shW, decide_eq_true c101]; simp) | (rw [shW, decide_eq_false c106, decide_eq_true c112]; simp)
                have e2 : shD D o y m f t (i + 1) = shD D o y m f t i := by rw [shD, if_neg e1]
                have g3 : mR (shD D o y m f t (i + 1)) R I2 L P S := by rw [e2]; exact g1
                have g4 := g2
                have ih2 := ih (by omega) _ g3 g4
                have e3 := dr g3.2.2.1 (a := 13) (k := 6 * o + i) rfl
                have e4 : shS D o y m f t (i + 1) = shS D o y m f t i + shD D o y m f t (i + 1) 13 (6 * o + i) := by rw [shS, if_neg c101]
                rw [e4, ← e3] at ih2
                exact Z_fgt ih2 (by repeat first | exact zwk_n | refine zwk_f ?_ | refine zwk_c rfl ?_)
              · exact absurd c138 c101
            · refine Z_aload_n dX5_sheet_115 rfl ?_
              refine Z_iload_n dX5_sheet_116 rfl ?_
              refine Z_iload dX5_sheet_117 rfl ?_
              refine Z_iconst (nI 0) dX5_sheet_119 rfl ?_
              refine Z_bipush (nI 9) dX5_sheet_120 rfl ?_
              refine Z_iload dX5_sheet_122 rfl ?_
              refine Z_callS0 (d' := 0) (zCal_S gX5_95 nJ5_min (by decide) dX5_sheet_124) pJ5_min [_, _] rfl rfl (Nat.le_of_ble_eq_true rfl) (by omega) (c_J5_min ?_)
              refine Z_callS0 (d' := 0) (zCal_S gX5_101 nJ5_max (by decide) dX5_sheet_127) pJ5_max [_, _] rfl rfl (Nat.le_of_ble_eq_true rfl) (by omega) (c_J5_max ?_)
              refine Z_call0 (d' := 0) (zCal_V gX5_89 nX5_knows (by decide) dX5_sheet_130) pX5_knows hM.1 zkl4 [_, _, _] rfl rfl (Nat.le_of_ble_eq_true rfl) (by omega) (c_X5_knows hM (by omega) (by omega) ?_)
              refine Z_iload dX5_sheet_133 rfl ?_
              refine Z_iload dX5_sheet_135 rfl ?_
              refine Z_iload_n dX5_sheet_137 rfl ?_
              refine Z_icmpneN 145 dX5_sheet_138 rfl (by omega) (by omega) (fun c138 => ?_) (fun c138 => ?_)
              · refine Z_aload_n dX5_sheet_145 rfl ?_
                refine Z_getR (r := 13) hM.1 fX5_60_4 dX5_sheet_146 rfl (hM.2.2 13 _ rfl rfl) ?_
                refine Z_bipush (nI 6) dX5_sheet_149 rfl ?_
                refine Z_iload_n dX5_sheet_151 rfl ?_
                refine Z_imulN dX5_sheet_152 ?_
                refine Z_iload dX5_sheet_153 rfl ?_
                refine Z_iaddN dX5_sheet_155 ?_
                refine Z_iald (hM.2.1 13 _ rfl) (zix_nI (by omega) (by decide)) dX5_sheet_156 ?_
                refine Z_iadd dX5_sheet_157 ?_
                refine Z_istore (lv' := [_, _, _, _, _, _, _, _, _, _]) dX5_sheet_158 rfl rfl (Nat.le_of_ble_eq_true rfl) ?_
                refine Z_iload dX5_sheet_160 rfl ?_
                refine Z_iload dX5_sheet_162 rfl ?_
                refine Z_iadd dX5_sheet_164 ?_
                refine Z_istore (lv' := [_, _, _, _, _, _, _, _, _, _]) dX5_sheet_165 rfl rfl (Nat.le_of_ble_eq_true rfl) ?_
                refine Z_iincN (a := _) (k := 1) (lv' := [_, _, _, _, _, _, _, _, _, _]) dX5_sheet_167 rfl rfl rfl rfl ?_
                refine Z_goto 55 dX5_sheet_170 rfl ?_
                have e1 : shW y m o i = true := by first | (rw [shW, decide_eq_false c101, decide_eq_true c106]; rfl) | (rw [shW, decide_eq_false c101, decide_eq_false c112]; simp)
                have e2 : shD D o y m f t (i + 1) = stKn (shD D o y m f t i) o i (mx (nI 0) (mn (nI 9) (shI y (shV f t i)))) := by rw [shD, if_pos e1]
                have g3 : mR (shD D o y m f t (i + 1)) R (stKn I2 o i (mx (nI 0) (mn (nI 9) (shI y (shV f t i))))) L P S := by rw [e2]; exact g1.kn
                have g4 := frM.kn (a := o) (b := i) (v := mx (nI 0) (mn (nI 9) (shI y (shV f t i)))) g2
                have ih2 := ih (by omega) _ g3 g4
                have e3 := dr g3.2.2.1 (a := 13) (k := 6 * o + i) rfl
                have e4 : shS D o y m f t (i + 1) = shS D o y m f t i + shD D o y m f t (i + 1) 13 (6 * o + i) := by rw [shS, if_neg c101]
                rw [e4, ← e3] at ih2
                exact Z_fgt ih2 (by repeat first | exact zwk_n | refine zwk_f ?_ | refine zwk_c rfl ?_)
              · exact absurd c138 c101
  exact lp55 0 (by omega) I hR frM.rf
set_option maxHeartbeats 4000000 in
theorem o_sheet (hR : mR D R I L P S) (hw : wf (wld D) no n) {o y m f t : Int32} (k : ∀ I2 L2, mR (fSheet D R no o y m f t).2.1 (fSheet D R no o y m f t).2.2 I2 L2 P S → frM I L I2 L2 → Q (.inl (some (.int (fSheet D R no o y m f t).1))) I2 L2 P S) : Zm G mX5_sheet 3 C Sl [.ref 0, .int o, .int y, .int m, .int f, .int t] I L P S Q := by
  have hM := hR.1
  refine Z_entry (lv := [_, _, _, _, _, _, _, _, _, _]) (Nat.le_of_ble_eq_true rfl) rfl ?_
  refine Z_aload_n dX5_sheet_0 rfl ?_
  refine Z_iconst (nI 0) dX5_sheet_1 rfl ?_
  refine Z_putI hM.1 fX5_3_4 dX5_sheet_2 rfl rfl rfl ?_
  refine Z_start hR (fun I1 hR1 f1 h00 => ?_)
  have hw8 := hw.n8
  have hw6 := hw.o6
  have hM := hR1.1
  have hD : mdat I1 = D := hR1.2.2.1
  have hW : wld I1 = wld D := wld_mdat hD
  have hs : I1 23 = D 23 := funext fun j => dr hD rfl
  have hno : noD D = no := by rw [noD, show D 0 3 = nI no from hw.o3, nI_clamp (by omega)]
  have hnn : nD D = n := by rw [nD, show D 0 16 = nI n from hw.n16, nI_clamp (by omega)]
  have hI3 : I1 0 3 = nI no := (wr hW rfl).trans hw.o3
  have hI16 : I1 0 16 = nI n := (wr hW rfl).trans hw.n16
  refine Z_aload_n dX5_sheet_5 rfl ?_
  refine Z_iload_n dX5_sheet_6 rfl ?_
  refine Z_call0 (d' := 1) (zCal_V gX5_77 nX5_isOffice (by decide) dX5_sheet_7) pX5_isOffice hM.1 zkl4 [_] rfl rfl (Nat.le_of_ble_eq_true rfl) (by omega) (c_X5_isOffice hM (by omega) hI3 (fun k7 hk7 e7 => ?_) (fun h7 => ?_))
  · subst e7
    have r7 : oB D (nI k7) = true := rB_t (by rw [z_ti (by omega)]; omega) (by rw [z_ti (by omega), hno]; omega)
    have v7 : (nI k7).toNatClampNeg = k7 := nI_clamp (by omega)
    refine Z_ifeq 31 dX5_sheet_10 rfl (fun h => absurd h (by decide)) (fun _ => ?_)
    refine Z_iload_n dX5_sheet_13 rfl ?_
    refine Z_i2l dX5_sheet_14 ?_
    refine Z_lconst (0) dX5_sheet_15 rfl ?_
    refine Z_ldc2 q1284 dX5_sheet_16 ?_
    refine Z_callS0 (d' := 0) (zCal_S gX5_25 nX5_in (by decide) dX5_sheet_19) pX5_in [_, _, _] rfl rfl (Nat.le_of_ble_eq_true rfl) (by omega) (c_X5_in (fun h19a h19b => ?_) (fun h19 => ?_))
    · rw [z_i64] at h19a h19b
      have r19 : rB y 0 3 = true := rB_t h19a h19b
      refine Z_ifeq 31 dX5_sheet_22 rfl (fun h => absurd h (by decide)) (fun _ => ?_)
      refine Z_iload_n dX5_sheet_25 rfl ?_
      refine Z_bipush (nI 6) dX5_sheet_26 rfl ?_
      refine Z_icmple 33 dX5_sheet_28 rfl (fun c28 => ?_) (fun c28 => ?_)
      · refine Z_iload_n dX5_sheet_33 rfl ?_
        refine Z_iconst (nI 3) dX5_sheet_34 rfl ?_
        refine Z_icmpeq 45 dX5_sheet_35 rfl (fun c35 => ?_) (fun c35 => ?_)
        · have e9 : fSheet D R no (nI k7) y m f t = (shS D k7 y m f t no, shD D k7 y m f t no, R) := by rw [fSheet, if_pos (by rw [r7, r19, decide_eq_true c28]; rfl), if_neg (by rw [decide_eq_true c35]; simp), v7]
          exact s_sheet hR1 hw.o3 (by omega) (by omega) (fun I2 g1 g2 => zO_k e9 k g1 (f1.tr g2))
        · refine Z_iload_n dX5_sheet_38 rfl ?_
          refine Z_ifge 45 dX5_sheet_39 rfl (fun c39 => ?_) (fun c39 => ?_)
          · have e9 : fSheet D R no (nI k7) y m f t = (shS D k7 y m f t no, shD D k7 y m f t no, R) := by rw [fSheet, if_pos (by rw [r7, r19, decide_eq_true c28]; rfl), if_neg (by rw [decide_eq_true c39]; simp), v7]
            exact s_sheet hR1 hw.o3 (by omega) (by omega) (fun I2 g1 g2 => zO_k e9 k g1 (f1.tr g2))
          · refine Z_bipush (-2) dX5_sheet_42 rfl ?_
            refine Z_ireturn dX5_sheet_44 rfl rfl ?_
            exact zO_k (by rw [fSheet, if_pos (by rw [r7, r19, decide_eq_true c28]; rfl), if_pos (by rw [decide_eq_false c35, decide_eq_false c39]; rfl)]) k hR1 f1
      · refine Z_iconst (-1) dX5_sheet_31 rfl ?_
        refine Z_ireturn dX5_sheet_32 rfl rfl ?_
        exact zO_k (D2 := D) (R2 := R) (by simp [fSheet, r7, v7, r19, c28]) k (hR1) (f1.tr (frM.rf))
    · rw [z_i64] at h19
      have r19 : rB y 0 3 = false := rB_f h19
      refine Z_ifeq 31 dX5_sheet_22 rfl (fun _ => ?_) (fun h => absurd h (by decide))
      refine Z_iconst (-1) dX5_sheet_31 rfl ?_
      refine Z_ireturn dX5_sheet_32 rfl rfl ?_
      exact zO_k (D2 := D) (R2 := R) (by simp [fSheet, r7, v7, r19]) k (hR1) (f1.tr (frM.rf))
  · have r7 : oB D o = false := rB_f (fun q => h7 ⟨q.1, by have := q.2; rw [hno] at this; omega⟩)
    refine Z_ifeq 31 dX5_sheet_10 rfl (fun _ => ?_) (fun h => absurd h (by decide))
    refine Z_iconst (-1) dX5_sheet_31 rfl ?_
    refine Z_ireturn dX5_sheet_32 rfl rfl ?_
    exact zO_k (D2 := D) (R2 := R) (by simp [fSheet, r7]) k (hR1) (f1.tr (frM.rf))
/-- the most so far, as the model has it -/
def dkM (W : zI) (no : Nat) (c : Int32) (h i : Nat) : Int32 := if i = 0 then -1 else nI (dkS W no c h i).2.2.1
def dkH (W : zI) (no : Nat) (c : Int32) (h i : Nat) : Int32 := if i = 0 then nI 0 else nI (dkS W no c h i).2.2.2
theorem dkM_s {W : zI} {no : Nat} {c : Int32} {h i : Nat} (h6 : no ≤ 6) : dkM W no c h (i + 1) = mx (dkM W no c h i) (nI (dkC W no c (h + i))) := by
  have h1 := dkS_3 (W := W) (no := no) (c := c) (h := h) i
  have h2 := dkC_le (W := W) (no := no) (c := c) (h := h + i)
  have e : (dkS W no c h (i + 1)).2.2.1 = if dkC W no c (h + i) ≤ (dkS W no c h i).2.2.1 then (dkS W no c h i).2.2.1 else dkC W no c (h + i) := rfl
  have hm1 : (-1 : Int32) < nI (dkC W no c (h + i)) := Int32.lt_of_lt_of_le (show (-1 : Int32) < 0 by decide) (Int32.not_lt.mp (nI_pos (by omega)))
  unfold dkM
  rw [if_neg (show ¬ i + 1 = 0 by omega), e]
  by_cases hi : i = 0
  · subst hi
    have e0 : (dkS W no c h 0).2.2.1 = 0 := rfl
    rw [if_pos (rfl : 0 = 0), e0, mx, if_pos hm1]
    by_cases q : dkC W no c (h + 0) ≤ 0
    · rw [if_pos q, show dkC W no c (h + 0) = 0 by omega]
    · rw [if_neg q]
  · rw [if_neg hi, mx]
    by_cases q : dkC W no c (h + i) ≤ (dkS W no c h i).2.2.1
    · rw [if_pos q, if_neg (nI_nlt q (by omega))]
    · rw [if_neg q, if_pos (nI_lt (by omega) (by omega))]
theorem dkH_s {W : zI} {no : Nat} {c : Int32} {h i : Nat} (h6 : no ≤ 6) : dkH W no c h (i + 1) = if dkM W no c h i < nI (dkC W no c (h + i)) then nI (h + i) else dkH W no c h i := by
  have h1 := dkS_3 (W := W) (no := no) (c := c) (h := h) i
  have h2 := dkC_le (W := W) (no := no) (c := c) (h := h + i)
  have e : (dkS W no c h (i + 1)).2.2.2 = if dkC W no c (h + i) ≤ (dkS W no c h i).2.2.1 then (dkS W no c h i).2.2.2 else h + i := rfl
  have hm1 : (-1 : Int32) < nI (dkC W no c (h + i)) := Int32.lt_of_lt_of_le (show (-1 : Int32) < 0 by decide) (Int32.not_lt.mp (nI_pos (by omega)))
  unfold dkH dkM
  rw [if_neg (show ¬ i + 1 = 0 by omega), e]
  by_cases hi : i = 0
  · subst hi
    have e0 : (dkS W no c h 0).2.2.1 = 0 := rfl
    have e1 : (dkS W no c h 0).2.2.2 = h := rfl
    rw [if_pos (rfl : 0 = 0), if_pos hm1, e0, e1]
    by_cases q : dkC W no c (h + 0) ≤ 0
    · rw [if_pos q]; rfl
    · rw [if_neg q]
  · rw [if_neg hi, if_neg hi]
    by_cases q : dkC W no c (h + i) ≤ (dkS W no c h i).2.2.1
    · rw [if_pos q, if_neg (nI_nlt q (by omega))]
    · rw [if_neg q, if_pos (nI_lt (by omega) (by omega))]
theorem mR_t0 {D I : zI} {R : List Int64} {L : zL} {P : zR} {S : zT} (h : mR D R I L P S) : mR D [] (zw I 0 1 (nI 0)) L P S := by
  obtain ⟨h1, h2, h3, h4⟩ := h
  exact ⟨h1, h2, (md_out rfl).trans h3, rfl, fun k hk => absurd hk (by simp)⟩
theorem mR_tl {D I : zI} {R : List Int64} {L : zL} {P : zR} {S : zT} (h : mR D R I L P S) (v : Int64) : mR D (R ++ [v]) (zw I 0 1 (nI (R.length + 1))) (zw L 2 R.length v) P S := by
  obtain ⟨h1, h2, h3, h4⟩ := h
  refine ⟨h1, h2, (md_out rfl).trans h3, by rw [zw_s, List.length_append]; rfl, fun k hk => ?_⟩
  rw [zw_a]
  by_cases e : k = R.length
  · subst e; rw [zu_s]; simp
  · rw [zu_n _ _ _ e, h4.2 k (by simp at hk; omega)]
    simp [List.getElem?_append_left (show k < R.length by simp at hk; omega)]
theorem c_tell (hR : mR D R I L P S) (hl : R.length < 24) {v : Int64} (k : ∀ I2 L2, mR D (R ++ [v]) I2 L2 P S → frM I L I2 L2 → Q (.inl none) I2 L2 P S) : Zm G mX5_enters 0 C Sl [.ref 0, .long v] I L P S Q := c_X5_enters hR.1 hl hR.2.2.2.1 (k _ _ (mR_tl hR v) ((frM.rf.st (by decide)).sl (by decide)))
set_option maxHeartbeats 4000000 in
theorem s_dark (hR : mR D R I L P S) (hw : wf (wld D) no n) {c : Int32} {h : Nat} (hh : h ≤ 2399) (k : ∀ I2 L2, mR D [(dkS (wld D) no c h 24).2.1.toInt64, (nI (dkS (wld D) no c h 24).2.2.1).toInt64, (nI (dkS (wld D) no c h 24).2.2.2).toInt64] I2 L2 P S → frM I L I2 L2 → Q (.inl (some (.int (nI (dkS (wld D) no c h 24).1)))) I2 L2 P S) : Zj G mX5_dark 3 C Sl 33 [.ref 0, .int c, .int (nI h), .retAddr 0, .retAddr 0, .retAddr 0, .retAddr 0, .retAddr 0, .retAddr 0, .retAddr 0] [] I L P S Q := by
  have hM := hR.1
  have h6 := hw.o6
  have hW : wld I = wld D := wld_mdat hR.2.2.1
  refine Z_iconst (nI 0) dX5_dark_33 rfl ?_
  refine Z_istore_n (lv' := [_, _, _, _, _, _, _, _, _, _]) dX5_dark_34 rfl rfl (Nat.le_of_ble_eq_true rfl) ?_
  refine Z_iconst (-1) dX5_dark_35 rfl ?_
  refine Z_istore (lv' := [_, _, _, _, _, _, _, _, _, _]) dX5_dark_36 rfl rfl (Nat.le_of_ble_eq_true rfl) ?_
  refine Z_iconst (-1) dX5_dark_38 rfl ?_
  refine Z_istore (lv' := [_, _, _, _, _, _, _, _, _, _]) dX5_dark_39 rfl rfl (Nat.le_of_ble_eq_true rfl) ?_
  refine Z_iconst (nI 0) dX5_dark_41 rfl ?_
  refine Z_istore (lv' := [_, _, _, _, _, _, _, _, _, _]) dX5_dark_42 rfl rfl (Nat.le_of_ble_eq_true rfl) ?_
  refine Z_iload_n dX5_dark_44 rfl ?_
  refine Z_istore (lv' := [_, _, _, _, _, _, _, _, _, _]) dX5_dark_45 rfl rfl (Nat.le_of_ble_eq_true rfl) ?_
  have lp47 : ∀ i, i ≤ 24 → Zj G mX5_dark 3 C Sl 47 [.ref 0, .int c, .int (nI h), .int (nI (dkS (wld D) no c h i).1), .int ((dkS (wld D) no c h i).2.1), .int (dkM (wld D) no c h i), .int (dkH (wld D) no c h i), .int (nI (h + i)), .retAddr 0, .retAddr 0] [] I L P S Q := by
    refine zloop (24) (fun i => Zj G mX5_dark 3 C Sl 47 [.ref 0, .int c, .int (nI h), .int (nI (dkS (wld D) no c h i).1), .int ((dkS (wld D) no c h i).2.1), .int (dkM (wld D) no c h i), .int (dkH (wld D) no c h i), .int (nI (h + i)), .retAddr 0, .retAddr 0] [] I L P S Q) (fun i hi ih => ?_)
    show Zj _ _ _ _ _ _ _ _ _ _ _ _ _
    have b1i := dkS_1 (W := wld D) (no := no) (c := c) (h := h) i
    have bn := cntB_le (fun o => zbit (wld D 9 o) c && opn (wld D) o (h + i)) no
    refine Z_iload dX5_dark_47 rfl ?_
    refine Z_iload_n dX5_dark_49 rfl ?_
    refine Z_bipush (nI 24) dX5_dark_50 rfl ?_
    refine Z_iaddN dX5_dark_52 ?_
    refine Z_icmpgeN 181 dX5_dark_53 rfl (by omega) (by omega) (fun c53 => ?_) (fun c53 => ?_)
    · obtain rfl : i = 24 := by omega
      refine Z_aload_n dX5_dark_181 rfl ?_
      refine Z_iconst (nI 0) dX5_dark_182 rfl ?_
      refine Z_putI hM.1 fX5_11_4 dX5_dark_183 rfl rfl rfl ?_
      refine Z_aload_n dX5_dark_186 rfl ?_
      refine Z_iload dX5_dark_187 rfl ?_
      refine Z_i2l dX5_dark_189 ?_
      refine Z_call0 (d' := 0) (zCal_V gX5_18 nX5_enters (by decide) dX5_dark_190) pX5_enters hM.1 zkl4 [_] rfl rfl (Nat.le_of_ble_eq_true rfl) (by omega) (c_tell (mR_t0 hR) (by simp) (fun J1 M1 t1 q1 => ?_))
      refine Z_aload_n dX5_dark_193 rfl ?_
      refine Z_iload dX5_dark_194 rfl ?_
      refine Z_i2l dX5_dark_196 ?_
      refine Z_call0 (d' := 0) (zCal_V gX5_18 nX5_enters (by decide) dX5_dark_197) pX5_enters hM.1 zkl4 [_] rfl rfl (Nat.le_of_ble_eq_true rfl) (by omega) (c_tell t1 (by simp) (fun J2 M2 t2 q2 => ?_))
      refine Z_aload_n dX5_dark_200 rfl ?_
      refine Z_iload dX5_dark_201 rfl ?_
      refine Z_i2l dX5_dark_203 ?_
      refine Z_call0 (d' := 0) (zCal_V gX5_18 nX5_enters (by decide) dX5_dark_204) pX5_enters hM.1 zkl4 [_] rfl rfl (Nat.le_of_ble_eq_true rfl) (by omega) (c_tell t2 (by simp) (fun J3 M3 t3 q3 => ?_))
      refine Z_iload_n dX5_dark_207 rfl ?_
      refine Z_ireturn dX5_dark_208 rfl rfl ?_
      have e24 : dkM (wld D) no c h 24 = nI (dkS (wld D) no c h 24).2.2.1 := if_neg (by omega)
      have f24 : dkH (wld D) no c h 24 = nI (dkS (wld D) no c h 24).2.2.2 := if_neg (by omega)
      rw [e24, f24] at t3
      exact k _ _ t3 ((((frM.rf.st (by decide)).tr q1).tr q2).tr q3)
    · refine Z_iconst (nI 0) dX5_dark_56 rfl ?_
      refine Z_istore (lv' := [_, _, _, _, _, _, _, _, _, _]) dX5_dark_57 rfl rfl (Nat.le_of_ble_eq_true rfl) ?_
      refine Z_iconst (nI 0) dX5_dark_59 rfl ?_
      refine Z_istore (lv' := [_, _, _, _, _, _, _, _, _, _]) dX5_dark_60 rfl rfl (Nat.le_of_ble_eq_true rfl) ?_
      have lp62 : ∀ j, j ≤ no → Zj G mX5_dark 3 C Sl 62 [.ref 0, .int c, .int (nI h), .int (nI (dkS (wld D) no c h i).1), .int ((dkS (wld D) no c h i).2.1), .int (dkM (wld D) no c h i), .int (dkH (wld D) no c h i), .int (nI (h + i)), .int (nI (cntB (fun o => zbit (wld D 9 o) c && opn (wld D) o (h + i)) j)), .int (nI j)] [] I L P S Q := by
        refine zloop (no) (fun j => Zj G mX5_dark 3 C Sl 62 [.ref 0, .int c, .int (nI h), .int (nI (dkS (wld D) no c h i).1), .int ((dkS (wld D) no c h i).2.1), .int (dkM (wld D) no c h i), .int (dkH (wld D) no c h i), .int (nI (h + i)), .int (nI (cntB (fun o => zbit (wld D 9 o) c && opn (wld D) o (h + i)) j)), .int (nI j)] [] I L P S Q) (fun j hj ihj => ?_)
        show Zj _ _ _ _ _ _ _ _ _ _ _ _ _
        have bj := cntB_le (fun o => zbit (wld D 9 o) c && opn (wld D) o (h + i)) j
        refine Z_iload dX5_dark_62 rfl ?_
        refine Z_aload_n dX5_dark_64 rfl ?_
        refine Z_getI hM.1 fX5_22_4 dX5_dark_65 rfl ?_
        refine Z_re ((wr (by first | exact hW | (simp only [wld_zw23, wld_zw33, wld_zw27, wld_zw34, wld_zw35, wld_zw36, wld_zw0, wld_zw1, wld_zu23]; exact hW)) rfl).trans hw.o3) ?_
        refine Z_icmpgeN 115 dX5_dark_68 rfl (by omega) (by omega) (fun c68 => ?_) (fun c68 => ?_)
        · have ej : j = no := by omega
          rw [ej]
          refine Z_iload_n dX5_dark_115 rfl ?_
          refine Z_iload dX5_dark_116 rfl ?_
          refine Z_ifneN 125 dX5_dark_118 rfl (by omega) (fun c118 => ?_) (fun c118 => ?_)
          · refine Z_iconst (nI 0) dX5_dark_125 rfl ?_
            refine Z_callS0 (d' := 0) (zCal_S gX5_124 nX5_flag (by decide) dX5_dark_126) pX5_flag [_] rfl rfl (Nat.le_of_ble_eq_true rfl) (by omega) (c_X5_flag (by first | decide | assumption) ?_)
            refine Z_iaddN dX5_dark_129 ?_
            refine Z_istore_n (lv' := [_, _, _, _, _, _, _, _, _, _]) dX5_dark_130 rfl rfl (Nat.le_of_ble_eq_true rfl) ?_
            refine Z_iload dX5_dark_131 rfl ?_
            refine Z_ifneN 146 dX5_dark_133 rfl (by omega) (fun c133 => ?_) (fun c133 => ?_)
            · refine Z_iload dX5_dark_146 rfl ?_
              refine Z_istore (lv' := [_, _, _, _, _, _, _, _, _, _]) dX5_dark_148 rfl rfl (Nat.le_of_ble_eq_true rfl) ?_
              refine Z_iload dX5_dark_150 rfl ?_
              refine Z_iload dX5_dark_152 rfl ?_
              refine Z_icmple 162 dX5_dark_154 rfl (fun c154 => ?_) (fun c154 => ?_)
              · refine Z_iload dX5_dark_162 rfl ?_
                refine Z_istore (lv' := [_, _, _, _, _, _, _, _, _, _]) dX5_dark_164 rfl rfl (Nat.le_of_ble_eq_true rfl) ?_
                refine Z_iload dX5_dark_166 rfl ?_
                refine Z_iload dX5_dark_168 rfl ?_
                refine Z_callS0 (d' := 0) (zCal_S gX5_101 nJ5_max (by decide) dX5_dark_170) pJ5_max [_, _] rfl rfl (Nat.le_of_ble_eq_true rfl) (by omega) (c_J5_max ?_)
                refine Z_istore (lv' := [_, _, _, _, _, _, _, _, _, _]) dX5_dark_173 rfl rfl (Nat.le_of_ble_eq_true rfl) ?_
                refine Z_iincN (a := _) (k := 1) (lv' := [_, _, _, _, _, _, _, _, _, _]) dX5_dark_175 rfl rfl rfl rfl ?_
                refine Z_goto 47 dX5_dark_178 rfl ?_
                have c118 : ¬ dkC (wld D) no c (h + i) = 0 := c118
                have ih2 := ih (by omega)
                rw [dkM_s h6, dkH_s h6] at ih2
                have e1 : (dkS (wld D) no c h (i + 1)).1 = (dkS (wld D) no c h i).1 + 0 := by simp [dkS, bI, c118]
                have e2 : (dkS (wld D) no c h (i + 1)).2.1 = (dkS (wld D) no c h i).2.1 := by simp [dkS, c118]
                have c154 : nI (dkC (wld D) no c (h + i)) ≤ dkM (wld D) no c h i := c154
                rw [e1, e2, if_neg (Int32.not_lt.mpr c154)] at ih2
                exact Z_fgt ih2 (by repeat first | exact zwk_n | refine zwk_f ?_ | refine zwk_c rfl ?_)
              · refine Z_iload dX5_dark_157 rfl ?_
                refine Z_goto 164 dX5_dark_159 rfl ?_
                refine Z_istore (lv' := [_, _, _, _, _, _, _, _, _, _]) dX5_dark_164 rfl rfl (Nat.le_of_ble_eq_true rfl) ?_
                refine Z_iload dX5_dark_166 rfl ?_
                refine Z_iload dX5_dark_168 rfl ?_
                refine Z_callS0 (d' := 0) (zCal_S gX5_101 nJ5_max (by decide) dX5_dark_170) pJ5_max [_, _] rfl rfl (Nat.le_of_ble_eq_true rfl) (by omega) (c_J5_max ?_)
                refine Z_istore (lv' := [_, _, _, _, _, _, _, _, _, _]) dX5_dark_173 rfl rfl (Nat.le_of_ble_eq_true rfl) ?_
                refine Z_iincN (a := _) (k := 1) (lv' := [_, _, _, _, _, _, _, _, _, _]) dX5_dark_175 rfl rfl rfl rfl ?_
                refine Z_goto 47 dX5_dark_178 rfl ?_
                have c118 : ¬ dkC (wld D) no c (h + i) = 0 := c118
                have ih2 := ih (by omega)
                rw [dkM_s h6, dkH_s h6] at ih2
                have e1 : (dkS (wld D) no c h (i + 1)).1 = (dkS (wld D) no c h i).1 + 0 := by simp [dkS, bI, c118]
                have e2 : (dkS (wld D) no c h (i + 1)).2.1 = (dkS (wld D) no c h i).2.1 := by simp [dkS, c118]
                have c154 : ¬ nI (dkC (wld D) no c (h + i)) ≤ dkM (wld D) no c h i := c154
                rw [e1, e2, if_pos (Int32.not_le.mp c154)] at ih2
                exact Z_fgt ih2 (by repeat first | exact zwk_n | refine zwk_f ?_ | refine zwk_c rfl ?_)
            · exact absurd c133 c118
          · refine Z_iconst (nI 1) dX5_dark_121 rfl ?_
            refine Z_goto 126 dX5_dark_122 rfl ?_
            refine Z_callS0 (d' := 0) (zCal_S gX5_124 nX5_flag (by decide) dX5_dark_126) pX5_flag [_] rfl rfl (Nat.le_of_ble_eq_true rfl) (by omega) (c_X5_flag (by first | decide | assumption) ?_)
            refine Z_iaddN dX5_dark_129 ?_
            refine Z_istore_n (lv' := [_, _, _, _, _, _, _, _, _, _]) dX5_dark_130 rfl rfl (Nat.le_of_ble_eq_true rfl) ?_
            refine Z_iload dX5_dark_131 rfl ?_
            refine Z_ifneN 146 dX5_dark_133 rfl (by omega) (fun c133 => ?_) (fun c133 => ?_)
            · exact absurd c118 c133
            · refine Z_iload dX5_dark_136 rfl ?_
              refine Z_ifge 146 dX5_dark_138 rfl (fun c138 => ?_) (fun c138 => ?_)
              · refine Z_iload dX5_dark_146 rfl ?_
                refine Z_istore (lv' := [_, _, _, _, _, _, _, _, _, _]) dX5_dark_148 rfl rfl (Nat.le_of_ble_eq_true rfl) ?_
                refine Z_iload dX5_dark_150 rfl ?_
                refine Z_iload dX5_dark_152 rfl ?_
                refine Z_icmple 162 dX5_dark_154 rfl (fun c154 => ?_) (fun c154 => ?_)
                · refine Z_iload dX5_dark_162 rfl ?_
                  refine Z_istore (lv' := [_, _, _, _, _, _, _, _, _, _]) dX5_dark_164 rfl rfl (Nat.le_of_ble_eq_true rfl) ?_
                  refine Z_iload dX5_dark_166 rfl ?_
                  refine Z_iload dX5_dark_168 rfl ?_
                  refine Z_callS0 (d' := 0) (zCal_S gX5_101 nJ5_max (by decide) dX5_dark_170) pJ5_max [_, _] rfl rfl (Nat.le_of_ble_eq_true rfl) (by omega) (c_J5_max ?_)
                  refine Z_istore (lv' := [_, _, _, _, _, _, _, _, _, _]) dX5_dark_173 rfl rfl (Nat.le_of_ble_eq_true rfl) ?_
                  refine Z_iincN (a := _) (k := 1) (lv' := [_, _, _, _, _, _, _, _, _, _]) dX5_dark_175 rfl rfl rfl rfl ?_
                  refine Z_goto 47 dX5_dark_178 rfl ?_
                  have c118 : dkC (wld D) no c (h + i) = 0 := c118
                  have ih2 := ih (by omega)
                  rw [dkM_s h6, dkH_s h6] at ih2
                  have e1 : (dkS (wld D) no c h (i + 1)).1 = (dkS (wld D) no c h i).1 + 1 := by simp [dkS, bI, c118]
                  have e2 : (dkS (wld D) no c h (i + 1)).2.1 = (dkS (wld D) no c h i).2.1 := by simp [dkS, c118, Int32.not_lt.mpr c138]
                  have c154 : nI (dkC (wld D) no c (h + i)) ≤ dkM (wld D) no c h i := c154
                  rw [e1, e2, if_neg (Int32.not_lt.mpr c154)] at ih2
                  exact Z_fgt ih2 (by repeat first | exact zwk_n | refine zwk_f ?_ | refine zwk_c rfl ?_)
                · refine Z_iload dX5_dark_157 rfl ?_
                  refine Z_goto 164 dX5_dark_159 rfl ?_
                  refine Z_istore (lv' := [_, _, _, _, _, _, _, _, _, _]) dX5_dark_164 rfl rfl (Nat.le_of_ble_eq_true rfl) ?_
                  refine Z_iload dX5_dark_166 rfl ?_
                  refine Z_iload dX5_dark_168 rfl ?_
                  refine Z_callS0 (d' := 0) (zCal_S gX5_101 nJ5_max (by decide) dX5_dark_170) pJ5_max [_, _] rfl rfl (Nat.le_of_ble_eq_true rfl) (by omega) (c_J5_max ?_)
                  refine Z_istore (lv' := [_, _, _, _, _, _, _, _, _, _]) dX5_dark_173 rfl rfl (Nat.le_of_ble_eq_true rfl) ?_
                  refine Z_iincN (a := _) (k := 1) (lv' := [_, _, _, _, _, _, _, _, _, _]) dX5_dark_175 rfl rfl rfl rfl ?_
                  refine Z_goto 47 dX5_dark_178 rfl ?_
                  have c118 : dkC (wld D) no c (h + i) = 0 := c118
                  have ih2 := ih (by omega)
                  rw [dkM_s h6, dkH_s h6] at ih2
                  have e1 : (dkS (wld D) no c h (i + 1)).1 = (dkS (wld D) no c h i).1 + 1 := by simp [dkS, bI, c118]
                  have e2 : (dkS (wld D) no c h (i + 1)).2.1 = (dkS (wld D) no c h i).2.1 := by simp [dkS, c118, Int32.not_lt.mpr c138]
                  have c154 : ¬ nI (dkC (wld D) no c (h + i)) ≤ dkM (wld D) no c h i := c154
                  rw [e1, e2, if_pos (Int32.not_le.mp c154)] at ih2
                  exact Z_fgt ih2 (by repeat first | exact zwk_n | refine zwk_f ?_ | refine zwk_c rfl ?_)
              · refine Z_iload dX5_dark_141 rfl ?_
                refine Z_goto 148 dX5_dark_143 rfl ?_
                refine Z_istore (lv' := [_, _, _, _, _, _, _, _, _, _]) dX5_dark_148 rfl rfl (Nat.le_of_ble_eq_true rfl) ?_
                refine Z_iload dX5_dark_150 rfl ?_
                refine Z_iload dX5_dark_152 rfl ?_
                refine Z_icmple 162 dX5_dark_154 rfl (fun c154 => ?_) (fun c154 => ?_)
                · refine Z_iload dX5_dark_162 rfl ?_
                  refine Z_istore (lv' := [_, _, _, _, _, _, _, _, _, _]) dX5_dark_164 rfl rfl (Nat.le_of_ble_eq_true rfl) ?_
                  refine Z_iload dX5_dark_166 rfl ?_
                  refine Z_iload dX5_dark_168 rfl ?_
                  refine Z_callS0 (d' := 0) (zCal_S gX5_101 nJ5_max (by decide) dX5_dark_170) pJ5_max [_, _] rfl rfl (Nat.le_of_ble_eq_true rfl) (by omega) (c_J5_max ?_)
                  refine Z_istore (lv' := [_, _, _, _, _, _, _, _, _, _]) dX5_dark_173 rfl rfl (Nat.le_of_ble_eq_true rfl) ?_
                  refine Z_iincN (a := _) (k := 1) (lv' := [_, _, _, _, _, _, _, _, _, _]) dX5_dark_175 rfl rfl rfl rfl ?_
                  refine Z_goto 47 dX5_dark_178 rfl ?_
                  have c118 : dkC (wld D) no c (h + i) = 0 := c118
                  have ih2 := ih (by omega)
                  rw [dkM_s h6, dkH_s h6] at ih2
                  have e1 : (dkS (wld D) no c h (i + 1)).1 = (dkS (wld D) no c h i).1 + 1 := by simp [dkS, bI, c118]
                  have e2 : (dkS (wld D) no c h (i + 1)).2.1 = nI (h + i) := by simp [dkS, c118, Int32.not_le.mp c138]
                  have c154 : nI (dkC (wld D) no c (h + i)) ≤ dkM (wld D) no c h i := c154
                  rw [e1, e2, if_neg (Int32.not_lt.mpr c154)] at ih2
                  exact Z_fgt ih2 (by repeat first | exact zwk_n | refine zwk_f ?_ | refine zwk_c rfl ?_)
                · refine Z_iload dX5_dark_157 rfl ?_
                  refine Z_goto 164 dX5_dark_159 rfl ?_
                  refine Z_istore (lv' := [_, _, _, _, _, _, _, _, _, _]) dX5_dark_164 rfl rfl (Nat.le_of_ble_eq_true rfl) ?_
                  refine Z_iload dX5_dark_166 rfl ?_
                  refine Z_iload dX5_dark_168 rfl ?_
                  refine Z_callS0 (d' := 0) (zCal_S gX5_101 nJ5_max (by decide) dX5_dark_170) pJ5_max [_, _] rfl rfl (Nat.le_of_ble_eq_true rfl) (by omega) (c_J5_max ?_)
                  refine Z_istore (lv' := [_, _, _, _, _, _, _, _, _, _]) dX5_dark_173 rfl rfl (Nat.le_of_ble_eq_true rfl) ?_
                  refine Z_iincN (a := _) (k := 1) (lv' := [_, _, _, _, _, _, _, _, _, _]) dX5_dark_175 rfl rfl rfl rfl ?_
                  refine Z_goto 47 dX5_dark_178 rfl ?_
                  have c118 : dkC (wld D) no c (h + i) = 0 := c118
                  have ih2 := ih (by omega)
                  rw [dkM_s h6, dkH_s h6] at ih2
                  have e1 : (dkS (wld D) no c h (i + 1)).1 = (dkS (wld D) no c h i).1 + 1 := by simp [dkS, bI, c118]
                  have e2 : (dkS (wld D) no c h (i + 1)).2.1 = nI (h + i) := by simp [dkS, c118, Int32.not_le.mp c138]
                  have c154 : ¬ nI (dkC (wld D) no c (h + i)) ≤ dkM (wld D) no c h i := c154
                  rw [e1, e2, if_pos (Int32.not_le.mp c154)] at ih2
                  exact Z_fgt ih2 (by repeat first | exact zwk_n | refine zwk_f ?_ | refine zwk_c rfl ?_)
        · refine Z_iload dX5_dark_71 rfl ?_
          refine Z_aload_n dX5_dark_73 rfl ?_
          refine Z_getR (r := 9) hM.1 fX5_47_4 dX5_dark_74 rfl (hM.2.2 9 _ rfl rfl) ?_
          refine Z_iload dX5_dark_77 rfl ?_
          refine Z_iald (hM.2.1 9 _ rfl) (zix_nI (by omega) (by decide)) dX5_dark_79 ?_
          refine Z_re (wr (by first | exact hW | (simp only [wld_zw23, wld_zw33, wld_zw27, wld_zw34, wld_zw35, wld_zw36, wld_zw0, wld_zw1, wld_zu23]; exact hW)) rfl) ?_
          refine Z_iload_n dX5_dark_80 rfl ?_
          refine Z_callS0 (d' := 0) (zCal_S gX5_137 nX5_has (by decide) dX5_dark_81) pX5_has [_, _] rfl rfl (Nat.le_of_ble_eq_true rfl) (by omega) (c_X5_has (fun h81 => ?_) (fun h81 => ?_))
          · refine Z_ifeq 102 dX5_dark_84 rfl (fun h => absurd h (by decide)) (fun _ => ?_)
            refine Z_aload_n dX5_dark_87 rfl ?_
            refine Z_iload dX5_dark_88 rfl ?_
            refine Z_iload dX5_dark_90 rfl ?_
            refine Z_call0 (d' := 2) (zCal_V gX5_120 nX5_isOpen (by decide) dX5_dark_92) pX5_isOpen hM.1 zkl4 [_, _] rfl rfl (Nat.le_of_ble_eq_true rfl) (by omega) (c_isOpenW hM (by first | exact hW | (simp only [wld_zw23, wld_zw33, wld_zw27, wld_zw34, wld_zw35, wld_zw36, wld_zw0, wld_zw1, wld_zu23]; exact hW)) (by omega) (fun h92 => ?_) (fun h92 => ?_))
            · refine Z_ifeq 102 dX5_dark_95 rfl (fun h => absurd h (by decide)) (fun _ => ?_)
              refine Z_iconst (nI 1) dX5_dark_98 rfl ?_
              refine Z_goto 103 dX5_dark_99 rfl ?_
              refine Z_callS0 (d' := 0) (zCal_S gX5_124 nX5_flag (by decide) dX5_dark_103) pX5_flag [_] rfl rfl (Nat.le_of_ble_eq_true rfl) (by omega) (c_X5_flag (by first | decide | assumption) ?_)
              refine Z_iaddN dX5_dark_106 ?_
              refine Z_istore (lv' := [_, _, _, _, _, _, _, _, _, _]) dX5_dark_107 rfl rfl (Nat.le_of_ble_eq_true rfl) ?_
              refine Z_iincN (a := _) (k := 1) (lv' := [_, _, _, _, _, _, _, _, _, _]) dX5_dark_109 rfl rfl rfl rfl ?_
              refine Z_goto 62 dX5_dark_112 rfl ?_
              have ih2 := ihj (by omega)
              simp only [cntB, bI, h81, h92, Bool.and_self, Bool.and_false, Bool.false_and, Bool.true_and, Bool.and_true, Bool.not_true, Bool.not_false, Bool.or_true, Bool.true_or, Bool.or_false, Bool.false_or, Bool.false_eq_true, if_true, if_false, reduceIte] at ih2
              exact ih2
            · refine Z_ifeq 102 dX5_dark_95 rfl (fun _ => ?_) (fun h => absurd h (by decide))
              refine Z_iconst (nI 0) dX5_dark_102 rfl ?_
              refine Z_callS0 (d' := 0) (zCal_S gX5_124 nX5_flag (by decide) dX5_dark_103) pX5_flag [_] rfl rfl (Nat.le_of_ble_eq_true rfl) (by omega) (c_X5_flag (by first | decide | assumption) ?_)
              refine Z_iaddN dX5_dark_106 ?_
              refine Z_istore (lv' := [_, _, _, _, _, _, _, _, _, _]) dX5_dark_107 rfl rfl (Nat.le_of_ble_eq_true rfl) ?_
              refine Z_iincN (a := _) (k := 1) (lv' := [_, _, _, _, _, _, _, _, _, _]) dX5_dark_109 rfl rfl rfl rfl ?_
              refine Z_goto 62 dX5_dark_112 rfl ?_
              have ih2 := ihj (by omega)
              simp only [cntB, bI, h81, h92, Bool.and_self, Bool.and_false, Bool.false_and, Bool.true_and, Bool.and_true, Bool.not_true, Bool.not_false, Bool.or_true, Bool.true_or, Bool.or_false, Bool.false_or, Bool.false_eq_true, if_true, if_false, reduceIte] at ih2
              exact ih2
          · refine Z_ifeq 102 dX5_dark_84 rfl (fun _ => ?_) (fun h => absurd h (by decide))
            refine Z_iconst (nI 0) dX5_dark_102 rfl ?_
            refine Z_callS0 (d' := 0) (zCal_S gX5_124 nX5_flag (by decide) dX5_dark_103) pX5_flag [_] rfl rfl (Nat.le_of_ble_eq_true rfl) (by omega) (c_X5_flag (by first | decide | assumption) ?_)
            refine Z_iaddN dX5_dark_106 ?_
            refine Z_istore (lv' := [_, _, _, _, _, _, _, _, _, _]) dX5_dark_107 rfl rfl (Nat.le_of_ble_eq_true rfl) ?_
            refine Z_iincN (a := _) (k := 1) (lv' := [_, _, _, _, _, _, _, _, _, _]) dX5_dark_109 rfl rfl rfl rfl ?_
            refine Z_goto 62 dX5_dark_112 rfl ?_
            have ih2 := ihj (by omega)
            simp only [cntB, bI, h81, Bool.and_self, Bool.and_false, Bool.false_and, Bool.true_and, Bool.and_true, Bool.not_true, Bool.not_false, Bool.or_true, Bool.true_or, Bool.or_false, Bool.false_or, Bool.false_eq_true, if_true, if_false, reduceIte] at ih2
            exact ih2
      exact lp62 0 (by omega)
  exact lp47 0 (by omega)
set_option maxHeartbeats 4000000 in
theorem o_dark (hR : mR D R I L P S) (hw : wf (wld D) no n) {c h : Int32} (k : ∀ I2 L2, mR (fDark D R no c h).2.1 (fDark D R no c h).2.2 I2 L2 P S → frM I L I2 L2 → Q (.inl (some (.int (fDark D R no c h).1))) I2 L2 P S) : Zm G mX5_dark 3 C Sl [.ref 0, .int c, .int h] I L P S Q := by
  have hM := hR.1
  refine Z_entry (lv := [_, _, _, _, _, _, _, _, _, _]) (Nat.le_of_ble_eq_true rfl) rfl ?_
  refine Z_aload_n dX5_dark_0 rfl ?_
  refine Z_iconst (nI 0) dX5_dark_1 rfl ?_
  refine Z_putI hM.1 fX5_3_4 dX5_dark_2 rfl rfl rfl ?_
  refine Z_start hR (fun I1 hR1 f1 h00 => ?_)
  have hw8 := hw.n8
  have hw6 := hw.o6
  have hM := hR1.1
  have hD : mdat I1 = D := hR1.2.2.1
  have hW : wld I1 = wld D := wld_mdat hD
  have hs : I1 23 = D 23 := funext fun j => dr hD rfl
  have hno : noD D = no := by rw [noD, show D 0 3 = nI no from hw.o3, nI_clamp (by omega)]
  have hnn : nD D = n := by rw [nD, show D 0 16 = nI n from hw.n16, nI_clamp (by omega)]
  have hI3 : I1 0 3 = nI no := (wr hW rfl).trans hw.o3
  have hI16 : I1 0 16 = nI n := (wr hW rfl).trans hw.n16
  refine Z_iload_n dX5_dark_5 rfl ?_
  refine Z_i2l dX5_dark_6 ?_
  refine Z_lconst (0) dX5_dark_7 rfl ?_
  refine Z_ldc2 q1326 dX5_dark_8 ?_
  refine Z_callS0 (d' := 0) (zCal_S gX5_25 nX5_in (by decide) dX5_dark_11) pX5_in [_, _, _] rfl rfl (Nat.le_of_ble_eq_true rfl) (by omega) (c_X5_in (fun h11a h11b => ?_) (fun h11 => ?_))
  · rw [z_i64] at h11a h11b
    have r11 : rB c 0 5 = true := rB_t h11a h11b
    refine Z_ifeq 31 dX5_dark_14 rfl (fun h => absurd h (by decide)) (fun _ => ?_)
    refine Z_iload_n dX5_dark_17 rfl ?_
    refine Z_callS0 (d' := 1) (zCal_S gX5_81 nX5_isHour (by decide) dX5_dark_18) pX5_isHour [_] rfl rfl (Nat.le_of_ble_eq_true rfl) (by omega) (c_X5_isHour (fun h18a h18b => ?_) (fun h18 => ?_))
    · have r18 : rB h 0 2399 = true := rB_t h18a h18b
      obtain ⟨k18, hk18, e18⟩ := z_rng (n := 2399) h18a h18b (by omega)
      subst e18
      have v18 : (nI k18).toNatClampNeg = k18 := nI_clamp (by omega)
      refine Z_ifeq 31 dX5_dark_21 rfl (fun h => absurd h (by decide)) (fun _ => ?_)
      refine Z_aload_n dX5_dark_24 rfl ?_
      refine Z_getI hM.1 fX5_22_4 dX5_dark_25 rfl ?_
      refine Z_re ((wr (by first | exact hW | (simp only [wld_zw23, wld_zw33, wld_zw27, wld_zw34, wld_zw35, wld_zw36, wld_zw0, wld_zw1, wld_zu23]; exact hW)) rfl).trans hw.o3) ?_
      refine Z_ifneN 33 dX5_dark_28 rfl (by omega) (fun c28 => ?_) (fun c28 => ?_)
      · have e9 : fDark D R no c (nI k18) = (nI (dkS (wld D) no c k18 24).1, D, [(dkS (wld D) no c k18 24).2.1.toInt64, (nI (dkS (wld D) no c k18 24).2.2.1).toInt64, (nI (dkS (wld D) no c k18 24).2.2.2).toInt64]) := by rw [fDark, if_pos (by rw [r11, r18, show D 0 3 = nI no from hw.o3, decide_eq_false (fun e => c28 ((nI_z (by omega)).mp e))]; rfl), v18]
        exact s_dark hR1 hw (by omega) (fun I2 L2 g q => zO_k e9 k g (f1.tr q))
      · refine Z_iconst (-1) dX5_dark_31 rfl ?_
        refine Z_ireturn dX5_dark_32 rfl rfl ?_
        exact zO_k (D2 := D) (R2 := R) (by simp [fDark, show D 0 3 = nI no from hw.o3, nI_0, r11, r18, v18, c28]) k (hR1) (f1.tr (frM.rf))
    · have r18 : rB h 0 2399 = false := rB_f h18
      refine Z_ifeq 31 dX5_dark_21 rfl (fun _ => ?_) (fun h => absurd h (by decide))
      refine Z_iconst (-1) dX5_dark_31 rfl ?_
      refine Z_ireturn dX5_dark_32 rfl rfl ?_
      exact zO_k (D2 := D) (R2 := R) (by simp [fDark, show D 0 3 = nI no from hw.o3, nI_0, r11, r18]) k (hR1) (f1.tr (frM.rf))
  · rw [z_i64] at h11
    have r11 : rB c 0 5 = false := rB_f h11
    refine Z_ifeq 31 dX5_dark_14 rfl (fun _ => ?_) (fun h => absurd h (by decide))
    refine Z_iconst (-1) dX5_dark_31 rfl ?_
    refine Z_ireturn dX5_dark_32 rfl rfl ?_
    exact zO_k (D2 := D) (R2 := R) (by simp [fDark, show D 0 3 = nI no from hw.o3, nI_0, r11]) k (hR1) (f1.tr (frM.rf))
end M16
