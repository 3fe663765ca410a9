set_option maxRecDepth 100000
/-! THE MODEL, part 4: what the rule is worth -/
section M4
variable {G : zG} {d C Sl : Nat} {I I2 W : zI} {L : zL} {P : zR} {S : zT} {Q : zQ} {s : zS} {no n : Nat}
theorem opInN_s {W : zI} {o h i : Nat} (hi : i < 99) : opInN W o h (99 - i) = if opn W o (h + i) = true then i else opInN W o h (99 - (i + 1)) := by
  rw [show 99 - i = (98 - i) + 1 by omega, opInN, show 98 - (98 - i) = i by omega, show 98 - i = 99 - (i + 1) by omega]
set_option maxHeartbeats 4000000 in
theorem c_X5_opensIn (hM : mOk P S) (hW : wld I = W) {o h : Nat} (ho : o < 6) (k : Q (.inl (some (.int (nI (opIn W o h))))) I L P S) : Zm G mX5_opensIn 3 C Sl [.ref 0, .int (nI o), .int (nI h)] I L P S Q := by
  refine Z_entry (lv := [_, _, _, _]) (Nat.le_of_ble_eq_true rfl) rfl ?_
  refine Z_iconst (nI 0) dX5_opensIn_0 rfl ?_
  refine Z_istore_n (lv' := [_, _, _, _]) dX5_opensIn_1 rfl rfl (Nat.le_of_ble_eq_true rfl) ?_
  have lp2 : ∀ i, i ≤ 99 → Q (.inl (some (.int (nI (opInN W o h (99 - i)))))) I L P S → Zj G mX5_opensIn 3 C Sl 2 [.ref 0, .int (nI o), .int (nI h), .int (nI i)] [] I L P S Q := by
    refine zloop (99) (fun i => Q (.inl (some (.int (nI (opInN W o h (99 - i)))))) I L P S → Zj G mX5_opensIn 3 C Sl 2 [.ref 0, .int (nI o), .int (nI h), .int (nI i)] [] I L P S Q) (fun i hi ih => ?_)
    intro k2
    show Zj _ _ _ _ _ _ _ _ _ _ _ _ _
    refine Z_iload_n dX5_opensIn_2 rfl ?_
    refine Z_bipush (nI 99) dX5_opensIn_3 rfl ?_
    refine Z_icmpgeN 25 dX5_opensIn_5 rfl (by omega) (by omega) (fun c5 => ?_) (fun c5 => ?_)
    · obtain rfl : i = 99 := by omega
      refine Z_iload_n dX5_opensIn_25 rfl ?_
      refine Z_ireturn dX5_opensIn_26 rfl rfl ?_
      exact k2
    · refine Z_aload_n dX5_opensIn_8 rfl ?_
      refine Z_iload_n dX5_opensIn_9 rfl ?_
      refine Z_iload_n dX5_opensIn_10 rfl ?_
      refine Z_iload_n dX5_opensIn_11 rfl ?_
      refine Z_iaddN dX5_opensIn_12 ?_
      refine Z_call0 (d' := 2) (zCal_V gX5_120 nX5_isOpen (by decide) dX5_opensIn_13) pX5_isOpen hM.1 zkl4 [_, _] rfl rfl (Nat.le_of_ble_eq_true rfl) (by omega) (c_isOpenW hM (by first | exact hW | (simp only [wld_zw23, wld_zw33, wld_zw27, wld_zw34, wld_zw35, wld_zw36, wld_zw0, wld_zw1, wld_zu23]; exact hW)) (by omega) (fun h13 => ?_) (fun h13 => ?_))
      · refine Z_ifne 25 dX5_opensIn_16 rfl (fun _ => ?_) (fun h => absurd h (by decide))
        refine Z_iload_n dX5_opensIn_25 rfl ?_
        refine Z_ireturn dX5_opensIn_26 rfl rfl ?_
        rw [opInN_s (by omega), if_pos h13] at k2
        exact k2
      · refine Z_ifne 25 dX5_opensIn_16 rfl (fun h => absurd h (by decide)) (fun _ => ?_)
        refine Z_iincN (a := _) (k := 1) (lv' := [_, _, _, _]) dX5_opensIn_19 rfl rfl rfl rfl ?_
        refine Z_goto 2 dX5_opensIn_22 rfl ?_
        exact ih (by omega) (by rw [opInN_s (by omega), if_neg (by rw [h13]; decide)] at k2; exact k2)
  exact lp2 0 (by omega) k
set_option maxHeartbeats 4000000 in
theorem c_X5_valueOf (hM : mOk P S) (hW : wld I = W) (hs : I 23 = s) {p : Nat} (hp : p < 8) {o h a : Nat} (ho : o < 6) (hh : h < 2 ^ 29) (ha : s (3 + p) = nI a) (ha6 : a < 6) {g : Nat} (hg : g ≤ 11) (k : Q (.inl (some (.int (sgnV W s g p o h)))) I L P S) : Zm G mX5_valueOf 5 C Sl [.ref 0, .int (nI g), .int (nI p), .int (nI o), .int (nI h)] I L P S Q := by
  have e1 : (s (3 + p)).toNatClampNeg = a := by rw [ha, nI_clamp (by omega)]
  refine Z_entry (lv := [_, _, _, _, _, _]) (Nat.le_of_ble_eq_true rfl) rfl ?_
  refine Z_aload_n dX5_valueOf_0 rfl ?_
  refine Z_getR (r := 23) hM.1 fX5_140_4 dX5_valueOf_1 rfl (hM.2.2 23 _ rfl rfl) ?_
  refine Z_iconst (nI 3) dX5_valueOf_4 rfl ?_
  refine Z_iload_n dX5_valueOf_5 rfl ?_
  refine Z_iaddN dX5_valueOf_6 ?_
  refine Z_iald (hM.2.1 23 _ rfl) (zix_nI (by omega) (by decide)) dX5_valueOf_7 ?_
  refine Z_re (congrFun hs _) ?_
  refine Z_re (y := nI (a)) ha ?_
  refine Z_istore (lv' := [_, _, _, _, _, _]) dX5_valueOf_8 rfl rfl (Nat.le_of_ble_eq_true rfl) ?_
  obtain rfl | rfl | rfl | rfl | rfl | rfl | rfl | rfl | rfl | rfl | rfl | rfl : g = 0 ∨ g = 1 ∨ g = 2 ∨ g = 3 ∨ g = 4 ∨ g = 5 ∨ g = 6 ∨ g = 7 ∨ g = 8 ∨ g = 9 ∨ g = 10 ∨ g = 11 := by omega
  · refine Z_iload_n dX5_valueOf_10 rfl ?_
    refine Z_tableIn 68 dX5_valueOf_11 (by decide) (by decide) rfl rfl ?_
    refine Z_aload_n dX5_valueOf_68 rfl ?_
    refine Z_getR (r := 13) hM.1 fX5_60_4 dX5_valueOf_69 rfl (hM.2.2 13 _ rfl rfl) ?_
    refine Z_bipush (nI 6) dX5_valueOf_72 rfl ?_
    refine Z_iload dX5_valueOf_74 rfl ?_
    refine Z_imulN dX5_valueOf_76 ?_
    refine Z_iload_n dX5_valueOf_77 rfl ?_
    refine Z_iaddN dX5_valueOf_78 ?_
    refine Z_iald (hM.2.1 13 _ rfl) (zix_nI (by omega) (by decide)) dX5_valueOf_79 ?_
    refine Z_re (wr (by first | exact hW | (simp only [wld_zw23, wld_zw33, wld_zw27, wld_zw34, wld_zw35, wld_zw36, wld_zw0, wld_zw1, wld_zu23]; exact hW)) rfl) ?_
    refine Z_ireturn dX5_valueOf_80 rfl rfl ?_
    exact zQe (by simp [sgnV, e1, bI]) k
  · refine Z_iload_n dX5_valueOf_10 rfl ?_
    refine Z_tableIn 81 dX5_valueOf_11 (by decide) (by decide) rfl rfl ?_
    refine Z_aload_n dX5_valueOf_81 rfl ?_
    refine Z_iload dX5_valueOf_82 rfl ?_
    refine Z_iload_n dX5_valueOf_84 rfl ?_
    refine Z_iload dX5_valueOf_85 rfl ?_
    refine Z_call0 (d' := 4) (zCal_V gX5_132 nX5_lostOf (by decide) dX5_valueOf_87) pX5_lostOf hM.1 zkl4 [_, _, _] rfl rfl (Nat.le_of_ble_eq_true rfl) (by omega) (c_lostOfW hM (by first | exact hW | (simp only [wld_zw23, wld_zw33, wld_zw27, wld_zw34, wld_zw35, wld_zw36, wld_zw0, wld_zw1, wld_zu23]; exact hW)) (by omega) (by omega) (by omega) ?_)
    refine Z_ireturn dX5_valueOf_90 rfl rfl ?_
    exact zQe (by simp [sgnV, e1, bI]) k
  · refine Z_iload_n dX5_valueOf_10 rfl ?_
    refine Z_tableIn 91 dX5_valueOf_11 (by decide) (by decide) rfl rfl ?_
    refine Z_aload_n dX5_valueOf_91 rfl ?_
    refine Z_iload dX5_valueOf_92 rfl ?_
    refine Z_iload_n dX5_valueOf_94 rfl ?_
    refine Z_iload dX5_valueOf_95 rfl ?_
    refine Z_call0 (d' := 3) (zCal_V gX5_128 nX5_overlapOf (by decide) dX5_valueOf_97) pX5_overlapOf hM.1 zkl4 [_, _, _] rfl rfl (Nat.le_of_ble_eq_true rfl) (by omega) (c_overlapOfW hM (by first | exact hW | (simp only [wld_zw23, wld_zw33, wld_zw27, wld_zw34, wld_zw35, wld_zw36, wld_zw0, wld_zw1, wld_zu23]; exact hW)) (by omega) (by omega) (by omega) ?_)
    refine Z_ireturn dX5_valueOf_100 rfl rfl ?_
    exact zQe (by simp [sgnV, e1, bI]) k
  · refine Z_iload_n dX5_valueOf_10 rfl ?_
    refine Z_tableIn 101 dX5_valueOf_11 (by decide) (by decide) rfl rfl ?_
    refine Z_aload_n dX5_valueOf_101 rfl ?_
    refine Z_iload_n dX5_valueOf_102 rfl ?_
    refine Z_iload dX5_valueOf_103 rfl ?_
    refine Z_call0 (d' := 2) (zCal_V gX5_120 nX5_isOpen (by decide) dX5_valueOf_105) pX5_isOpen hM.1 zkl4 [_, _] rfl rfl (Nat.le_of_ble_eq_true rfl) (by omega) (c_isOpenW hM (by first | exact hW | (simp only [wld_zw23, wld_zw33, wld_zw27, wld_zw34, wld_zw35, wld_zw36, wld_zw0, wld_zw1, wld_zu23]; exact hW)) (by omega) (fun h105 => ?_) (fun h105 => ?_))
    · refine Z_callS0 (d' := 0) (zCal_S gX5_124 nX5_flag (by decide) dX5_valueOf_108) pX5_flag [_] rfl rfl (Nat.le_of_ble_eq_true rfl) (by omega) (c_X5_flag (by first | decide | assumption) ?_)
      refine Z_ireturn dX5_valueOf_111 rfl rfl ?_
      exact zQe (by simp [sgnV, e1, bI, h105]) k
    · refine Z_callS0 (d' := 0) (zCal_S gX5_124 nX5_flag (by decide) dX5_valueOf_108) pX5_flag [_] rfl rfl (Nat.le_of_ble_eq_true rfl) (by omega) (c_X5_flag (by first | decide | assumption) ?_)
      refine Z_ireturn dX5_valueOf_111 rfl rfl ?_
      exact zQe (by simp [sgnV, e1, bI, h105]) k
  · refine Z_iload_n dX5_valueOf_10 rfl ?_
    refine Z_tableIn 112 dX5_valueOf_11 (by decide) (by decide) rfl rfl ?_
    refine Z_aload_n dX5_valueOf_112 rfl ?_
    refine Z_iload_n dX5_valueOf_113 rfl ?_
    refine Z_iload dX5_valueOf_114 rfl ?_
    refine Z_call0 (d' := 3) (zCal_V gX5_243 nX5_opensIn (by decide) dX5_valueOf_116) pX5_opensIn hM.1 zkl4 [_, _] rfl rfl (Nat.le_of_ble_eq_true rfl) (by omega) (c_X5_opensIn hM (by first | exact hW | (simp only [wld_zw23, wld_zw33, wld_zw27, wld_zw34, wld_zw35, wld_zw36, wld_zw0, wld_zw1, wld_zu23]; exact hW)) (by omega) ?_)
    refine Z_ireturn dX5_valueOf_119 rfl rfl ?_
    exact zQe (by simp [sgnV, e1, bI]) k
  · refine Z_iload_n dX5_valueOf_10 rfl ?_
    refine Z_tableIn 120 dX5_valueOf_11 (by decide) (by decide) rfl rfl ?_
    refine Z_aload_n dX5_valueOf_120 rfl ?_
    refine Z_getR (r := 9) hM.1 fX5_47_4 dX5_valueOf_121 rfl (hM.2.2 9 _ rfl rfl) ?_
    refine Z_iload_n dX5_valueOf_124 rfl ?_
    refine Z_iald (hM.2.1 9 _ rfl) (zix_nI (by omega) (by decide)) dX5_valueOf_125 ?_
    refine Z_re (wr (by first | exact hW | (simp only [wld_zw23, wld_zw33, wld_zw27, wld_zw34, wld_zw35, wld_zw36, wld_zw0, wld_zw1, wld_zu23]; exact hW)) rfl) ?_
    refine Z_aload_n dX5_valueOf_126 rfl ?_
    refine Z_getR (r := 17) hM.1 fX5_154_4 dX5_valueOf_127 rfl (hM.2.2 17 _ rfl rfl) ?_
    refine Z_iload_n dX5_valueOf_130 rfl ?_
    refine Z_iald (hM.2.1 17 _ rfl) (zix_nI (by omega) (by decide)) dX5_valueOf_131 ?_
    refine Z_re (wr (by first | exact hW | (simp only [wld_zw23, wld_zw33, wld_zw27, wld_zw34, wld_zw35, wld_zw36, wld_zw0, wld_zw1, wld_zu23]; exact hW)) rfl) ?_
    refine Z_callS0 (d' := 0) (zCal_S gX5_137 nX5_has (by decide) dX5_valueOf_132) pX5_has [_, _] rfl rfl (Nat.le_of_ble_eq_true rfl) (by omega) (c_X5_has (fun h132 => ?_) (fun h132 => ?_))
    · refine Z_callS0 (d' := 0) (zCal_S gX5_124 nX5_flag (by decide) dX5_valueOf_135) pX5_flag [_] rfl rfl (Nat.le_of_ble_eq_true rfl) (by omega) (c_X5_flag (by first | decide | assumption) ?_)
      refine Z_ireturn dX5_valueOf_138 rfl rfl ?_
      exact zQe (by simp [sgnV, e1, bI, h132]) k
    · refine Z_callS0 (d' := 0) (zCal_S gX5_124 nX5_flag (by decide) dX5_valueOf_135) pX5_flag [_] rfl rfl (Nat.le_of_ble_eq_true rfl) (by omega) (c_X5_flag (by first | decide | assumption) ?_)
      refine Z_ireturn dX5_valueOf_138 rfl rfl ?_
      exact zQe (by simp [sgnV, e1, bI, h132]) k
  · refine Z_iload_n dX5_valueOf_10 rfl ?_
    refine Z_tableIn 139 dX5_valueOf_11 (by decide) (by decide) rfl rfl ?_
    refine Z_iload dX5_valueOf_139 rfl ?_
    refine Z_iload_n dX5_valueOf_141 rfl ?_
    refine Z_icmpneN 149 dX5_valueOf_142 rfl (by omega) (by omega) (fun c142 => ?_) (fun c142 => ?_)
    · refine Z_iconst (nI 0) dX5_valueOf_149 rfl ?_
      refine Z_callS0 (d' := 0) (zCal_S gX5_124 nX5_flag (by decide) dX5_valueOf_150) pX5_flag [_] rfl rfl (Nat.le_of_ble_eq_true rfl) (by omega) (c_X5_flag (by first | decide | assumption) ?_)
      refine Z_ireturn dX5_valueOf_153 rfl rfl ?_
      exact zQe (by simp [sgnV, e1, bI, c142]) k
    · refine Z_iconst (nI 1) dX5_valueOf_145 rfl ?_
      refine Z_goto 150 dX5_valueOf_146 rfl ?_
      refine Z_callS0 (d' := 0) (zCal_S gX5_124 nX5_flag (by decide) dX5_valueOf_150) pX5_flag [_] rfl rfl (Nat.le_of_ble_eq_true rfl) (by omega) (c_X5_flag (by first | decide | assumption) ?_)
      refine Z_ireturn dX5_valueOf_153 rfl rfl ?_
      exact zQe (by simp [sgnV, e1, bI, c142]) k
  · refine Z_iload_n dX5_valueOf_10 rfl ?_
    refine Z_tableIn 154 dX5_valueOf_11 (by decide) (by decide) rfl rfl ?_
    refine Z_aload_n dX5_valueOf_154 rfl ?_
    refine Z_getR (r := 20) hM.1 fX5_143_4 dX5_valueOf_155 rfl (hM.2.2 20 _ rfl rfl) ?_
    refine Z_iload_n dX5_valueOf_158 rfl ?_
    refine Z_iald (hM.2.1 20 _ rfl) (zix_nI (by omega) (by decide)) dX5_valueOf_159 ?_
    refine Z_re (wr (by first | exact hW | (simp only [wld_zw23, wld_zw33, wld_zw27, wld_zw34, wld_zw35, wld_zw36, wld_zw0, wld_zw1, wld_zu23]; exact hW)) rfl) ?_
    refine Z_iload_n dX5_valueOf_160 rfl ?_
    refine Z_icmpne 168 dX5_valueOf_161 rfl (fun c161 => ?_) (fun c161 => ?_)
    · refine Z_iconst (nI 0) dX5_valueOf_168 rfl ?_
      refine Z_callS0 (d' := 0) (zCal_S gX5_124 nX5_flag (by decide) dX5_valueOf_169) pX5_flag [_] rfl rfl (Nat.le_of_ble_eq_true rfl) (by omega) (c_X5_flag (by first | decide | assumption) ?_)
      refine Z_ireturn dX5_valueOf_172 rfl rfl ?_
      exact zQe (by simp [sgnV, e1, bI, c161]) k
    · refine Z_iconst (nI 1) dX5_valueOf_164 rfl ?_
      refine Z_goto 169 dX5_valueOf_165 rfl ?_
      refine Z_callS0 (d' := 0) (zCal_S gX5_124 nX5_flag (by decide) dX5_valueOf_169) pX5_flag [_] rfl rfl (Nat.le_of_ble_eq_true rfl) (by omega) (c_X5_flag (by first | decide | assumption) ?_)
      refine Z_ireturn dX5_valueOf_172 rfl rfl ?_
      exact zQe (by simp [sgnV, e1, bI, c161]) k
  · refine Z_iload_n dX5_valueOf_10 rfl ?_
    refine Z_tableIn 173 dX5_valueOf_11 (by decide) (by decide) rfl rfl ?_
    refine Z_aload_n dX5_valueOf_173 rfl ?_
    refine Z_getR (r := 21) hM.1 fX5_163_4 dX5_valueOf_174 rfl (hM.2.2 21 _ rfl rfl) ?_
    refine Z_iload_n dX5_valueOf_177 rfl ?_
    refine Z_iald (hM.2.1 21 _ rfl) (zix_nI (by omega) (by decide)) dX5_valueOf_178 ?_
    refine Z_re (wr (by first | exact hW | (simp only [wld_zw23, wld_zw33, wld_zw27, wld_zw34, wld_zw35, wld_zw36, wld_zw0, wld_zw1, wld_zu23]; exact hW)) rfl) ?_
    refine Z_iload_n dX5_valueOf_179 rfl ?_
    refine Z_icmpne 187 dX5_valueOf_180 rfl (fun c180 => ?_) (fun c180 => ?_)
    · refine Z_iconst (nI 0) dX5_valueOf_187 rfl ?_
      refine Z_callS0 (d' := 0) (zCal_S gX5_124 nX5_flag (by decide) dX5_valueOf_188) pX5_flag [_] rfl rfl (Nat.le_of_ble_eq_true rfl) (by omega) (c_X5_flag (by first | decide | assumption) ?_)
      refine Z_ireturn dX5_valueOf_191 rfl rfl ?_
      exact zQe (by simp [sgnV, e1, bI, c180]) k
    · refine Z_iconst (nI 1) dX5_valueOf_183 rfl ?_
      refine Z_goto 188 dX5_valueOf_184 rfl ?_
      refine Z_callS0 (d' := 0) (zCal_S gX5_124 nX5_flag (by decide) dX5_valueOf_188) pX5_flag [_] rfl rfl (Nat.le_of_ble_eq_true rfl) (by omega) (c_X5_flag (by first | decide | assumption) ?_)
      refine Z_ireturn dX5_valueOf_191 rfl rfl ?_
      exact zQe (by simp [sgnV, e1, bI, c180]) k
  · refine Z_iload_n dX5_valueOf_10 rfl ?_
    refine Z_tableIn 192 dX5_valueOf_11 (by decide) (by decide) rfl rfl ?_
    refine Z_aload_n dX5_valueOf_192 rfl ?_
    refine Z_getR (r := 7) hM.1 fX5_41_4 dX5_valueOf_193 rfl (hM.2.2 7 _ rfl rfl) ?_
    refine Z_iload_n dX5_valueOf_196 rfl ?_
    refine Z_iald (hM.2.1 7 _ rfl) (zix_nI (by omega) (by decide)) dX5_valueOf_197 ?_
    refine Z_re (wr (by first | exact hW | (simp only [wld_zw23, wld_zw33, wld_zw27, wld_zw34, wld_zw35, wld_zw36, wld_zw0, wld_zw1, wld_zu23]; exact hW)) rfl) ?_
    refine Z_ireturn dX5_valueOf_198 rfl rfl ?_
    exact zQe (by simp [sgnV, e1, bI]) k
  · refine Z_iload_n dX5_valueOf_10 rfl ?_
    refine Z_tableIn 199 dX5_valueOf_11 (by decide) (by decide) rfl rfl ?_
    refine Z_aload_n dX5_valueOf_199 rfl ?_
    refine Z_getR (r := 23) hM.1 fX5_140_4 dX5_valueOf_200 rfl (hM.2.2 23 _ rfl rfl) ?_
    refine Z_bipush (nI 11) dX5_valueOf_203 rfl ?_
    refine Z_iload_n dX5_valueOf_205 rfl ?_
    refine Z_iaddN dX5_valueOf_206 ?_
    refine Z_iald (hM.2.1 23 _ rfl) (zix_nI (by omega) (by decide)) dX5_valueOf_207 ?_
    refine Z_re (congrFun hs _) ?_
    refine Z_ireturn dX5_valueOf_208 rfl rfl ?_
    exact zQe (by simp [sgnV, e1, bI]) k
  · refine Z_iload_n dX5_valueOf_10 rfl ?_
    refine Z_tableOut 209 dX5_valueOf_11 (by decide) rfl ?_
    refine Z_iload_n dX5_valueOf_209 rfl ?_
    refine Z_ireturn dX5_valueOf_210 rfl rfl ?_
    exact zQe (by simp [sgnV, e1, bI]) k
set_option maxHeartbeats 4000000 in
theorem c_X5_acted {op : Nat} {x y : Int32} (hop : op = 124 ∨ op = 38 ∨ op = 60 ∨ op = 62 ∨ op = 61 ∨ op = 43 ∨ op = 45 ∨ op = 42) (k : Q (.inl (some (.int (binV op x y)))) I L P S) : Zm G mX5_acted 1 C Sl [.int (nI op), .int x, .int y] I L P S Q := by
  refine Z_entry (lv := [_, _, _]) (Nat.le_of_ble_eq_true rfl) rfl ?_
  obtain rfl | rfl | rfl | rfl | rfl | rfl | rfl | rfl := hop
  · refine Z_iload_n dX5_acted_0 rfl ?_
    refine Z_tableOut 187 dX5_acted_1 (by decide) rfl ?_
    refine Z_iload_n dX5_acted_187 rfl ?_
    refine Z_ifne 195 dX5_acted_188 rfl (fun c188 => ?_) (fun c188 => ?_)
    · refine Z_iconst (nI 1) dX5_acted_195 rfl ?_
      refine Z_goto 200 dX5_acted_196 rfl ?_
      refine Z_callS0 (d' := 0) (zCal_S gX5_124 nX5_flag (by decide) dX5_acted_200) pX5_flag [_] rfl rfl (Nat.le_of_ble_eq_true rfl) (by omega) (c_X5_flag (by first | decide | assumption) ?_)
      refine Z_ireturn dX5_acted_203 rfl rfl ?_
      exact zQe (by simp [binV, bI, c188]) k
    · refine Z_iload_n dX5_acted_191 rfl ?_
      refine Z_ifeq 199 dX5_acted_192 rfl (fun c192 => ?_) (fun c192 => ?_)
      · refine Z_iconst (nI 0) dX5_acted_199 rfl ?_
        refine Z_callS0 (d' := 0) (zCal_S gX5_124 nX5_flag (by decide) dX5_acted_200) pX5_flag [_] rfl rfl (Nat.le_of_ble_eq_true rfl) (by omega) (c_X5_flag (by first | decide | assumption) ?_)
        refine Z_ireturn dX5_acted_203 rfl rfl ?_
        exact zQe (by simp [binV, bI, c188, c192]) k
      · refine Z_iconst (nI 1) dX5_acted_195 rfl ?_
        refine Z_goto 200 dX5_acted_196 rfl ?_
        refine Z_callS0 (d' := 0) (zCal_S gX5_124 nX5_flag (by decide) dX5_acted_200) pX5_flag [_] rfl rfl (Nat.le_of_ble_eq_true rfl) (by omega) (c_X5_flag (by first | decide | assumption) ?_)
        refine Z_ireturn dX5_acted_203 rfl rfl ?_
        exact zQe (by simp [binV, bI, c188, c192]) k
  · refine Z_iload_n dX5_acted_0 rfl ?_
    refine Z_tableIn 170 dX5_acted_1 (by decide) (by decide) rfl rfl ?_
    refine Z_iload_n dX5_acted_170 rfl ?_
    refine Z_ifeq 182 dX5_acted_171 rfl (fun c171 => ?_) (fun c171 => ?_)
    · refine Z_iconst (nI 0) dX5_acted_182 rfl ?_
      refine Z_callS0 (d' := 0) (zCal_S gX5_124 nX5_flag (by decide) dX5_acted_183) pX5_flag [_] rfl rfl (Nat.le_of_ble_eq_true rfl) (by omega) (c_X5_flag (by first | decide | assumption) ?_)
      refine Z_ireturn dX5_acted_186 rfl rfl ?_
      exact zQe (by simp [binV, bI, c171]) k
    · refine Z_iload_n dX5_acted_174 rfl ?_
      refine Z_ifeq 182 dX5_acted_175 rfl (fun c175 => ?_) (fun c175 => ?_)
      · refine Z_iconst (nI 0) dX5_acted_182 rfl ?_
        refine Z_callS0 (d' := 0) (zCal_S gX5_124 nX5_flag (by decide) dX5_acted_183) pX5_flag [_] rfl rfl (Nat.le_of_ble_eq_true rfl) (by omega) (c_X5_flag (by first | decide | assumption) ?_)
        refine Z_ireturn dX5_acted_186 rfl rfl ?_
        exact zQe (by simp [binV, bI, c171, c175]) k
      · refine Z_iconst (nI 1) dX5_acted_178 rfl ?_
        refine Z_goto 183 dX5_acted_179 rfl ?_
        refine Z_callS0 (d' := 0) (zCal_S gX5_124 nX5_flag (by decide) dX5_acted_183) pX5_flag [_] rfl rfl (Nat.le_of_ble_eq_true rfl) (by omega) (c_X5_flag (by first | decide | assumption) ?_)
        refine Z_ireturn dX5_acted_186 rfl rfl ?_
        exact zQe (by simp [binV, bI, c171, c175]) k
  · refine Z_iload_n dX5_acted_0 rfl ?_
    refine Z_tableIn 128 dX5_acted_1 (by decide) (by decide) rfl rfl ?_
    refine Z_iload_n dX5_acted_128 rfl ?_
    refine Z_iload_n dX5_acted_129 rfl ?_
    refine Z_icmpge 137 dX5_acted_130 rfl (fun c130 => ?_) (fun c130 => ?_)
    · refine Z_iconst (nI 0) dX5_acted_137 rfl ?_
      refine Z_callS0 (d' := 0) (zCal_S gX5_124 nX5_flag (by decide) dX5_acted_138) pX5_flag [_] rfl rfl (Nat.le_of_ble_eq_true rfl) (by omega) (c_X5_flag (by first | decide | assumption) ?_)
      refine Z_ireturn dX5_acted_141 rfl rfl ?_
      exact zQe (by simp [binV, bI, c130]) k
    · refine Z_iconst (nI 1) dX5_acted_133 rfl ?_
      refine Z_goto 138 dX5_acted_134 rfl ?_
      refine Z_callS0 (d' := 0) (zCal_S gX5_124 nX5_flag (by decide) dX5_acted_138) pX5_flag [_] rfl rfl (Nat.le_of_ble_eq_true rfl) (by omega) (c_X5_flag (by first | decide | assumption) ?_)
      refine Z_ireturn dX5_acted_141 rfl rfl ?_
      exact zQe (by simp [binV, bI, c130]) k
  · refine Z_iload_n dX5_acted_0 rfl ?_
    refine Z_tableIn 142 dX5_acted_1 (by decide) (by decide) rfl rfl ?_
    refine Z_iload_n dX5_acted_142 rfl ?_
    refine Z_iload_n dX5_acted_143 rfl ?_
    refine Z_icmple 151 dX5_acted_144 rfl (fun c144 => ?_) (fun c144 => ?_)
    · refine Z_iconst (nI 0) dX5_acted_151 rfl ?_
      refine Z_callS0 (d' := 0) (zCal_S gX5_124 nX5_flag (by decide) dX5_acted_152) pX5_flag [_] rfl rfl (Nat.le_of_ble_eq_true rfl) (by omega) (c_X5_flag (by first | decide | assumption) ?_)
      refine Z_ireturn dX5_acted_155 rfl rfl ?_
      exact zQe (by simp [binV, bI, c144]) k
    · refine Z_iconst (nI 1) dX5_acted_147 rfl ?_
      refine Z_goto 152 dX5_acted_148 rfl ?_
      refine Z_callS0 (d' := 0) (zCal_S gX5_124 nX5_flag (by decide) dX5_acted_152) pX5_flag [_] rfl rfl (Nat.le_of_ble_eq_true rfl) (by omega) (c_X5_flag (by first | decide | assumption) ?_)
      refine Z_ireturn dX5_acted_155 rfl rfl ?_
      exact zQe (by simp [binV, bI, c144]) k
  · refine Z_iload_n dX5_acted_0 rfl ?_
    refine Z_tableIn 156 dX5_acted_1 (by decide) (by decide) rfl rfl ?_
    refine Z_iload_n dX5_acted_156 rfl ?_
    refine Z_iload_n dX5_acted_157 rfl ?_
    refine Z_icmpne 165 dX5_acted_158 rfl (fun c158 => ?_) (fun c158 => ?_)
    · refine Z_iconst (nI 0) dX5_acted_165 rfl ?_
      refine Z_callS0 (d' := 0) (zCal_S gX5_124 nX5_flag (by decide) dX5_acted_166) pX5_flag [_] rfl rfl (Nat.le_of_ble_eq_true rfl) (by omega) (c_X5_flag (by first | decide | assumption) ?_)
      refine Z_ireturn dX5_acted_169 rfl rfl ?_
      exact zQe (by simp [binV, bI, c158]) k
    · refine Z_iconst (nI 1) dX5_acted_161 rfl ?_
      refine Z_goto 166 dX5_acted_162 rfl ?_
      refine Z_callS0 (d' := 0) (zCal_S gX5_124 nX5_flag (by decide) dX5_acted_166) pX5_flag [_] rfl rfl (Nat.le_of_ble_eq_true rfl) (by omega) (c_X5_flag (by first | decide | assumption) ?_)
      refine Z_ireturn dX5_acted_169 rfl rfl ?_
      exact zQe (by simp [binV, bI, c158]) k
  · refine Z_iload_n dX5_acted_0 rfl ?_
    refine Z_tableIn 116 dX5_acted_1 (by decide) (by decide) rfl rfl ?_
    refine Z_iload_n dX5_acted_116 rfl ?_
    refine Z_iload_n dX5_acted_117 rfl ?_
    refine Z_iadd dX5_acted_118 ?_
    refine Z_ireturn dX5_acted_119 rfl rfl ?_
    exact zQe (by simp [binV, bI]) k
  · refine Z_iload_n dX5_acted_0 rfl ?_
    refine Z_tableIn 120 dX5_acted_1 (by decide) (by decide) rfl rfl ?_
    refine Z_iload_n dX5_acted_120 rfl ?_
    refine Z_iload_n dX5_acted_121 rfl ?_
    refine Z_isub dX5_acted_122 ?_
    refine Z_ireturn dX5_acted_123 rfl rfl ?_
    exact zQe (by simp [binV, bI]) k
  · refine Z_iload_n dX5_acted_0 rfl ?_
    refine Z_tableIn 124 dX5_acted_1 (by decide) (by decide) rfl rfl ?_
    refine Z_iload_n dX5_acted_124 rfl ?_
    refine Z_iload_n dX5_acted_125 rfl ?_
    refine Z_imul dX5_acted_126 ?_
    refine Z_ireturn dX5_acted_127 rfl rfl ?_
    exact zQe (by simp [binV, bI]) k
set_option maxHeartbeats 4000000 in
theorem w_num (hM : mOk P S) (hW : wld I2 = W) (hs : I2 23 = s) {p : Nat} (hp : p < 8) {o h a : Nat} (ho : o < 6) (hh : h < 2 ^ 29) (ha : s (3 + p) = nI a) (ha6 : a < 6) {len j m : Nat} (hl : W 26 0 = nI len) (hl4 : len ≤ 40) (hj : j < len) (hm : m < 40) {v : Nat} (hv : v ≤ 999) (hc : W 25 j = nI v) (kk : Zj G mX5_worked 6 C Sl 6 [.ref 0, .int (nI p), .int (nI o), .int (nI h), .int (nI (m + 1)), .int (nI (j + 1)), .retAddr 0] [] (zw I2 27 m (nI v)) L P S Q) : Zj G mX5_worked 6 C Sl 6 [.ref 0, .int (nI p), .int (nI o), .int (nI h), .int (nI (m)), .int (nI j), .retAddr 0] [] I2 L P S Q := by
  refine Z_iload dX5_worked_6 rfl ?_
  refine Z_aload_n dX5_worked_8 rfl ?_
  refine Z_getR (r := 26) hM.1 fX5_199_4 dX5_worked_9 rfl (hM.2.2 26 _ rfl rfl) ?_
  refine Z_iconst (nI 0) dX5_worked_12 rfl ?_
  refine Z_iald (hM.2.1 26 _ rfl) (zix_nI (by omega) (by decide)) dX5_worked_13 ?_
  refine Z_re (y := nI (len)) ((wr hW rfl).trans hl) ?_
  refine Z_icmpgeN 186 dX5_worked_14 rfl (by omega) (by omega) (fun c14 => ?_) (fun c14 => ?_)
  · exact absurd c14 (by omega)
  · refine Z_aload_n dX5_worked_17 rfl ?_
    refine Z_getR (r := 25) hM.1 fX5_196_4 dX5_worked_18 rfl (hM.2.2 25 _ rfl rfl) ?_
    refine Z_iload dX5_worked_21 rfl ?_
    refine Z_iald (hM.2.1 25 _ rfl) (zix_nI (by omega) (by decide)) dX5_worked_23 ?_
    refine Z_re (y := nI (v)) ((wr25 hW (by omega)).trans hc) ?_
    refine Z_istore (lv' := [_, _, _, _, _, _, _]) dX5_worked_24 rfl rfl (Nat.le_of_ble_eq_true rfl) ?_
    refine Z_iload dX5_worked_26 rfl ?_
    refine Z_sipush (nI 2000) dX5_worked_28 rfl ?_
    refine Z_icmpgeN 73 dX5_worked_31 rfl (by omega) (by omega) (fun c31 => ?_) (fun c31 => ?_)
    · exact absurd c31 (by omega)
    · refine Z_aload_n dX5_worked_34 rfl ?_
      refine Z_getR (r := 27) hM.1 fX5_246_4 dX5_worked_35 rfl (hM.2.2 27 _ rfl rfl) ?_
      refine Z_iload dX5_worked_38 rfl ?_
      refine Z_iload dX5_worked_40 rfl ?_
      refine Z_sipush (nI 1000) dX5_worked_42 rfl ?_
      refine Z_icmpgeN 53 dX5_worked_45 rfl (by omega) (by omega) (fun c45 => ?_) (fun c45 => ?_)
      · exact absurd c45 (by omega)
      · refine Z_iload dX5_worked_48 rfl ?_
        refine Z_goto 66 dX5_worked_50 rfl ?_
        refine Z_iast (hM.2.1 27 _ rfl) (zix_nI (by omega) (by decide)) dX5_worked_66 ?_
        refine Z_iincN (a := _) (k := 1) (lv' := [_, _, _, _, _, _, _]) dX5_worked_67 rfl rfl rfl rfl ?_
        refine Z_goto 180 dX5_worked_70 rfl ?_
        refine Z_iincN (a := _) (k := 1) (lv' := [_, _, _, _, _, _, _]) dX5_worked_180 rfl rfl rfl rfl ?_
        refine Z_goto 6 dX5_worked_183 rfl ?_
        exact Z_fgt kk (by simp [zwk])
set_option maxHeartbeats 4000000 in
theorem w_sgn (hM : mOk P S) (hW : wld I2 = W) (hs : I2 23 = s) {p : Nat} (hp : p < 8) {o h a : Nat} (ho : o < 6) (hh : h < 2 ^ 29) (ha : s (3 + p) = nI a) (ha6 : a < 6) {len j m : Nat} (hl : W 26 0 = nI len) (hl4 : len ≤ 40) (hj : j < len) (hm : m < 40) {g : Nat} (hg : g ≤ 11) (hc : W 25 j = nI (1000 + g)) (kk : Zj G mX5_worked 6 C Sl 6 [.ref 0, .int (nI p), .int (nI o), .int (nI h), .int (nI (m + 1)), .int (nI (j + 1)), .retAddr 0] [] (zw I2 27 m (sgnV W s g p o h)) L P S Q) : Zj G mX5_worked 6 C Sl 6 [.ref 0, .int (nI p), .int (nI o), .int (nI h), .int (nI (m)), .int (nI j), .retAddr 0] [] I2 L P S Q := by
  refine Z_iload dX5_worked_6 rfl ?_
  refine Z_aload_n dX5_worked_8 rfl ?_
  refine Z_getR (r := 26) hM.1 fX5_199_4 dX5_worked_9 rfl (hM.2.2 26 _ rfl rfl) ?_
  refine Z_iconst (nI 0) dX5_worked_12 rfl ?_
  refine Z_iald (hM.2.1 26 _ rfl) (zix_nI (by omega) (by decide)) dX5_worked_13 ?_
  refine Z_re (y := nI (len)) ((wr hW rfl).trans hl) ?_
  refine Z_icmpgeN 186 dX5_worked_14 rfl (by omega) (by omega) (fun c14 => ?_) (fun c14 => ?_)
  · exact absurd c14 (by omega)
  · refine Z_aload_n dX5_worked_17 rfl ?_
    refine Z_getR (r := 25) hM.1 fX5_196_4 dX5_worked_18 rfl (hM.2.2 25 _ rfl rfl) ?_
    refine Z_iload dX5_worked_21 rfl ?_
    refine Z_iald (hM.2.1 25 _ rfl) (zix_nI (by omega) (by decide)) dX5_worked_23 ?_
    refine Z_re (y := nI (1000 + g)) ((wr25 hW (by omega)).trans hc) ?_
    refine Z_istore (lv' := [_, _, _, _, _, _, _]) dX5_worked_24 rfl rfl (Nat.le_of_ble_eq_true rfl) ?_
    refine Z_iload dX5_worked_26 rfl ?_
    refine Z_sipush (nI 2000) dX5_worked_28 rfl ?_
    refine Z_icmpgeN 73 dX5_worked_31 rfl (by omega) (by omega) (fun c31 => ?_) (fun c31 => ?_)
    · exact absurd c31 (by omega)
    · refine Z_aload_n dX5_worked_34 rfl ?_
      refine Z_getR (r := 27) hM.1 fX5_246_4 dX5_worked_35 rfl (hM.2.2 27 _ rfl rfl) ?_
      refine Z_iload dX5_worked_38 rfl ?_
      refine Z_iload dX5_worked_40 rfl ?_
      refine Z_sipush (nI 1000) dX5_worked_42 rfl ?_
      refine Z_icmpgeN 53 dX5_worked_45 rfl (by omega) (by omega) (fun c45 => ?_) (fun c45 => ?_)
      · refine Z_aload_n dX5_worked_53 rfl ?_
        refine Z_iload dX5_worked_54 rfl ?_
        refine Z_sipush (nI 1000) dX5_worked_56 rfl ?_
        refine Z_isubN dX5_worked_59 (by omega) ?_
        refine Z_re (y := nI g) (by rw [Nat.add_sub_cancel_left]) ?_
        refine Z_iload_n dX5_worked_60 rfl ?_
        refine Z_iload_n dX5_worked_61 rfl ?_
        refine Z_iload_n dX5_worked_62 rfl ?_
        refine Z_call0 (d' := 5) (zCal_V gX5_249 nX5_valueOf (by decide) dX5_worked_63) pX5_valueOf hM.1 zkl4 [_, _, _, _] rfl rfl (Nat.le_of_ble_eq_true rfl) (by omega) (c_X5_valueOf hM (by first | exact hW | (simp only [wld_zw23, wld_zw33, wld_zw27, wld_zw34, wld_zw35, wld_zw36, wld_zw0, wld_zw1, wld_zu23]; exact hW)) hs (by omega) (by omega) (by omega) ha (by omega) (by omega) ?_)
        refine Z_iast (hM.2.1 27 _ rfl) (zix_nI (by omega) (by decide)) dX5_worked_66 ?_
        refine Z_iincN (a := _) (k := 1) (lv' := [_, _, _, _, _, _, _]) dX5_worked_67 rfl rfl rfl rfl ?_
        refine Z_goto 180 dX5_worked_70 rfl ?_
        refine Z_iincN (a := _) (k := 1) (lv' := [_, _, _, _, _, _, _]) dX5_worked_180 rfl rfl rfl rfl ?_
        refine Z_goto 6 dX5_worked_183 rfl ?_
        exact Z_fgt kk (by simp [zwk])
      · exact absurd c45 (by omega)
set_option maxHeartbeats 4000000 in
theorem w_not (hM : mOk P S) (hW : wld I2 = W) (hs : I2 23 = s) {p : Nat} (hp : p < 8) {o h a : Nat} (ho : o < 6) (hh : h < 2 ^ 29) (ha : s (3 + p) = nI a) (ha6 : a < 6) {len j m : Nat} (hl : W 26 0 = nI len) (hl4 : len ≤ 40) (hj : j < len) (hm : m < 40) (hc : W 25 j = nI 2033) (kk : Zj G mX5_worked 6 C Sl 6 [.ref 0, .int (nI p), .int (nI o), .int (nI h), .int (nI (m + 1)), .int (nI (j + 1)), .retAddr 0] [] (zw I2 27 m (nI (bI (decide (I2 27 m = 0))))) L P S Q) : Zj G mX5_worked 6 C Sl 6 [.ref 0, .int (nI p), .int (nI o), .int (nI h), .int (nI (m + 1)), .int (nI j), .retAddr 0] [] I2 L P S Q := by
  refine Z_iload dX5_worked_6 rfl ?_
  refine Z_aload_n dX5_worked_8 rfl ?_
  refine Z_getR (r := 26) hM.1 fX5_199_4 dX5_worked_9 rfl (hM.2.2 26 _ rfl rfl) ?_
  refine Z_iconst (nI 0) dX5_worked_12 rfl ?_
  refine Z_iald (hM.2.1 26 _ rfl) (zix_nI (by omega) (by decide)) dX5_worked_13 ?_
  refine Z_re (y := nI (len)) ((wr hW rfl).trans hl) ?_
  refine Z_icmpgeN 186 dX5_worked_14 rfl (by omega) (by omega) (fun c14 => ?_) (fun c14 => ?_)
  · exact absurd c14 (by omega)
  · refine Z_aload_n dX5_worked_17 rfl ?_
    refine Z_getR (r := 25) hM.1 fX5_196_4 dX5_worked_18 rfl (hM.2.2 25 _ rfl rfl) ?_
    refine Z_iload dX5_worked_21 rfl ?_
    refine Z_iald (hM.2.1 25 _ rfl) (zix_nI (by omega) (by decide)) dX5_worked_23 ?_
    refine Z_re (y := nI 2033) ((wr25 hW (by omega)).trans hc) ?_
    refine Z_istore (lv' := [_, _, _, _, _, _, _]) dX5_worked_24 rfl rfl (Nat.le_of_ble_eq_true rfl) ?_
    refine Z_iload dX5_worked_26 rfl ?_
    refine Z_sipush (nI 2000) dX5_worked_28 rfl ?_
    refine Z_icmpge 73 dX5_worked_31 rfl (fun _ => ?_) (fun h => absurd h (by decide))
    refine Z_iload dX5_worked_73 rfl ?_
    refine Z_sipush (nI 2033) dX5_worked_75 rfl ?_
    refine Z_icmpne 113 dX5_worked_78 rfl (fun h => absurd h (by decide)) (fun _ => ?_)
    refine Z_aload_n dX5_worked_81 rfl ?_
    refine Z_getR (r := 27) hM.1 fX5_246_4 dX5_worked_82 rfl (hM.2.2 27 _ rfl rfl) ?_
    refine Z_iload dX5_worked_85 rfl ?_
    refine Z_iconst (nI 1) dX5_worked_87 rfl ?_
    refine Z_isubN dX5_worked_88 (by omega) ?_
    refine Z_aload_n dX5_worked_89 rfl ?_
    refine Z_getR (r := 27) hM.1 fX5_246_4 dX5_worked_90 rfl (hM.2.2 27 _ rfl rfl) ?_
    refine Z_iload dX5_worked_93 rfl ?_
    refine Z_iconst (nI 1) dX5_worked_95 rfl ?_
    refine Z_isubN dX5_worked_96 (by omega) ?_
    refine Z_iald (hM.2.1 27 _ rfl) (zix_nI (by omega) (by decide)) dX5_worked_97 ?_
    refine Z_cut1 106 (.int (nI (bI (decide (I2 27 m = 0))))) (fun jn106 => ?_) ?_
    · refine Z_ifne 105 dX5_worked_98 rfl (fun c98 => ?_) (fun c98 => ?_)
      · refine Z_iconst (nI 0) dX5_worked_105 rfl ?_
        have c98b : ¬ I2 27 m = 0 := c98
        exact Z_re (by simp [bI, c98b]) jn106
      · refine Z_iconst (nI 1) dX5_worked_101 rfl ?_
        refine Z_goto 106 dX5_worked_102 rfl ?_
        have c98b : I2 27 m = 0 := c98
        exact Z_re (by simp [bI, c98b]) jn106
    · refine Z_callS0 (d' := 0) (zCal_S gX5_124 nX5_flag (by decide) dX5_worked_106) pX5_flag [_] rfl rfl (Nat.le_of_ble_eq_true rfl) (by omega) (c_X5_flag (bI_lt _) ?_)
      refine Z_iast (hM.2.1 27 _ rfl) (zix_nI (by omega) (by decide)) dX5_worked_109 ?_
      refine Z_goto 180 dX5_worked_110 rfl ?_
      refine Z_iincN (a := _) (k := 1) (lv' := [_, _, _, _, _, _, _]) dX5_worked_180 rfl rfl rfl rfl ?_
      refine Z_goto 6 dX5_worked_183 rfl ?_
      exact Z_fgt kk (by simp [zwk])
set_option maxHeartbeats 4000000 in
theorem w_neg (hM : mOk P S) (hW : wld I2 = W) (hs : I2 23 = s) {p : Nat} (hp : p < 8) {o h a : Nat} (ho : o < 6) (hh : h < 2 ^ 29) (ha : s (3 + p) = nI a) (ha6 : a < 6) {len j m : Nat} (hl : W 26 0 = nI len) (hl4 : len ≤ 40) (hj : j < len) (hm : m < 40) (hc : W 25 j = nI 2126) (kk : Zj G mX5_worked 6 C Sl 6 [.ref 0, .int (nI p), .int (nI o), .int (nI h), .int (nI (m + 1)), .int (nI (j + 1)), .retAddr 0] [] (zw I2 27 m (-I2 27 m)) L P S Q) : Zj G mX5_worked 6 C Sl 6 [.ref 0, .int (nI p), .int (nI o), .int (nI h), .int (nI (m + 1)), .int (nI j), .retAddr 0] [] I2 L P S Q := by
  refine Z_iload dX5_worked_6 rfl ?_
  refine Z_aload_n dX5_worked_8 rfl ?_
  refine Z_getR (r := 26) hM.1 fX5_199_4 dX5_worked_9 rfl (hM.2.2 26 _ rfl rfl) ?_
  refine Z_iconst (nI 0) dX5_worked_12 rfl ?_
  refine Z_iald (hM.2.1 26 _ rfl) (zix_nI (by omega) (by decide)) dX5_worked_13 ?_
  refine Z_re (y := nI (len)) ((wr hW rfl).trans hl) ?_
  refine Z_icmpgeN 186 dX5_worked_14 rfl (by omega) (by omega) (fun c14 => ?_) (fun c14 => ?_)
  · exact absurd c14 (by omega)
  · refine Z_aload_n dX5_worked_17 rfl ?_
    refine Z_getR (r := 25) hM.1 fX5_196_4 dX5_worked_18 rfl (hM.2.2 25 _ rfl rfl) ?_
    refine Z_iload dX5_worked_21 rfl ?_
    refine Z_iald (hM.2.1 25 _ rfl) (zix_nI (by omega) (by decide)) dX5_worked_23 ?_
    refine Z_re (y := nI 2126) ((wr25 hW (by omega)).trans hc) ?_
    refine Z_istore (lv' := [_, _, _, _, _, _, _]) dX5_worked_24 rfl rfl (Nat.le_of_ble_eq_true rfl) ?_
    refine Z_iload dX5_worked_26 rfl ?_
    refine Z_sipush (nI 2000) dX5_worked_28 rfl ?_
    refine Z_icmpge 73 dX5_worked_31 rfl (fun _ => ?_) (fun h => absurd h (by decide))
    refine Z_iload dX5_worked_73 rfl ?_
    refine Z_sipush (nI 2033) dX5_worked_75 rfl ?_
    refine Z_icmpne 113 dX5_worked_78 rfl (fun _ => ?_) (fun h => absurd h (by decide))
    refine Z_iload dX5_worked_113 rfl ?_
    refine Z_sipush (nI 2126) dX5_worked_115 rfl ?_
    refine Z_icmpne 143 dX5_worked_118 rfl (fun h => absurd h (by decide)) (fun _ => ?_)
    refine Z_aload_n dX5_worked_121 rfl ?_
    refine Z_getR (r := 27) hM.1 fX5_246_4 dX5_worked_122 rfl (hM.2.2 27 _ rfl rfl) ?_
    refine Z_iload dX5_worked_125 rfl ?_
    refine Z_iconst (nI 1) dX5_worked_127 rfl ?_
    refine Z_isubN dX5_worked_128 (by omega) ?_
    refine Z_aload_n dX5_worked_129 rfl ?_
    refine Z_getR (r := 27) hM.1 fX5_246_4 dX5_worked_130 rfl (hM.2.2 27 _ rfl rfl) ?_
    refine Z_iload dX5_worked_133 rfl ?_
    refine Z_iconst (nI 1) dX5_worked_135 rfl ?_
    refine Z_isubN dX5_worked_136 (by omega) ?_
    refine Z_iald (hM.2.1 27 _ rfl) (zix_nI (by omega) (by decide)) dX5_worked_137 ?_
    refine Z_ineg dX5_worked_138 ?_
    refine Z_iast (hM.2.1 27 _ rfl) (zix_nI (by omega) (by decide)) dX5_worked_139 ?_
    refine Z_goto 180 dX5_worked_140 rfl ?_
    refine Z_iincN (a := _) (k := 1) (lv' := [_, _, _, _, _, _, _]) dX5_worked_180 rfl rfl rfl rfl ?_
    refine Z_goto 6 dX5_worked_183 rfl ?_
    exact Z_fgt kk (by simp [zwk])
set_option maxHeartbeats 4000000 in
theorem w_bin (hM : mOk P S) (hW : wld I2 = W) (hs : I2 23 = s) {p : Nat} (hp : p < 8) {o h a : Nat} (ho : o < 6) (hh : h < 2 ^ 29) (ha : s (3 + p) = nI a) (ha6 : a < 6) {len j m : Nat} (hl : W 26 0 = nI len) (hl4 : len ≤ 40) (hj : j < len) (hm : m < 40) {op : Nat} (hop : op = 124 ∨ op = 38 ∨ op = 60 ∨ op = 62 ∨ op = 61 ∨ op = 43 ∨ op = 45 ∨ op = 42) (hc : W 25 j = nI (2000 + op)) (kk : Zj G mX5_worked 6 C Sl 6 [.ref 0, .int (nI p), .int (nI o), .int (nI h), .int (nI (m + 1)), .int (nI (j + 1)), .retAddr 0] [] (zw I2 27 m (binV op (I2 27 m) (I2 27 (m + 1)))) L P S Q) : Zj G mX5_worked 6 C Sl 6 [.ref 0, .int (nI p), .int (nI o), .int (nI h), .int (nI (m + 2)), .int (nI j), .retAddr 0] [] I2 L P S Q := by
  refine Z_iload dX5_worked_6 rfl ?_
  refine Z_aload_n dX5_worked_8 rfl ?_
  refine Z_getR (r := 26) hM.1 fX5_199_4 dX5_worked_9 rfl (hM.2.2 26 _ rfl rfl) ?_
  refine Z_iconst (nI 0) dX5_worked_12 rfl ?_
  refine Z_iald (hM.2.1 26 _ rfl) (zix_nI (by omega) (by decide)) dX5_worked_13 ?_
  refine Z_re (y := nI (len)) ((wr hW rfl).trans hl) ?_
  refine Z_icmpgeN 186 dX5_worked_14 rfl (by omega) (by omega) (fun c14 => ?_) (fun c14 => ?_)
  · exact absurd c14 (by omega)
  · refine Z_aload_n dX5_worked_17 rfl ?_
    refine Z_getR (r := 25) hM.1 fX5_196_4 dX5_worked_18 rfl (hM.2.2 25 _ rfl rfl) ?_
    refine Z_iload dX5_worked_21 rfl ?_
    refine Z_iald (hM.2.1 25 _ rfl) (zix_nI (by omega) (by decide)) dX5_worked_23 ?_
    refine Z_re (y := nI (2000 + op)) ((wr25 hW (by omega)).trans hc) ?_
    refine Z_istore (lv' := [_, _, _, _, _, _, _]) dX5_worked_24 rfl rfl (Nat.le_of_ble_eq_true rfl) ?_
    refine Z_iload dX5_worked_26 rfl ?_
    refine Z_sipush (nI 2000) dX5_worked_28 rfl ?_
    refine Z_icmpgeN 73 dX5_worked_31 rfl (by omega) (by omega) (fun c31 => ?_) (fun c31 => ?_)
    · refine Z_iload dX5_worked_73 rfl ?_
      refine Z_sipush (nI 2033) dX5_worked_75 rfl ?_
      refine Z_icmpneN 113 dX5_worked_78 rfl (by omega) (by omega) (fun c78 => ?_) (fun c78 => ?_)
      · refine Z_iload dX5_worked_113 rfl ?_
        refine Z_sipush (nI 2126) dX5_worked_115 rfl ?_
        refine Z_icmpneN 143 dX5_worked_118 rfl (by omega) (by omega) (fun c118 => ?_) (fun c118 => ?_)
        · refine Z_iincM (lv' := [_, _, _, _, _, _, _]) dX5_worked_143 rfl (by omega) rfl rfl ?_
          refine Z_aload_n dX5_worked_146 rfl ?_
          refine Z_getR (r := 27) hM.1 fX5_246_4 dX5_worked_147 rfl (hM.2.2 27 _ rfl rfl) ?_
          refine Z_iload dX5_worked_150 rfl ?_
          refine Z_iconst (nI 1) dX5_worked_152 rfl ?_
          refine Z_isubN dX5_worked_153 (by omega) ?_
          refine Z_iload dX5_worked_154 rfl ?_
          refine Z_sipush (nI 2000) dX5_worked_156 rfl ?_
          refine Z_isubN dX5_worked_159 (by omega) ?_
          refine Z_re (y := nI op) (by rw [Nat.add_sub_cancel_left]) ?_
          refine Z_aload_n dX5_worked_160 rfl ?_
          refine Z_getR (r := 27) hM.1 fX5_246_4 dX5_worked_161 rfl (hM.2.2 27 _ rfl rfl) ?_
          refine Z_iload dX5_worked_164 rfl ?_
          refine Z_iconst (nI 1) dX5_worked_166 rfl ?_
          refine Z_isubN dX5_worked_167 (by omega) ?_
          refine Z_iald (hM.2.1 27 _ rfl) (zix_nI (by omega) (by decide)) dX5_worked_168 ?_
          refine Z_aload_n dX5_worked_169 rfl ?_
          refine Z_getR (r := 27) hM.1 fX5_246_4 dX5_worked_170 rfl (hM.2.2 27 _ rfl rfl) ?_
          refine Z_iload dX5_worked_173 rfl ?_
          refine Z_iald (hM.2.1 27 _ rfl) (zix_nI (by omega) (by decide)) dX5_worked_175 ?_
          refine Z_callS0 (d' := 1) (zCal_S gX5_253 nX5_acted (by decide) dX5_worked_176) pX5_acted [_, _, _] rfl rfl (Nat.le_of_ble_eq_true rfl) (by omega) (c_X5_acted hop ?_)
          refine Z_iast (hM.2.1 27 _ rfl) (zix_nI (by omega) (by decide)) dX5_worked_179 ?_
          refine Z_iincN (a := _) (k := 1) (lv' := [_, _, _, _, _, _, _]) dX5_worked_180 rfl rfl rfl rfl ?_
          refine Z_goto 6 dX5_worked_183 rfl ?_
          exact Z_fgt kk (by simp [zwk])
        · exact absurd c118 (by omega)
      · exact absurd c78 (by omega)
    · exact absurd c31 (by omega)
end M4
