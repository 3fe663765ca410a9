set_option maxRecDepth 100000
/-! THE MODEL, part 7: an hour as a whole -/
section M7
variable {G : zG} {d C Sl : Nat} {I I2 W : zI} {L : zL} {P : zR} {S : zT} {Q : zQ} {s : zS} {no n : Nat}
set_option maxHeartbeats 4000000 in
theorem c_closes0 (hM : mOk P S) (hW : wld I = W) (hs : I 23 = s) (hw : wf W no n) (hru : ruM W none) (k : Q (.inl none) I L P S) : Zm G mX5_closes 7 C Sl [.ref 0] I L P S Q := by
  have hn8 := hw.n8
  have ho6 := hw.o6
  refine Z_entry (lv := [_, _, _, _, _, _, _, _]) (Nat.le_of_ble_eq_true rfl) rfl ?_
  refine Z_aload_n dX5_closes_0 rfl ?_
  refine Z_getR (r := 23) hM.1 fX5_140_4 dX5_closes_1 rfl (hM.2.2 23 _ rfl rfl) ?_
  refine Z_iconst (nI 0) dX5_closes_4 rfl ?_
  refine Z_iald (hM.2.1 23 _ rfl) (zix_nI (by omega) (by decide)) dX5_closes_5 ?_
  refine Z_re (congrFun hs _) ?_
  refine Z_istore_n (lv' := [_, _, _, _, _, _, _, _]) dX5_closes_6 rfl rfl (Nat.le_of_ble_eq_true rfl) ?_
  refine Z_iconst (nI 0) dX5_closes_7 rfl ?_
  refine Z_istore_n (lv' := [_, _, _, _, _, _, _, _]) dX5_closes_8 rfl rfl (Nat.le_of_ble_eq_true rfl) ?_
  refine Z_iload_n dX5_closes_9 rfl ?_
  refine Z_aload_n dX5_closes_10 rfl ?_
  refine Z_getI hM.1 fX5_151_4 dX5_closes_11 rfl ?_
  refine Z_re ((wr (by first | exact hW | (simp only [wld_zw23, wld_zw33, wld_zw27, wld_zw34, wld_zw35, wld_zw36, wld_zw0, wld_zw1, wld_zu23]; exact hW)) rfl).trans hw.n16) ?_
  refine Z_icmpgeN 169 dX5_closes_14 rfl (by omega) (by omega) (fun c14 => ?_) (fun c14 => ?_)
  · refine Z_return dX5_closes_169 rfl ?_
    exact k
  · refine Z_aload_n dX5_closes_17 rfl ?_
    refine Z_getR (r := 26) hM.1 fX5_199_4 dX5_closes_18 rfl (hM.2.2 26 _ rfl rfl) ?_
    refine Z_iconst (nI 0) dX5_closes_21 rfl ?_
    refine Z_iald (hM.2.1 26 _ rfl) (zix_nI (by omega) (by decide)) dX5_closes_22 ?_
    refine Z_re (y := nI (0)) ((wr hW rfl).trans hru) ?_
    refine Z_ifleN 169 dX5_closes_23 rfl (by omega) (fun c23 => ?_) (fun c23 => ?_)
    · refine Z_return dX5_closes_169 rfl ?_
      exact k
    · exact absurd c23 (by omega)
set_option maxHeartbeats 40000000 in
theorem c_closes1 (hM : mOk P S) (hW : wld I = W) (hs : I 23 = s) (hw : wf W no n) (hsf : sf W no n s) {hr : Nat} (h0 : s 0 = nI hr) (hr9 : hr ≤ 2399) {rd : Int32} (h34 : I 0 34 = rd) {e : List Nat} (hru : ruM W (some e)) (k : ∀ I2, I2 23 = clsN W e no rd hr s n → fr tC I I2 → Q (.inl none) I2 L P S) : Zm G mX5_closes 7 C Sl [.ref 0] I L P S Q := by
  have hn8 := hw.n8
  have ho6 := hw.o6
  have hW0 := hW
  have hsf0 := hsf
  have hep : 0 < e.length := by obtain ⟨⟨f, hf⟩, -⟩ := hru; exact isE_pos hf
  have he4 := hru.2.2.1
  refine Z_entry (lv := [_, _, _, _, _, _, _, _]) (Nat.le_of_ble_eq_true rfl) rfl ?_
  refine Z_aload_n dX5_closes_0 rfl ?_
  refine Z_getR (r := 23) hM.1 fX5_140_4 dX5_closes_1 rfl (hM.2.2 23 _ rfl rfl) ?_
  refine Z_iconst (nI 0) dX5_closes_4 rfl ?_
  refine Z_iald (hM.2.1 23 _ rfl) (zix_nI (by omega) (by decide)) dX5_closes_5 ?_
  refine Z_re (congrFun hs _) ?_
  refine Z_re (y := nI (hr)) h0 ?_
  refine Z_istore_n (lv' := [_, _, _, _, _, _, _, _]) dX5_closes_6 rfl rfl (Nat.le_of_ble_eq_true rfl) ?_
  refine Z_iconst (nI 0) dX5_closes_7 rfl ?_
  refine Z_istore_n (lv' := [_, _, _, _, _, _, _, _]) dX5_closes_8 rfl rfl (Nat.le_of_ble_eq_true rfl) ?_
  have lp9 : ∀ i, i ≤ n → ∀ I2, I2 23 = clsN W e no rd hr s i → fr tC I I2 → Zj G mX5_closes 7 C Sl 9 [.ref 0, .int (nI hr), .int (nI i), .retAddr 0, .retAddr 0, .retAddr 0, .retAddr 0, .retAddr 0] [] I2 L P S Q := by
    refine zloop (n) (fun i => ∀ I2, I2 23 = clsN W e no rd hr s i → fr tC I I2 → Zj G mX5_closes 7 C Sl 9 [.ref 0, .int (nI hr), .int (nI i), .retAddr 0, .retAddr 0, .retAddr 0, .retAddr 0, .retAddr 0] [] I2 L P S Q) (fun i hi ih => ?_)
    intro I2 hs g2
    show Zj _ _ _ _ _ _ _ _ _ _ _ _ _
    obtain ⟨u, hu⟩ : ∃ u, clsN W e no rd hr s i = u := ⟨_, rfl⟩
    rw [hu] at hs
    have hW : wld I2 = W := (wld_fr g2 fun _ _ => tC_w).trans hW0
    have hsf : sf W no n u := by rw [← hu]; exact sf_clsN hsf0 hw i hi
    refine Z_iload_n dX5_closes_9 rfl ?_
    refine Z_aload_n dX5_closes_10 rfl ?_
    refine Z_getI hM.1 fX5_151_4 dX5_closes_11 rfl ?_
    refine Z_re ((wr (by first | exact hW | (simp only [wld_zw23, wld_zw33, wld_zw27, wld_zw34, wld_zw35, wld_zw36, wld_zw0, wld_zw1, wld_zu23]; exact hW)) rfl).trans hw.n16) ?_
    refine Z_icmpgeN 169 dX5_closes_14 rfl (by omega) (by omega) (fun c14 => ?_) (fun c14 => ?_)
    · obtain rfl : n = i := by omega
      refine Z_return dX5_closes_169 rfl ?_
      exact k I2 (hs.trans hu.symm) g2
    · have hin : i < n := c14
      obtain ⟨a, ha6, ha⟩ := hsf.pl hin
      obtain ⟨b, hb6, hb⟩ := hsf.bk
      have e1 : (u (3 + i)).toNatClampNeg = a := by rw [ha, nI_clamp (by omega)]
      have hWi := hW
      have hsi := hs
      refine Z_aload_n dX5_closes_17 rfl ?_
      refine Z_getR (r := 26) hM.1 fX5_199_4 dX5_closes_18 rfl (hM.2.2 26 _ rfl rfl) ?_
      refine Z_iconst (nI 0) dX5_closes_21 rfl ?_
      refine Z_iald (hM.2.1 26 _ rfl) (zix_nI (by omega) (by decide)) dX5_closes_22 ?_
      refine Z_re (y := nI (e.length)) ((wr hW rfl).trans hru.2.1) ?_
      refine Z_ifleN 169 dX5_closes_23 rfl (by omega) (fun c23 => ?_) (fun c23 => ?_)
      · exact absurd c23 (by omega)
      · refine Z_aload_n dX5_closes_26 rfl ?_
        refine Z_getR (r := 23) hM.1 fX5_140_4 dX5_closes_27 rfl (hM.2.2 23 _ rfl rfl) ?_
        refine Z_iconst (nI 3) dX5_closes_30 rfl ?_
        refine Z_iload_n dX5_closes_31 rfl ?_
        refine Z_iaddN dX5_closes_32 ?_
        refine Z_iald (hM.2.1 23 _ rfl) (zix_nI (by omega) (by decide)) dX5_closes_33 ?_
        refine Z_re (congrFun hs _) ?_
        refine Z_re (y := nI (a)) ha ?_
        refine Z_istore_n (lv' := [_, _, _, _, _, _, _, _]) dX5_closes_34 rfl rfl (Nat.le_of_ble_eq_true rfl) ?_
        refine Z_aload_n dX5_closes_35 rfl ?_
        refine Z_getI hM.1 fX5_278_4 dX5_closes_36 rfl ?_
        refine Z_re ((g2 0 34 rfl).trans h34) ?_
        refine Z_iload_n dX5_closes_39 rfl ?_
        refine Z_callS0 (d' := 0) (zCal_S gX5_137 nX5_has (by decide) dX5_closes_40) pX5_has [_, _] rfl rfl (Nat.le_of_ble_eq_true rfl) (by omega) (c_X5_has (fun h40 => ?_) (fun h40 => ?_))
        · refine Z_ifeq 163 dX5_closes_43 rfl (fun h => absurd h (by decide)) (fun _ => ?_)
          refine Z_aload_n dX5_closes_46 rfl ?_
          refine Z_iload_n dX5_closes_47 rfl ?_
          refine Z_call0 (d' := 0) (zCal_V gX5_265 nX5_isDone (by decide) dX5_closes_48) pX5_isDone hM.1 zkl4 [_] rfl rfl (Nat.le_of_ble_eq_true rfl) (by omega) (c_X5_isDone hM hs (by omega) (fun h48 => ?_) (fun h48 => ?_))
          · refine Z_ifne 163 dX5_closes_51 rfl (fun _ => ?_) (fun h => absurd h (by decide))
            refine Z_iincN (a := _) (k := 1) (lv' := [_, _, _, _, _, _, _, _]) dX5_closes_163 rfl rfl rfl rfl ?_
            refine Z_goto 9 dX5_closes_166 rfl ?_
            refine Z_fgt (ih (by omega) I2 ?_ g2) (by simp [zwk])
            show I2 23 = clsS W e no rd hr i (clsN W e no rd hr s i)
            rw [hu, clsS, if_neg (by simp [leav, e1, h40, h48])]
            exact hs
          · refine Z_ifne 163 dX5_closes_51 rfl (fun h => absurd h (by decide)) (fun _ => ?_)
            refine Z_aload_n dX5_closes_54 rfl ?_
            refine Z_iload_n dX5_closes_55 rfl ?_
            refine Z_iload_n dX5_closes_56 rfl ?_
            refine Z_call0 (d' := 2) (zCal_V gX5_120 nX5_isOpen (by decide) dX5_closes_57) pX5_isOpen hM.1 zkl4 [_, _] rfl rfl (Nat.le_of_ble_eq_true rfl) (by omega) (c_isOpenW hM (by first | exact hW | (simp only [wld_zw23, wld_zw33, wld_zw27, wld_zw34, wld_zw35, wld_zw36, wld_zw0, wld_zw1, wld_zu23]; exact hW)) (by omega) (fun h57 => ?_) (fun h57 => ?_))
            · refine Z_ifeq 163 dX5_closes_60 rfl (fun h => absurd h (by decide)) (fun _ => ?_)
              refine Z_aload_n dX5_closes_63 rfl ?_
              refine Z_iload_n dX5_closes_64 rfl ?_
              refine Z_iload_n dX5_closes_65 rfl ?_
              refine Z_iconst (nI 1) dX5_closes_66 rfl ?_
              refine Z_iaddN dX5_closes_67 ?_
              refine Z_call0 (d' := 2) (zCal_V gX5_120 nX5_isOpen (by decide) dX5_closes_68) pX5_isOpen hM.1 zkl4 [_, _] rfl rfl (Nat.le_of_ble_eq_true rfl) (by omega) (c_isOpenW hM (by first | exact hW | (simp only [wld_zw23, wld_zw33, wld_zw27, wld_zw34, wld_zw35, wld_zw36, wld_zw0, wld_zw1, wld_zu23]; exact hW)) (by omega) (fun h68 => ?_) (fun h68 => ?_))
              · refine Z_ifeq 77 dX5_closes_71 rfl (fun h => absurd h (by decide)) (fun _ => ?_)
                refine Z_goto 163 dX5_closes_74 rfl ?_
                refine Z_iincN (a := _) (k := 1) (lv' := [_, _, _, _, _, _, _, _]) dX5_closes_163 rfl rfl rfl rfl ?_
                refine Z_goto 9 dX5_closes_166 rfl ?_
                refine Z_fgt (ih (by omega) I2 ?_ g2) (by simp [zwk])
                show I2 23 = clsS W e no rd hr i (clsN W e no rd hr s i)
                rw [hu, clsS, if_neg (by simp [leav, e1, h40, h48, h57, h68])]
                exact hs
              · refine Z_ifeq 77 dX5_closes_71 rfl (fun _ => ?_) (fun h => absurd h (by decide))
                refine Z_iconst (nI 0) dX5_closes_77 rfl ?_
                refine Z_istore (lv' := [_, _, _, _, _, _, _, _]) dX5_closes_78 rfl rfl (Nat.le_of_ble_eq_true rfl) ?_
                refine Z_aload_n dX5_closes_80 rfl ?_
                refine Z_iload_n dX5_closes_81 rfl ?_
                refine Z_iconst (nI 0) dX5_closes_82 rfl ?_
                refine Z_iload_n dX5_closes_83 rfl ?_
                refine Z_iconst (nI 1) dX5_closes_84 rfl ?_
                refine Z_iaddN dX5_closes_85 ?_
                refine Z_call0 (d' := 6) (zCal_V gX5_262 nX5_worked (by decide) dX5_closes_86) pX5_worked hM.1 zkl4 [_, _, _] rfl rfl (Nat.le_of_ble_eq_true rfl) (by omega) (c_X5_worked hM hW hs (by omega) (by omega) (by omega) ha (by omega) hru (fun I3 g => ?_))
                have hW := (wld_fr g fun _ _ => t27_w).trans hW
                have hs := (g.s23 fun _ => rfl).trans hs
                refine Z_istore (lv' := [_, _, _, _, _, _, _, _]) dX5_closes_89 rfl rfl (Nat.le_of_ble_eq_true rfl) ?_
                refine Z_iconst (nI 1) dX5_closes_91 rfl ?_
                refine Z_istore (lv' := [_, _, _, _, _, _, _, _]) dX5_closes_92 rfl rfl (Nat.le_of_ble_eq_true rfl) ?_
                have lp94 : ∀ j, j ≤ no - 1 → ∀ I3, fr t27 I2 I3 → Zj G mX5_closes 7 C Sl 94 [.ref 0, .int (nI hr), .int (nI i), .int (nI a), .int (nI (chsN W e u i (hr + 1) j).1), .int (chsN W e u i (hr + 1) j).2, .int (nI (j + 1)), .retAddr 0] [] I3 L P S Q := by
                  refine zloop (no - 1) (fun j => ∀ I3, fr t27 I2 I3 → Zj G mX5_closes 7 C Sl 94 [.ref 0, .int (nI hr), .int (nI i), .int (nI a), .int (nI (chsN W e u i (hr + 1) j).1), .int (chsN W e u i (hr + 1) j).2, .int (nI (j + 1)), .retAddr 0] [] I3 L P S Q) (fun j hj ihj => ?_)
                  intro I3 g3
                  show Zj _ _ _ _ _ _ _ _ _ _ _ _ _
                  have hW : wld I3 = W := (wld_fr g3 fun _ _ => t27_w).trans hWi
                  have hs : I3 23 = u := (g3.s23 fun _ => rfl).trans hsi
                  have hcl := chsN_le (W := W) (s := u) (e := e) (p := i) (hr := hr + 1) j
                  refine Z_iload dX5_closes_94 rfl ?_
                  refine Z_aload_n dX5_closes_96 rfl ?_
                  refine Z_getI hM.1 fX5_22_4 dX5_closes_97 rfl ?_
                  refine Z_re ((wr (by first | exact hW | (simp only [wld_zw23, wld_zw33, wld_zw27, wld_zw34, wld_zw35, wld_zw36, wld_zw0, wld_zw1, wld_zu23]; exact hW)) rfl).trans hw.o3) ?_
                  refine Z_icmpgeN 146 dX5_closes_100 rfl (by omega) (by omega) (fun c100 => ?_) (fun c100 => ?_)
                  · obtain rfl : j = no - 1 := by omega
                    refine Z_iload dX5_closes_146 rfl ?_
                    refine Z_iload_n dX5_closes_148 rfl ?_
                    refine Z_icmpeqN 163 dX5_closes_149 rfl (by omega) (by omega) (fun c149 => ?_) (fun c149 => ?_)
                    · refine Z_iincN (a := _) (k := 1) (lv' := [_, _, _, _, _, _, _, _]) dX5_closes_163 rfl rfl rfl rfl ?_
                      refine Z_goto 9 dX5_closes_166 rfl ?_
                      refine Z_fgt (ih (by omega) _ ?_ (g2.tr (g3.wk fun _ _ => t27_C))) (by simp [zwk])
                      show _ = clsS W e no rd hr i (clsN W e no rd hr s i)
                      rw [hu, clsS, if_pos (by simp [leav, e1, h40, h48, h57, h68]), if_pos (by rw [e1]; exact c149)]
                      exact hs
                    · refine Z_aload_n dX5_closes_152 rfl ?_
                      refine Z_iload_n dX5_closes_153 rfl ?_
                      refine Z_iload dX5_closes_154 rfl ?_
                      refine Z_iload_n dX5_closes_156 rfl ?_
                      refine Z_iconst (nI 1) dX5_closes_157 rfl ?_
                      refine Z_iaddN dX5_closes_158 ?_
                      refine Z_call0 (d' := 5) (zCal_V gX5_294 nX5_hands (by decide) dX5_closes_159) pX5_hands hM.1 zkl4 [_, _, _] rfl rfl (Nat.le_of_ble_eq_true rfl) (by omega) (c_X5_hands hM hW hs (by omega) (by have := chs_lt (W := W) (s := u) (e := e) (p := i) (hr := hr + 1) (no := no) (by omega); unfold chs at this; omega) (by omega) ha (by omega) hb (by omega) ?_)
                      refine Z_pop dX5_closes_162 rfl ?_
                      refine Z_iincN (a := _) (k := 1) (lv' := [_, _, _, _, _, _, _, _]) dX5_closes_163 rfl rfl rfl rfl ?_
                      refine Z_goto 9 dX5_closes_166 rfl ?_
                      refine Z_fgt (ih (by omega) _ ?_ ((g2.tr (g3.wk fun _ _ => t27_C)).su fun _ => rfl)) (by simp [zwk])
                      show _ = clsS W e no rd hr i (clsN W e no rd hr s i)
                      rw [hu, clsS, if_pos (by simp [leav, e1, h40, h48, h57, h68]), if_neg (by rw [e1]; exact c149), zu_s]
                      rfl
                  · refine Z_aload_n dX5_closes_103 rfl ?_
                    refine Z_iload_n dX5_closes_104 rfl ?_
                    refine Z_iload dX5_closes_105 rfl ?_
                    refine Z_iload_n dX5_closes_107 rfl ?_
                    refine Z_iconst (nI 1) dX5_closes_108 rfl ?_
                    refine Z_iaddN dX5_closes_109 ?_
                    refine Z_call0 (d' := 6) (zCal_V gX5_262 nX5_worked (by decide) dX5_closes_110) pX5_worked hM.1 zkl4 [_, _, _] rfl rfl (Nat.le_of_ble_eq_true rfl) (by omega) (c_X5_worked hM hW hs (by omega) (by omega) (by omega) ha (by omega) hru (fun I3 g => ?_))
                    have hW := (wld_fr g fun _ _ => t27_w).trans hW
                    have hs := (g.s23 fun _ => rfl).trans hs
                    refine Z_istore (lv' := [_, _, _, _, _, _, _, _]) dX5_closes_113 rfl rfl (Nat.le_of_ble_eq_true rfl) ?_
                    refine Z_iload dX5_closes_115 rfl ?_
                    refine Z_iload dX5_closes_117 rfl ?_
                    refine Z_cut2 129 (.int (nI (if ev W u i (j + 1) (hr + 1) e ≤ (chsN W e u i (hr + 1) j).2 then (chsN W e u i (hr + 1) j).1 else j + 1))) (fun jn129 => ?_) ?_
                    · refine Z_icmple 127 dX5_closes_119 rfl (fun c119 => ?_) (fun c119 => ?_)
                      · refine Z_iload dX5_closes_127 rfl ?_
                        exact Z_re (by simp [c14, c23, h40, h48, h57, h68, c100, c119]) jn129
                      · refine Z_iload dX5_closes_122 rfl ?_
                        refine Z_goto 129 dX5_closes_124 rfl ?_
                        exact Z_re (by simp [c14, c23, h40, h48, h57, h68, c100, c119]) jn129
                    · refine Z_istore (lv' := [_, _, _, _, _, _, _, _]) dX5_closes_129 rfl rfl (Nat.le_of_ble_eq_true rfl) ?_
                      refine Z_iload dX5_closes_131 rfl ?_
                      refine Z_iload dX5_closes_133 rfl ?_
                      refine Z_callS0 (d' := 0) (zCal_S gX5_101 nJ5_max (by decide) dX5_closes_135) pJ5_max [_, _] rfl rfl (Nat.le_of_ble_eq_true rfl) (by omega) (c_J5_max  ?_)
                      refine Z_istore (lv' := [_, _, _, _, _, _, _, _]) dX5_closes_138 rfl rfl (Nat.le_of_ble_eq_true rfl) ?_
                      refine Z_iincN (a := _) (k := 1) (lv' := [_, _, _, _, _, _, _, _]) dX5_closes_140 rfl rfl rfl rfl ?_
                      refine Z_goto 94 dX5_closes_143 rfl ?_
                      refine Z_fgt (ihj (by omega) _ (g3.tr g)) (by simp [zwk, chsN])
                refine Z_fgt (lp94 0 (by omega) _ g) (by simp [zwk, chsN])
            · refine Z_ifeq 163 dX5_closes_60 rfl (fun _ => ?_) (fun h => absurd h (by decide))
              refine Z_iincN (a := _) (k := 1) (lv' := [_, _, _, _, _, _, _, _]) dX5_closes_163 rfl rfl rfl rfl ?_
              refine Z_goto 9 dX5_closes_166 rfl ?_
              refine Z_fgt (ih (by omega) I2 ?_ g2) (by simp [zwk])
              show I2 23 = clsS W e no rd hr i (clsN W e no rd hr s i)
              rw [hu, clsS, if_neg (by simp [leav, e1, h40, h48, h57])]
              exact hs
        · refine Z_ifeq 163 dX5_closes_43 rfl (fun _ => ?_) (fun h => absurd h (by decide))
          refine Z_iincN (a := _) (k := 1) (lv' := [_, _, _, _, _, _, _, _]) dX5_closes_163 rfl rfl rfl rfl ?_
          refine Z_goto 9 dX5_closes_166 rfl ?_
          refine Z_fgt (ih (by omega) I2 ?_ g2) (by simp [zwk])
          show I2 23 = clsS W e no rd hr i (clsN W e no rd hr s i)
          rw [hu, clsS, if_neg (by simp [leav, e1, h40])]
          exact hs
  exact lp9 0 (by omega) I hs fr.rf
theorem c_X5_closes (hM : mOk P S) (hW : wld I = W) (hs : I 23 = s) (hw : wf W no n) (hsf : sf W no n s) {hr : Nat} (h0 : s 0 = nI hr) (hr9 : hr ≤ 2399) {rd : Int32} (h34 : I 0 34 = rd) {ro : Option (List Nat)} (hru : ruM W ro) (k : ∀ I2, I2 23 = clss W ro no n rd hr s → fr tC I I2 → Q (.inl none) I2 L P S) : Zm G mX5_closes 7 C Sl [.ref 0] I L P S Q := by
  cases ro with
  | none => exact c_closes0 hM hW hs hw hru (k I hs fr.rf)
  | some e => exact c_closes1 hM hW hs hw hsf h0 hr9 h34 hru k
end M7
