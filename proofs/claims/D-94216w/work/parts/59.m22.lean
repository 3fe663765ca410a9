set_option maxRecDepth 100000
/-! THE MODEL, part 22: an office more; all in one house -/
section M22
variable {G : zG} {d C Sl : Nat} {I D W : zI} {R : List Int64} {L : zL} {P : zR} {S : zT} {Q : zQ} {no n np : Nat} {s : zS}
set_option maxHeartbeats 4000000 in
theorem s_site (hR : mR D R I L P S) (hw : wf (wld D) no n) (hi9 : ∀ j, 127 ≤ j → D 23 j = 0) {ro : Option (List Nat)} (hru : ruM (wld D) ro) (h5 : no < 6) (h3 : D 0 3 = nI no) {l c v u : Int32} {h : Nat} (hh : h ≤ 2399) (kt : ∀ I2 L2 b, minF (sitO D ro no n l c v h) 24 = some b → mR (sitD D no l c v 24) [(nI b.2).toInt64, u.toInt64] I2 L2 P S → frM I L I2 L2 → Q (.inl (some (.int (nI b.1)))) I2 L2 P S) (kf : ∀ I2, minF (sitO D ro no n l c v h) 24 = none → mR (sitD D no l c v 24) R I2 L P S → frM I L I2 L → Q (.inl (some (.int (-2)))) I2 L P S) : Zj G mX5_site 12 C Sl 109 [.ref 0, .int l, .int c, .int v, .int (nI h), .int (nI 1), .int u, .retAddr 0, .retAddr 0, .retAddr 0, .retAddr 0] [] I L P S Q := by
  have hM := hR.1
  refine Z_bipush (-2) dX5_site_109 rfl ?_
  refine Z_istore (lv' := [_, _, _, _, _, _, _, _, _, _, _]) dX5_site_111 rfl rfl (Nat.le_of_ble_eq_true rfl) ?_
  refine Z_iconst (nI 0) dX5_site_113 rfl ?_
  refine Z_istore (lv' := [_, _, _, _, _, _, _, _, _, _, _]) dX5_site_114 rfl rfl (Nat.le_of_ble_eq_true rfl) ?_
  refine Z_iconst (nI 0) dX5_site_116 rfl ?_
  refine Z_istore (lv' := [_, _, _, _, _, _, _, _, _, _, _]) dX5_site_117 rfl rfl (Nat.le_of_ble_eq_true rfl) ?_
  have lp119 : ∀ z, z ≤ 24 → ∀ I2, mR (sitD D no l c v z) R I2 L P S → frM I L I2 L → Zj G mX5_site 12 C Sl 119 [.ref 0, .int l, .int c, .int v, .int (nI h), .int (nI 1), .int u, .int (bsV (minF (sitO D ro no n l c v h) z)), .int (snV (minF (sitO D ro no n l c v h) z)), .int (nI z), .retAddr 0] [] I2 L P S Q := by
    refine zloop (24) (fun z => ∀ I2, mR (sitD D no l c v z) R I2 L P S → frM I L I2 L → Zj G mX5_site 12 C Sl 119 [.ref 0, .int l, .int c, .int v, .int (nI h), .int (nI 1), .int u, .int (bsV (minF (sitO D ro no n l c v h) z)), .int (snV (minF (sitO D ro no n l c v h) z)), .int (nI z), .retAddr 0] [] I2 L P S Q) (fun z hz ih => ?_)
    intro I2 g1 g2
    show Zj _ _ _ _ _ _ _ _ _ _ _ _ _
    refine Z_iload dX5_site_119 rfl ?_
    refine Z_bipush (nI 24) dX5_site_121 rfl ?_
    refine Z_icmpgeN 226 dX5_site_123 rfl (by omega) (by omega) (fun c123 => ?_) (fun c123 => ?_)
    · have ez : z = 24 := by omega
      rw [ez] at g1
      rw [ez]
      obtain ⟨m0, hm⟩ : ∃ m0, minF (sitO D ro no n l c v h) 24 = m0 := ⟨_, rfl⟩
      rw [hm]
      rcases m0 with _ | b
      · dsimp only [bsV, snV]
        refine Z_iload dX5_site_226 rfl ?_
        refine Z_iflt 250 dX5_site_228 rfl (fun c228 => ?_) (fun c228 => ?_)
        · refine Z_iload dX5_site_250 rfl ?_
          refine Z_ireturn dX5_site_252 rfl rfl ?_
          exact kf _ hm g1 g2
        · exact absurd (by decide) c228
      · dsimp only [bsV, snV]
        have hb1 := minF_mem _ _ hm
        have hb2 := sitO_b hw hi9 h5 hh hb1.2
        refine Z_iload dX5_site_226 rfl ?_
        refine Z_ifltN 250 dX5_site_228 rfl (by omega) ?_
        refine Z_aload_n dX5_site_231 rfl ?_
        refine Z_iconst (nI 0) dX5_site_232 rfl ?_
        refine Z_putI hM.1 fX5_11_4 dX5_site_233 rfl rfl rfl ?_
        refine Z_aload_n dX5_site_236 rfl ?_
        refine Z_iload dX5_site_237 rfl ?_
        refine Z_i2l dX5_site_239 ?_
        refine Z_call0 (d' := 0) (zCal_V gX5_18 nX5_enters (by decide) dX5_site_240) pX5_enters hM.1 zkl4 [_] rfl rfl (Nat.le_of_ble_eq_true rfl) (by omega) (c_tell (mR_t0 g1) (by simp) (fun J1 M1 t1 q1 => ?_))
        refine Z_aload_n dX5_site_243 rfl ?_
        refine Z_iload dX5_site_244 rfl ?_
        refine Z_i2l dX5_site_246 ?_
        refine Z_call0 (d' := 0) (zCal_V gX5_18 nX5_enters (by decide) dX5_site_247) pX5_enters hM.1 zkl4 [_] rfl rfl (Nat.le_of_ble_eq_true rfl) (by omega) (c_tell t1 (by simp) (fun J2 M2 t2 q2 => ?_))
        refine Z_iload dX5_site_250 rfl ?_
        refine Z_ireturn dX5_site_252 rfl rfl ?_
        exact kt _ _ b hm t2 (((g2.tr (frM.rf.st (by decide))).tr q1).tr q2)
    · refine Z_aload_n dX5_site_126 rfl ?_
      refine Z_iload dX5_site_127 rfl ?_
      refine Z_bipush (nI 9) dX5_site_129 rfl ?_
      refine Z_iload_n dX5_site_131 rfl ?_
      refine Z_iconst (nI 1) dX5_site_132 rfl ?_
      refine Z_iload_n dX5_site_133 rfl ?_
      refine Z_bipush (nI 64) dX5_site_134 rfl ?_
      refine Z_idiv dX5_site_136 (by decide) ?_
      refine Z_iload_n dX5_site_137 rfl ?_
      refine Z_bipush (nI 64) dX5_site_138 rfl ?_
      refine Z_irem dX5_site_140 (by decide) ?_
      refine Z_call0 (d' := 0) (zCal_V gX5_73 nX5_opens (by decide) dX5_site_141) pX5_opens hM.1 zkl4 [_, _, _, _, _, _] rfl rfl (Nat.le_of_ble_eq_true rfl) (by omega) (c_X5_opens g1 (o := no) ((congrFun (sitD_0 h3 z) 3).trans h3) h5 (fun I3 g3 x3 => ?_))
      refine Z_iconst (nI 0) dX5_site_144 rfl ?_
      refine Z_istore (lv' := [_, _, _, _, _, _, _, _, _, _, _]) dX5_site_145 rfl rfl (Nat.le_of_ble_eq_true rfl) ?_
      have lp147 : ∀ a, a ≤ no → ∀ I3, mR (kn1 (opnS (sitD D no l c v z) no (nI z) (nI 9) l (nI 1) (c / nI 64) (c - c / nI 64 * nI 64)) no v a) R I3 L P S → frM I2 L I3 L → Zj G mX5_site 12 C Sl 147 [.ref 0, .int l, .int c, .int v, .int (nI h), .int (nI 1), .int u, .int (bsV (minF (sitO D ro no n l c v h) z)), .int (snV (minF (sitO D ro no n l c v h) z)), .int (nI z), .int (nI a)] [] I3 L P S Q := by
        refine zloop (no) (fun a => ∀ I3, mR (kn1 (opnS (sitD D no l c v z) no (nI z) (nI 9) l (nI 1) (c / nI 64) (c - c / nI 64 * nI 64)) no v a) R I3 L P S → frM I2 L I3 L → Zj G mX5_site 12 C Sl 147 [.ref 0, .int l, .int c, .int v, .int (nI h), .int (nI 1), .int u, .int (bsV (minF (sitO D ro no n l c v h) z)), .int (snV (minF (sitO D ro no n l c v h) z)), .int (nI z), .int (nI a)] [] I3 L P S Q) (fun a ha iha => ?_)
        intro I3 g3 x3
        show Zj _ _ _ _ _ _ _ _ _ _ _ _ _
        refine Z_iload dX5_site_147 rfl ?_
        refine Z_iconst (nI 1) dX5_site_149 rfl ?_
        refine Z_iaddN dX5_site_150 ?_
        refine Z_aload_n dX5_site_151 rfl ?_
        refine Z_getI hM.1 fX5_22_4 dX5_site_152 rfl ?_
        refine Z_re (y := nI (no + 1)) ((dr g3.2.2.1 rfl).trans ((congrFun (kn1_n (by decide) a) 3).trans opnS_3)) ?_
        refine Z_icmpgeN 177 dX5_site_155 rfl (by omega) (by omega) (fun c155 => ?_) (fun c155 => ?_)
        · have ea : a = no := by omega
          rw [ea] at g3
          refine Z_aload_n dX5_site_177 rfl ?_
          refine Z_iload dX5_site_178 rfl ?_
          refine Z_call0 (d' := 10) (zCal_V gX5_422 nX5_endsFrom (by decide) dX5_site_180) pX5_endsFrom hM.1 zkl4 [_] rfl rfl (Nat.le_of_ble_eq_true rfl) (by omega) (c_endsFromR (D := sitZ (sitD D no l c v z) no l c v z) g3 (sit_wf hw h5) (by rw [sit_23]; exact hi9) (sit_ru hru) hh (fun J1 s1 t1 p1a p1b p1c g4 x4 e4 => ?_) (fun J1 p1a g4 x4 e4 => ?_))
          · rw [sit_23] at p1a
            refine Z_istore (lv' := [_, _, _, _, _, _, _, _, _, _, _]) dX5_site_183 rfl rfl (Nat.le_of_ble_eq_true rfl) ?_
            refine Z_aload_n dX5_site_185 rfl ?_
            refine Z_dup dX5_site_186 rfl ?_
            refine Z_getI hM.1 fX5_22_4 dX5_site_187 rfl ?_
            refine Z_re (y := nI (no + 1)) ((dr g4.2.2.1 rfl).trans ((congrFun sitZ_0 3).trans (zu_s _ _ _))) ?_
            refine Z_iconst (nI 1) dX5_site_190 rfl ?_
            refine Z_isubN dX5_site_191 (by omega) ?_
            refine Z_putI hM.1 fX5_22_4 dX5_site_192 rfl rfl rfl ?_
            refine Z_iload dX5_site_195 rfl ?_
            refine Z_ifltN 220 dX5_site_197 rfl (by omega) ?_
            obtain ⟨m0, hm⟩ : ∃ m0, minF (sitO D ro no n l c v h) z = m0 := ⟨_, rfl⟩
            rw [hm]
            rcases m0 with _ | b
            · dsimp only [bsV, snV]
              refine Z_iload dX5_site_200 rfl ?_
              refine Z_iflt 212 dX5_site_202 rfl (fun c202 => ?_) (fun c202 => ?_)
              · refine Z_iload dX5_site_212 rfl ?_
                refine Z_istore (lv' := [_, _, _, _, _, _, _, _, _, _, _]) dX5_site_214 rfl rfl (Nat.le_of_ble_eq_true rfl) ?_
                refine Z_iload dX5_site_216 rfl ?_
                refine Z_istore (lv' := [_, _, _, _, _, _, _, _, _, _, _]) dX5_site_218 rfl rfl (Nat.le_of_ble_eq_true rfl) ?_
                refine Z_iincN (a := _) (k := 1) (lv' := [_, _, _, _, _, _, _, _, _, _, _]) dX5_site_220 rfl rfl rfl rfl ?_
                refine Z_goto 119 dX5_site_223 rfl ?_
                have g9 : mR (sitD D no l c v (z + 1)) R _ L P S := g4.zw (a := 0) (k := 3) (v := nI no) rfl
                have f9 := ((g2.tr x3).tr x4).tr (frM.rf.st (a := 0) (k := 3) (v := nI no) (by decide))
                have ev : (sitO D ro no n l c v h) z = some t1 := by show endO (pEnd _ _ _ _ _) = _; rw [p1a]; show some (s1 0).toNatClampNeg = _; rw [p1b, nI_clamp (by omega)]
                have e : minF (sitO D ro no n l c v h) (z + 1) = some (z, t1) := by simp [minF, ev, hm]
                have ih2 := ih (by omega) _ g9 f9
                rw [e] at ih2
                exact Z_fgt ih2 (by repeat first | exact zwk_n | refine zwk_f ?_ | refine zwk_c rfl ?_)
              · exact absurd (by decide) c202
            · dsimp only [bsV, snV]
              have hb1 := minF_mem _ _ hm
              have hb2 := sitO_b hw hi9 h5 hh hb1.2
              refine Z_iload dX5_site_200 rfl ?_
              refine Z_ifltN 212 dX5_site_202 rfl (by omega) ?_
              refine Z_iload dX5_site_205 rfl ?_
              refine Z_iload dX5_site_207 rfl ?_
              refine Z_icmpgeN 220 dX5_site_209 rfl (by omega) (by omega) (fun c209 => ?_) (fun c209 => ?_)
              · refine Z_iincN (a := _) (k := 1) (lv' := [_, _, _, _, _, _, _, _, _, _, _]) dX5_site_220 rfl rfl rfl rfl ?_
                refine Z_goto 119 dX5_site_223 rfl ?_
                have g9 : mR (sitD D no l c v (z + 1)) R _ L P S := g4.zw (a := 0) (k := 3) (v := nI no) rfl
                have f9 := ((g2.tr x3).tr x4).tr (frM.rf.st (a := 0) (k := 3) (v := nI no) (by decide))
                have ev : (sitO D ro no n l c v h) z = some t1 := by show endO (pEnd _ _ _ _ _) = _; rw [p1a]; show some (s1 0).toNatClampNeg = _; rw [p1b, nI_clamp (by omega)]
                have e : minF (sitO D ro no n l c v h) (z + 1) = some b := by simp [minF, ev, hm, c209]
                have ih2 := ih (by omega) _ g9 f9
                rw [e] at ih2
                exact Z_fgt ih2 (by repeat first | exact zwk_n | refine zwk_f ?_ | refine zwk_c rfl ?_)
              · refine Z_iload dX5_site_212 rfl ?_
                refine Z_istore (lv' := [_, _, _, _, _, _, _, _, _, _, _]) dX5_site_214 rfl rfl (Nat.le_of_ble_eq_true rfl) ?_
                refine Z_iload dX5_site_216 rfl ?_
                refine Z_istore (lv' := [_, _, _, _, _, _, _, _, _, _, _]) dX5_site_218 rfl rfl (Nat.le_of_ble_eq_true rfl) ?_
                refine Z_iincN (a := _) (k := 1) (lv' := [_, _, _, _, _, _, _, _, _, _, _]) dX5_site_220 rfl rfl rfl rfl ?_
                refine Z_goto 119 dX5_site_223 rfl ?_
                have g9 : mR (sitD D no l c v (z + 1)) R _ L P S := g4.zw (a := 0) (k := 3) (v := nI no) rfl
                have f9 := ((g2.tr x3).tr x4).tr (frM.rf.st (a := 0) (k := 3) (v := nI no) (by decide))
                have ev : (sitO D ro no n l c v h) z = some t1 := by show endO (pEnd _ _ _ _ _) = _; rw [p1a]; show some (s1 0).toNatClampNeg = _; rw [p1b, nI_clamp (by omega)]
                have e : minF (sitO D ro no n l c v h) (z + 1) = some (z, t1) := by simp [minF, ev, hm, Nat.not_le.mpr c209]
                have ih2 := ih (by omega) _ g9 f9
                rw [e] at ih2
                exact Z_fgt ih2 (by repeat first | exact zwk_n | refine zwk_f ?_ | refine zwk_c rfl ?_)
          · rw [sit_23] at p1a
            refine Z_istore (lv' := [_, _, _, _, _, _, _, _, _, _, _]) dX5_site_183 rfl rfl (Nat.le_of_ble_eq_true rfl) ?_
            refine Z_aload_n dX5_site_185 rfl ?_
            refine Z_dup dX5_site_186 rfl ?_
            refine Z_getI hM.1 fX5_22_4 dX5_site_187 rfl ?_
            refine Z_re (y := nI (no + 1)) ((dr g4.2.2.1 rfl).trans ((congrFun sitZ_0 3).trans (zu_s _ _ _))) ?_
            refine Z_iconst (nI 1) dX5_site_190 rfl ?_
            refine Z_isubN dX5_site_191 (by omega) ?_
            refine Z_putI hM.1 fX5_22_4 dX5_site_192 rfl rfl rfl ?_
            refine Z_iload dX5_site_195 rfl ?_
            refine Z_iflt 220 dX5_site_197 rfl (fun c197 => ?_) (fun c197 => ?_)
            · refine Z_iincN (a := _) (k := 1) (lv' := [_, _, _, _, _, _, _, _, _, _, _]) dX5_site_220 rfl rfl rfl rfl ?_
              refine Z_goto 119 dX5_site_223 rfl ?_
              have g9 : mR (sitD D no l c v (z + 1)) R _ L P S := g4.zw (a := 0) (k := 3) (v := nI no) rfl
              have f9 := ((g2.tr x3).tr x4).tr (frM.rf.st (a := 0) (k := 3) (v := nI no) (by decide))
              have ev : (sitO D ro no n l c v h) z = none := by show endO (pEnd _ _ _ _ _) = _; rw [p1a]; rfl
              have e : minF (sitO D ro no n l c v h) (z + 1) = minF (sitO D ro no n l c v h) z := by simp [minF, ev]
              have ih2 := ih (by omega) _ g9 f9
              rw [e] at ih2
              exact Z_fgt ih2 (by repeat first | exact zwk_n | refine zwk_f ?_ | refine zwk_c rfl ?_)
            · exact absurd (by decide) c197
        · refine Z_aload_n dX5_site_158 rfl ?_
          refine Z_iload dX5_site_159 rfl ?_
          refine Z_aload_n dX5_site_161 rfl ?_
          refine Z_getI hM.1 fX5_22_4 dX5_site_162 rfl ?_
          refine Z_re (y := nI (no + 1)) ((dr g3.2.2.1 rfl).trans ((congrFun (kn1_n (by decide) a) 3).trans opnS_3)) ?_
          refine Z_iconst (nI 1) dX5_site_165 rfl ?_
          refine Z_isubN dX5_site_166 (by omega) ?_
          refine Z_iload_n dX5_site_167 rfl ?_
          refine Z_call0 (d' := 0) (zCal_V gX5_89 nX5_knows (by decide) dX5_site_168) pX5_knows hM.1 zkl4 [_, _, _] rfl rfl (Nat.le_of_ble_eq_true rfl) (by omega) (c_X5_knows hM (by omega) (by omega) ?_)
          refine Z_iincN (a := _) (k := 1) (lv' := [_, _, _, _, _, _, _, _, _, _, _]) dX5_site_171 rfl rfl rfl rfl ?_
          refine Z_goto 147 dX5_site_174 rfl ?_
          exact iha (by omega) _ (by rw [kn1]; exact g3.kn) x3.kn
      exact lp147 0 (by omega) _ g3 x3
  exact lp119 0 (by omega) I hR frM.rf
set_option maxHeartbeats 4000000 in
theorem o_site (hR : mR D R I L P S) (hw : wf (wld D) no n) (hi9 : ∀ j, 127 ≤ j → D 23 j = 0) {ro : Option (List Nat)} (hru : ruM (wld D) ro) {l c v h : Int32} (k : ∀ I2 L2, mR (fSite D R ro no n l c v h).2.1 (fSite D R ro no n l c v h).2.2 I2 L2 P S → frM I L I2 L2 → Q (.inl (some (.int (fSite D R ro no n l c v h).1))) I2 L2 P S) : Zm G mX5_site 12 C Sl [.ref 0, .int l, .int c, .int v, .int h] I L P S Q := by
  have h3 : D 0 3 = nI no := hw.o3
  have hM := hR.1
  refine Z_entry (lv := [_, _, _, _, _, _, _, _, _, _, _]) (Nat.le_of_ble_eq_true rfl) rfl ?_
  refine Z_aload_n dX5_site_0 rfl ?_
  refine Z_iconst (nI 0) dX5_site_1 rfl ?_
  refine Z_putI hM.1 fX5_3_4 dX5_site_2 rfl rfl rfl ?_
  refine Z_start hR (fun I1 hR1 f1 h00 => ?_)
  have hw8 := hw.n8
  have hw6 := hw.o6
  have hM := hR1.1
  have hD : mdat I1 = D := hR1.2.2.1
  have hW : wld I1 = wld D := wld_mdat hD
  have hs : I1 23 = D 23 := funext fun j => dr hD rfl
  have hno : noD D = no := by rw [noD, show D 0 3 = nI no from hw.o3, nI_clamp (by omega)]
  have hnn : nD D = n := by rw [nD, show D 0 16 = nI n from hw.n16, nI_clamp (by omega)]
  have hI3 : I1 0 3 = nI no := (wr hW rfl).trans hw.o3
  have hI16 : I1 0 16 = nI n := (wr hW rfl).trans hw.n16
  refine Z_iload_n dX5_site_5 rfl ?_
  refine Z_i2l dX5_site_6 ?_
  refine Z_lconst (1) dX5_site_7 rfl ?_
  refine Z_ldc2 q1243 dX5_site_8 ?_
  refine Z_callS0 (d' := 0) (zCal_S gX5_25 nX5_in (by decide) dX5_site_11) pX5_in [_, _, _] rfl rfl (Nat.le_of_ble_eq_true rfl) (by omega) (c_X5_in (fun h11a h11b => ?_) (fun h11 => ?_))
  · rw [z_i64] at h11a h11b
    have r11 : rB (l) 1 16 = true := rB_t h11a h11b
    refine Z_ifeq 75 dX5_site_14 rfl (fun h => absurd h (by decide)) (fun _ => ?_)
    refine Z_iload_n dX5_site_17 rfl ?_
    refine Z_iflt 75 dX5_site_18 rfl (fun c18 => ?_) (fun c18 => ?_)
    · refine Z_iconst (nI 0) dX5_site_75 rfl ?_
      refine Z_istore (lv' := [_, _, _, _, _, _, _, _, _, _, _]) dX5_site_76 rfl rfl (Nat.le_of_ble_eq_true rfl) ?_
      refine Z_iload dX5_site_78 rfl ?_
      refine Z_ifeq 99 dX5_site_80 rfl (fun _ => ?_) (fun h => absurd h (by decide))
      refine Z_iconst (-1) dX5_site_99 rfl ?_
      refine Z_ireturn dX5_site_100 rfl rfl ?_
      exact zO_k (by simp [fSite, h3, show D 0 16 = nI n from hw.n16, nI_eq, nI_0, r11, c18]) k hR1 f1
    · refine Z_iload_n dX5_site_21 rfl ?_
      refine Z_bipush (nI 64) dX5_site_22 rfl ?_
      refine Z_idiv dX5_site_24 (by decide) ?_
      refine Z_i2l dX5_site_25 ?_
      refine Z_lconst (1) dX5_site_26 rfl ?_
      refine Z_ldc2 q1245 dX5_site_27 ?_
      refine Z_callS0 (d' := 0) (zCal_S gX5_25 nX5_in (by decide) dX5_site_30) pX5_in [_, _, _] rfl rfl (Nat.le_of_ble_eq_true rfl) (by omega) (c_X5_in (fun h30a h30b => ?_) (fun h30 => ?_))
      · rw [z_i64] at h30a h30b
        have r30 : rB (c / nI 64) 1 9 = true := rB_t h30a h30b
        refine Z_ifeq 75 dX5_site_33 rfl (fun h => absurd h (by decide)) (fun _ => ?_)
        refine Z_iload_n dX5_site_36 rfl ?_
        refine Z_bipush (nI 64) dX5_site_37 rfl ?_
        refine Z_irem dX5_site_39 (by decide) ?_
        refine Z_i2l dX5_site_40 ?_
        refine Z_lconst (1) dX5_site_41 rfl ?_
        refine Z_ldc2 q1246 dX5_site_42 ?_
        refine Z_callS0 (d' := 0) (zCal_S gX5_25 nX5_in (by decide) dX5_site_45) pX5_in [_, _, _] rfl rfl (Nat.le_of_ble_eq_true rfl) (by omega) (c_X5_in (fun h45a h45b => ?_) (fun h45 => ?_))
        · rw [z_i64] at h45a h45b
          have r45 : rB (c - c / nI 64 * nI 64) 1 63 = true := rB_t h45a h45b
          refine Z_ifeq 75 dX5_site_48 rfl (fun h => absurd h (by decide)) (fun _ => ?_)
          refine Z_iload_n dX5_site_51 rfl ?_
          refine Z_i2l dX5_site_52 ?_
          refine Z_lconst (0) dX5_site_53 rfl ?_
          refine Z_ldc2 q1245 dX5_site_54 ?_
          refine Z_callS0 (d' := 0) (zCal_S gX5_25 nX5_in (by decide) dX5_site_57) pX5_in [_, _, _] rfl rfl (Nat.le_of_ble_eq_true rfl) (by omega) (c_X5_in (fun h57a h57b => ?_) (fun h57 => ?_))
          · rw [z_i64] at h57a h57b
            have r57 : rB (v) 0 9 = true := rB_t h57a h57b
            refine Z_ifeq 75 dX5_site_60 rfl (fun h => absurd h (by decide)) (fun _ => ?_)
            refine Z_iload dX5_site_63 rfl ?_
            refine Z_callS0 (d' := 1) (zCal_S gX5_81 nX5_isHour (by decide) dX5_site_65) pX5_isHour [_] rfl rfl (Nat.le_of_ble_eq_true rfl) (by omega) (c_X5_isHour (fun h65a h65b => ?_) (fun h65 => ?_))
            · have r65 : rB h 0 2399 = true := rB_t h65a h65b
              obtain ⟨k65, hk65, e65⟩ := z_rng (n := 2399) h65a h65b (by omega)
              subst e65
              have v65 : (nI k65).toNatClampNeg = k65 := nI_clamp (by omega)
              refine Z_ifeq 75 dX5_site_68 rfl (fun h => absurd h (by decide)) (fun _ => ?_)
              refine Z_iconst (nI 1) dX5_site_71 rfl ?_
              refine Z_goto 76 dX5_site_72 rfl ?_
              refine Z_istore (lv' := [_, _, _, _, _, _, _, _, _, _, _]) dX5_site_76 rfl rfl (Nat.le_of_ble_eq_true rfl) ?_
              refine Z_iload dX5_site_78 rfl ?_
              refine Z_ifeq 99 dX5_site_80 rfl (fun h => absurd h (by decide)) (fun _ => ?_)
              refine Z_aload_n dX5_site_83 rfl ?_
              refine Z_getI hM.1 fX5_22_4 dX5_site_84 rfl ?_
              refine Z_re (y := nI (no)) hI3 ?_
              refine Z_bipush (nI 6) dX5_site_87 rfl ?_
              refine Z_icmpeqN 99 dX5_site_89 rfl (by omega) (by omega) (fun c89 => ?_) (fun c89 => ?_)
              · refine Z_iconst (-1) dX5_site_99 rfl ?_
                refine Z_ireturn dX5_site_100 rfl rfl ?_
                exact zO_k (by simp [fSite, h3, show D 0 16 = nI n from hw.n16, nI_eq, nI_0, r11, c18, r30, r45, r57, r65, v65, c89]) k hR1 f1
              · refine Z_aload_n dX5_site_92 rfl ?_
                refine Z_getI hM.1 fX5_151_4 dX5_site_93 rfl ?_
                refine Z_re (y := nI (n)) hI16 ?_
                refine Z_ifneN 101 dX5_site_96 rfl (by omega) (fun c96 => ?_) (fun c96 => ?_)
                · refine Z_aload_n dX5_site_101 rfl ?_
                  refine Z_iload dX5_site_102 rfl ?_
                  refine Z_call0 (d' := 10) (zCal_V gX5_422 nX5_endsFrom (by decide) dX5_site_104) pX5_endsFrom hM.1 zkl4 [_] rfl rfl (Nat.le_of_ble_eq_true rfl) (by omega) (c_endsFromR hR1 hw hi9 hru (by omega) (fun J0 s1 t1 p1a p1b p1c g0 x0 e0 => ?_) (fun J0 p1a g0 x0 e0 => ?_))
                  · refine Z_istore (lv' := [_, _, _, _, _, _, _, _, _, _, _]) dX5_site_107 rfl rfl (Nat.le_of_ble_eq_true rfl) ?_
                    have ew : endV (pEnd (wld D) ro no n (begS (wld D) (D 23) n k65)) = nI t1 := by rw [p1a]; exact p1b
                    exact s_site g0 hw hi9 hru (by omega) h3 (by omega) (fun I2 L2 b hm g q => zO_k (by rw [fSite, if_pos (by rw [r11, decide_eq_false c18, r30, r45, r57, r65, decide_eq_false (fun e => c89 ((nI_eq (by omega) (by decide)).mp (h3.symm.trans e))), decide_eq_false (fun e => c96 ((nI_z (by omega)).mp ((show D 0 16 = nI n from hw.n16).symm.trans e)))]; rfl), v65, hm, ew]) k g ((f1.tr x0).tr q)) (fun I2 hm g q => zO_k (by rw [fSite, if_pos (by rw [r11, decide_eq_false c18, r30, r45, r57, r65, decide_eq_false (fun e => c89 ((nI_eq (by omega) (by decide)).mp (h3.symm.trans e))), decide_eq_false (fun e => c96 ((nI_z (by omega)).mp ((show D 0 16 = nI n from hw.n16).symm.trans e)))]; rfl), v65, hm]) k g ((f1.tr x0).tr q))
                  · refine Z_istore (lv' := [_, _, _, _, _, _, _, _, _, _, _]) dX5_site_107 rfl rfl (Nat.le_of_ble_eq_true rfl) ?_
                    have ew : endV (pEnd (wld D) ro no n (begS (wld D) (D 23) n k65)) = -1 := by rw [p1a]; rfl
                    exact s_site g0 hw hi9 hru (by omega) h3 (by omega) (fun I2 L2 b hm g q => zO_k (by rw [fSite, if_pos (by rw [r11, decide_eq_false c18, r30, r45, r57, r65, decide_eq_false (fun e => c89 ((nI_eq (by omega) (by decide)).mp (h3.symm.trans e))), decide_eq_false (fun e => c96 ((nI_z (by omega)).mp ((show D 0 16 = nI n from hw.n16).symm.trans e)))]; rfl), v65, hm, ew]) k g ((f1.tr x0).tr q)) (fun I2 hm g q => zO_k (by rw [fSite, if_pos (by rw [r11, decide_eq_false c18, r30, r45, r57, r65, decide_eq_false (fun e => c89 ((nI_eq (by omega) (by decide)).mp (h3.symm.trans e))), decide_eq_false (fun e => c96 ((nI_z (by omega)).mp ((show D 0 16 = nI n from hw.n16).symm.trans e)))]; rfl), v65, hm]) k g ((f1.tr x0).tr q))
                · refine Z_iconst (-1) dX5_site_99 rfl ?_
                  refine Z_ireturn dX5_site_100 rfl rfl ?_
                  exact zO_k (by simp [fSite, h3, show D 0 16 = nI n from hw.n16, nI_eq, nI_0, r11, c18, r30, r45, r57, r65, v65, c89, c96]) k hR1 f1
            · have r65 : rB h 0 2399 = false := rB_f h65
              refine Z_ifeq 75 dX5_site_68 rfl (fun _ => ?_) (fun h => absurd h (by decide))
              refine Z_iconst (nI 0) dX5_site_75 rfl ?_
              refine Z_istore (lv' := [_, _, _, _, _, _, _, _, _, _, _]) dX5_site_76 rfl rfl (Nat.le_of_ble_eq_true rfl) ?_
              refine Z_iload dX5_site_78 rfl ?_
              refine Z_ifeq 99 dX5_site_80 rfl (fun _ => ?_) (fun h => absurd h (by decide))
              refine Z_iconst (-1) dX5_site_99 rfl ?_
              refine Z_ireturn dX5_site_100 rfl rfl ?_
              exact zO_k (by simp [fSite, h3, show D 0 16 = nI n from hw.n16, nI_eq, nI_0, r11, c18, r30, r45, r57, r65]) k hR1 f1
          · rw [z_i64] at h57
            have r57 : rB (v) 0 9 = false := rB_f h57
            refine Z_ifeq 75 dX5_site_60 rfl (fun _ => ?_) (fun h => absurd h (by decide))
            refine Z_iconst (nI 0) dX5_site_75 rfl ?_
            refine Z_istore (lv' := [_, _, _, _, _, _, _, _, _, _, _]) dX5_site_76 rfl rfl (Nat.le_of_ble_eq_true rfl) ?_
            refine Z_iload dX5_site_78 rfl ?_
            refine Z_ifeq 99 dX5_site_80 rfl (fun _ => ?_) (fun h => absurd h (by decide))
            refine Z_iconst (-1) dX5_site_99 rfl ?_
            refine Z_ireturn dX5_site_100 rfl rfl ?_
            exact zO_k (by simp [fSite, h3, show D 0 16 = nI n from hw.n16, nI_eq, nI_0, r11, c18, r30, r45, r57]) k hR1 f1
        · rw [z_i64] at h45
          have r45 : rB (c - c / nI 64 * nI 64) 1 63 = false := rB_f h45
          refine Z_ifeq 75 dX5_site_48 rfl (fun _ => ?_) (fun h => absurd h (by decide))
          refine Z_iconst (nI 0) dX5_site_75 rfl ?_
          refine Z_istore (lv' := [_, _, _, _, _, _, _, _, _, _, _]) dX5_site_76 rfl rfl (Nat.le_of_ble_eq_true rfl) ?_
          refine Z_iload dX5_site_78 rfl ?_
          refine Z_ifeq 99 dX5_site_80 rfl (fun _ => ?_) (fun h => absurd h (by decide))
          refine Z_iconst (-1) dX5_site_99 rfl ?_
          refine Z_ireturn dX5_site_100 rfl rfl ?_
          exact zO_k (by simp [fSite, h3, show D 0 16 = nI n from hw.n16, nI_eq, nI_0, r11, c18, r30, r45]) k hR1 f1
      · rw [z_i64] at h30
        have r30 : rB (c / nI 64) 1 9 = false := rB_f h30
        refine Z_ifeq 75 dX5_site_33 rfl (fun _ => ?_) (fun h => absurd h (by decide))
        refine Z_iconst (nI 0) dX5_site_75 rfl ?_
        refine Z_istore (lv' := [_, _, _, _, _, _, _, _, _, _, _]) dX5_site_76 rfl rfl (Nat.le_of_ble_eq_true rfl) ?_
        refine Z_iload dX5_site_78 rfl ?_
        refine Z_ifeq 99 dX5_site_80 rfl (fun _ => ?_) (fun h => absurd h (by decide))
        refine Z_iconst (-1) dX5_site_99 rfl ?_
        refine Z_ireturn dX5_site_100 rfl rfl ?_
        exact zO_k (by simp [fSite, h3, show D 0 16 = nI n from hw.n16, nI_eq, nI_0, r11, c18, r30]) k hR1 f1
  · rw [z_i64] at h11
    have r11 : rB (l) 1 16 = false := rB_f h11
    refine Z_ifeq 75 dX5_site_14 rfl (fun _ => ?_) (fun h => absurd h (by decide))
    refine Z_iconst (nI 0) dX5_site_75 rfl ?_
    refine Z_istore (lv' := [_, _, _, _, _, _, _, _, _, _, _]) dX5_site_76 rfl rfl (Nat.le_of_ble_eq_true rfl) ?_
    refine Z_iload dX5_site_78 rfl ?_
    refine Z_ifeq 99 dX5_site_80 rfl (fun _ => ?_) (fun h => absurd h (by decide))
    refine Z_iconst (-1) dX5_site_99 rfl ?_
    refine Z_ireturn dX5_site_100 rfl rfl ?_
    exact zO_k (by simp [fSite, h3, show D 0 16 = nI n from hw.n16, nI_eq, nI_0, r11]) k hR1 f1
end M22
