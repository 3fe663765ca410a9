set_option maxRecDepth 100000
/-! THE COMPONENT, part 19: whom to bring together -/
section X19C
variable {G : zG} {d C Sl : Nat} {I D W : zI} {R : List Int64} {L : zL} {P : zR} {S : zT} {Q : zQ} {no n np : Nat} {s : zS} {oh ph : Nat → Nat} {ro : Option (List Nat)}
def xwB (m : Option (Nat × Nat)) : Int32 := match m with
  | none => -1
  | some b => nI b.1
def xwS (m : Option (Nat × Nat)) : Int32 := match m with
  | none => nI 0
  | some b => nI b.2
theorem prX.fr {D I I2 : zI} {np : Nat} (h : prX D I np) (h3 : I2 303 = I 303) (h4 : I2 304 = I 304) (h5 : I2 305 = I 305) : prX D I2 np := fun k hk => by rw [h3, h4, h5]; exact h k hk
set_option maxHeartbeats 8000000 in
theorem o_xwhom (hX : xR D R no n np ro oh ph I L P S) (hi9 : ∀ j, 127 ≤ j → D 23 j = 0) (h37 : ro ≠ none → wld D 0 37 = 0) (hn9 : np ≤ 9) (hprs : prs D no np) (hprd : prd D np) {c h : Int32} (k : ∀ I2 L2 P2 S2, xR (fWhom D R ro no n np c h).2.1 (fWhom D R ro no n np c h).2.2 no n np ro oh ph I2 L2 P2 S2 → frX I L P S I2 L2 P2 S2 → Q (.inl (some (.int (fWhom D R ro no n np c h).1))) I2 L2 P2 S2) : Zm G mX1_whom 105 C Sl [.ref 100, .int c, .int h] I L P S Q := by
  obtain ⟨e, ⟨g, hro⟩, ⟨⟨h29, h50⟩, hrw⟩, ⟨htx, hpr, hkp⟩, htl, hoh, hph⟩ := hX
  have hX : xR D R no n np ro oh ph I L P S := ⟨e, ⟨g, hro⟩, ⟨⟨h29, h50⟩, hrw⟩, ⟨htx, hpr, hkp⟩, htl, hoh, hph⟩
  have hx := e.x
  have hO := e.wd
  have hR := e.wr
  have hT := e.st
  have hPc := e.pc
  have hw := e.hw
  have hf := e.hx
  have hb := e.b
  have hn := e.nn
  have n8 := hw.n8
  have h6 := hw.o6
  have hn8 := hw.n8
  have hno : noD D = no := by rw [noD, show D 0 3 = nI no from hw.o3, nI_clamp (by omega)]
  have hnn : nD D = n := by rw [nD, show D 0 16 = nI n from hw.n16, nI_clamp (by omega)]
  have p9 := p2_lt hn9
  have p0 : 0 < 2 ^ np := Nat.pow_pos (by omega)
  obtain ⟨-, -, -, -, ⟨-, -, hN⟩, -⟩ := id hX
  have hM := hR.1
  refine Z_entry (lv := [_, _, _, _, _, _, _]) (Nat.le_of_ble_eq_true rfl) rfl ?_
  refine Z_iload_n dX1_whom_0 rfl ?_
  refine Z_iconst (nI 0) dX1_whom_1 rfl ?_
  refine Z_sipush (nI 999) dX1_whom_2 rfl ?_
  refine Z_callS0 (d' := 0) (zCal_S gX1_3 nX1_in (by decide) dX1_whom_5) pX1_in [_, _, _] rfl rfl (Nat.le_of_ble_eq_true rfl) (by omega) (c_X1_in (fun h5a h5b => ?_) (fun h5 => ?_))
  · have r5 : rB c 0 999 = true := rB_t h5a h5b
    refine Z_ifeq 25 dX1_whom_8 rfl (fun h => absurd h (by decide)) (fun _ => ?_)
    refine Z_iload_n dX1_whom_11 rfl ?_
    refine Z_callS0 (d' := 1) (zCal_S gX1_124 nX1_isHour (by decide) dX1_whom_12) pX1_isHour [_] rfl rfl (Nat.le_of_ble_eq_true rfl) (by omega) (c_X1_isHour (fun h12a h12b => ?_) (fun h12 => ?_))
    · have r12 : rB h 0 2399 = true := rB_t h12a h12b
      obtain ⟨k12, hk12, e12⟩ := z_rng (n := 2399) h12a h12b (by omega)
      subst e12
      have v12 : (nI k12).toNatClampNeg = k12 := nI_clamp (by omega)
      refine Z_ifeq 25 dX1_whom_15 rfl (fun h => absurd h (by decide)) (fun _ => ?_)
      refine Z_aload_n dX1_whom_18 rfl ?_
      refine Z_getI hx.1 fX1_105_0 dX1_whom_19 rfl ?_
      refine Z_re (y := nI n) hn ?_
      refine Z_ifneN 27 dX1_whom_22 rfl (by omega) (fun c22 => ?_) (fun c22 => ?_)
      · refine Z_iconst (-1) dX1_whom_27 rfl ?_
        refine Z_istore_n (lv' := [_, _, _, _, _, _, _]) dX1_whom_28 rfl rfl (Nat.le_of_ble_eq_true rfl) ?_
        refine Z_iconst (nI 0) dX1_whom_29 rfl ?_
        refine Z_istore (lv' := [_, _, _, _, _, _, _]) dX1_whom_30 rfl rfl (Nat.le_of_ble_eq_true rfl) ?_
        refine Z_iconst (nI 0) dX1_whom_32 rfl ?_
        refine Z_istore (lv' := [_, _, _, _, _, _, _]) dX1_whom_33 rfl rfl (Nat.le_of_ble_eq_true rfl) ?_
        have lp35 : ∀ i, i ≤ 2 ^ np → ∀ I2 P2, fX I L P S I2 L P2 S → I2 100 = I 100 → Zj G mX1_whom 105 C Sl 35 [.ref 100, .int c, .int (nI k12), .int (xwB (whB (whO D ro no n np c k12) (fun x => prcN D x np) i)), .int (xwS (whB (whO D ro no n np c k12) (fun x => prcN D x np) i)), .int (nI i), .retAddr 0] [] I2 L P2 S Q := by
          refine zloop (2 ^ np) (fun i => ∀ I2 P2, fX I L P S I2 L P2 S → I2 100 = I 100 → Zj G mX1_whom 105 C Sl 35 [.ref 100, .int c, .int (nI k12), .int (xwB (whB (whO D ro no n np c k12) (fun x => prcN D x np) i)), .int (xwS (whB (whO D ro no n np c k12) (fun x => prcN D x np) i)), .int (nI i), .retAddr 0] [] I2 L P2 S Q) (fun i hi ih => ?_)
          intro I2 P2 fF e100
          show Zj _ _ _ _ _ _ _ _ _ _ _ _ _
          have r1 : rwX I2 L R := hrw.fX (by rw [e100]) rfl
          have hX1 := hX.go fF r1
          have hx1 := hX1.1.x
          have hx := hx1
          have pr1 := hX1.2.2.2.1.2.1
          refine Z_iload dX1_whom_35 rfl ?_
          refine Z_iconst (nI 1) dX1_whom_37 rfl ?_
          refine Z_aload_n dX1_whom_38 rfl ?_
          refine Z_getI hx.1 fX1_352_0 dX1_whom_39 rfl ?_
          refine Z_re (y := nI (np)) ((congrFun e100 14).trans h50) ?_
          refine Z_ishl dX1_whom_42 ?_
          rw [shl1 (by omega)]
          refine Z_icmpgeN 126 dX1_whom_43 rfl (by omega) (by omega) (fun c43 => ?_) (fun c43 => ?_)
          · have ei : i = 2 ^ np := by omega
            obtain ⟨m0, hm⟩ : ∃ m0, whB (whO D ro no n np c k12) (fun x => prcN D x np) i = m0 := ⟨_, rfl⟩
            rw [hm]
            rcases m0 with _ | b
            · dsimp only [xwB, xwS]
              refine Z_iload_n dX1_whom_126 rfl ?_
              refine Z_iconst (-1) dX1_whom_127 rfl ?_
              refine Z_icmpne 134 dX1_whom_128 rfl (fun c128 => ?_) (fun c128 => ?_)
              · exact absurd rfl c128
              · refine Z_bipush (-2) dX1_whom_131 rfl ?_
                refine Z_ireturn dX1_whom_133 rfl rfl ?_
                exact xO_k (D2 := D) (R2 := R) (by rw [fWhom, if_pos (by rw [r5, r12, decide_eq_false (fun e => c22 ((nI_z (by omega)).mp ((show D 0 16 = nI n from hw.n16).symm.trans e)))]; rfl), v12, ← ei, hm]) k (hX.go fF r1) fF.frX
            · dsimp only [xwB, xwS]
              have hb1 := whB_mem _ _ hm
              have hb2 := whO_b hw hi9 (by omega) hb1.2
              refine Z_iload_n dX1_whom_126 rfl ?_
              refine Z_iconst (-1) dX1_whom_127 rfl ?_
              refine Z_icmpne 134 dX1_whom_128 rfl (fun c128 => ?_) (fun c128 => ?_)
              · refine Z_aload_n dX1_whom_134 rfl ?_
                refine Z_iconst (nI 0) dX1_whom_135 rfl ?_
                refine Z_putI hx.1 fX1_94_0 dX1_whom_136 rfl rfl rfl ?_
                refine Z_aload_n dX1_whom_139 rfl ?_
                refine Z_iload_n dX1_whom_140 rfl ?_
                refine Z_i2l dX1_whom_141 ?_
                refine Z_call0 (d' := 0) (zCal_V gX1_101 nX1_tell (by decide) dX1_whom_142) pX1_tell hx.1 zkl0 [_] rfl rfl (Nat.le_of_ble_eq_true rfl) (by omega) (c_X1_tell hx (rwX.z (I := I2) (L := L)) (by decide) (fun J1 M1 u1 v1 => ?_))
                refine Z_aload_n dX1_whom_145 rfl ?_
                refine Z_aload_n dX1_whom_146 rfl ?_
                refine Z_iload_n dX1_whom_147 rfl ?_
                refine Z_call0 (d' := 1) (zCal_V gX1_355 nX1_price (by decide) dX1_whom_148) pX1_price hx.1 zkl0 [_] rfl rfl (Nat.le_of_ble_eq_true rfl) (by omega) (c_X1_price hx ((v1.2.1 14 (by decide)).trans ((congrFun (zw_a _ _ _ _) 14).trans ((zu_n _ _ _ (by decide)).trans ((congrFun e100 14).trans h50)))) hn9 (pr1.fr ((v1.1 _ (by decide)).trans (zw_n _ _ _ _ (by decide))) ((v1.1 _ (by decide)).trans (zw_n _ _ _ _ (by decide))) ((v1.1 _ (by decide)).trans (zw_n _ _ _ _ (by decide)))) ?_)
                refine Z_i2l dX1_whom_151 ?_
                refine Z_call0 (d' := 0) (zCal_V gX1_101 nX1_tell (by decide) dX1_whom_152) pX1_tell hx.1 zkl0 [_] rfl rfl (Nat.le_of_ble_eq_true rfl) (by omega) (c_X1_tell hx u1 (by simp) (fun J2 M2 u2 v2 => ?_))
                refine Z_iload dX1_whom_155 rfl ?_
                refine Z_ireturn dX1_whom_157 rfl rfl ?_
                exact xO_k (D2 := D) (R2 := [(nI b.1).toInt64, (prcN D b.1 np).toInt64]) (by rw [fWhom, if_pos (by rw [r5, r12, decide_eq_false (fun e => c22 ((nI_z (by omega)).mp ((show D 0 16 = nI n from hw.n16).symm.trans e)))]; rfl), v12, ← ei, hm]) k (hX.go (fF.fR ((fR.rf.z.tr v1).tr v2)) u2) (fF.fR ((fR.rf.z.tr v1).tr v2)).frX
              · exact absurd c128 (nI_m1 (by omega))
          · refine Z_aload_n dX1_whom_46 rfl ?_
            refine Z_iload dX1_whom_47 rfl ?_
            refine Z_call0 (d' := 1) (zCal_V gX1_355 nX1_price (by decide) dX1_whom_49) pX1_price hx.1 zkl0 [_] rfl rfl (Nat.le_of_ble_eq_true rfl) (by omega) (c_X1_price hx1 ((congrFun e100 14).trans h50) hn9 pr1 ?_)
            refine Z_iload_n dX1_whom_52 rfl ?_
            refine Z_icmple 59 dX1_whom_53 rfl (fun c53 => ?_) (fun c53 => ?_)
            · refine Z_aload_n dX1_whom_59 rfl ?_
              refine Z_aload_n dX1_whom_60 rfl ?_
              refine Z_iload dX1_whom_61 rfl ?_
              refine Z_call0 (d' := 2) (zCal_V gX1_358 nX1_with (by decide) dX1_whom_63) pX1_with hx.1 zkl0 [_] rfl rfl (Nat.le_of_ble_eq_true rfl) (by omega) (c_X1_with hX1 hn9 hprs hprd (fun I3 P3 eW hroW fF3 e1003 => ?_))
              have hx := eW.x
              refine Z_iload_n dX1_whom_66 rfl ?_
              refine Z_call0 (d' := 104) (zCal_V gX1_362 nX1_endIn (by decide) dX1_whom_67) pX1_endIn hx.1 zkl0 [_, _] rfl rfl (Nat.le_of_ble_eq_true rfl) (by omega) (c_X1_endIn eW hroW hi9 (by omega) (fun q => (brg_at (by decide) np).trans (h37 q)) (fun s1 t1 I4 P4 a1 a2 a3 a4 a5 => ?_) (fun a1 I4 P4 a4 a5 => ?_))
              · have hx := eW.x.f3 a5
                have m4 : I4 100 14 = nI np := (congrFun (a4 100 (by decide) (by omega)) 14).trans ((congrFun e1003 14).trans ((congrFun e100 14).trans h50))
                have pr4 : prX D I4 np := ((hX1.go fF3 (r1.fX (by rw [e1003]) rfl)).2.2.2.1.2.1).fr (a4 303 (by decide) (by omega)) (a4 304 (by decide) (by omega)) (a4 305 (by decide) (by omega))
                refine Z_istore (lv' := [_, _, _, _, _, _, _]) dX1_whom_70 rfl rfl (Nat.le_of_ble_eq_true rfl) ?_
                refine Z_iload dX1_whom_72 rfl ?_
                refine Z_ifltN 120 dX1_whom_74 rfl (by omega) ?_
                obtain ⟨m0, hm⟩ : ∃ m0, whB (whO D ro no n np c k12) (fun x => prcN D x np) i = m0 := ⟨_, rfl⟩
                rw [hm]
                rcases m0 with _ | b
                · dsimp only [xwB, xwS]
                  refine Z_iload_n dX1_whom_77 rfl ?_
                  refine Z_iconst (-1) dX1_whom_78 rfl ?_
                  refine Z_icmpeq 113 dX1_whom_79 rfl (fun c79 => ?_) (fun c79 => ?_)
                  · refine Z_iload dX1_whom_113 rfl ?_
                    refine Z_istore_n (lv' := [_, _, _, _, _, _, _]) dX1_whom_115 rfl rfl (Nat.le_of_ble_eq_true rfl) ?_
                    refine Z_iload dX1_whom_116 rfl ?_
                    refine Z_istore (lv' := [_, _, _, _, _, _, _]) dX1_whom_118 rfl rfl (Nat.le_of_ble_eq_true rfl) ?_
                    refine Z_iincN (a := _) (k := 1) (lv' := [_, _, _, _, _, _, _]) dX1_whom_120 rfl rfl rfl rfl ?_
                    refine Z_goto 35 dX1_whom_123 rfl ?_
                    have gg := (fF.tr fF3).fH a4 a5
                    have ee : I4 100 = I 100 := (a4 100 (by decide) (by omega)).trans (e1003.trans e100)
                    have ev : (whO D ro no n np c k12) i = some t1 := by show whO _ _ _ _ _ _ _ _ = _; rw [whO, if_pos c53, whE]; (try dsimp only); rw [a1]; show some (s1 0).toNatClampNeg = _; rw [a2, nI_clamp (by omega)]
                    have e : whB (whO D ro no n np c k12) (fun x => prcN D x np) (i + 1) = some (i, t1) := by simp [whB, ev, hm]
                    have ih2 := ih (by omega) _ _ gg ee
                    rw [e] at ih2
                    exact Z_fgt ih2 (by repeat first | exact zwk_n | refine zwk_f ?_ | refine zwk_c rfl ?_)
                  · exact absurd rfl c79
                · dsimp only [xwB, xwS]
                  have hb1 := whB_mem _ _ hm
                  have hb2 := whO_b hw hi9 (by omega) hb1.2
                  refine Z_iload_n dX1_whom_77 rfl ?_
                  refine Z_iconst (-1) dX1_whom_78 rfl ?_
                  refine Z_icmpeq 113 dX1_whom_79 rfl (fun c79 => ?_) (fun c79 => ?_)
                  · exact absurd c79 (nI_m1 (by omega))
                  · refine Z_iload dX1_whom_82 rfl ?_
                    refine Z_iload dX1_whom_84 rfl ?_
                    refine Z_icmpgtN 120 dX1_whom_86 rfl (by omega) (by omega) (fun c86 => ?_) (fun c86 => ?_)
                    · refine Z_iincN (a := _) (k := 1) (lv' := [_, _, _, _, _, _, _]) dX1_whom_120 rfl rfl rfl rfl ?_
                      refine Z_goto 35 dX1_whom_123 rfl ?_
                      have gg := (fF.tr fF3).fH a4 a5
                      have ee : I4 100 = I 100 := (a4 100 (by decide) (by omega)).trans (e1003.trans e100)
                      have ev : (whO D ro no n np c k12) i = some t1 := by show whO _ _ _ _ _ _ _ _ = _; rw [whO, if_pos c53, whE]; (try dsimp only); rw [a1]; show some (s1 0).toNatClampNeg = _; rw [a2, nI_clamp (by omega)]
                      have e : whB (whO D ro no n np c k12) (fun x => prcN D x np) (i + 1) = some b := by rw [whB, ev]; dsimp only; rw [hm]; dsimp only; rw [if_neg (by omega), if_neg (by omega)]
                      have ih2 := ih (by omega) _ _ gg ee
                      rw [e] at ih2
                      exact Z_fgt ih2 (by repeat first | exact zwk_n | refine zwk_f ?_ | refine zwk_c rfl ?_)
                    · refine Z_iload dX1_whom_89 rfl ?_
                      refine Z_iload dX1_whom_91 rfl ?_
                      refine Z_icmpneN 113 dX1_whom_93 rfl (by omega) (by omega) (fun c93 => ?_) (fun c93 => ?_)
                      · refine Z_iload dX1_whom_113 rfl ?_
                        refine Z_istore_n (lv' := [_, _, _, _, _, _, _]) dX1_whom_115 rfl rfl (Nat.le_of_ble_eq_true rfl) ?_
                        refine Z_iload dX1_whom_116 rfl ?_
                        refine Z_istore (lv' := [_, _, _, _, _, _, _]) dX1_whom_118 rfl rfl (Nat.le_of_ble_eq_true rfl) ?_
                        refine Z_iincN (a := _) (k := 1) (lv' := [_, _, _, _, _, _, _]) dX1_whom_120 rfl rfl rfl rfl ?_
                        refine Z_goto 35 dX1_whom_123 rfl ?_
                        have gg := (fF.tr fF3).fH a4 a5
                        have ee : I4 100 = I 100 := (a4 100 (by decide) (by omega)).trans (e1003.trans e100)
                        have ev : (whO D ro no n np c k12) i = some t1 := by show whO _ _ _ _ _ _ _ _ = _; rw [whO, if_pos c53, whE]; (try dsimp only); rw [a1]; show some (s1 0).toNatClampNeg = _; rw [a2, nI_clamp (by omega)]
                        have e : whB (whO D ro no n np c k12) (fun x => prcN D x np) (i + 1) = some (i, t1) := by rw [whB, ev]; dsimp only; rw [hm]; dsimp only; rw [if_pos (by omega)]
                        have ih2 := ih (by omega) _ _ gg ee
                        rw [e] at ih2
                        exact Z_fgt ih2 (by repeat first | exact zwk_n | refine zwk_f ?_ | refine zwk_c rfl ?_)
                      · refine Z_aload_n dX1_whom_96 rfl ?_
                        refine Z_iload dX1_whom_97 rfl ?_
                        refine Z_call0 (d' := 1) (zCal_V gX1_355 nX1_price (by decide) dX1_whom_99) pX1_price hx.1 zkl0 [_] rfl rfl (Nat.le_of_ble_eq_true rfl) (by omega) (c_X1_price hx m4 hn9 pr4 ?_)
                        refine Z_aload_n dX1_whom_102 rfl ?_
                        refine Z_iload_n dX1_whom_103 rfl ?_
                        refine Z_call0 (d' := 1) (zCal_V gX1_355 nX1_price (by decide) dX1_whom_104) pX1_price hx.1 zkl0 [_] rfl rfl (Nat.le_of_ble_eq_true rfl) (by omega) (c_X1_price hx m4 hn9 pr4 ?_)
                        refine Z_icmplt 113 dX1_whom_107 rfl (fun c107 => ?_) (fun c107 => ?_)
                        · refine Z_iload dX1_whom_113 rfl ?_
                          refine Z_istore_n (lv' := [_, _, _, _, _, _, _]) dX1_whom_115 rfl rfl (Nat.le_of_ble_eq_true rfl) ?_
                          refine Z_iload dX1_whom_116 rfl ?_
                          refine Z_istore (lv' := [_, _, _, _, _, _, _]) dX1_whom_118 rfl rfl (Nat.le_of_ble_eq_true rfl) ?_
                          refine Z_iincN (a := _) (k := 1) (lv' := [_, _, _, _, _, _, _]) dX1_whom_120 rfl rfl rfl rfl ?_
                          refine Z_goto 35 dX1_whom_123 rfl ?_
                          have gg := (fF.tr fF3).fH a4 a5
                          have ee : I4 100 = I 100 := (a4 100 (by decide) (by omega)).trans (e1003.trans e100)
                          have ev : (whO D ro no n np c k12) i = some t1 := by show whO _ _ _ _ _ _ _ _ = _; rw [whO, if_pos c53, whE]; (try dsimp only); rw [a1]; show some (s1 0).toNatClampNeg = _; rw [a2, nI_clamp (by omega)]
                          have e : whB (whO D ro no n np c k12) (fun x => prcN D x np) (i + 1) = some (i, t1) := by rw [whB, ev]; dsimp only; rw [hm]; dsimp only; rw [if_neg (by omega), if_pos (by omega), if_neg (Int32.not_le.mpr c107)]
                          have ih2 := ih (by omega) _ _ gg ee
                          rw [e] at ih2
                          exact Z_fgt ih2 (by repeat first | exact zwk_n | refine zwk_f ?_ | refine zwk_c rfl ?_)
                        · refine Z_goto 120 dX1_whom_110 rfl ?_
                          refine Z_iincN (a := _) (k := 1) (lv' := [_, _, _, _, _, _, _]) dX1_whom_120 rfl rfl rfl rfl ?_
                          refine Z_goto 35 dX1_whom_123 rfl ?_
                          have gg := (fF.tr fF3).fH a4 a5
                          have ee : I4 100 = I 100 := (a4 100 (by decide) (by omega)).trans (e1003.trans e100)
                          have ev : (whO D ro no n np c k12) i = some t1 := by show whO _ _ _ _ _ _ _ _ = _; rw [whO, if_pos c53, whE]; (try dsimp only); rw [a1]; show some (s1 0).toNatClampNeg = _; rw [a2, nI_clamp (by omega)]
                          have e : whB (whO D ro no n np c k12) (fun x => prcN D x np) (i + 1) = some b := by rw [whB, ev]; dsimp only; rw [hm]; dsimp only; rw [if_neg (by omega), if_pos (by omega), if_pos (Int32.not_lt.mp c107)]
                          have ih2 := ih (by omega) _ _ gg ee
                          rw [e] at ih2
                          exact Z_fgt ih2 (by repeat first | exact zwk_n | refine zwk_f ?_ | refine zwk_c rfl ?_)
              · have hx := eW.x.f3 a5
                have m4 : I4 100 14 = nI np := (congrFun (a4 100 (by decide) (by omega)) 14).trans ((congrFun e1003 14).trans ((congrFun e100 14).trans h50))
                have pr4 : prX D I4 np := ((hX1.go fF3 (r1.fX (by rw [e1003]) rfl)).2.2.2.1.2.1).fr (a4 303 (by decide) (by omega)) (a4 304 (by decide) (by omega)) (a4 305 (by decide) (by omega))
                refine Z_istore (lv' := [_, _, _, _, _, _, _]) dX1_whom_70 rfl rfl (Nat.le_of_ble_eq_true rfl) ?_
                refine Z_iload dX1_whom_72 rfl ?_
                refine Z_iflt 120 dX1_whom_74 rfl (fun c74 => ?_) (fun c74 => ?_)
                · refine Z_iincN (a := _) (k := 1) (lv' := [_, _, _, _, _, _, _]) dX1_whom_120 rfl rfl rfl rfl ?_
                  refine Z_goto 35 dX1_whom_123 rfl ?_
                  have gg := (fF.tr fF3).fH a4 a5
                  have ee : I4 100 = I 100 := (a4 100 (by decide) (by omega)).trans (e1003.trans e100)
                  have ev : (whO D ro no n np c k12) i = none := by show whO _ _ _ _ _ _ _ _ = _; rw [whO, if_pos c53, whE]; (try dsimp only); rw [a1]; rfl
                  have e : whB (whO D ro no n np c k12) (fun x => prcN D x np) (i + 1) = whB (whO D ro no n np c k12) (fun x => prcN D x np) i := by simp [whB, ev]
                  have ih2 := ih (by omega) _ _ gg ee
                  rw [e] at ih2
                  exact Z_fgt ih2 (by repeat first | exact zwk_n | refine zwk_f ?_ | refine zwk_c rfl ?_)
                · exact absurd (show (-2 : Int32) < 0 by decide) c74
            · refine Z_goto 120 dX1_whom_56 rfl ?_
              refine Z_iincN (a := _) (k := 1) (lv' := [_, _, _, _, _, _, _]) dX1_whom_120 rfl rfl rfl rfl ?_
              refine Z_goto 35 dX1_whom_123 rfl ?_
              have ev : (whO D ro no n np c k12) i = none := if_neg c53
              have gg := fF
              have ee := e100
              have e : whB (whO D ro no n np c k12) (fun x => prcN D x np) (i + 1) = whB (whO D ro no n np c k12) (fun x => prcN D x np) i := by simp [whB, ev]
              have ih2 := ih (by omega) _ _ gg ee
              rw [e] at ih2
              exact Z_fgt ih2 (by repeat first | exact zwk_n | refine zwk_f ?_ | refine zwk_c rfl ?_)
        exact lp35 0 (by omega) I P (fX.rf hN) rfl
      · refine Z_iconst (-1) dX1_whom_25 rfl ?_
        refine Z_ireturn dX1_whom_26 rfl rfl ?_
        exact xO_k (by simp [fWhom, show D 0 16 = nI n from hw.n16, nI_0, r5, r12, v12, c22]) k hX frX.rf
    · have r12 : rB h 0 2399 = false := rB_f h12
      refine Z_ifeq 25 dX1_whom_15 rfl (fun _ => ?_) (fun h => absurd h (by decide))
      refine Z_iconst (-1) dX1_whom_25 rfl ?_
      refine Z_ireturn dX1_whom_26 rfl rfl ?_
      exact xO_k (by simp [fWhom, show D 0 16 = nI n from hw.n16, nI_0, r5, r12]) k hX frX.rf
  · have r5 : rB c 0 999 = false := rB_f h5
    refine Z_ifeq 25 dX1_whom_8 rfl (fun _ => ?_) (fun h => absurd h (by decide))
    refine Z_iconst (-1) dX1_whom_25 rfl ?_
    refine Z_ireturn dX1_whom_26 rfl rfl ?_
    exact xO_k (by simp [fWhom, show D 0 16 = nI n from hw.n16, nI_0, r5]) k hX frX.rf
end X19C
