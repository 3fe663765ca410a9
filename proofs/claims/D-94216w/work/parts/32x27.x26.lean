set_option maxRecDepth 100000
/-! THE COMPONENT, part 26: the worst day to sleep -/
section X26C
variable {G : zG} {d C Sl : Nat} {I D W : zI} {R : List Int64} {L : zL} {P : zR} {S : zT} {Q : zQ} {no n np : Nat} {s : zS} {oh ph : Nat → Nat} {ro : Option (List Nat)}
def xbF (f : Nat) (m : Option (Nat × Nat)) : Int32 := match m with
  | none => -2
  | some b => nI (f + b.1)
set_option maxHeartbeats 4000000 in
theorem o_xworst (hX : xR D R no n np ro oh ph I L P S) (hsf : sf (wld D) no n (D 23)) {B : Nat} (hkB : hk (D 23) n B) (hB : B < 2 ^ 28) (h37 : ro ≠ none → wld D 0 37 = 0) (h12 : ∀ j, D 12 j = 0 ∨ D 12 j = 1) {o f t : Int32} (k : ∀ I2 L2 P2 S2, xR (fWorst D R ro no n o f t).2.1 (fWorst D R ro no n o f t).2.2 no n np ro oh ph I2 L2 P2 S2 → frX I L P S I2 L2 P2 S2 → Q (.inl (some (.int (fWorst D R ro no n o f t).1))) I2 L2 P2 S2) : Zm G mX1_worst 105 (C + 200) (Sl + 10900) [.ref 100, .int o, .int f, .int t] I L P S Q := by
  obtain ⟨e, ⟨g, hro⟩, ⟨⟨h29, h50⟩, hrw⟩, ⟨htx, hpr, hkp⟩, htl, hoh, hph⟩ := hX
  have hX : xR D R no n np ro oh ph I L P S := ⟨e, ⟨g, hro⟩, ⟨⟨h29, h50⟩, hrw⟩, ⟨htx, hpr, hkp⟩, htl, hoh, hph⟩
  have hx := e.x
  have hO := e.wd
  have hR := e.wr
  have hT := e.st
  have hPc := e.pc
  have hw := e.hw
  have hf := e.hx
  have hb := e.b
  have hn := e.nn
  have n8 := hw.n8
  have h6 := hw.o6
  have hn8 := hw.n8
  have hno : noD D = no := by rw [noD, show D 0 3 = nI no from hw.o3, nI_clamp (by omega)]
  have hnn : nD D = n := by rw [nD, show D 0 16 = nI n from hw.n16, nI_clamp (by omega)]
  obtain ⟨b6, hb6, eb6⟩ := hsf.bk
  have h60 : (D 23 2).toNatClampNeg ≤ 60 := by rw [eb6, nI_clamp (by omega)]; exact hb6
  obtain ⟨-, -, -, -, ⟨-, -, hN⟩, -⟩ := id hX
  have hM := hR.1
  refine Z_entry (lv := [_, _, _, _, _, _, _, _]) (Nat.le_of_ble_eq_true rfl) rfl ?_
  refine Z_aload_n dX1_worst_0 rfl ?_
  refine Z_iload_n dX1_worst_1 rfl ?_
  refine Z_call0 (d' := 1) (zCal_V gX1_121 nX1_isOffice (by decide) dX1_worst_2) pX1_isOffice hx.1 zkl0 [_] rfl rfl (Nat.le_of_ble_eq_true rfl) (by omega) (c_X1_isOffice hx hR.1.1 h6 (fun k2 hk2 e2 => ?_) (fun h2 => ?_))
  · subst e2
    have r2 : oB D (nI k2) = true := rB_t (by rw [z_ti (by omega)]; omega) (by rw [z_ti (by omega), hno]; omega)
    have v2 : (nI k2).toNatClampNeg = k2 := nI_clamp (by omega)
    refine Z_ifeq 35 dX1_worst_5 rfl (fun h => absurd h (by decide)) (fun _ => ?_)
    refine Z_iload_n dX1_worst_8 rfl ?_
    refine Z_iconst (nI 0) dX1_worst_9 rfl ?_
    refine Z_bipush (nI 99) dX1_worst_10 rfl ?_
    refine Z_callS0 (d' := 0) (zCal_S gX1_3 nX1_in (by decide) dX1_worst_12) pX1_in [_, _, _] rfl rfl (Nat.le_of_ble_eq_true rfl) (by omega) (c_X1_in (fun h12a h12b => ?_) (fun h12 => ?_))
    · have r12 : rB f 0 99 = true := rB_t h12a h12b
      obtain ⟨k12, hk12, e12⟩ := z_rng (n := 99) h12a h12b (by omega)
      subst e12
      have v12 : (nI k12).toNatClampNeg = k12 := nI_clamp (by omega)
      refine Z_ifeq 35 dX1_worst_15 rfl (fun h => absurd h (by decide)) (fun _ => ?_)
      refine Z_iload_n dX1_worst_18 rfl ?_
      refine Z_iload_n dX1_worst_19 rfl ?_
      refine Z_bipush (nI 99) dX1_worst_20 rfl ?_
      refine Z_callS0 (d' := 0) (zCal_S gX1_3 nX1_in (by decide) dX1_worst_22) pX1_in [_, _, _] rfl rfl (Nat.le_of_ble_eq_true rfl) (by omega) (c_X1_in (fun h22a h22b => ?_) (fun h22 => ?_))
      · rw [z_ti (by omega)] at h22a
        have r22 : rB t (nI k12).toInt 99 = true := rB_t (by rw [z_ti (by omega)]; exact h22a) h22b
        obtain ⟨q, hq, e22⟩ := z_rng (n := 99) (by omega) h22b (by omega)
        subst e22
        rw [z_ti (by omega)] at h22a
        have v22 : (nI q).toNatClampNeg = q := nI_clamp (by omega)
        refine Z_ifeq 35 dX1_worst_25 rfl (fun h => absurd h (by decide)) (fun _ => ?_)
        refine Z_aload_n dX1_worst_28 rfl ?_
        refine Z_getI hx.1 fX1_105_0 dX1_worst_29 rfl ?_
        refine Z_re (y := nI n) hn ?_
        refine Z_ifneN 37 dX1_worst_32 rfl (by omega) (fun c32 => ?_) (fun c32 => ?_)
        · have n0 : ¬ D 0 16 = 0 := fun e => c32 ((nI_z (by omega)).mp ((show D 0 16 = nI n from hw.n16).symm.trans e))
          refine Z_bipush (-2) dX1_worst_37 rfl ?_
          refine Z_istore (lv' := [_, _, _, _, _, _, _, _]) dX1_worst_39 rfl rfl (Nat.le_of_ble_eq_true rfl) ?_
          refine Z_iconst (nI 0) dX1_worst_41 rfl ?_
          refine Z_istore (lv' := [_, _, _, _, _, _, _, _]) dX1_worst_42 rfl rfl (Nat.le_of_ble_eq_true rfl) ?_
          refine Z_iload_n dX1_worst_44 rfl ?_
          refine Z_istore (lv' := [_, _, _, _, _, _, _, _]) dX1_worst_45 rfl rfl (Nat.le_of_ble_eq_true rfl) ?_
          have lp47 : ∀ i, i ≤ q + 1 - k12 → ∀ I2 L2 P2 S2, fX I L P S I2 L2 P2 S2 → I2 100 = I 100 → L2 302 = L 302 → Zj G mX1_worst 105 (C + 2 * (q + 1 - k12 - i)) (Sl + 109 * (q + 1 - k12 - i)) 47 [.ref 100, .int (nI k2), .int (nI k12), .int (nI q), .int (xbF k12 (maxF (wstO D ro no n k2 k12) i)), .int (xlS (maxF (wstO D ro no n k2 k12) i)), .int (nI (k12 + i)), .retAddr 0] [] I2 L2 P2 S2 Q := by
            refine zloop (q + 1 - k12) (fun i => ∀ I2 L2 P2 S2, fX I L P S I2 L2 P2 S2 → I2 100 = I 100 → L2 302 = L 302 → Zj G mX1_worst 105 (C + 2 * (q + 1 - k12 - i)) (Sl + 109 * (q + 1 - k12 - i)) 47 [.ref 100, .int (nI k2), .int (nI k12), .int (nI q), .int (xbF k12 (maxF (wstO D ro no n k2 k12) i)), .int (xlS (maxF (wstO D ro no n k2 k12) i)), .int (nI (k12 + i)), .retAddr 0] [] I2 L2 P2 S2 Q) (fun i hi ih => ?_)
            intro I2 L2 P2 S2 fF e100 e302
            show Zj _ _ _ _ _ _ _ _ _ _ _ _ _
            have r1 : rwX I2 L2 R := hrw.fX (by rw [e100]) e302
            have hX1 := hX.go fF r1
            have hx := hX1.1.x
            have hO := hX1.1.wd
            have hR := hX1.1.wr
            refine Z_iload dX1_worst_47 rfl ?_
            refine Z_iload_n dX1_worst_49 rfl ?_
            refine Z_icmpgtN 122 dX1_worst_50 rfl (by omega) (by omega) (fun c50 => ?_) (fun c50 => ?_)
            · have ei : i = q + 1 - k12 := by omega
              obtain ⟨m0, hm⟩ : ∃ m0, maxF (wstO D ro no n k2 k12) i = m0 := ⟨_, rfl⟩
              rw [hm]
              rcases m0 with _ | b
              · dsimp only [xbF, xlS]
                refine Z_iload dX1_worst_122 rfl ?_
                refine Z_ifge 130 dX1_worst_124 rfl (fun c124 => ?_) (fun c124 => ?_)
                · exact absurd c124 (by decide)
                · refine Z_bipush (-2) dX1_worst_127 rfl ?_
                  refine Z_ireturn dX1_worst_129 rfl rfl ?_
                  exact xO_k (D2 := D) (R2 := R) (by rw [fWorst, if_pos (by rw [r2, r12, r22, decide_eq_false n0]; rfl), v2, v12, v22, show q + 1 - k12 = i by omega, hm]) k (hX.go fF r1) fF.frX
              · dsimp only [xbF, xlS]
                have hb1 := maxF_mem _ _ hm
                have hb2 := wst_b hw hsf hb1.2
                refine Z_iload dX1_worst_122 rfl ?_
                refine Z_ifgeN 130 dX1_worst_124 rfl (by omega) ?_
                refine Z_aload_n dX1_worst_130 rfl ?_
                refine Z_iconst (nI 0) dX1_worst_131 rfl ?_
                refine Z_putI hx.1 fX1_94_0 dX1_worst_132 rfl rfl rfl ?_
                refine Z_aload_n dX1_worst_135 rfl ?_
                refine Z_iload dX1_worst_136 rfl ?_
                refine Z_i2l dX1_worst_138 ?_
                refine Z_call0 (d' := 0) (zCal_V gX1_101 nX1_tell (by decide) dX1_worst_139) pX1_tell hx.1 zkl0 [_] rfl rfl (Nat.le_of_ble_eq_true rfl) (by omega) (c_X1_tell hx (rwX.z (I := I2) (L := L2)) (by decide) (fun J1 M1 u1 v1 => ?_))
                refine Z_iload dX1_worst_142 rfl ?_
                refine Z_ireturn dX1_worst_144 rfl rfl ?_
                exact xO_k (D2 := D) (R2 := [(nI b.2).toInt64]) (by rw [fWorst, if_pos (by rw [r2, r12, r22, decide_eq_false n0]; rfl), v2, v12, v22, show q + 1 - k12 = i by omega, hm]) k (hX.go (fF.fR (fR.rf.z.tr v1)) u1) (fF.fR (fR.rf.z.tr v1)).frX
            · refine Z_aload_n dX1_worst_53 rfl ?_
              refine Z_getR (r := 200) hx.1 fX1_52_0 dX1_worst_54 rfl hx.2.2.2.1.1 ?_
              refine Z_getR (r := (200 + 1)) hO.1 fX1_127_1 dX1_worst_57 rfl hO.2.1.2 ?_
              refine Z_iload_n dX1_worst_60 rfl ?_
              refine Z_aald (r := (oh k2)) hO.2.1.1 (by simp [zTys]) rfl (zix_nI (by first | omega | (dsimp only; omega)) (by decide)) (hR.2.2 k2 hk2).1 dX1_worst_61 ?_
              refine Z_getR (r := ((oh k2) + 8)) (hR.2.2 k2 (by omega)).2.1.1 fX1_137_5 dX1_worst_62 rfl (hR.2.2 k2 (by omega)).2.1.2.2 ?_
              refine Z_iload dX1_worst_65 rfl ?_
              refine Z_zald (hR.2.2 k2 (by omega)).2.1.2.1 (zix_nI (by first | omega | (dsimp only; omega)) (by decide)) dX1_worst_67 ?_
              refine Z_re ((hR.2.2 k2 hk2).2.2.2.2 (k12 + i) (by omega)) ?_
              refine Z_ifeq 74 dX1_worst_68 rfl (fun c68 => ?_) (fun c68 => ?_)
              · have c68b : D 12 (100 * k2 + (k12 + i)) = 0 := c68
                refine Zj.less (C := C + 2 * (q + 1 - k12 - (i + 1)) + 2) (Sl := Sl + 109 * (q + 1 - k12 - (i + 1)) + 109) ?_ (Nat.le_refl _) (by omega) (by omega)
                obtain ⟨-, -, -, -, ⟨-, -, N1, hN1, hN2⟩, -⟩ := id hX1
                refine Z_aload_n dX1_worst_74 rfl ?_
                refine Z_iload_n dX1_worst_75 rfl ?_
                refine Z_aload_n dX1_worst_76 rfl ?_
                refine Z_iload_n dX1_worst_77 rfl ?_
                refine Z_iload dX1_worst_78 rfl ?_
                refine Z_call (d' := 3) (C := (C + 2 * (q + 1 - k12 - (i + 1)))) (C' := 2) (Sl := (Sl + 109 * (q + 1 - k12 - (i + 1)))) (S' := 109) (zCal_V gX1_410 nX1_sleeping (by decide) dX1_worst_80) pX1_sleeping hx.1 zkl0 [_, _] rfl rfl (Nat.le_of_ble_eq_true rfl) (by omega) (by omega) (by omega) (c_X1_sleeping hX1.1 (W := wld D) (fun j => h12 j) (k := k2) (d := k12 + i) hk2 (by omega) (hN2 N1 (Nat.le_refl _)) (hN2 _ (by omega)) (fun I4 L4 P4 S4 hA hrA fA => ?_))
                have F2 := fF.o fA hN1 (hN2 _ (Nat.le_refl _)) (hN2 _ (by omega))
                have E2 : I4 100 = I 100 := ((fA 100 (by omega) (by omega)).1.1).trans e100
                have EL : L4 302 = L 302 := ((fA 302 (by omega) (by omega)).1.2).trans e302
                have r2w : rwX I4 L4 R := hrw.fX (by rw [E2]) EL
                have hX2 := hX.go F2 r2w
                have hx := hX2.1.x
                refine Z_call0 (d' := 104) (zCal_V gX1_414 nX1_endWith (by decide) dX1_worst_83) pX1_endWith hx.1 zkl0 [_, _] rfl rfl (Nat.le_of_ble_eq_true rfl) (by omega) (c_X1_endWith hX2 hsf hkB hB h37 hk2 hA hN1 hrA (fun x j q1 q2 q3 => by rw [zw_n _ _ _ _ q3]) (fun o _ => ⟨by rw [zw_n _ _ _ _ (by decide)], by rw [zw_n _ _ _ _ (by decide)]⟩) (fun o dd q1 q2 => by rw [zw_a, zu_n _ _ _ (by omega)]) (fun s2 t2 I5 P5 c1 c2 c3 FE e100b => ?_) (fun c1 I5 P5 FE e100b => ?_))
                · refine Z_istore (lv' := [_, _, _, _, _, _, _, _]) dX1_worst_86 rfl rfl (Nat.le_of_ble_eq_true rfl) ?_
                  refine Z_iload dX1_worst_88 rfl ?_
                  refine Z_ifltN 116 dX1_worst_90 rfl (by omega) ?_
                  obtain ⟨m0, hm⟩ : ∃ m0, maxF (wstO D ro no n k2 k12) i = m0 := ⟨_, rfl⟩
                  rw [hm]
                  rcases m0 with _ | b
                  · dsimp only [xbF, xlS]
                    refine Z_iload dX1_worst_93 rfl ?_
                    refine Z_iflt 108 dX1_worst_95 rfl (fun c95 => ?_) (fun c95 => ?_)
                    · refine Z_iload dX1_worst_108 rfl ?_
                      refine Z_istore (lv' := [_, _, _, _, _, _, _, _]) dX1_worst_110 rfl rfl (Nat.le_of_ble_eq_true rfl) ?_
                      refine Z_iload dX1_worst_112 rfl ?_
                      refine Z_istore (lv' := [_, _, _, _, _, _, _, _]) dX1_worst_114 rfl rfl (Nat.le_of_ble_eq_true rfl) ?_
                      refine Z_iincN (a := _) (k := 1) (lv' := [_, _, _, _, _, _, _, _]) dX1_worst_116 rfl rfl rfl rfl ?_
                      refine Z_goto 47 dX1_worst_119 rfl ?_
                      have c1b := c1
                      rw [show (zw (wld D) 12 (100 * k2 + (k12 + i)) (nI 1)) = wld (slpD D k2 (k12 + i)) from by unfold slpD; rw [wld_zi rfl]] at c1b
                      have ev : (wstO D ro no n k2 k12) i = some t2 := by show wstO _ _ _ _ _ _ _ = _; rw [wstO, if_pos c68b, c1b]; show some (s2 0).toNatClampNeg = _; rw [c2, nI_clamp (by omega)]
                      have e : maxF (wstO D ro no n k2 k12) (i + 1) = some (i, t2) := by simp [maxF, ev, hm]
                      have ih2 := ih (by omega) _ _ _ _ (F2.tr FE) (e100b.trans E2) EL
                      rw [e] at ih2
                      exact Z_fgt ih2 (by repeat first | exact zwk_n | refine zwk_f ?_ | refine zwk_c rfl ?_)
                    · exact absurd (by decide) c95
                  · dsimp only [xbF, xlS]
                    have hb1 := maxF_mem _ _ hm
                    have hb2 := wst_b hw hsf hb1.2
                    refine Z_iload dX1_worst_93 rfl ?_
                    refine Z_ifltN 108 dX1_worst_95 rfl (by omega) ?_
                    refine Z_iload dX1_worst_98 rfl ?_
                    refine Z_iload dX1_worst_100 rfl ?_
                    refine Z_icmpgtN 108 dX1_worst_102 rfl (by omega) (by omega) (fun c102 => ?_) (fun c102 => ?_)
                    · refine Z_iload dX1_worst_108 rfl ?_
                      refine Z_istore (lv' := [_, _, _, _, _, _, _, _]) dX1_worst_110 rfl rfl (Nat.le_of_ble_eq_true rfl) ?_
                      refine Z_iload dX1_worst_112 rfl ?_
                      refine Z_istore (lv' := [_, _, _, _, _, _, _, _]) dX1_worst_114 rfl rfl (Nat.le_of_ble_eq_true rfl) ?_
                      refine Z_iincN (a := _) (k := 1) (lv' := [_, _, _, _, _, _, _, _]) dX1_worst_116 rfl rfl rfl rfl ?_
                      refine Z_goto 47 dX1_worst_119 rfl ?_
                      have c1b := c1
                      rw [show (zw (wld D) 12 (100 * k2 + (k12 + i)) (nI 1)) = wld (slpD D k2 (k12 + i)) from by unfold slpD; rw [wld_zi rfl]] at c1b
                      have ev : (wstO D ro no n k2 k12) i = some t2 := by show wstO _ _ _ _ _ _ _ = _; rw [wstO, if_pos c68b, c1b]; show some (s2 0).toNatClampNeg = _; rw [c2, nI_clamp (by omega)]
                      have e : maxF (wstO D ro no n k2 k12) (i + 1) = some (i, t2) := by simp [maxF, ev, hm, Nat.not_le.mpr c102]
                      have ih2 := ih (by omega) _ _ _ _ (F2.tr FE) (e100b.trans E2) EL
                      rw [e] at ih2
                      exact Z_fgt ih2 (by repeat first | exact zwk_n | refine zwk_f ?_ | refine zwk_c rfl ?_)
                    · refine Z_goto 116 dX1_worst_105 rfl ?_
                      refine Z_iincN (a := _) (k := 1) (lv' := [_, _, _, _, _, _, _, _]) dX1_worst_116 rfl rfl rfl rfl ?_
                      refine Z_goto 47 dX1_worst_119 rfl ?_
                      have c1b := c1
                      rw [show (zw (wld D) 12 (100 * k2 + (k12 + i)) (nI 1)) = wld (slpD D k2 (k12 + i)) from by unfold slpD; rw [wld_zi rfl]] at c1b
                      have ev : (wstO D ro no n k2 k12) i = some t2 := by show wstO _ _ _ _ _ _ _ = _; rw [wstO, if_pos c68b, c1b]; show some (s2 0).toNatClampNeg = _; rw [c2, nI_clamp (by omega)]
                      have e : maxF (wstO D ro no n k2 k12) (i + 1) = some b := by simp [maxF, ev, hm, c102]
                      have ih2 := ih (by omega) _ _ _ _ (F2.tr FE) (e100b.trans E2) EL
                      rw [e] at ih2
                      exact Z_fgt ih2 (by repeat first | exact zwk_n | refine zwk_f ?_ | refine zwk_c rfl ?_)
                · refine Z_istore (lv' := [_, _, _, _, _, _, _, _]) dX1_worst_86 rfl rfl (Nat.le_of_ble_eq_true rfl) ?_
                  refine Z_iload dX1_worst_88 rfl ?_
                  refine Z_iflt 116 dX1_worst_90 rfl (fun c90 => ?_) (fun c90 => ?_)
                  · refine Z_iincN (a := _) (k := 1) (lv' := [_, _, _, _, _, _, _, _]) dX1_worst_116 rfl rfl rfl rfl ?_
                    refine Z_goto 47 dX1_worst_119 rfl ?_
                    have c1b := c1
                    rw [show (zw (wld D) 12 (100 * k2 + (k12 + i)) (nI 1)) = wld (slpD D k2 (k12 + i)) from by unfold slpD; rw [wld_zi rfl]] at c1b
                    have ev : (wstO D ro no n k2 k12) i = none := by show wstO _ _ _ _ _ _ _ = _; rw [wstO, if_pos c68b, c1b]; rfl
                    have e : maxF (wstO D ro no n k2 k12) (i + 1) = maxF (wstO D ro no n k2 k12) i := by simp [maxF, ev]
                    have ih2 := ih (by omega) _ _ _ _ (F2.tr FE) (e100b.trans E2) EL
                    rw [e] at ih2
                    exact Z_fgt ih2 (by repeat first | exact zwk_n | refine zwk_f ?_ | refine zwk_c rfl ?_)
                  · exact absurd (show (-2 : Int32) < 0 by decide) c90
              · have c68b : ¬ D 12 (100 * k2 + (k12 + i)) = 0 := c68
                refine Z_goto 116 dX1_worst_71 rfl ?_
                refine Z_iincN (a := _) (k := 1) (lv' := [_, _, _, _, _, _, _, _]) dX1_worst_116 rfl rfl rfl rfl ?_
                refine Z_goto 47 dX1_worst_119 rfl ?_
                have ev : (wstO D ro no n k2 k12) i = none := if_neg c68b
                have e : maxF (wstO D ro no n k2 k12) (i + 1) = maxF (wstO D ro no n k2 k12) i := by simp [maxF, ev]
                have ih2 := ih (by omega) _ _ _ _ fF e100 e302
                rw [e] at ih2
                exact Zj.less (Z_fgt ih2 (by repeat first | exact zwk_n | refine zwk_f ?_ | refine zwk_c rfl ?_)) (Nat.le_refl _) (by omega) (by omega)
          exact Zj.less (lp47 0 (by omega) I L P S (fX.rf hN) rfl rfl) (Nat.le_refl _) (by omega) (by omega)
        · refine Z_iconst (-1) dX1_worst_35 rfl ?_
          refine Z_ireturn dX1_worst_36 rfl rfl ?_
          exact xO_k (D2 := D) (R2 := R) (by simp [fWorst, show D 0 16 = nI n from hw.n16, nI_0, r2, v2, r12, v12, r22, c32]) k hX frX.rf
      · have r22 : rB t (nI k12).toInt 99 = false := rB_f h22
        refine Z_ifeq 35 dX1_worst_25 rfl (fun _ => ?_) (fun h => absurd h (by decide))
        refine Z_iconst (-1) dX1_worst_35 rfl ?_
        refine Z_ireturn dX1_worst_36 rfl rfl ?_
        exact xO_k (D2 := D) (R2 := R) (by simp [fWorst, show D 0 16 = nI n from hw.n16, nI_0, r2, v2, r12, v12, r22]) k hX frX.rf
    · have r12 : rB f 0 99 = false := rB_f h12
      refine Z_ifeq 35 dX1_worst_15 rfl (fun _ => ?_) (fun h => absurd h (by decide))
      refine Z_iconst (-1) dX1_worst_35 rfl ?_
      refine Z_ireturn dX1_worst_36 rfl rfl ?_
      exact xO_k (D2 := D) (R2 := R) (by simp [fWorst, show D 0 16 = nI n from hw.n16, nI_0, r2, v2, r12]) k hX frX.rf
  · have r2 : oB D o = false := rB_f (fun q => h2 ⟨q.1, by have := q.2; rw [hno] at this; omega⟩)
    refine Z_ifeq 35 dX1_worst_5 rfl (fun _ => ?_) (fun h => absurd h (by decide))
    refine Z_iconst (-1) dX1_worst_35 rfl ?_
    refine Z_ireturn dX1_worst_36 rfl rfl ?_
    exact xO_k (D2 := D) (R2 := R) (by simp [fWorst, show D 0 16 = nI n from hw.n16, nI_0, r2]) k hX frX.rf
end X26C
