set_option maxRecDepth 100000
/-! THE COMPONENT, part 20: what a pair is worth -/
section X20C
variable {G : zG} {d C Sl : Nat} {I D W : zI} {R : List Int64} {L : zL} {P : zR} {S : zT} {Q : zQ} {no n np : Nat} {s : zS} {oh ph : Nat → Nat} {ro : Option (List Nat)}
def xgB (m : Option (Nat × Int32)) : Int32 := match m with
  | none => -1
  | some b => nI b.1
def xgM (m : Option (Nat × Int32)) : Int32 := match m with
  | none => nI 0
  | some b => b.2
theorem zbit_00 (k : Nat) : zbit (nI 0) (nI k) = false := by
  unfold zbit
  rw [show nI 0 = (0 : Int32) from rfl, Int32.zero_shiftRight, Int32.zero_and]
  decide
theorem brgN_00 : ∀ k, brgN D 0 k = D := by
  intro k
  induction k with
  | zero => rfl
  | succ k ih => rw [brgN, if_neg (by rw [zbit_00]; decide)]; exact ih
set_option maxHeartbeats 8000000 in
theorem o_xworth (hX : xR D R no n np ro oh ph I L P S) (hi9 : ∀ j, 127 ≤ j → D 23 j = 0) (h37 : ro ≠ none → wld D 0 37 = 0) (hn9 : np ≤ 9) (hprs : prs D no np) (hprd : prd D np) (hn50 : D 0 50 = nI np) {h : Int32} (k : ∀ I2 L2 P2 S2, xR (fWorth D R ro no n np h).2.1 (fWorth D R ro no n np h).2.2 no n np ro oh ph I2 L2 P2 S2 → frX I L P S I2 L2 P2 S2 → Q (.inl (some (.int (fWorth D R ro no n np h).1))) I2 L2 P2 S2) : Zm G mX1_worth 105 C Sl [.ref 100, .int h] I L P S Q := by
  obtain ⟨e, ⟨g, hro⟩, ⟨⟨h29, h50⟩, hrw⟩, ⟨htx, hpr, hkp⟩, htl, hoh, hph⟩ := hX
  have hX : xR D R no n np ro oh ph I L P S := ⟨e, ⟨g, hro⟩, ⟨⟨h29, h50⟩, hrw⟩, ⟨htx, hpr, hkp⟩, htl, hoh, hph⟩
  have hx := e.x
  have hO := e.wd
  have hR := e.wr
  have hT := e.st
  have hPc := e.pc
  have hw := e.hw
  have hf := e.hx
  have hb := e.b
  have hn := e.nn
  have n8 := hw.n8
  have h6 := hw.o6
  have hn8 := hw.n8
  have hno : noD D = no := by rw [noD, show D 0 3 = nI no from hw.o3, nI_clamp (by omega)]
  have hnn : nD D = n := by rw [nD, show D 0 16 = nI n from hw.n16, nI_clamp (by omega)]
  obtain ⟨-, -, -, -, ⟨-, -, hN⟩, -⟩ := id hX
  have hM := hR.1
  refine Z_entry (lv := [_, _, _, _, _, _, _, _]) (Nat.le_of_ble_eq_true rfl) rfl ?_
  refine Z_iload_n dX1_worth_0 rfl ?_
  refine Z_callS0 (d' := 1) (zCal_S gX1_124 nX1_isHour (by decide) dX1_worth_1) pX1_isHour [_] rfl rfl (Nat.le_of_ble_eq_true rfl) (by omega) (c_X1_isHour (fun h1a h1b => ?_) (fun h1 => ?_))
  · have r1 : rB h 0 2399 = true := rB_t h1a h1b
    obtain ⟨k1, hk1, e1⟩ := z_rng (n := 2399) h1a h1b (by omega)
    subst e1
    have v1 : (nI k1).toNatClampNeg = k1 := nI_clamp (by omega)
    refine Z_ifeq 14 dX1_worth_4 rfl (fun h => absurd h (by decide)) (fun _ => ?_)
    refine Z_aload_n dX1_worth_7 rfl ?_
    refine Z_getI hx.1 fX1_105_0 dX1_worth_8 rfl ?_
    have rr1 := r1
    refine Z_re (y := nI n) hn ?_
    refine Z_ifneN 16 dX1_worth_11 rfl (by omega) (fun c11 => ?_) (fun c11 => ?_)
    · refine Z_aload_n dX1_worth_16 rfl ?_
      refine Z_getI hx.1 fX1_352_0 dX1_worth_17 rfl ?_
      refine Z_re (y := nI (np)) h50 ?_
      refine Z_ifneN 26 dX1_worth_20 rfl (by omega) (fun c20 => ?_) (fun c20 => ?_)
      · refine Z_aload_n dX1_worth_26 rfl ?_
        refine Z_aload_n dX1_worth_27 rfl ?_
        refine Z_getR (r := 200) hx.1 fX1_52_0 dX1_worth_28 rfl hx.2.2.2.1.1 ?_
        refine Z_iload_n dX1_worth_31 rfl ?_
        refine Z_call0 (d' := 104) (zCal_V gX1_362 nX1_endIn (by decide) dX1_worth_32) pX1_endIn hx.1 zkl0 [_, _] rfl rfl (Nat.le_of_ble_eq_true rfl) (by omega) (c_X1_endIn e hro hi9 (by omega) h37 (fun s0 t0 I0 P0 b1 b2 b3 b4 b5 => ?_) (fun b1 I0 P0 b4 b5 => ?_))
        · refine Z_istore_n (lv' := [_, _, _, _, _, _, _, _]) dX1_worth_35 rfl rfl (Nat.le_of_ble_eq_true rfl) ?_
          refine Z_iconst (-1) dX1_worth_36 rfl ?_
          refine Z_istore_n (lv' := [_, _, _, _, _, _, _, _]) dX1_worth_37 rfl rfl (Nat.le_of_ble_eq_true rfl) ?_
          refine Z_iconst (nI 0) dX1_worth_38 rfl ?_
          refine Z_istore (lv' := [_, _, _, _, _, _, _, _]) dX1_worth_39 rfl rfl (Nat.le_of_ble_eq_true rfl) ?_
          refine Z_aload_n dX1_worth_41 rfl ?_
          refine Z_iconst (nI 0) dX1_worth_42 rfl ?_
          refine Z_putI hx.1 fX1_94_0 dX1_worth_43 rfl rfl rfl ?_
          refine Z_iconst (nI 0) dX1_worth_46 rfl ?_
          refine Z_istore (lv' := [_, _, _, _, _, _, _, _]) dX1_worth_47 rfl rfl (Nat.le_of_ble_eq_true rfl) ?_
          have lp49 : ∀ i, i ≤ np → ∀ I2 L2 P2, fX I L P S I2 L2 P2 S → rwX I2 L2 ((List.range i).map (fun k => (gnV D ro no n np k1 k).toInt64)) → Zj G mX1_worth 105 C Sl 49 [.ref 100, .int (nI k1), .int (nI t0), .int (xgB (maxI (gnV D ro no n np k1) i)), .int (xgM (maxI (gnV D ro no n np k1) i)), .int (nI i), .retAddr 0, .retAddr 0] [] I2 L2 P2 S Q := by
            refine zloop (np) (fun i => ∀ I2 L2 P2, fX I L P S I2 L2 P2 S → rwX I2 L2 ((List.range i).map (fun k => (gnV D ro no n np k1 k).toInt64)) → Zj G mX1_worth 105 C Sl 49 [.ref 100, .int (nI k1), .int (nI t0), .int (xgB (maxI (gnV D ro no n np k1) i)), .int (xgM (maxI (gnV D ro no n np k1) i)), .int (nI i), .retAddr 0, .retAddr 0] [] I2 L2 P2 S Q) (fun i hi ih => ?_)
            intro I2 L2 P2 fF r1
            show Zj _ _ _ _ _ _ _ _ _ _ _ _ _
            have hX1 := hX.go fF r1
            have hx := hX1.1.x
            have h14 := hX1.2.2.1.1.2
            refine Z_iload dX1_worth_49 rfl ?_
            refine Z_aload_n dX1_worth_51 rfl ?_
            refine Z_getI hx.1 fX1_352_0 dX1_worth_52 rfl ?_
            refine Z_re (y := nI (np)) h14 ?_
            refine Z_icmpgeN 129 dX1_worth_55 rfl (by omega) (by omega) (fun c55 => ?_) (fun c55 => ?_)
            · refine Z_iload_n dX1_worth_129 rfl ?_
              refine Z_ireturn dX1_worth_130 rfl rfl ?_
              have ei : i = np := by omega
              obtain ⟨b, hb⟩ := maxI_0 (g := gnV D ro no n np k1) np (by omega)
              rw [ei] at r1
              rw [ei, hb]
              exact xO_k (D2 := D) (R2 := ((List.range np).map (fun k => (gnV D ro no n np k1 k).toInt64))) (by rw [fWorth, if_pos (by rw [rr1, decide_eq_false (fun e => c11 ((nI_z (by omega)).mp ((show D 0 16 = nI n from hw.n16).symm.trans e)))]; rfl), if_neg (fun e => c20 ((nI_z (by omega)).mp (hn50.symm.trans e))), v1, hb]; rfl) k (hX.go fF r1) fF.frX
            · refine Z_aload_n dX1_worth_58 rfl ?_
              refine Z_aload_n dX1_worth_59 rfl ?_
              refine Z_iconst (nI 1) dX1_worth_60 rfl ?_
              refine Z_iload dX1_worth_61 rfl ?_
              refine Z_ishl dX1_worth_63 ?_
              have p2i := p2_lt (k := i) (by omega)
              rw [shl1 (by omega)]
              refine Z_call0 (d' := 2) (zCal_V gX1_358 nX1_with (by decide) dX1_worth_64) pX1_with hx.1 zkl0 [_] rfl rfl (Nat.le_of_ble_eq_true rfl) (by omega) (c_X1_with hX1 hn9 hprs hprd (fun I3 P3 eW hroW fF3 e1003 => ?_))
              refine Z_iload_n dX1_worth_67 rfl ?_
              refine Z_call0 (d' := 104) (zCal_V gX1_362 nX1_endIn (by decide) dX1_worth_68) pX1_endIn hx.1 zkl0 [_, _] rfl rfl (Nat.le_of_ble_eq_true rfl) (by omega) (c_X1_endIn eW hroW hi9 (by omega) (fun q => (brg_at (by decide) np).trans (h37 q)) (fun s1 t1 I4 P4 a1 a2 a3 a4 a5 => ?_) (fun a1 I4 P4 a4 a5 => ?_))
              · have hx := eW.x.f3 a5
                have r4 : rwX I4 L2 ((List.range i).map (fun k => (gnV D ro no n np k1 k).toInt64)) := r1.fX (by rw [a4 100 (by decide) (by omega), e1003]) rfl
                refine Z_istore (lv' := [_, _, _, _, _, _, _, _]) dX1_worth_71 rfl rfl (Nat.le_of_ble_eq_true rfl) ?_
                refine Z_iload dX1_worth_73 rfl ?_
                refine Z_ifltN 82 dX1_worth_75 rfl (by omega) ?_
                refine Z_iload_n dX1_worth_78 rfl ?_
                refine Z_ifgeN 88 dX1_worth_79 rfl (by omega) ?_
                refine Z_iload_n dX1_worth_88 rfl ?_
                refine Z_iload dX1_worth_89 rfl ?_
                refine Z_isub dX1_worth_91 ?_
                have ew0 : whE D ro no n np k1 0 = some s0 := by rw [whE, brgN_00]; (try dsimp only); exact b1
                have ew1 : whE D ro no n np k1 (2 ^ i) = some s1 := by rw [whE]; (try dsimp only); exact a1
                refine Z_re (y := gnV D ro no n np k1 i) (by rw [gnV, ew1, ew0]; show _ = s0 0 - s1 0; rw [b2, a2]) ?_
                refine Z_istore (lv' := [_, _, _, _, _, _, _, _]) dX1_worth_92 rfl rfl (Nat.le_of_ble_eq_true rfl) ?_
                refine Z_aload_n dX1_worth_94 rfl ?_
                refine Z_iload dX1_worth_95 rfl ?_
                refine Z_i2l dX1_worth_97 ?_
                refine Z_call0 (d' := 0) (zCal_V gX1_101 nX1_tell (by decide) dX1_worth_98) pX1_tell hx.1 zkl0 [_] rfl rfl (Nat.le_of_ble_eq_true rfl) (by omega) (c_X1_tell hx r4 (by simp; omega) (fun J9 M9 u9 v9 => ?_))
                obtain ⟨m0, hm⟩ : ∃ m0, maxI (gnV D ro no n np k1) i = m0 := ⟨_, rfl⟩
                rw [hm]
                rcases m0 with _ | b
                · dsimp only [xgB, xgM]
                  refine Z_iload_n dX1_worth_101 rfl ?_
                  refine Z_iconst (-1) dX1_worth_102 rfl ?_
                  refine Z_icmpeq 116 dX1_worth_103 rfl (fun c103 => ?_) (fun c103 => ?_)
                  · refine Z_iload dX1_worth_116 rfl ?_
                    refine Z_istore_n (lv' := [_, _, _, _, _, _, _, _]) dX1_worth_118 rfl rfl (Nat.le_of_ble_eq_true rfl) ?_
                    refine Z_iload dX1_worth_119 rfl ?_
                    refine Z_istore (lv' := [_, _, _, _, _, _, _, _]) dX1_worth_121 rfl rfl (Nat.le_of_ble_eq_true rfl) ?_
                    refine Z_iincN (a := _) (k := 1) (lv' := [_, _, _, _, _, _, _, _]) dX1_worth_123 rfl rfl rfl rfl ?_
                    refine Z_goto 49 dX1_worth_126 rfl ?_
                    have e : maxI (gnV D ro no n np k1) (i + 1) = some (i, gnV D ro no n np k1 i) := by simp [maxI, hm]
                    have ih2 := ih (by omega) _ _ _ (((fF.tr fF3).fH a4 a5).fR v9) (by rw [List.range_succ, List.map_append]; exact u9)
                    rw [e] at ih2
                    exact Z_fgt ih2 (by repeat first | exact zwk_n | refine zwk_f ?_ | refine zwk_c rfl ?_)
                  · exact absurd rfl c103
                · dsimp only [xgB, xgM]
                  have hb1 := maxI_mem _ _ hm
                  refine Z_iload_n dX1_worth_101 rfl ?_
                  refine Z_iconst (-1) dX1_worth_102 rfl ?_
                  refine Z_icmpeq 116 dX1_worth_103 rfl (fun c103 => ?_) (fun c103 => ?_)
                  · exact absurd c103 (nI_m1 (by omega))
                  · refine Z_iload dX1_worth_106 rfl ?_
                    refine Z_iload dX1_worth_108 rfl ?_
                    refine Z_icmpgt 116 dX1_worth_110 rfl (fun c110 => ?_) (fun c110 => ?_)
                    · refine Z_iload dX1_worth_116 rfl ?_
                      refine Z_istore_n (lv' := [_, _, _, _, _, _, _, _]) dX1_worth_118 rfl rfl (Nat.le_of_ble_eq_true rfl) ?_
                      refine Z_iload dX1_worth_119 rfl ?_
                      refine Z_istore (lv' := [_, _, _, _, _, _, _, _]) dX1_worth_121 rfl rfl (Nat.le_of_ble_eq_true rfl) ?_
                      refine Z_iincN (a := _) (k := 1) (lv' := [_, _, _, _, _, _, _, _]) dX1_worth_123 rfl rfl rfl rfl ?_
                      refine Z_goto 49 dX1_worth_126 rfl ?_
                      have e : maxI (gnV D ro no n np k1) (i + 1) = some (i, gnV D ro no n np k1 i) := by simp [maxI, hm, Int32.not_le.mpr c110]
                      have ih2 := ih (by omega) _ _ _ (((fF.tr fF3).fH a4 a5).fR v9) (by rw [List.range_succ, List.map_append]; exact u9)
                      rw [e] at ih2
                      exact Z_fgt ih2 (by repeat first | exact zwk_n | refine zwk_f ?_ | refine zwk_c rfl ?_)
                    · refine Z_goto 123 dX1_worth_113 rfl ?_
                      refine Z_iincN (a := _) (k := 1) (lv' := [_, _, _, _, _, _, _, _]) dX1_worth_123 rfl rfl rfl rfl ?_
                      refine Z_goto 49 dX1_worth_126 rfl ?_
                      have e : maxI (gnV D ro no n np k1) (i + 1) = some b := by simp [maxI, hm, Int32.not_lt.mp c110]
                      have ih2 := ih (by omega) _ _ _ (((fF.tr fF3).fH a4 a5).fR v9) (by rw [List.range_succ, List.map_append]; exact u9)
                      rw [e] at ih2
                      exact Z_fgt ih2 (by repeat first | exact zwk_n | refine zwk_f ?_ | refine zwk_c rfl ?_)
              · have hx := eW.x.f3 a5
                have r4 : rwX I4 L2 ((List.range i).map (fun k => (gnV D ro no n np k1 k).toInt64)) := r1.fX (by rw [a4 100 (by decide) (by omega), e1003]) rfl
                refine Z_istore (lv' := [_, _, _, _, _, _, _, _]) dX1_worth_71 rfl rfl (Nat.le_of_ble_eq_true rfl) ?_
                refine Z_iload dX1_worth_73 rfl ?_
                refine Z_iflt 82 dX1_worth_75 rfl (fun c75 => ?_) (fun c75 => ?_)
                · refine Z_sipush (-9999) dX1_worth_82 rfl ?_
                  refine Z_goto 92 dX1_worth_85 rfl ?_
                  have ew0 : whE D ro no n np k1 0 = some s0 := by rw [whE, brgN_00]; (try dsimp only); exact b1
                  have ew1 : whE D ro no n np k1 (2 ^ i) = none := by rw [whE]; (try dsimp only); exact a1
                  refine Z_re (y := gnV D ro no n np k1 i) (by rw [gnV, ew1]) ?_
                  refine Z_istore (lv' := [_, _, _, _, _, _, _, _]) dX1_worth_92 rfl rfl (Nat.le_of_ble_eq_true rfl) ?_
                  refine Z_aload_n dX1_worth_94 rfl ?_
                  refine Z_iload dX1_worth_95 rfl ?_
                  refine Z_i2l dX1_worth_97 ?_
                  refine Z_call0 (d' := 0) (zCal_V gX1_101 nX1_tell (by decide) dX1_worth_98) pX1_tell hx.1 zkl0 [_] rfl rfl (Nat.le_of_ble_eq_true rfl) (by omega) (c_X1_tell hx r4 (by simp; omega) (fun J9 M9 u9 v9 => ?_))
                  obtain ⟨m0, hm⟩ : ∃ m0, maxI (gnV D ro no n np k1) i = m0 := ⟨_, rfl⟩
                  rw [hm]
                  rcases m0 with _ | b
                  · dsimp only [xgB, xgM]
                    refine Z_iload_n dX1_worth_101 rfl ?_
                    refine Z_iconst (-1) dX1_worth_102 rfl ?_
                    refine Z_icmpeq 116 dX1_worth_103 rfl (fun c103 => ?_) (fun c103 => ?_)
                    · refine Z_iload dX1_worth_116 rfl ?_
                      refine Z_istore_n (lv' := [_, _, _, _, _, _, _, _]) dX1_worth_118 rfl rfl (Nat.le_of_ble_eq_true rfl) ?_
                      refine Z_iload dX1_worth_119 rfl ?_
                      refine Z_istore (lv' := [_, _, _, _, _, _, _, _]) dX1_worth_121 rfl rfl (Nat.le_of_ble_eq_true rfl) ?_
                      refine Z_iincN (a := _) (k := 1) (lv' := [_, _, _, _, _, _, _, _]) dX1_worth_123 rfl rfl rfl rfl ?_
                      refine Z_goto 49 dX1_worth_126 rfl ?_
                      have e : maxI (gnV D ro no n np k1) (i + 1) = some (i, gnV D ro no n np k1 i) := by simp [maxI, hm]
                      have ih2 := ih (by omega) _ _ _ (((fF.tr fF3).fH a4 a5).fR v9) (by rw [List.range_succ, List.map_append]; exact u9)
                      rw [e] at ih2
                      exact Z_fgt ih2 (by repeat first | exact zwk_n | refine zwk_f ?_ | refine zwk_c rfl ?_)
                    · exact absurd rfl c103
                  · dsimp only [xgB, xgM]
                    have hb1 := maxI_mem _ _ hm
                    refine Z_iload_n dX1_worth_101 rfl ?_
                    refine Z_iconst (-1) dX1_worth_102 rfl ?_
                    refine Z_icmpeq 116 dX1_worth_103 rfl (fun c103 => ?_) (fun c103 => ?_)
                    · exact absurd c103 (nI_m1 (by omega))
                    · refine Z_iload dX1_worth_106 rfl ?_
                      refine Z_iload dX1_worth_108 rfl ?_
                      refine Z_icmpgt 116 dX1_worth_110 rfl (fun c110 => ?_) (fun c110 => ?_)
                      · refine Z_iload dX1_worth_116 rfl ?_
                        refine Z_istore_n (lv' := [_, _, _, _, _, _, _, _]) dX1_worth_118 rfl rfl (Nat.le_of_ble_eq_true rfl) ?_
                        refine Z_iload dX1_worth_119 rfl ?_
                        refine Z_istore (lv' := [_, _, _, _, _, _, _, _]) dX1_worth_121 rfl rfl (Nat.le_of_ble_eq_true rfl) ?_
                        refine Z_iincN (a := _) (k := 1) (lv' := [_, _, _, _, _, _, _, _]) dX1_worth_123 rfl rfl rfl rfl ?_
                        refine Z_goto 49 dX1_worth_126 rfl ?_
                        have e : maxI (gnV D ro no n np k1) (i + 1) = some (i, gnV D ro no n np k1 i) := by simp [maxI, hm, Int32.not_le.mpr c110]
                        have ih2 := ih (by omega) _ _ _ (((fF.tr fF3).fH a4 a5).fR v9) (by rw [List.range_succ, List.map_append]; exact u9)
                        rw [e] at ih2
                        exact Z_fgt ih2 (by repeat first | exact zwk_n | refine zwk_f ?_ | refine zwk_c rfl ?_)
                      · refine Z_goto 123 dX1_worth_113 rfl ?_
                        refine Z_iincN (a := _) (k := 1) (lv' := [_, _, _, _, _, _, _, _]) dX1_worth_123 rfl rfl rfl rfl ?_
                        refine Z_goto 49 dX1_worth_126 rfl ?_
                        have e : maxI (gnV D ro no n np k1) (i + 1) = some b := by simp [maxI, hm, Int32.not_lt.mp c110]
                        have ih2 := ih (by omega) _ _ _ (((fF.tr fF3).fH a4 a5).fR v9) (by rw [List.range_succ, List.map_append]; exact u9)
                        rw [e] at ih2
                        exact Z_fgt ih2 (by repeat first | exact zwk_n | refine zwk_f ?_ | refine zwk_c rfl ?_)
                · exact absurd (show (-2 : Int32) < 0 by decide) c75
          exact lp49 0 (by omega) _ L P0 (((fX.rf hN).fH b4 b5).fR fR.rf.z) rwX.z
        · refine Z_istore_n (lv' := [_, _, _, _, _, _, _, _]) dX1_worth_35 rfl rfl (Nat.le_of_ble_eq_true rfl) ?_
          refine Z_iconst (-1) dX1_worth_36 rfl ?_
          refine Z_istore_n (lv' := [_, _, _, _, _, _, _, _]) dX1_worth_37 rfl rfl (Nat.le_of_ble_eq_true rfl) ?_
          refine Z_iconst (nI 0) dX1_worth_38 rfl ?_
          refine Z_istore (lv' := [_, _, _, _, _, _, _, _]) dX1_worth_39 rfl rfl (Nat.le_of_ble_eq_true rfl) ?_
          refine Z_aload_n dX1_worth_41 rfl ?_
          refine Z_iconst (nI 0) dX1_worth_42 rfl ?_
          refine Z_putI hx.1 fX1_94_0 dX1_worth_43 rfl rfl rfl ?_
          refine Z_iconst (nI 0) dX1_worth_46 rfl ?_
          refine Z_istore (lv' := [_, _, _, _, _, _, _, _]) dX1_worth_47 rfl rfl (Nat.le_of_ble_eq_true rfl) ?_
          have lp49 : ∀ i, i ≤ np → ∀ I2 L2 P2, fX I L P S I2 L2 P2 S → rwX I2 L2 ((List.range i).map (fun k => (gnV D ro no n np k1 k).toInt64)) → Zj G mX1_worth 105 C Sl 49 [.ref 100, .int (nI k1), .int (-2), .int (xgB (maxI (gnV D ro no n np k1) i)), .int (xgM (maxI (gnV D ro no n np k1) i)), .int (nI i), .retAddr 0, .retAddr 0] [] I2 L2 P2 S Q := by
            refine zloop (np) (fun i => ∀ I2 L2 P2, fX I L P S I2 L2 P2 S → rwX I2 L2 ((List.range i).map (fun k => (gnV D ro no n np k1 k).toInt64)) → Zj G mX1_worth 105 C Sl 49 [.ref 100, .int (nI k1), .int (-2), .int (xgB (maxI (gnV D ro no n np k1) i)), .int (xgM (maxI (gnV D ro no n np k1) i)), .int (nI i), .retAddr 0, .retAddr 0] [] I2 L2 P2 S Q) (fun i hi ih => ?_)
            intro I2 L2 P2 fF r1
            show Zj _ _ _ _ _ _ _ _ _ _ _ _ _
            have hX1 := hX.go fF r1
            have hx := hX1.1.x
            have h14 := hX1.2.2.1.1.2
            refine Z_iload dX1_worth_49 rfl ?_
            refine Z_aload_n dX1_worth_51 rfl ?_
            refine Z_getI hx.1 fX1_352_0 dX1_worth_52 rfl ?_
            refine Z_re (y := nI (np)) h14 ?_
            refine Z_icmpgeN 129 dX1_worth_55 rfl (by omega) (by omega) (fun c55 => ?_) (fun c55 => ?_)
            · refine Z_iload_n dX1_worth_129 rfl ?_
              refine Z_ireturn dX1_worth_130 rfl rfl ?_
              have ei : i = np := by omega
              obtain ⟨b, hb⟩ := maxI_0 (g := gnV D ro no n np k1) np (by omega)
              rw [ei] at r1
              rw [ei, hb]
              exact xO_k (D2 := D) (R2 := ((List.range np).map (fun k => (gnV D ro no n np k1 k).toInt64))) (by rw [fWorth, if_pos (by rw [rr1, decide_eq_false (fun e => c11 ((nI_z (by omega)).mp ((show D 0 16 = nI n from hw.n16).symm.trans e)))]; rfl), if_neg (fun e => c20 ((nI_z (by omega)).mp (hn50.symm.trans e))), v1, hb]; rfl) k (hX.go fF r1) fF.frX
            · refine Z_aload_n dX1_worth_58 rfl ?_
              refine Z_aload_n dX1_worth_59 rfl ?_
              refine Z_iconst (nI 1) dX1_worth_60 rfl ?_
              refine Z_iload dX1_worth_61 rfl ?_
              refine Z_ishl dX1_worth_63 ?_
              have p2i := p2_lt (k := i) (by omega)
              rw [shl1 (by omega)]
              refine Z_call0 (d' := 2) (zCal_V gX1_358 nX1_with (by decide) dX1_worth_64) pX1_with hx.1 zkl0 [_] rfl rfl (Nat.le_of_ble_eq_true rfl) (by omega) (c_X1_with hX1 hn9 hprs hprd (fun I3 P3 eW hroW fF3 e1003 => ?_))
              refine Z_iload_n dX1_worth_67 rfl ?_
              refine Z_call0 (d' := 104) (zCal_V gX1_362 nX1_endIn (by decide) dX1_worth_68) pX1_endIn hx.1 zkl0 [_, _] rfl rfl (Nat.le_of_ble_eq_true rfl) (by omega) (c_X1_endIn eW hroW hi9 (by omega) (fun q => (brg_at (by decide) np).trans (h37 q)) (fun s1 t1 I4 P4 a1 a2 a3 a4 a5 => ?_) (fun a1 I4 P4 a4 a5 => ?_))
              · have hx := eW.x.f3 a5
                have r4 : rwX I4 L2 ((List.range i).map (fun k => (gnV D ro no n np k1 k).toInt64)) := r1.fX (by rw [a4 100 (by decide) (by omega), e1003]) rfl
                refine Z_istore (lv' := [_, _, _, _, _, _, _, _]) dX1_worth_71 rfl rfl (Nat.le_of_ble_eq_true rfl) ?_
                refine Z_iload dX1_worth_73 rfl ?_
                refine Z_ifltN 82 dX1_worth_75 rfl (by omega) ?_
                refine Z_iload_n dX1_worth_78 rfl ?_
                refine Z_ifge 88 dX1_worth_79 rfl (fun c79 => ?_) (fun c79 => ?_)
                · exact absurd c79 (by decide)
                · refine Z_sipush (-9999) dX1_worth_82 rfl ?_
                  refine Z_goto 92 dX1_worth_85 rfl ?_
                  have ew0 : whE D ro no n np k1 0 = none := by rw [whE, brgN_00]; (try dsimp only); exact b1
                  have ew1 : whE D ro no n np k1 (2 ^ i) = some s1 := by rw [whE]; (try dsimp only); exact a1
                  refine Z_re (y := gnV D ro no n np k1 i) (by rw [gnV, ew1, ew0]) ?_
                  refine Z_istore (lv' := [_, _, _, _, _, _, _, _]) dX1_worth_92 rfl rfl (Nat.le_of_ble_eq_true rfl) ?_
                  refine Z_aload_n dX1_worth_94 rfl ?_
                  refine Z_iload dX1_worth_95 rfl ?_
                  refine Z_i2l dX1_worth_97 ?_
                  refine Z_call0 (d' := 0) (zCal_V gX1_101 nX1_tell (by decide) dX1_worth_98) pX1_tell hx.1 zkl0 [_] rfl rfl (Nat.le_of_ble_eq_true rfl) (by omega) (c_X1_tell hx r4 (by simp; omega) (fun J9 M9 u9 v9 => ?_))
                  obtain ⟨m0, hm⟩ : ∃ m0, maxI (gnV D ro no n np k1) i = m0 := ⟨_, rfl⟩
                  rw [hm]
                  rcases m0 with _ | b
                  · dsimp only [xgB, xgM]
                    refine Z_iload_n dX1_worth_101 rfl ?_
                    refine Z_iconst (-1) dX1_worth_102 rfl ?_
                    refine Z_icmpeq 116 dX1_worth_103 rfl (fun c103 => ?_) (fun c103 => ?_)
                    · refine Z_iload dX1_worth_116 rfl ?_
                      refine Z_istore_n (lv' := [_, _, _, _, _, _, _, _]) dX1_worth_118 rfl rfl (Nat.le_of_ble_eq_true rfl) ?_
                      refine Z_iload dX1_worth_119 rfl ?_
                      refine Z_istore (lv' := [_, _, _, _, _, _, _, _]) dX1_worth_121 rfl rfl (Nat.le_of_ble_eq_true rfl) ?_
                      refine Z_iincN (a := _) (k := 1) (lv' := [_, _, _, _, _, _, _, _]) dX1_worth_123 rfl rfl rfl rfl ?_
                      refine Z_goto 49 dX1_worth_126 rfl ?_
                      have e : maxI (gnV D ro no n np k1) (i + 1) = some (i, gnV D ro no n np k1 i) := by simp [maxI, hm]
                      have ih2 := ih (by omega) _ _ _ (((fF.tr fF3).fH a4 a5).fR v9) (by rw [List.range_succ, List.map_append]; exact u9)
                      rw [e] at ih2
                      exact Z_fgt ih2 (by repeat first | exact zwk_n | refine zwk_f ?_ | refine zwk_c rfl ?_)
                    · exact absurd rfl c103
                  · dsimp only [xgB, xgM]
                    have hb1 := maxI_mem _ _ hm
                    refine Z_iload_n dX1_worth_101 rfl ?_
                    refine Z_iconst (-1) dX1_worth_102 rfl ?_
                    refine Z_icmpeq 116 dX1_worth_103 rfl (fun c103 => ?_) (fun c103 => ?_)
                    · exact absurd c103 (nI_m1 (by omega))
                    · refine Z_iload dX1_worth_106 rfl ?_
                      refine Z_iload dX1_worth_108 rfl ?_
                      refine Z_icmpgt 116 dX1_worth_110 rfl (fun c110 => ?_) (fun c110 => ?_)
                      · refine Z_iload dX1_worth_116 rfl ?_
                        refine Z_istore_n (lv' := [_, _, _, _, _, _, _, _]) dX1_worth_118 rfl rfl (Nat.le_of_ble_eq_true rfl) ?_
                        refine Z_iload dX1_worth_119 rfl ?_
                        refine Z_istore (lv' := [_, _, _, _, _, _, _, _]) dX1_worth_121 rfl rfl (Nat.le_of_ble_eq_true rfl) ?_
                        refine Z_iincN (a := _) (k := 1) (lv' := [_, _, _, _, _, _, _, _]) dX1_worth_123 rfl rfl rfl rfl ?_
                        refine Z_goto 49 dX1_worth_126 rfl ?_
                        have e : maxI (gnV D ro no n np k1) (i + 1) = some (i, gnV D ro no n np k1 i) := by simp [maxI, hm, Int32.not_le.mpr c110]
                        have ih2 := ih (by omega) _ _ _ (((fF.tr fF3).fH a4 a5).fR v9) (by rw [List.range_succ, List.map_append]; exact u9)
                        rw [e] at ih2
                        exact Z_fgt ih2 (by repeat first | exact zwk_n | refine zwk_f ?_ | refine zwk_c rfl ?_)
                      · refine Z_goto 123 dX1_worth_113 rfl ?_
                        refine Z_iincN (a := _) (k := 1) (lv' := [_, _, _, _, _, _, _, _]) dX1_worth_123 rfl rfl rfl rfl ?_
                        refine Z_goto 49 dX1_worth_126 rfl ?_
                        have e : maxI (gnV D ro no n np k1) (i + 1) = some b := by simp [maxI, hm, Int32.not_lt.mp c110]
                        have ih2 := ih (by omega) _ _ _ (((fF.tr fF3).fH a4 a5).fR v9) (by rw [List.range_succ, List.map_append]; exact u9)
                        rw [e] at ih2
                        exact Z_fgt ih2 (by repeat first | exact zwk_n | refine zwk_f ?_ | refine zwk_c rfl ?_)
              · have hx := eW.x.f3 a5
                have r4 : rwX I4 L2 ((List.range i).map (fun k => (gnV D ro no n np k1 k).toInt64)) := r1.fX (by rw [a4 100 (by decide) (by omega), e1003]) rfl
                refine Z_istore (lv' := [_, _, _, _, _, _, _, _]) dX1_worth_71 rfl rfl (Nat.le_of_ble_eq_true rfl) ?_
                refine Z_iload dX1_worth_73 rfl ?_
                refine Z_iflt 82 dX1_worth_75 rfl (fun c75 => ?_) (fun c75 => ?_)
                · refine Z_sipush (-9999) dX1_worth_82 rfl ?_
                  refine Z_goto 92 dX1_worth_85 rfl ?_
                  have ew0 : whE D ro no n np k1 0 = none := by rw [whE, brgN_00]; (try dsimp only); exact b1
                  have ew1 : whE D ro no n np k1 (2 ^ i) = none := by rw [whE]; (try dsimp only); exact a1
                  refine Z_re (y := gnV D ro no n np k1 i) (by rw [gnV, ew1]) ?_
                  refine Z_istore (lv' := [_, _, _, _, _, _, _, _]) dX1_worth_92 rfl rfl (Nat.le_of_ble_eq_true rfl) ?_
                  refine Z_aload_n dX1_worth_94 rfl ?_
                  refine Z_iload dX1_worth_95 rfl ?_
                  refine Z_i2l dX1_worth_97 ?_
                  refine Z_call0 (d' := 0) (zCal_V gX1_101 nX1_tell (by decide) dX1_worth_98) pX1_tell hx.1 zkl0 [_] rfl rfl (Nat.le_of_ble_eq_true rfl) (by omega) (c_X1_tell hx r4 (by simp; omega) (fun J9 M9 u9 v9 => ?_))
                  obtain ⟨m0, hm⟩ : ∃ m0, maxI (gnV D ro no n np k1) i = m0 := ⟨_, rfl⟩
                  rw [hm]
                  rcases m0 with _ | b
                  · dsimp only [xgB, xgM]
                    refine Z_iload_n dX1_worth_101 rfl ?_
                    refine Z_iconst (-1) dX1_worth_102 rfl ?_
                    refine Z_icmpeq 116 dX1_worth_103 rfl (fun c103 => ?_) (fun c103 => ?_)
                    · refine Z_iload dX1_worth_116 rfl ?_
                      refine Z_istore_n (lv' := [_, _, _, _, _, _, _, _]) dX1_worth_118 rfl rfl (Nat.le_of_ble_eq_true rfl) ?_
                      refine Z_iload dX1_worth_119 rfl ?_
                      refine Z_istore (lv' := [_, _, _, _, _, _, _, _]) dX1_worth_121 rfl rfl (Nat.le_of_ble_eq_true rfl) ?_
                      refine Z_iincN (a := _) (k := 1) (lv' := [_, _, _, _, _, _, _, _]) dX1_worth_123 rfl rfl rfl rfl ?_
                      refine Z_goto 49 dX1_worth_126 rfl ?_
                      have e : maxI (gnV D ro no n np k1) (i + 1) = some (i, gnV D ro no n np k1 i) := by simp [maxI, hm]
                      have ih2 := ih (by omega) _ _ _ (((fF.tr fF3).fH a4 a5).fR v9) (by rw [List.range_succ, List.map_append]; exact u9)
                      rw [e] at ih2
                      exact Z_fgt ih2 (by repeat first | exact zwk_n | refine zwk_f ?_ | refine zwk_c rfl ?_)
                    · exact absurd rfl c103
                  · dsimp only [xgB, xgM]
                    have hb1 := maxI_mem _ _ hm
                    refine Z_iload_n dX1_worth_101 rfl ?_
                    refine Z_iconst (-1) dX1_worth_102 rfl ?_
                    refine Z_icmpeq 116 dX1_worth_103 rfl (fun c103 => ?_) (fun c103 => ?_)
                    · exact absurd c103 (nI_m1 (by omega))
                    · refine Z_iload dX1_worth_106 rfl ?_
                      refine Z_iload dX1_worth_108 rfl ?_
                      refine Z_icmpgt 116 dX1_worth_110 rfl (fun c110 => ?_) (fun c110 => ?_)
                      · refine Z_iload dX1_worth_116 rfl ?_
                        refine Z_istore_n (lv' := [_, _, _, _, _, _, _, _]) dX1_worth_118 rfl rfl (Nat.le_of_ble_eq_true rfl) ?_
                        refine Z_iload dX1_worth_119 rfl ?_
                        refine Z_istore (lv' := [_, _, _, _, _, _, _, _]) dX1_worth_121 rfl rfl (Nat.le_of_ble_eq_true rfl) ?_
                        refine Z_iincN (a := _) (k := 1) (lv' := [_, _, _, _, _, _, _, _]) dX1_worth_123 rfl rfl rfl rfl ?_
                        refine Z_goto 49 dX1_worth_126 rfl ?_
                        have e : maxI (gnV D ro no n np k1) (i + 1) = some (i, gnV D ro no n np k1 i) := by simp [maxI, hm, Int32.not_le.mpr c110]
                        have ih2 := ih (by omega) _ _ _ (((fF.tr fF3).fH a4 a5).fR v9) (by rw [List.range_succ, List.map_append]; exact u9)
                        rw [e] at ih2
                        exact Z_fgt ih2 (by repeat first | exact zwk_n | refine zwk_f ?_ | refine zwk_c rfl ?_)
                      · refine Z_goto 123 dX1_worth_113 rfl ?_
                        refine Z_iincN (a := _) (k := 1) (lv' := [_, _, _, _, _, _, _, _]) dX1_worth_123 rfl rfl rfl rfl ?_
                        refine Z_goto 49 dX1_worth_126 rfl ?_
                        have e : maxI (gnV D ro no n np k1) (i + 1) = some b := by simp [maxI, hm, Int32.not_lt.mp c110]
                        have ih2 := ih (by omega) _ _ _ (((fF.tr fF3).fH a4 a5).fR v9) (by rw [List.range_succ, List.map_append]; exact u9)
                        rw [e] at ih2
                        exact Z_fgt ih2 (by repeat first | exact zwk_n | refine zwk_f ?_ | refine zwk_c rfl ?_)
                · exact absurd (show (-2 : Int32) < 0 by decide) c75
          exact lp49 0 (by omega) _ L P0 (((fX.rf hN).fH b4 b5).fR fR.rf.z) rwX.z
      · refine Z_bipush (-2) dX1_worth_23 rfl ?_
        refine Z_ireturn dX1_worth_25 rfl rfl ?_
        exact xO_k (by rw [fWorth, if_pos (by rw [r1, decide_eq_false (fun e => c11 ((nI_z (by omega)).mp ((show D 0 16 = nI n from hw.n16).symm.trans e)))]; rfl), if_pos (by rw [hn50, c20]; rfl)]) k hX frX.rf
    · refine Z_iconst (-1) dX1_worth_14 rfl ?_
      refine Z_ireturn dX1_worth_15 rfl rfl ?_
      exact xO_k (by simp [fWorth, show D 0 16 = nI n from hw.n16, nI_0, r1, v1, c11]) k hX frX.rf
  · have r1 : rB h 0 2399 = false := rB_f h1
    refine Z_ifeq 14 dX1_worth_4 rfl (fun _ => ?_) (fun h => absurd h (by decide))
    refine Z_iconst (-1) dX1_worth_14 rfl ?_
    refine Z_ireturn dX1_worth_15 rfl rfl ?_
    exact xO_k (by simp [fWorth, show D 0 16 = nI n from hw.n16, nI_0, r1]) k hX frX.rf
end X20C
