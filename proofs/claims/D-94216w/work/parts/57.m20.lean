set_option maxRecDepth 100000
/-! THE MODEL, part 20: pairs -/
section M20
variable {G : zG} {d C Sl : Nat} {I D W : zI} {R : List Int64} {L : zL} {P : zR} {S : zT} {Q : zQ} {no n np : Nat} {s : zS}
set_option maxHeartbeats 4000000 in
theorem o_pair (hR : mR D R I L P S) (hw : wf (wld D) no n) (h50 : D 0 50 = nI np) (hnp : np ≤ 9) {a b y : Int32} (k : ∀ I2 L2, mR (fPair D R np a b y).2.1 (fPair D R np a b y).2.2 I2 L2 P S → frM I L I2 L2 → Q (.inl (some (.int (fPair D R np a b y).1))) I2 L2 P S) : Zm G mX5_pair 3 C Sl [.ref 0, .int a, .int b, .int y] I L P S Q := by
  have hM := hR.1
  refine Z_entry (lv := [_, _, _, _, _]) (Nat.le_of_ble_eq_true rfl) rfl ?_
  refine Z_aload_n dX5_pair_0 rfl ?_
  refine Z_iconst (nI 0) dX5_pair_1 rfl ?_
  refine Z_putI hM.1 fX5_3_4 dX5_pair_2 rfl rfl rfl ?_
  refine Z_start hR (fun I1 hR1 f1 h00 => ?_)
  have hw8 := hw.n8
  have hw6 := hw.o6
  have hM := hR1.1
  have hD : mdat I1 = D := hR1.2.2.1
  have hW : wld I1 = wld D := wld_mdat hD
  have hs : I1 23 = D 23 := funext fun j => dr hD rfl
  have hno : noD D = no := by rw [noD, show D 0 3 = nI no from hw.o3, nI_clamp (by omega)]
  have hnn : nD D = n := by rw [nD, show D 0 16 = nI n from hw.n16, nI_clamp (by omega)]
  have hI3 : I1 0 3 = nI no := (wr hW rfl).trans hw.o3
  have hI16 : I1 0 16 = nI n := (wr hW rfl).trans hw.n16
  have h50i : I1 0 50 = nI np := (dr hD rfl).trans h50
  refine Z_aload_n dX5_pair_5 rfl ?_
  refine Z_iload_n dX5_pair_6 rfl ?_
  refine Z_call0 (d' := 1) (zCal_V gX5_77 nX5_isOffice (by decide) dX5_pair_7) pX5_isOffice hM.1 zkl4 [_] rfl rfl (Nat.le_of_ble_eq_true rfl) (by omega) (c_X5_isOffice hM (by omega) hI3 (fun k7 hk7 e7 => ?_) (fun h7 => ?_))
  · subst e7
    have r7 : oB D (nI k7) = true := rB_t (by rw [z_ti (by omega)]; omega) (by rw [z_ti (by omega), hno]; omega)
    have v7 : (nI k7).toNatClampNeg = k7 := nI_clamp (by omega)
    refine Z_ifeq 47 dX5_pair_10 rfl (fun h => absurd h (by decide)) (fun _ => ?_)
    refine Z_aload_n dX5_pair_13 rfl ?_
    refine Z_iload_n dX5_pair_14 rfl ?_
    refine Z_call0 (d' := 1) (zCal_V gX5_77 nX5_isOffice (by decide) dX5_pair_15) pX5_isOffice hM.1 zkl4 [_] rfl rfl (Nat.le_of_ble_eq_true rfl) (by omega) (c_X5_isOffice hM (by omega) hI3 (fun k15 hk15 e15 => ?_) (fun h15 => ?_))
    · subst e15
      have r15 : oB D (nI k15) = true := rB_t (by rw [z_ti (by omega)]; omega) (by rw [z_ti (by omega), hno]; omega)
      have v15 : (nI k15).toNatClampNeg = k15 := nI_clamp (by omega)
      refine Z_ifeq 47 dX5_pair_18 rfl (fun h => absurd h (by decide)) (fun _ => ?_)
      refine Z_iload_n dX5_pair_21 rfl ?_
      refine Z_iload_n dX5_pair_22 rfl ?_
      refine Z_icmpeqN 47 dX5_pair_23 rfl (by omega) (by omega) (fun c23 => ?_) (fun c23 => ?_)
      · refine Z_iconst (-1) dX5_pair_47 rfl ?_
        refine Z_ireturn dX5_pair_48 rfl rfl ?_
        exact zO_k (by simp [fPair, h50, nI_eq, r7, v7, r15, v15, c23]) k hR1 f1
      · refine Z_iload_n dX5_pair_26 rfl ?_
        refine Z_i2l dX5_pair_27 ?_
        refine Z_lconst (1) dX5_pair_28 rfl ?_
        refine Z_ldc2 q1244 dX5_pair_29 ?_
        refine Z_callS0 (d' := 0) (zCal_S gX5_25 nX5_in (by decide) dX5_pair_32) pX5_in [_, _, _] rfl rfl (Nat.le_of_ble_eq_true rfl) (by omega) (c_X5_in (fun h32a h32b => ?_) (fun h32 => ?_))
        · rw [z_i64] at h32a h32b
          have r32 : rB y 1 99 = true := rB_t h32a h32b
          refine Z_ifeq 47 dX5_pair_35 rfl (fun h => absurd h (by decide)) (fun _ => ?_)
          refine Z_aload_n dX5_pair_38 rfl ?_
          refine Z_getI hM.1 fX5_434_4 dX5_pair_39 rfl ?_
          refine Z_re (y := nI (np)) h50i ?_
          refine Z_bipush (nI 9) dX5_pair_42 rfl ?_
          refine Z_icmpneN 49 dX5_pair_44 rfl (by omega) (by omega) (fun c44 => ?_) (fun c44 => ?_)
          · refine Z_iconst (nI 0) dX5_pair_49 rfl ?_
            refine Z_istore (lv' := [_, _, _, _, _]) dX5_pair_50 rfl rfl (Nat.le_of_ble_eq_true rfl) ?_
            have lp52 : ∀ i, i ≤ np → fstB (pr1 D (nI k7) (nI k15)) i = none → Zj G mX5_pair 3 C Sl 52 [.ref 0, .int (nI k7), .int (nI k15), .int y, .int (nI i)] [] I1 L P S Q := by
              refine zloop (np) (fun i => fstB (pr1 D (nI k7) (nI k15)) i = none → Zj G mX5_pair 3 C Sl 52 [.ref 0, .int (nI k7), .int (nI k15), .int y, .int (nI i)] [] I1 L P S Q) (fun i hi ih => ?_)
              intro hF
              show Zj _ _ _ _ _ _ _ _ _ _ _ _ _
              refine Z_iload dX5_pair_52 rfl ?_
              refine Z_aload_n dX5_pair_54 rfl ?_
              refine Z_getI hM.1 fX5_434_4 dX5_pair_55 rfl ?_
              refine Z_re (y := nI (np)) h50i ?_
              refine Z_icmpgeN 113 dX5_pair_58 rfl (by omega) (by omega) (fun c58 => ?_) (fun c58 => ?_)
              · refine Z_aload_n dX5_pair_113 rfl ?_
                refine Z_getR (r := 51) hM.1 fX5_437_4 dX5_pair_114 rfl (hM.2.2 51 _ rfl rfl) ?_
                refine Z_aload_n dX5_pair_117 rfl ?_
                refine Z_getI hM.1 fX5_434_4 dX5_pair_118 rfl ?_
                refine Z_re (y := nI (np)) h50i ?_
                refine Z_iload_n dX5_pair_121 rfl ?_
                refine Z_iast (hM.2.1 51 _ rfl) (zix_nI (by omega) (by decide)) dX5_pair_122 ?_
                refine Z_aload_n dX5_pair_123 rfl ?_
                refine Z_getR (r := 52) hM.1 fX5_440_4 dX5_pair_124 rfl (hM.2.2 52 _ rfl rfl) ?_
                refine Z_aload_n dX5_pair_127 rfl ?_
                refine Z_getI hM.1 fX5_434_4 dX5_pair_128 rfl ?_
                refine Z_re (y := nI (np)) h50i ?_
                refine Z_iload_n dX5_pair_131 rfl ?_
                refine Z_iast (hM.2.1 52 _ rfl) (zix_nI (by omega) (by decide)) dX5_pair_132 ?_
                refine Z_aload_n dX5_pair_133 rfl ?_
                refine Z_getR (r := 53) hM.1 fX5_443_4 dX5_pair_134 rfl (hM.2.2 53 _ rfl rfl) ?_
                refine Z_aload_n dX5_pair_137 rfl ?_
                refine Z_getI hM.1 fX5_434_4 dX5_pair_138 rfl ?_
                refine Z_re (y := nI (np)) h50i ?_
                refine Z_iload_n dX5_pair_141 rfl ?_
                refine Z_iast (hM.2.1 53 _ rfl) (zix_nI (by omega) (by decide)) dX5_pair_142 ?_
                refine Z_aload_n dX5_pair_143 rfl ?_
                refine Z_dup dX5_pair_144 rfl ?_
                refine Z_getI hM.1 fX5_434_4 dX5_pair_145 rfl ?_
                refine Z_re (y := nI (np)) h50i ?_
                refine Z_iconst (nI 1) dX5_pair_148 rfl ?_
                refine Z_iaddN dX5_pair_149 ?_
                refine Z_putI hM.1 fX5_434_4 dX5_pair_150 rfl rfl rfl ?_
                refine Z_aload_n dX5_pair_153 rfl ?_
                refine Z_getI hM.1 fX5_434_4 dX5_pair_154 rfl ?_
                refine Z_re (y := nI (np + 1)) (zw_s _ _ _ _) ?_
                refine Z_ireturn dX5_pair_157 rfl rfl ?_
                have ei : i = np := by omega
                rw [ei] at hF
                have n9 : ¬ nI np = nI 9 := fun e => c44 ((nI_eq (by omega) (by decide)).mp e)
                have n23 : ¬ nI k7 = nI k15 := fun e => c23 ((nI_eq (by omega) (by omega)).mp e)
                exact zO_k (D2 := zw (zw (zw (zw D 51 np (nI k7)) 52 np (nI k15)) 53 np y) 0 50 (nI (np + 1))) (R2 := R) (by simp [fPair, h50, nI_add, r7, r15, r32, n9, n23, hF, zw_s]) k ((((hR1.zw rfl).zw rfl).zw rfl).zw rfl) (f1.tr ((((frM.rf.st (by decide)).st (by decide)).st (by decide)).st (by decide)))
              · refine Z_aload_n dX5_pair_61 rfl ?_
                refine Z_getR (r := 51) hM.1 fX5_437_4 dX5_pair_62 rfl (hM.2.2 51 _ rfl rfl) ?_
                refine Z_iload dX5_pair_65 rfl ?_
                refine Z_iald (hM.2.1 51 _ rfl) (zix_nI (by omega) (by decide)) dX5_pair_67 ?_
                refine Z_re (dr hD rfl) ?_
                refine Z_iload_n dX5_pair_68 rfl ?_
                refine Z_icmpne 83 dX5_pair_69 rfl (fun c69 => ?_) (fun c69 => ?_)
                · refine Z_aload_n dX5_pair_83 rfl ?_
                  refine Z_getR (r := 51) hM.1 fX5_437_4 dX5_pair_84 rfl (hM.2.2 51 _ rfl rfl) ?_
                  refine Z_iload dX5_pair_87 rfl ?_
                  refine Z_iald (hM.2.1 51 _ rfl) (zix_nI (by omega) (by decide)) dX5_pair_89 ?_
                  refine Z_re (dr hD rfl) ?_
                  refine Z_iload_n dX5_pair_90 rfl ?_
                  refine Z_icmpne 107 dX5_pair_91 rfl (fun c91 => ?_) (fun c91 => ?_)
                  · refine Z_iincN (a := _) (k := 1) (lv' := [_, _, _, _, _]) dX5_pair_107 rfl rfl rfl rfl ?_
                    refine Z_goto 52 dX5_pair_110 rfl ?_
                    have e : pr1 D (nI k7) (nI k15) i = false := by
                      rw [pr1, Bool.eq_false_iff]
                      intro q
                      simp only [Bool.or_eq_true, Bool.and_eq_true, decide_eq_true_eq] at q
                      rcases q with ⟨q1, q2⟩ | ⟨q1, q2⟩
                      · first | exact c69 q1 | exact c80 q2
                      · first | exact c91 q1 | exact c102 q2
                    exact ih (by omega) (by simp [fstB, hF, e])
                  · refine Z_aload_n dX5_pair_94 rfl ?_
                    refine Z_getR (r := 52) hM.1 fX5_440_4 dX5_pair_95 rfl (hM.2.2 52 _ rfl rfl) ?_
                    refine Z_iload dX5_pair_98 rfl ?_
                    refine Z_iald (hM.2.1 52 _ rfl) (zix_nI (by omega) (by decide)) dX5_pair_100 ?_
                    refine Z_re (dr hD rfl) ?_
                    refine Z_iload_n dX5_pair_101 rfl ?_
                    refine Z_icmpne 107 dX5_pair_102 rfl (fun c102 => ?_) (fun c102 => ?_)
                    · refine Z_iincN (a := _) (k := 1) (lv' := [_, _, _, _, _]) dX5_pair_107 rfl rfl rfl rfl ?_
                      refine Z_goto 52 dX5_pair_110 rfl ?_
                      have e : pr1 D (nI k7) (nI k15) i = false := by
                        rw [pr1, Bool.eq_false_iff]
                        intro q
                        simp only [Bool.or_eq_true, Bool.and_eq_true, decide_eq_true_eq] at q
                        rcases q with ⟨q1, q2⟩ | ⟨q1, q2⟩
                        · first | exact c69 q1 | exact c80 q2
                        · first | exact c91 q1 | exact c102 q2
                      exact ih (by omega) (by simp [fstB, hF, e])
                    · refine Z_iconst (-1) dX5_pair_105 rfl ?_
                      refine Z_ireturn dX5_pair_106 rfl rfl ?_
                      have e : pr1 D (nI k7) (nI k15) i = true := by
                        rw [pr1]
                        first | (simp [c69, c80]; done) | (simp [c91, c102]; done)
                      have e2 : fstB (pr1 D (nI k7) (nI k15)) np = some i := fstB_up (a := i + 1) (by simp [fstB, hF, e]) np (by omega)
                      exact zO_k (by simp [fPair, e2]) k hR1 f1
                · refine Z_aload_n dX5_pair_72 rfl ?_
                  refine Z_getR (r := 52) hM.1 fX5_440_4 dX5_pair_73 rfl (hM.2.2 52 _ rfl rfl) ?_
                  refine Z_iload dX5_pair_76 rfl ?_
                  refine Z_iald (hM.2.1 52 _ rfl) (zix_nI (by omega) (by decide)) dX5_pair_78 ?_
                  refine Z_re (dr hD rfl) ?_
                  refine Z_iload_n dX5_pair_79 rfl ?_
                  refine Z_icmpeq 105 dX5_pair_80 rfl (fun c80 => ?_) (fun c80 => ?_)
                  · refine Z_iconst (-1) dX5_pair_105 rfl ?_
                    refine Z_ireturn dX5_pair_106 rfl rfl ?_
                    have e : pr1 D (nI k7) (nI k15) i = true := by
                      rw [pr1]
                      first | (simp [c69, c80]; done) | (simp [c91, c102]; done)
                    have e2 : fstB (pr1 D (nI k7) (nI k15)) np = some i := fstB_up (a := i + 1) (by simp [fstB, hF, e]) np (by omega)
                    exact zO_k (by simp [fPair, e2]) k hR1 f1
                  · refine Z_aload_n dX5_pair_83 rfl ?_
                    refine Z_getR (r := 51) hM.1 fX5_437_4 dX5_pair_84 rfl (hM.2.2 51 _ rfl rfl) ?_
                    refine Z_iload dX5_pair_87 rfl ?_
                    refine Z_iald (hM.2.1 51 _ rfl) (zix_nI (by omega) (by decide)) dX5_pair_89 ?_
                    refine Z_re (dr hD rfl) ?_
                    refine Z_iload_n dX5_pair_90 rfl ?_
                    refine Z_icmpne 107 dX5_pair_91 rfl (fun c91 => ?_) (fun c91 => ?_)
                    · refine Z_iincN (a := _) (k := 1) (lv' := [_, _, _, _, _]) dX5_pair_107 rfl rfl rfl rfl ?_
                      refine Z_goto 52 dX5_pair_110 rfl ?_
                      have e : pr1 D (nI k7) (nI k15) i = false := by
                        rw [pr1, Bool.eq_false_iff]
                        intro q
                        simp only [Bool.or_eq_true, Bool.and_eq_true, decide_eq_true_eq] at q
                        rcases q with ⟨q1, q2⟩ | ⟨q1, q2⟩
                        · first | exact c69 q1 | exact c80 q2
                        · first | exact c91 q1 | exact c102 q2
                      exact ih (by omega) (by simp [fstB, hF, e])
                    · refine Z_aload_n dX5_pair_94 rfl ?_
                      refine Z_getR (r := 52) hM.1 fX5_440_4 dX5_pair_95 rfl (hM.2.2 52 _ rfl rfl) ?_
                      refine Z_iload dX5_pair_98 rfl ?_
                      refine Z_iald (hM.2.1 52 _ rfl) (zix_nI (by omega) (by decide)) dX5_pair_100 ?_
                      refine Z_re (dr hD rfl) ?_
                      refine Z_iload_n dX5_pair_101 rfl ?_
                      refine Z_icmpne 107 dX5_pair_102 rfl (fun c102 => ?_) (fun c102 => ?_)
                      · refine Z_iincN (a := _) (k := 1) (lv' := [_, _, _, _, _]) dX5_pair_107 rfl rfl rfl rfl ?_
                        refine Z_goto 52 dX5_pair_110 rfl ?_
                        have e : pr1 D (nI k7) (nI k15) i = false := by
                          rw [pr1, Bool.eq_false_iff]
                          intro q
                          simp only [Bool.or_eq_true, Bool.and_eq_true, decide_eq_true_eq] at q
                          rcases q with ⟨q1, q2⟩ | ⟨q1, q2⟩
                          · first | exact c69 q1 | exact c80 q2
                          · first | exact c91 q1 | exact c102 q2
                        exact ih (by omega) (by simp [fstB, hF, e])
                      · refine Z_iconst (-1) dX5_pair_105 rfl ?_
                        refine Z_ireturn dX5_pair_106 rfl rfl ?_
                        have e : pr1 D (nI k7) (nI k15) i = true := by
                          rw [pr1]
                          first | (simp [c69, c80]; done) | (simp [c91, c102]; done)
                        have e2 : fstB (pr1 D (nI k7) (nI k15)) np = some i := fstB_up (a := i + 1) (by simp [fstB, hF, e]) np (by omega)
                        exact zO_k (by simp [fPair, e2]) k hR1 f1
            exact lp52 0 (by omega) rfl
          · refine Z_iconst (-1) dX5_pair_47 rfl ?_
            refine Z_ireturn dX5_pair_48 rfl rfl ?_
            exact zO_k (by simp [fPair, h50, nI_eq, r7, v7, r15, v15, c23, r32, c44]) k hR1 f1
        · rw [z_i64] at h32
          have r32 : rB y 1 99 = false := rB_f h32
          refine Z_ifeq 47 dX5_pair_35 rfl (fun _ => ?_) (fun h => absurd h (by decide))
          refine Z_iconst (-1) dX5_pair_47 rfl ?_
          refine Z_ireturn dX5_pair_48 rfl rfl ?_
          exact zO_k (by simp [fPair, h50, nI_eq, r7, v7, r15, v15, c23, r32]) k hR1 f1
    · have r15 : oB D b = false := rB_f (fun q => h15 ⟨q.1, by have := q.2; rw [hno] at this; omega⟩)
      refine Z_ifeq 47 dX5_pair_18 rfl (fun _ => ?_) (fun h => absurd h (by decide))
      refine Z_iconst (-1) dX5_pair_47 rfl ?_
      refine Z_ireturn dX5_pair_48 rfl rfl ?_
      exact zO_k (by simp [fPair, h50, nI_eq, r7, v7, r15]) k hR1 f1
  · have r7 : oB D a = false := rB_f (fun q => h7 ⟨q.1, by have := q.2; rw [hno] at this; omega⟩)
    refine Z_ifeq 47 dX5_pair_10 rfl (fun _ => ?_) (fun h => absurd h (by decide))
    refine Z_iconst (-1) dX5_pair_47 rfl ?_
    refine Z_ireturn dX5_pair_48 rfl rfl ?_
    exact zO_k (by simp [fPair, h50, nI_eq, r7]) k hR1 f1
set_option maxHeartbeats 4000000 in
theorem c_endsWithR (hR : mR D R I L P S) (hw : wf (wld D) no n) (hi9 : ∀ j, 127 ≤ j → D 23 j = 0) {ro : Option (List Nat)} (hru : ruM (wld D) ro) (h50 : D 0 50 = nI np) (hnp : np ≤ 9) (hp : prs D no np) {x h : Nat} (hh : h ≤ 2399) (kt : ∀ I2 s2 t, whE D ro no n np h x = some s2 → s2 0 = nI t → t ≤ 2399 → mR D R I2 L P S → frM I L I2 L → Q (.inl (some (.int (nI t)))) I2 L P S) (kf : ∀ I2, whE D ro no n np h x = none → mR D R I2 L P S → frM I L I2 L → Q (.inl (some (.int (-1)))) I2 L P S) : Zm G mX5_endsWith 11 C Sl [.ref 0, .int (nI x), .int (nI h)] I L P S Q := by
  have hM := hR.1
  have h6 := hw.o6
  refine Z_entry (lv := [_, _, _, _, _]) (Nat.le_of_ble_eq_true rfl) rfl ?_
  refine Z_iconst (nI 0) dX5_endsWith_0 rfl ?_
  refine Z_istore_n (lv' := [_, _, _, _, _]) dX5_endsWith_1 rfl rfl (Nat.le_of_ble_eq_true rfl) ?_
  have lp2 : ∀ i, i ≤ 36 → ∀ I2, mR D R I2 L P S → (∀ j, j < i → I2 54 j = D 13 j) → frM I L I2 L → Zj G mX5_endsWith 11 C Sl 2 [.ref 0, .int (nI x), .int (nI h), .int (nI i), .retAddr 0] [] I2 L P S Q := by
    refine zloop (36) (fun i => ∀ I2, mR D R I2 L P S → (∀ j, j < i → I2 54 j = D 13 j) → frM I L I2 L → Zj G mX5_endsWith 11 C Sl 2 [.ref 0, .int (nI x), .int (nI h), .int (nI i), .retAddr 0] [] I2 L P S Q) (fun i hi ih => ?_)
    intro I2 g1 g3 f2
    show Zj _ _ _ _ _ _ _ _ _ _ _ _ _
    refine Z_iload_n dX5_endsWith_2 rfl ?_
    refine Z_aload_n dX5_endsWith_3 rfl ?_
    refine Z_getR (r := 54) hM.1 fX5_446_4 dX5_endsWith_4 rfl (hM.2.2 54 _ rfl rfl) ?_
    refine Z_alen (hM.2.1 54 _ rfl) (by simp [zTys]) dX5_endsWith_7 ?_
    refine Z_icmpgeN 29 dX5_endsWith_8 rfl (by omega) (by omega) (fun c8 => ?_) (fun c8 => ?_)
    · have ei : i = 36 := by omega
      subst ei
      refine Z_iconst (nI 0) dX5_endsWith_29 rfl ?_
      refine Z_istore_n (lv' := [_, _, _, _, _]) dX5_endsWith_30 rfl rfl (Nat.le_of_ble_eq_true rfl) ?_
      have lp31 : ∀ i, i ≤ np → ∀ I2, mR (brgN D x i) R I2 L P S → (∀ j, j < 36 → I2 54 j = D 13 j) → frM I L I2 L → Zj G mX5_endsWith 11 C Sl 31 [.ref 0, .int (nI x), .int (nI h), .int (nI i), .retAddr 0] [] I2 L P S Q := by
        refine zloop (np) (fun i => ∀ I2, mR (brgN D x i) R I2 L P S → (∀ j, j < 36 → I2 54 j = D 13 j) → frM I L I2 L → Zj G mX5_endsWith 11 C Sl 31 [.ref 0, .int (nI x), .int (nI h), .int (nI i), .retAddr 0] [] I2 L P S Q) (fun i hi ih => ?_)
        intro I2 g1 g3 f2
        show Zj _ _ _ _ _ _ _ _ _ _ _ _ _
        refine Z_iload_n dX5_endsWith_31 rfl ?_
        refine Z_aload_n dX5_endsWith_32 rfl ?_
        refine Z_getI hM.1 fX5_434_4 dX5_endsWith_33 rfl ?_
        refine Z_re (y := nI (np)) ((dr g1.2.2.1 rfl).trans ((congrFun (brgN_n (by decide) i) 50).trans h50)) ?_
        refine Z_icmpgeN 97 dX5_endsWith_36 rfl (by omega) (by omega) (fun c36 => ?_) (fun c36 => ?_)
        · have ei : i = np := by omega
          rw [ei] at g1
          refine Z_aload_n dX5_endsWith_97 rfl ?_
          refine Z_iload_n dX5_endsWith_98 rfl ?_
          refine Z_call0 (d' := 10) (zCal_V gX5_422 nX5_endsFrom (by decide) dX5_endsWith_99) pX5_endsFrom hM.1 zkl4 [_] rfl rfl (Nat.le_of_ble_eq_true rfl) (by omega) (c_endsFromR (D := brgN D x np) g1 (wf_eq hw (brg_W (by decide) np) (brg_W (by decide) np) (brg_W (by decide) np)) (by rw [brgN_n (by decide)]; exact hi9) (ru_eq hru (brg_W (by decide) np) (brg_W (by decide) np)) hh (fun J1 s1 t1 p1a p1b p1c g3x x1 e1 => ?_) (fun J1 p1a g3x x1 e1 => ?_))
          · have k1 : ∀ j, j < 36 → J1 54 j = D 13 j := fun j hj => (e1 54 j rfl).trans (g3 j hj)
            have f2b := f2.tr x1
            refine Z_istore_n (lv' := [_, _, _, _, _]) dX5_endsWith_102 rfl rfl (Nat.le_of_ble_eq_true rfl) ?_
            refine Z_iconst (nI 0) dX5_endsWith_103 rfl ?_
            refine Z_istore (lv' := [_, _, _, _, _]) dX5_endsWith_104 rfl rfl (Nat.le_of_ble_eq_true rfl) ?_
            have lp106 : ∀ i, i ≤ 36 → ∀ I2, mR (cpyN (brgN D x np) 13 0 (D 13) i) R I2 L P S → (∀ j, j < 36 → I2 54 j = D 13 j) → frM I L I2 L → Zj G mX5_endsWith 11 C Sl 106 [.ref 0, .int (nI x), .int (nI h), .int (nI t1), .int (nI i)] [] I2 L P S Q := by
              refine zloop (36) (fun i => ∀ I2, mR (cpyN (brgN D x np) 13 0 (D 13) i) R I2 L P S → (∀ j, j < 36 → I2 54 j = D 13 j) → frM I L I2 L → Zj G mX5_endsWith 11 C Sl 106 [.ref 0, .int (nI x), .int (nI h), .int (nI t1), .int (nI i)] [] I2 L P S Q) (fun i hi ih => ?_)
              intro I2 g4 g5 f4
              show Zj _ _ _ _ _ _ _ _ _ _ _ _ _
              refine Z_iload dX5_endsWith_106 rfl ?_
              refine Z_aload_n dX5_endsWith_108 rfl ?_
              refine Z_getR (r := 54) hM.1 fX5_446_4 dX5_endsWith_109 rfl (hM.2.2 54 _ rfl rfl) ?_
              refine Z_alen (hM.2.1 54 _ rfl) (by simp [zTys]) dX5_endsWith_112 ?_
              refine Z_icmpgeN 136 dX5_endsWith_113 rfl (by omega) (by omega) (fun c113 => ?_) (fun c113 => ?_)
              · refine Z_iload_n dX5_endsWith_136 rfl ?_
                refine Z_ireturn dX5_endsWith_137 rfl rfl ?_
                have ei : i = 36 := by omega
                rw [ei, brg_back hp h6] at g4
                exact kt _ s1 t1 (by rw [whE, ← p1a, brgN_n (by decide)]) p1b p1c g4 f4
              · refine Z_aload_n dX5_endsWith_116 rfl ?_
                refine Z_getR (r := 13) hM.1 fX5_60_4 dX5_endsWith_117 rfl (hM.2.2 13 _ rfl rfl) ?_
                refine Z_iload dX5_endsWith_120 rfl ?_
                refine Z_aload_n dX5_endsWith_122 rfl ?_
                refine Z_getR (r := 54) hM.1 fX5_446_4 dX5_endsWith_123 rfl (hM.2.2 54 _ rfl rfl) ?_
                refine Z_iload dX5_endsWith_126 rfl ?_
                refine Z_iald (hM.2.1 54 _ rfl) (zix_nI (by omega) (by decide)) dX5_endsWith_128 ?_
                refine Z_re (g5 i (by omega)) ?_
                refine Z_iast (hM.2.1 13 _ rfl) (zix_nI (by omega) (by decide)) dX5_endsWith_129 ?_
                refine Z_iincN (a := _) (k := 1) (lv' := [_, _, _, _, _]) dX5_endsWith_130 rfl rfl rfl rfl ?_
                refine Z_goto 106 dX5_endsWith_133 rfl ?_
                exact ih (by omega) _ (by have := g4.zw (a := 13) (k := i) (v := D 13 i) rfl; rw [cpyN, Nat.zero_add]; exact this) (fun j hj => (congrFun (zw_n _ _ _ _ (by decide)) j).trans (g5 j hj)) (f4.st (by decide))
            exact lp106 0 (by omega) _ g3x k1 f2b
          · have k1 : ∀ j, j < 36 → J1 54 j = D 13 j := fun j hj => (e1 54 j rfl).trans (g3 j hj)
            have f2b := f2.tr x1
            refine Z_istore_n (lv' := [_, _, _, _, _]) dX5_endsWith_102 rfl rfl (Nat.le_of_ble_eq_true rfl) ?_
            refine Z_iconst (nI 0) dX5_endsWith_103 rfl ?_
            refine Z_istore (lv' := [_, _, _, _, _]) dX5_endsWith_104 rfl rfl (Nat.le_of_ble_eq_true rfl) ?_
            have lp106 : ∀ i, i ≤ 36 → ∀ I2, mR (cpyN (brgN D x np) 13 0 (D 13) i) R I2 L P S → (∀ j, j < 36 → I2 54 j = D 13 j) → frM I L I2 L → Zj G mX5_endsWith 11 C Sl 106 [.ref 0, .int (nI x), .int (nI h), .int (-1), .int (nI i)] [] I2 L P S Q := by
              refine zloop (36) (fun i => ∀ I2, mR (cpyN (brgN D x np) 13 0 (D 13) i) R I2 L P S → (∀ j, j < 36 → I2 54 j = D 13 j) → frM I L I2 L → Zj G mX5_endsWith 11 C Sl 106 [.ref 0, .int (nI x), .int (nI h), .int (-1), .int (nI i)] [] I2 L P S Q) (fun i hi ih => ?_)
              intro I2 g4 g5 f4
              show Zj _ _ _ _ _ _ _ _ _ _ _ _ _
              refine Z_iload dX5_endsWith_106 rfl ?_
              refine Z_aload_n dX5_endsWith_108 rfl ?_
              refine Z_getR (r := 54) hM.1 fX5_446_4 dX5_endsWith_109 rfl (hM.2.2 54 _ rfl rfl) ?_
              refine Z_alen (hM.2.1 54 _ rfl) (by simp [zTys]) dX5_endsWith_112 ?_
              refine Z_icmpgeN 136 dX5_endsWith_113 rfl (by omega) (by omega) (fun c113 => ?_) (fun c113 => ?_)
              · refine Z_iload_n dX5_endsWith_136 rfl ?_
                refine Z_ireturn dX5_endsWith_137 rfl rfl ?_
                have ei : i = 36 := by omega
                rw [ei, brg_back hp h6] at g4
                exact kf _ (by rw [whE, ← p1a, brgN_n (by decide)]) g4 f4
              · refine Z_aload_n dX5_endsWith_116 rfl ?_
                refine Z_getR (r := 13) hM.1 fX5_60_4 dX5_endsWith_117 rfl (hM.2.2 13 _ rfl rfl) ?_
                refine Z_iload dX5_endsWith_120 rfl ?_
                refine Z_aload_n dX5_endsWith_122 rfl ?_
                refine Z_getR (r := 54) hM.1 fX5_446_4 dX5_endsWith_123 rfl (hM.2.2 54 _ rfl rfl) ?_
                refine Z_iload dX5_endsWith_126 rfl ?_
                refine Z_iald (hM.2.1 54 _ rfl) (zix_nI (by omega) (by decide)) dX5_endsWith_128 ?_
                refine Z_re (g5 i (by omega)) ?_
                refine Z_iast (hM.2.1 13 _ rfl) (zix_nI (by omega) (by decide)) dX5_endsWith_129 ?_
                refine Z_iincN (a := _) (k := 1) (lv' := [_, _, _, _, _]) dX5_endsWith_130 rfl rfl rfl rfl ?_
                refine Z_goto 106 dX5_endsWith_133 rfl ?_
                exact ih (by omega) _ (by have := g4.zw (a := 13) (k := i) (v := D 13 i) rfl; rw [cpyN, Nat.zero_add]; exact this) (fun j hj => (congrFun (zw_n _ _ _ _ (by decide)) j).trans (g5 j hj)) (f4.st (by decide))
            exact lp106 0 (by omega) _ g3x k1 f2b
        · obtain ⟨a, b, ha6, hb6, ha, hb⟩ := hp i (by omega)
          refine Z_iload_n dX5_endsWith_39 rfl ?_
          refine Z_iload_n dX5_endsWith_40 rfl ?_
          refine Z_callS0 (d' := 0) (zCal_S gX5_137 nX5_has (by decide) dX5_endsWith_41) pX5_has [_, _] rfl rfl (Nat.le_of_ble_eq_true rfl) (by omega) (c_X5_has (fun h41 => ?_) (fun h41 => ?_))
          · refine Z_ifeq 91 dX5_endsWith_44 rfl (fun h => absurd h (by decide)) (fun _ => ?_)
            refine Z_aload_n dX5_endsWith_47 rfl ?_
            refine Z_aload_n dX5_endsWith_48 rfl ?_
            refine Z_getR (r := 51) hM.1 fX5_437_4 dX5_endsWith_49 rfl (hM.2.2 51 _ rfl rfl) ?_
            refine Z_iload_n dX5_endsWith_52 rfl ?_
            refine Z_iald (hM.2.1 51 _ rfl) (zix_nI (by omega) (by decide)) dX5_endsWith_53 ?_
            refine Z_re (y := nI (a)) ((dr g1.2.2.1 rfl).trans ((congrFun (brgN_n (by decide) i) i).trans ha)) ?_
            refine Z_aload_n dX5_endsWith_54 rfl ?_
            refine Z_getR (r := 52) hM.1 fX5_440_4 dX5_endsWith_55 rfl (hM.2.2 52 _ rfl rfl) ?_
            refine Z_iload_n dX5_endsWith_58 rfl ?_
            refine Z_iald (hM.2.1 52 _ rfl) (zix_nI (by omega) (by decide)) dX5_endsWith_59 ?_
            refine Z_re (y := nI (b)) ((dr g1.2.2.1 rfl).trans ((congrFun (brgN_n (by decide) i) i).trans hb)) ?_
            refine Z_bipush (nI 9) dX5_endsWith_60 rfl ?_
            refine Z_aload_n dX5_endsWith_62 rfl ?_
            refine Z_getR (r := 13) hM.1 fX5_60_4 dX5_endsWith_63 rfl (hM.2.2 13 _ rfl rfl) ?_
            refine Z_bipush (nI 6) dX5_endsWith_66 rfl ?_
            refine Z_aload_n dX5_endsWith_68 rfl ?_
            refine Z_getR (r := 51) hM.1 fX5_437_4 dX5_endsWith_69 rfl (hM.2.2 51 _ rfl rfl) ?_
            refine Z_iload_n dX5_endsWith_72 rfl ?_
            refine Z_iald (hM.2.1 51 _ rfl) (zix_nI (by omega) (by decide)) dX5_endsWith_73 ?_
            refine Z_re (y := nI (a)) ((dr g1.2.2.1 rfl).trans ((congrFun (brgN_n (by decide) i) i).trans ha)) ?_
            refine Z_imulN dX5_endsWith_74 ?_
            refine Z_aload_n dX5_endsWith_75 rfl ?_
            refine Z_getR (r := 52) hM.1 fX5_440_4 dX5_endsWith_76 rfl (hM.2.2 52 _ rfl rfl) ?_
            refine Z_iload_n dX5_endsWith_79 rfl ?_
            refine Z_iald (hM.2.1 52 _ rfl) (zix_nI (by omega) (by decide)) dX5_endsWith_80 ?_
            refine Z_re (y := nI (b)) ((dr g1.2.2.1 rfl).trans ((congrFun (brgN_n (by decide) i) i).trans hb)) ?_
            refine Z_iaddN dX5_endsWith_81 ?_
            refine Z_iald (hM.2.1 13 _ rfl) (zix_nI (by omega) (by decide)) dX5_endsWith_82 ?_
            refine Z_re (dr g1.2.2.1 rfl) ?_
            refine Z_iconst (nI 3) dX5_endsWith_83 rfl ?_
            refine Z_iadd dX5_endsWith_84 ?_
            refine Z_callS0 (d' := 0) (zCal_S gX5_95 nJ5_min (by decide) dX5_endsWith_85) pJ5_min [_, _] rfl rfl (Nat.le_of_ble_eq_true rfl) (by omega) (c_J5_min ?_)
            refine Z_call0 (d' := 0) (zCal_V gX5_89 nX5_knows (by decide) dX5_endsWith_88) pX5_knows hM.1 zkl4 [_, _, _] rfl rfl (Nat.le_of_ble_eq_true rfl) (by omega) (c_X5_knows hM (by omega) (by omega) ?_)
            refine Z_iincN (a := _) (k := 1) (lv' := [_, _, _, _, _]) dX5_endsWith_91 rfl rfl rfl rfl ?_
            refine Z_goto 31 dX5_endsWith_94 rfl ?_
            have va : (D 51 i).toNatClampNeg = a := by rw [ha, nI_clamp (by omega)]
            have vb : (D 52 i).toNatClampNeg = b := by rw [hb, nI_clamp (by omega)]
            exact ih (by omega) _ (by rw [brgN, if_pos h41, va, vb]; exact g1.kn) (fun j hj => (congrFun (stKn_n (by decide)) j).trans (g3 j hj)) f2.kn
          · refine Z_ifeq 91 dX5_endsWith_44 rfl (fun _ => ?_) (fun h => absurd h (by decide))
            refine Z_iincN (a := _) (k := 1) (lv' := [_, _, _, _, _]) dX5_endsWith_91 rfl rfl rfl rfl ?_
            refine Z_goto 31 dX5_endsWith_94 rfl ?_
            exact ih (by omega) _ (by rw [brgN, if_neg (by simp [h41])]; exact g1) g3 f2
      exact lp31 0 (by omega) _ g1 g3 f2
    · refine Z_aload_n dX5_endsWith_11 rfl ?_
      refine Z_getR (r := 54) hM.1 fX5_446_4 dX5_endsWith_12 rfl (hM.2.2 54 _ rfl rfl) ?_
      refine Z_iload_n dX5_endsWith_15 rfl ?_
      refine Z_aload_n dX5_endsWith_16 rfl ?_
      refine Z_getR (r := 13) hM.1 fX5_60_4 dX5_endsWith_17 rfl (hM.2.2 13 _ rfl rfl) ?_
      refine Z_iload_n dX5_endsWith_20 rfl ?_
      refine Z_iald (hM.2.1 13 _ rfl) (zix_nI (by omega) (by decide)) dX5_endsWith_21 ?_
      refine Z_re (dr g1.2.2.1 rfl) ?_
      refine Z_iast (hM.2.1 54 _ rfl) (zix_nI (by omega) (by decide)) dX5_endsWith_22 ?_
      refine Z_iincN (a := _) (k := 1) (lv' := [_, _, _, _, _]) dX5_endsWith_23 rfl rfl rfl rfl ?_
      refine Z_goto 2 dX5_endsWith_26 rfl ?_
      refine ih (by omega) _ ⟨g1.1, g1.2.1, (md_out rfl).trans g1.2.2.1, g1.2.2.2⟩ (fun j hj => ?_) (f2.st (by decide))
      rw [zw_a]
      by_cases e : j = i
      · subst e; rw [zu_s]
      · rw [zu_n _ _ _ e]; exact g3 j (by omega)
  exact lp2 0 (by omega) I hR (fun j hj => absurd hj (by omega)) frM.rf
def whV (m : Option (Nat × Nat)) : Int32 := match m with
  | none => -1
  | some b => nI b.2
def whX (m : Option (Nat × Nat)) : Int32 := match m with
  | none => nI 0
  | some b => nI b.1
def whP (D : zI) (np : Nat) (m : Option (Nat × Nat)) : Int32 := match m with
  | none => nI 0
  | some b => prcN D b.1 np
set_option maxHeartbeats 8000000 in
theorem o_whom (hR : mR D R I L P S) (hw : wf (wld D) no n) (hi9 : ∀ j, 127 ≤ j → D 23 j = 0) {ro : Option (List Nat)} (hru : ruM (wld D) ro) (h50 : D 0 50 = nI np) (hnp : np ≤ 9) (hp : prs D no np) {c h : Int32} (k : ∀ I2 L2, mR (fWhom D R ro no n np c h).2.1 (fWhom D R ro no n np c h).2.2 I2 L2 P S → frM I L I2 L2 → Q (.inl (some (.int (fWhom D R ro no n np c h).1))) I2 L2 P S) : Zm G mX5_whom 12 C Sl [.ref 0, .int c, .int h] I L P S Q := by
  have p9 := p2_lt hnp
  have p0 : 0 < 2 ^ np := Nat.pow_pos (by omega)
  have hM := hR.1
  refine Z_entry (lv := [_, _, _, _, _, _, _, _, _]) (Nat.le_of_ble_eq_true rfl) rfl ?_
  refine Z_aload_n dX5_whom_0 rfl ?_
  refine Z_iconst (nI 0) dX5_whom_1 rfl ?_
  refine Z_putI hM.1 fX5_3_4 dX5_whom_2 rfl rfl rfl ?_
  refine Z_start hR (fun I1 hR1 f1 h00 => ?_)
  have hw8 := hw.n8
  have hw6 := hw.o6
  have hM := hR1.1
  have hD : mdat I1 = D := hR1.2.2.1
  have hW : wld I1 = wld D := wld_mdat hD
  have hs : I1 23 = D 23 := funext fun j => dr hD rfl
  have hno : noD D = no := by rw [noD, show D 0 3 = nI no from hw.o3, nI_clamp (by omega)]
  have hnn : nD D = n := by rw [nD, show D 0 16 = nI n from hw.n16, nI_clamp (by omega)]
  have hI3 : I1 0 3 = nI no := (wr hW rfl).trans hw.o3
  have hI16 : I1 0 16 = nI n := (wr hW rfl).trans hw.n16
  refine Z_iload_n dX5_whom_5 rfl ?_
  refine Z_i2l dX5_whom_6 ?_
  refine Z_lconst (0) dX5_whom_7 rfl ?_
  refine Z_ldc2 q1643 dX5_whom_8 ?_
  refine Z_callS0 (d' := 0) (zCal_S gX5_25 nX5_in (by decide) dX5_whom_11) pX5_in [_, _, _] rfl rfl (Nat.le_of_ble_eq_true rfl) (by omega) (c_X5_in (fun h11a h11b => ?_) (fun h11 => ?_))
  · rw [z_i64] at h11a h11b
    have r11 : rB c 0 999 = true := rB_t h11a h11b
    refine Z_ifeq 31 dX5_whom_14 rfl (fun h => absurd h (by decide)) (fun _ => ?_)
    refine Z_iload_n dX5_whom_17 rfl ?_
    refine Z_callS0 (d' := 1) (zCal_S gX5_81 nX5_isHour (by decide) dX5_whom_18) pX5_isHour [_] rfl rfl (Nat.le_of_ble_eq_true rfl) (by omega) (c_X5_isHour (fun h18a h18b => ?_) (fun h18 => ?_))
    · have r18 : rB h 0 2399 = true := rB_t h18a h18b
      obtain ⟨k18, hk18, e18⟩ := z_rng (n := 2399) h18a h18b (by omega)
      subst e18
      have v18 : (nI k18).toNatClampNeg = k18 := nI_clamp (by omega)
      refine Z_ifeq 31 dX5_whom_21 rfl (fun h => absurd h (by decide)) (fun _ => ?_)
      refine Z_aload_n dX5_whom_24 rfl ?_
      refine Z_getI hM.1 fX5_151_4 dX5_whom_25 rfl ?_
      refine Z_re (y := nI (n)) hI16 ?_
      refine Z_ifneN 33 dX5_whom_28 rfl (by omega) (fun c28 => ?_) (fun c28 => ?_)
      · refine Z_iconst (-1) dX5_whom_33 rfl ?_
        refine Z_istore_n (lv' := [_, _, _, _, _, _, _, _, _]) dX5_whom_34 rfl rfl (Nat.le_of_ble_eq_true rfl) ?_
        refine Z_iconst (nI 0) dX5_whom_35 rfl ?_
        refine Z_istore (lv' := [_, _, _, _, _, _, _, _, _]) dX5_whom_36 rfl rfl (Nat.le_of_ble_eq_true rfl) ?_
        refine Z_iconst (nI 0) dX5_whom_38 rfl ?_
        refine Z_istore (lv' := [_, _, _, _, _, _, _, _, _]) dX5_whom_39 rfl rfl (Nat.le_of_ble_eq_true rfl) ?_
        refine Z_iconst (nI 0) dX5_whom_41 rfl ?_
        refine Z_istore (lv' := [_, _, _, _, _, _, _, _, _]) dX5_whom_42 rfl rfl (Nat.le_of_ble_eq_true rfl) ?_
        have lp44 : ∀ i, i ≤ 2 ^ np → ∀ I2, mR D R I2 L P S → frM I1 L I2 L → Zj G mX5_whom 12 C Sl 44 [.ref 0, .int c, .int (nI k18), .int (whV (whB (whO D ro no n np c k18) (fun x => prcN D x np) i)), .int (whX (whB (whO D ro no n np c k18) (fun x => prcN D x np) i)), .int (whP D np (whB (whO D ro no n np c k18) (fun x => prcN D x np) i)), .int (nI i), .retAddr 0, .retAddr 0] [] I2 L P S Q := by
          refine zloop (2 ^ np) (fun i => ∀ I2, mR D R I2 L P S → frM I1 L I2 L → Zj G mX5_whom 12 C Sl 44 [.ref 0, .int c, .int (nI k18), .int (whV (whB (whO D ro no n np c k18) (fun x => prcN D x np) i)), .int (whX (whB (whO D ro no n np c k18) (fun x => prcN D x np) i)), .int (whP D np (whB (whO D ro no n np c k18) (fun x => prcN D x np) i)), .int (nI i), .retAddr 0, .retAddr 0] [] I2 L P S Q) (fun i hi ih => ?_)
          intro I2 g1 g2
          show Zj _ _ _ _ _ _ _ _ _ _ _ _ _
          refine Z_iload dX5_whom_44 rfl ?_
          refine Z_iconst (nI 1) dX5_whom_46 rfl ?_
          refine Z_aload_n dX5_whom_47 rfl ?_
          refine Z_getI hM.1 fX5_434_4 dX5_whom_48 rfl ?_
          refine Z_re (y := nI (np)) ((dr g1.2.2.1 rfl).trans h50) ?_
          refine Z_ishl dX5_whom_51 ?_
          rw [shl1 (by omega)]
          refine Z_icmpgeN 166 dX5_whom_52 rfl (by omega) (by omega) (fun c52 => ?_) (fun c52 => ?_)
          · have ei : i = 2 ^ np := by omega
            obtain ⟨m0, hm⟩ : ∃ m0, whB (whO D ro no n np c k18) (fun x => prcN D x np) i = m0 := ⟨_, rfl⟩
            rw [hm]
            rcases m0 with _ | b
            · dsimp only [whV, whX, whP]
              refine Z_iload_n dX5_whom_166 rfl ?_
              refine Z_ifge 173 dX5_whom_167 rfl (fun c167 => ?_) (fun c167 => ?_)
              · exact absurd c167 (by decide)
              · refine Z_bipush (-2) dX5_whom_170 rfl ?_
                refine Z_ireturn dX5_whom_172 rfl rfl ?_
                exact zO_k (D2 := D) (R2 := R) (by rw [fWhom, if_pos (by rw [r11, r18, decide_eq_false (fun e => c28 ((nI_z (by omega)).mp ((show D 0 16 = nI n from hw.n16).symm.trans e)))]; rfl), v18, ← ei, hm]) k g1 (f1.tr g2)
            · dsimp only [whV, whX, whP]
              have hb1 := whB_mem _ _ hm
              have hb2 := whO_b hw hi9 (by omega) hb1.2
              refine Z_iload_n dX5_whom_166 rfl ?_
              refine Z_ifgeN 173 dX5_whom_167 rfl (by omega) ?_
              refine Z_aload_n dX5_whom_173 rfl ?_
              refine Z_iconst (nI 0) dX5_whom_174 rfl ?_
              refine Z_putI hM.1 fX5_11_4 dX5_whom_175 rfl rfl rfl ?_
              refine Z_aload_n dX5_whom_178 rfl ?_
              refine Z_iload dX5_whom_179 rfl ?_
              refine Z_i2l dX5_whom_181 ?_
              refine Z_call0 (d' := 0) (zCal_V gX5_18 nX5_enters (by decide) dX5_whom_182) pX5_enters hM.1 zkl4 [_] rfl rfl (Nat.le_of_ble_eq_true rfl) (by omega) (c_tell (mR_t0 g1) (by simp) (fun J1 M1 t1 q1 => ?_))
              refine Z_aload_n dX5_whom_185 rfl ?_
              refine Z_iload dX5_whom_186 rfl ?_
              refine Z_i2l dX5_whom_188 ?_
              refine Z_call0 (d' := 0) (zCal_V gX5_18 nX5_enters (by decide) dX5_whom_189) pX5_enters hM.1 zkl4 [_] rfl rfl (Nat.le_of_ble_eq_true rfl) (by omega) (c_tell t1 (by simp) (fun J2 M2 t2 q2 => ?_))
              refine Z_iload_n dX5_whom_192 rfl ?_
              refine Z_ireturn dX5_whom_193 rfl rfl ?_
              exact zO_k (D2 := D) (R2 := [(nI b.1).toInt64, (prcN D b.1 np).toInt64]) (by rw [fWhom, if_pos (by rw [r11, r18, decide_eq_false (fun e => c28 ((nI_z (by omega)).mp ((show D 0 16 = nI n from hw.n16).symm.trans e)))]; rfl), v18, ← ei, hm]) k t2 (f1.tr (((g2.tr (frM.rf.st (by decide))).tr q1).tr q2))
          · refine Z_iconst (nI 0) dX5_whom_55 rfl ?_
            refine Z_istore (lv' := [_, _, _, _, _, _, _, _, _]) dX5_whom_56 rfl rfl (Nat.le_of_ble_eq_true rfl) ?_
            refine Z_iconst (nI 0) dX5_whom_58 rfl ?_
            refine Z_istore (lv' := [_, _, _, _, _, _, _, _, _]) dX5_whom_59 rfl rfl (Nat.le_of_ble_eq_true rfl) ?_
            have lp61 : ∀ j, j ≤ np → Zj G mX5_whom 12 C Sl 61 [.ref 0, .int c, .int (nI k18), .int (whV (whB (whO D ro no n np c k18) (fun x => prcN D x np) i)), .int (whX (whB (whO D ro no n np c k18) (fun x => prcN D x np) i)), .int (whP D np (whB (whO D ro no n np c k18) (fun x => prcN D x np) i)), .int (nI i), .int (prcN D i j), .int (nI j)] [] I2 L P S Q := by
              refine zloop (np) (fun j => Zj G mX5_whom 12 C Sl 61 [.ref 0, .int c, .int (nI k18), .int (whV (whB (whO D ro no n np c k18) (fun x => prcN D x np) i)), .int (whX (whB (whO D ro no n np c k18) (fun x => prcN D x np) i)), .int (whP D np (whB (whO D ro no n np c k18) (fun x => prcN D x np) i)), .int (nI i), .int (prcN D i j), .int (nI j)] [] I2 L P S Q) (fun j hj ihj => ?_)
              show Zj _ _ _ _ _ _ _ _ _ _ _ _ _
              refine Z_iload dX5_whom_61 rfl ?_
              refine Z_aload_n dX5_whom_63 rfl ?_
              refine Z_getI hM.1 fX5_434_4 dX5_whom_64 rfl ?_
              refine Z_re (y := nI (np)) ((dr g1.2.2.1 rfl).trans h50) ?_
              refine Z_icmpgeN 102 dX5_whom_67 rfl (by omega) (by omega) (fun c67 => ?_) (fun c67 => ?_)
              · have ej : j = np := by omega
                rw [ej]
                refine Z_iload dX5_whom_102 rfl ?_
                refine Z_iload_n dX5_whom_104 rfl ?_
                refine Z_icmple 112 dX5_whom_105 rfl (fun c105 => ?_) (fun c105 => ?_)
                · refine Z_aload_n dX5_whom_112 rfl ?_
                  refine Z_iload dX5_whom_113 rfl ?_
                  refine Z_iload_n dX5_whom_115 rfl ?_
                  refine Z_call0 (d' := 11) (zCal_V gX5_451 nX5_endsWith (by decide) dX5_whom_116) pX5_endsWith hM.1 zkl4 [_, _] rfl rfl (Nat.le_of_ble_eq_true rfl) (by omega) (c_endsWithR (np := np) g1 hw hi9 hru h50 hnp hp (by omega) (fun J2 s1 t1 p1a p1b p1c g3 x3 => ?_) (fun J2 p1a g3 x3 => ?_))
                  · refine Z_istore (lv' := [_, _, _, _, _, _, _, _, _]) dX5_whom_119 rfl rfl (Nat.le_of_ble_eq_true rfl) ?_
                    refine Z_iload dX5_whom_121 rfl ?_
                    refine Z_ifltN 160 dX5_whom_123 rfl (by omega) ?_
                    obtain ⟨m0, hm⟩ : ∃ m0, whB (whO D ro no n np c k18) (fun x => prcN D x np) i = m0 := ⟨_, rfl⟩
                    rw [hm]
                    rcases m0 with _ | b
                    · dsimp only [whV, whX, whP]
                      refine Z_iload_n dX5_whom_126 rfl ?_
                      refine Z_iflt 149 dX5_whom_127 rfl (fun c127 => ?_) (fun c127 => ?_)
                      · refine Z_iload dX5_whom_149 rfl ?_
                        refine Z_istore_n (lv' := [_, _, _, _, _, _, _, _, _]) dX5_whom_151 rfl rfl (Nat.le_of_ble_eq_true rfl) ?_
                        refine Z_iload dX5_whom_152 rfl ?_
                        refine Z_istore (lv' := [_, _, _, _, _, _, _, _, _]) dX5_whom_154 rfl rfl (Nat.le_of_ble_eq_true rfl) ?_
                        refine Z_iload dX5_whom_156 rfl ?_
                        refine Z_istore (lv' := [_, _, _, _, _, _, _, _, _]) dX5_whom_158 rfl rfl (Nat.le_of_ble_eq_true rfl) ?_
                        refine Z_iincN (a := _) (k := 1) (lv' := [_, _, _, _, _, _, _, _, _]) dX5_whom_160 rfl rfl rfl rfl ?_
                        refine Z_goto 44 dX5_whom_163 rfl ?_
                        have ev : (whO D ro no n np c k18) i = some t1 := by show whO _ _ _ _ _ _ _ _ = _; rw [whO, if_pos c105, p1a]; show some (s1 0).toNatClampNeg = _; rw [p1b, nI_clamp (by omega)]
                        have gg := g3
                        have ff := g2.tr x3
                        have e : whB (whO D ro no n np c k18) (fun x => prcN D x np) (i + 1) = some (i, t1) := by simp [whB, ev, hm]
                        have ih2 := ih (by omega) _ gg ff
                        rw [e] at ih2
                        exact Z_fgt ih2 (by repeat first | exact zwk_n | refine zwk_f ?_ | refine zwk_c rfl ?_)
                      · exact absurd (by decide) c127
                    · dsimp only [whV, whX, whP]
                      have hb1 := whB_mem _ _ hm
                      have hb2 := whO_b hw hi9 (by omega) hb1.2
                      refine Z_iload_n dX5_whom_126 rfl ?_
                      refine Z_ifltN 149 dX5_whom_127 rfl (by omega) ?_
                      refine Z_iload dX5_whom_130 rfl ?_
                      refine Z_iload_n dX5_whom_132 rfl ?_
                      refine Z_icmpltN 149 dX5_whom_133 rfl (by omega) (by omega) (fun c133 => ?_) (fun c133 => ?_)
                      · refine Z_iload dX5_whom_149 rfl ?_
                        refine Z_istore_n (lv' := [_, _, _, _, _, _, _, _, _]) dX5_whom_151 rfl rfl (Nat.le_of_ble_eq_true rfl) ?_
                        refine Z_iload dX5_whom_152 rfl ?_
                        refine Z_istore (lv' := [_, _, _, _, _, _, _, _, _]) dX5_whom_154 rfl rfl (Nat.le_of_ble_eq_true rfl) ?_
                        refine Z_iload dX5_whom_156 rfl ?_
                        refine Z_istore (lv' := [_, _, _, _, _, _, _, _, _]) dX5_whom_158 rfl rfl (Nat.le_of_ble_eq_true rfl) ?_
                        refine Z_iincN (a := _) (k := 1) (lv' := [_, _, _, _, _, _, _, _, _]) dX5_whom_160 rfl rfl rfl rfl ?_
                        refine Z_goto 44 dX5_whom_163 rfl ?_
                        have ev : (whO D ro no n np c k18) i = some t1 := by show whO _ _ _ _ _ _ _ _ = _; rw [whO, if_pos c105, p1a]; show some (s1 0).toNatClampNeg = _; rw [p1b, nI_clamp (by omega)]
                        have gg := g3
                        have ff := g2.tr x3
                        have e : whB (whO D ro no n np c k18) (fun x => prcN D x np) (i + 1) = some (i, t1) := by simp [whB, ev, hm, c133]
                        have ih2 := ih (by omega) _ gg ff
                        rw [e] at ih2
                        exact Z_fgt ih2 (by repeat first | exact zwk_n | refine zwk_f ?_ | refine zwk_c rfl ?_)
                      · refine Z_iload dX5_whom_136 rfl ?_
                        refine Z_iload_n dX5_whom_138 rfl ?_
                        refine Z_icmpneN 160 dX5_whom_139 rfl (by omega) (by omega) (fun c139 => ?_) (fun c139 => ?_)
                        · refine Z_iincN (a := _) (k := 1) (lv' := [_, _, _, _, _, _, _, _, _]) dX5_whom_160 rfl rfl rfl rfl ?_
                          refine Z_goto 44 dX5_whom_163 rfl ?_
                          have ev : (whO D ro no n np c k18) i = some t1 := by show whO _ _ _ _ _ _ _ _ = _; rw [whO, if_pos c105, p1a]; show some (s1 0).toNatClampNeg = _; rw [p1b, nI_clamp (by omega)]
                          have gg := g3
                          have ff := g2.tr x3
                          have e : whB (whO D ro no n np c k18) (fun x => prcN D x np) (i + 1) = some b := by simp [whB, ev, hm, Nat.not_lt.mpr c133, c139]
                          have ih2 := ih (by omega) _ gg ff
                          rw [e] at ih2
                          exact Z_fgt ih2 (by repeat first | exact zwk_n | refine zwk_f ?_ | refine zwk_c rfl ?_)
                        · refine Z_iload dX5_whom_142 rfl ?_
                          refine Z_iload dX5_whom_144 rfl ?_
                          refine Z_icmpge 160 dX5_whom_146 rfl (fun c146 => ?_) (fun c146 => ?_)
                          · refine Z_iincN (a := _) (k := 1) (lv' := [_, _, _, _, _, _, _, _, _]) dX5_whom_160 rfl rfl rfl rfl ?_
                            refine Z_goto 44 dX5_whom_163 rfl ?_
                            have ev : (whO D ro no n np c k18) i = some t1 := by show whO _ _ _ _ _ _ _ _ = _; rw [whO, if_pos c105, p1a]; show some (s1 0).toNatClampNeg = _; rw [p1b, nI_clamp (by omega)]
                            have gg := g3
                            have ff := g2.tr x3
                            have e : whB (whO D ro no n np c k18) (fun x => prcN D x np) (i + 1) = some b := by rw [whB, ev]; dsimp only; rw [hm]; dsimp only; rw [if_neg (Nat.not_lt.mpr c133), if_pos c139, if_pos c146]
                            have ih2 := ih (by omega) _ gg ff
                            rw [e] at ih2
                            exact Z_fgt ih2 (by repeat first | exact zwk_n | refine zwk_f ?_ | refine zwk_c rfl ?_)
                          · refine Z_iload dX5_whom_149 rfl ?_
                            refine Z_istore_n (lv' := [_, _, _, _, _, _, _, _, _]) dX5_whom_151 rfl rfl (Nat.le_of_ble_eq_true rfl) ?_
                            refine Z_iload dX5_whom_152 rfl ?_
                            refine Z_istore (lv' := [_, _, _, _, _, _, _, _, _]) dX5_whom_154 rfl rfl (Nat.le_of_ble_eq_true rfl) ?_
                            refine Z_iload dX5_whom_156 rfl ?_
                            refine Z_istore (lv' := [_, _, _, _, _, _, _, _, _]) dX5_whom_158 rfl rfl (Nat.le_of_ble_eq_true rfl) ?_
                            refine Z_iincN (a := _) (k := 1) (lv' := [_, _, _, _, _, _, _, _, _]) dX5_whom_160 rfl rfl rfl rfl ?_
                            refine Z_goto 44 dX5_whom_163 rfl ?_
                            have ev : (whO D ro no n np c k18) i = some t1 := by show whO _ _ _ _ _ _ _ _ = _; rw [whO, if_pos c105, p1a]; show some (s1 0).toNatClampNeg = _; rw [p1b, nI_clamp (by omega)]
                            have gg := g3
                            have ff := g2.tr x3
                            have e : whB (whO D ro no n np c k18) (fun x => prcN D x np) (i + 1) = some (i, t1) := by rw [whB, ev]; dsimp only; rw [hm]; dsimp only; rw [if_neg (Nat.not_lt.mpr c133), if_pos c139, if_neg c146]
                            have ih2 := ih (by omega) _ gg ff
                            rw [e] at ih2
                            exact Z_fgt ih2 (by repeat first | exact zwk_n | refine zwk_f ?_ | refine zwk_c rfl ?_)
                  · refine Z_istore (lv' := [_, _, _, _, _, _, _, _, _]) dX5_whom_119 rfl rfl (Nat.le_of_ble_eq_true rfl) ?_
                    refine Z_iload dX5_whom_121 rfl ?_
                    refine Z_iflt 160 dX5_whom_123 rfl (fun c123 => ?_) (fun c123 => ?_)
                    · refine Z_iincN (a := _) (k := 1) (lv' := [_, _, _, _, _, _, _, _, _]) dX5_whom_160 rfl rfl rfl rfl ?_
                      refine Z_goto 44 dX5_whom_163 rfl ?_
                      have ev : (whO D ro no n np c k18) i = none := by show whO _ _ _ _ _ _ _ _ = _; rw [whO, if_pos c105, p1a]; rfl
                      have gg := g3
                      have ff := g2.tr x3
                      have e : whB (whO D ro no n np c k18) (fun x => prcN D x np) (i + 1) = whB (whO D ro no n np c k18) (fun x => prcN D x np) i := by simp [whB, ev]
                      have ih2 := ih (by omega) _ gg ff
                      rw [e] at ih2
                      exact Z_fgt ih2 (by repeat first | exact zwk_n | refine zwk_f ?_ | refine zwk_c rfl ?_)
                    · exact absurd (by decide) c123
                · refine Z_iconst (-1) dX5_whom_108 rfl ?_
                  refine Z_goto 119 dX5_whom_109 rfl ?_
                  refine Z_istore (lv' := [_, _, _, _, _, _, _, _, _]) dX5_whom_119 rfl rfl (Nat.le_of_ble_eq_true rfl) ?_
                  refine Z_iload dX5_whom_121 rfl ?_
                  refine Z_iflt 160 dX5_whom_123 rfl (fun c123 => ?_) (fun c123 => ?_)
                  · refine Z_iincN (a := _) (k := 1) (lv' := [_, _, _, _, _, _, _, _, _]) dX5_whom_160 rfl rfl rfl rfl ?_
                    refine Z_goto 44 dX5_whom_163 rfl ?_
                    have ev : (whO D ro no n np c k18) i = none := if_neg c105
                    have gg := g1
                    have ff := g2
                    have e : whB (whO D ro no n np c k18) (fun x => prcN D x np) (i + 1) = whB (whO D ro no n np c k18) (fun x => prcN D x np) i := by simp [whB, ev]
                    have ih2 := ih (by omega) _ gg ff
                    rw [e] at ih2
                    exact Z_fgt ih2 (by repeat first | exact zwk_n | refine zwk_f ?_ | refine zwk_c rfl ?_)
                  · exact absurd (by decide) c123
              · refine Z_iload dX5_whom_70 rfl ?_
                refine Z_iload dX5_whom_72 rfl ?_
                refine Z_iload dX5_whom_74 rfl ?_
                refine Z_callS0 (d' := 0) (zCal_S gX5_137 nX5_has (by decide) dX5_whom_76) pX5_has [_, _] rfl rfl (Nat.le_of_ble_eq_true rfl) (by omega) (c_X5_has (fun h76 => ?_) (fun h76 => ?_))
                · refine Z_ifeq 92 dX5_whom_79 rfl (fun h => absurd h (by decide)) (fun _ => ?_)
                  refine Z_aload_n dX5_whom_82 rfl ?_
                  refine Z_getR (r := 53) hM.1 fX5_443_4 dX5_whom_83 rfl (hM.2.2 53 _ rfl rfl) ?_
                  refine Z_iload dX5_whom_86 rfl ?_
                  refine Z_iald (hM.2.1 53 _ rfl) (zix_nI (by omega) (by decide)) dX5_whom_88 ?_
                  refine Z_re (dr g1.2.2.1 rfl) ?_
                  refine Z_goto 93 dX5_whom_89 rfl ?_
                  refine Z_iadd dX5_whom_93 ?_
                  refine Z_istore (lv' := [_, _, _, _, _, _, _, _, _]) dX5_whom_94 rfl rfl (Nat.le_of_ble_eq_true rfl) ?_
                  refine Z_iincN (a := _) (k := 1) (lv' := [_, _, _, _, _, _, _, _, _]) dX5_whom_96 rfl rfl rfl rfl ?_
                  refine Z_goto 61 dX5_whom_99 rfl ?_
                  have ih2 := ihj (by omega)
                  rw [prcN, sumI] at ih2
                  simp only [h76] at ih2
                  exact Z_fgt ih2 (by repeat first | exact zwk_n | refine zwk_f ?_ | refine zwk_c rfl ?_)
                · refine Z_ifeq 92 dX5_whom_79 rfl (fun _ => ?_) (fun h => absurd h (by decide))
                  refine Z_iconst (nI 0) dX5_whom_92 rfl ?_
                  refine Z_iadd dX5_whom_93 ?_
                  refine Z_istore (lv' := [_, _, _, _, _, _, _, _, _]) dX5_whom_94 rfl rfl (Nat.le_of_ble_eq_true rfl) ?_
                  refine Z_iincN (a := _) (k := 1) (lv' := [_, _, _, _, _, _, _, _, _]) dX5_whom_96 rfl rfl rfl rfl ?_
                  refine Z_goto 61 dX5_whom_99 rfl ?_
                  have ih2 := ihj (by omega)
                  rw [prcN, sumI] at ih2
                  simp only [h76] at ih2
                  exact Z_fgt ih2 (by repeat first | exact zwk_n | refine zwk_f ?_ | refine zwk_c rfl ?_)
            exact lp61 0 (by omega)
        exact lp44 0 (by omega) I1 hR1 frM.rf
      · refine Z_iconst (-1) dX5_whom_31 rfl ?_
        refine Z_ireturn dX5_whom_32 rfl rfl ?_
        exact zO_k (by simp [fWhom, show D 0 16 = nI n from hw.n16, nI_0, r11, r18, v18, c28]) k hR1 f1
    · have r18 : rB h 0 2399 = false := rB_f h18
      refine Z_ifeq 31 dX5_whom_21 rfl (fun _ => ?_) (fun h => absurd h (by decide))
      refine Z_iconst (-1) dX5_whom_31 rfl ?_
      refine Z_ireturn dX5_whom_32 rfl rfl ?_
      exact zO_k (by simp [fWhom, show D 0 16 = nI n from hw.n16, nI_0, r11, r18]) k hR1 f1
  · rw [z_i64] at h11
    have r11 : rB c 0 999 = false := rB_f h11
    refine Z_ifeq 31 dX5_whom_14 rfl (fun _ => ?_) (fun h => absurd h (by decide))
    refine Z_iconst (-1) dX5_whom_31 rfl ?_
    refine Z_ireturn dX5_whom_32 rfl rfl ?_
    exact zO_k (by simp [fWhom, show D 0 16 = nI n from hw.n16, nI_0, r11]) k hR1 f1
def mbV (m : Option (Nat × Int32)) : Int32 := match m with
  | none => -1
  | some b => nI b.1
def mgV (m : Option (Nat × Int32)) : Int64 := match m with
  | none => 0
  | some b => b.2.toInt64
set_option maxHeartbeats 8000000 in
theorem o_worth (hR : mR D R I L P S) (hw : wf (wld D) no n) (hi9 : ∀ j, 127 ≤ j → D 23 j = 0) {ro : Option (List Nat)} (hru : ruM (wld D) ro) (h50 : D 0 50 = nI np) (hnp : np ≤ 9) (hp : prs D no np) {h : Int32} (k : ∀ I2 L2, mR (fWorth D R ro no n np h).2.1 (fWorth D R ro no n np h).2.2 I2 L2 P S → frM I L I2 L2 → Q (.inl (some (.int (fWorth D R ro no n np h).1))) I2 L2 P S) : Zm G mX5_worth 12 C Sl [.ref 0, .int h] I L P S Q := by
  have hM := hR.1
  refine Z_entry (lv := [_, _, _, _, _, _, _, _, _, _]) (Nat.le_of_ble_eq_true rfl) rfl ?_
  refine Z_aload_n dX5_worth_0 rfl ?_
  refine Z_iconst (nI 0) dX5_worth_1 rfl ?_
  refine Z_putI hM.1 fX5_3_4 dX5_worth_2 rfl rfl rfl ?_
  refine Z_start hR (fun I1 hR1 f1 h00 => ?_)
  have hw8 := hw.n8
  have hw6 := hw.o6
  have hM := hR1.1
  have hD : mdat I1 = D := hR1.2.2.1
  have hW : wld I1 = wld D := wld_mdat hD
  have hs : I1 23 = D 23 := funext fun j => dr hD rfl
  have hno : noD D = no := by rw [noD, show D 0 3 = nI no from hw.o3, nI_clamp (by omega)]
  have hnn : nD D = n := by rw [nD, show D 0 16 = nI n from hw.n16, nI_clamp (by omega)]
  have hI3 : I1 0 3 = nI no := (wr hW rfl).trans hw.o3
  have hI16 : I1 0 16 = nI n := (wr hW rfl).trans hw.n16
  refine Z_iload_n dX5_worth_5 rfl ?_
  refine Z_callS0 (d' := 1) (zCal_S gX5_81 nX5_isHour (by decide) dX5_worth_6) pX5_isHour [_] rfl rfl (Nat.le_of_ble_eq_true rfl) (by omega) (c_X5_isHour (fun h6a h6b => ?_) (fun h6 => ?_))
  · have r6 : rB h 0 2399 = true := rB_t h6a h6b
    obtain ⟨k6, hk6, e6⟩ := z_rng (n := 2399) h6a h6b (by omega)
    subst e6
    have v6 : (nI k6).toNatClampNeg = k6 := nI_clamp (by omega)
    refine Z_ifeq 19 dX5_worth_9 rfl (fun h => absurd h (by decide)) (fun _ => ?_)
    refine Z_aload_n dX5_worth_12 rfl ?_
    refine Z_getI hM.1 fX5_151_4 dX5_worth_13 rfl ?_
    refine Z_re (y := nI (n)) hI16 ?_
    refine Z_ifneN 21 dX5_worth_16 rfl (by omega) (fun c16 => ?_) (fun c16 => ?_)
    · refine Z_aload_n dX5_worth_21 rfl ?_
      refine Z_getI hM.1 fX5_434_4 dX5_worth_22 rfl ?_
      refine Z_re (y := nI (np)) ((dr hD rfl).trans h50) ?_
      refine Z_ifneN 31 dX5_worth_25 rfl (by omega) (fun c25 => ?_) (fun c25 => ?_)
      · refine Z_aload_n dX5_worth_31 rfl ?_
        refine Z_iconst (nI 0) dX5_worth_32 rfl ?_
        refine Z_iload_n dX5_worth_33 rfl ?_
        refine Z_call0 (d' := 11) (zCal_V gX5_451 nX5_endsWith (by decide) dX5_worth_34) pX5_endsWith hM.1 zkl4 [_, _] rfl rfl (Nat.le_of_ble_eq_true rfl) (by omega) (c_endsWithR (np := np) (x := 0) hR1 hw hi9 hru h50 hnp hp (by omega) (fun J0 s0 t0 p0a p0b p0c g0 x0 => ?_) (fun J0 p0a g0 x0 => ?_))
        · refine Z_istore_n (lv' := [_, _, _, _, _, _, _, _, _, _]) dX5_worth_37 rfl rfl (Nat.le_of_ble_eq_true rfl) ?_
          refine Z_iconst (-1) dX5_worth_38 rfl ?_
          refine Z_istore_n (lv' := [_, _, _, _, _, _, _, _, _, _]) dX5_worth_39 rfl rfl (Nat.le_of_ble_eq_true rfl) ?_
          refine Z_lconst (0) dX5_worth_40 rfl ?_
          refine Z_lstore (lv' := [_, _, _, _, _, _, _, _, _, _]) dX5_worth_41 rfl rfl (Nat.le_of_ble_eq_true rfl) ?_
          refine Z_aload_n dX5_worth_43 rfl ?_
          refine Z_iconst (nI 0) dX5_worth_44 rfl ?_
          refine Z_putI hM.1 fX5_11_4 dX5_worth_45 rfl rfl rfl ?_
          refine Z_iconst (nI 0) dX5_worth_48 rfl ?_
          refine Z_istore (lv' := [_, _, _, _, _, _, _, _, _, _]) dX5_worth_49 rfl rfl (Nat.le_of_ble_eq_true rfl) ?_
          have lp51 : ∀ i, i ≤ np → ∀ I2 L2, mR D ((List.range i).map (fun k => (gnV D ro no n np k6 k).toInt64)) I2 L2 P S → frM I1 L I2 L2 → Zj G mX5_worth 12 C Sl 51 [.ref 0, .int (nI k6), .int (nI t0), .int (mbV (maxI (gnV D ro no n np k6) i)), .long (mgV (maxI (gnV D ro no n np k6) i)), .retAddr 0, .int (nI i), .retAddr 0, .retAddr 0, .retAddr 0] [] I2 L2 P S Q := by
            refine zloop (np) (fun i => ∀ I2 L2, mR D ((List.range i).map (fun k => (gnV D ro no n np k6 k).toInt64)) I2 L2 P S → frM I1 L I2 L2 → Zj G mX5_worth 12 C Sl 51 [.ref 0, .int (nI k6), .int (nI t0), .int (mbV (maxI (gnV D ro no n np k6) i)), .long (mgV (maxI (gnV D ro no n np k6) i)), .retAddr 0, .int (nI i), .retAddr 0, .retAddr 0, .retAddr 0] [] I2 L2 P S Q) (fun i hi ih => ?_)
            intro I2 L2 g1 g2
            show Zj _ _ _ _ _ _ _ _ _ _ _ _ _
            refine Z_iload dX5_worth_51 rfl ?_
            refine Z_aload_n dX5_worth_53 rfl ?_
            refine Z_getI hM.1 fX5_434_4 dX5_worth_54 rfl ?_
            refine Z_re (y := nI (np)) ((dr g1.2.2.1 rfl).trans h50) ?_
            refine Z_icmpgeN 124 dX5_worth_57 rfl (by omega) (by omega) (fun c57 => ?_) (fun c57 => ?_)
            · refine Z_iload_n dX5_worth_124 rfl ?_
              refine Z_ireturn dX5_worth_125 rfl rfl ?_
              have ei : i = np := by omega
              obtain ⟨b, hb⟩ := maxI_0 (g := (gnV D ro no n np k6)) np (by omega)
              rw [ei] at g1
              rw [ei, hb]
              exact zO_k (D2 := D) (R2 := ((List.range np).map (fun k => (gnV D ro no n np k6 k).toInt64))) (by rw [fWorth, if_pos (by rw [r6, decide_eq_false (fun e => c16 ((nI_z (by omega)).mp ((show D 0 16 = nI n from hw.n16).symm.trans e)))]; rfl), if_neg (fun e => c25 ((nI_z (by omega)).mp (h50.symm.trans e))), v6, hb]; rfl) k g1 (f1.tr g2)
            · refine Z_aload_n dX5_worth_60 rfl ?_
              refine Z_iconst (nI 1) dX5_worth_61 rfl ?_
              refine Z_iload dX5_worth_62 rfl ?_
              refine Z_ishl dX5_worth_64 ?_
              rw [shl1 (by omega)]
              refine Z_iload_n dX5_worth_65 rfl ?_
              refine Z_call0 (d' := 11) (zCal_V gX5_451 nX5_endsWith (by decide) dX5_worth_66) pX5_endsWith hM.1 zkl4 [_, _] rfl rfl (Nat.le_of_ble_eq_true rfl) (by omega) (c_endsWithR (np := np) g1 hw hi9 hru h50 hnp hp (by omega) (fun J2 s1 t1 p1a p1b p1c g3 x3 => ?_) (fun J2 p1a g3 x3 => ?_))
              · refine Z_istore (lv' := [_, _, _, _, _, _, _, _, _, _]) dX5_worth_69 rfl rfl (Nat.le_of_ble_eq_true rfl) ?_
                refine Z_iload dX5_worth_71 rfl ?_
                refine Z_ifltN 80 dX5_worth_73 rfl (by omega) ?_
                refine Z_iload_n dX5_worth_76 rfl ?_
                refine Z_ifgeN 86 dX5_worth_77 rfl (by omega) ?_
                refine Z_iload_n dX5_worth_86 rfl ?_
                refine Z_iload dX5_worth_87 rfl ?_
                refine Z_isub dX5_worth_89 ?_
                refine Z_i2l dX5_worth_90 ?_
                refine Z_rel (y := ((gnV D ro no n np k6) i).toInt64) (by show _ = (gnV _ _ _ _ _ _ _).toInt64; rw [gnV, p1a, p0a]; show _ = (s0 0 - s1 0).toInt64; rw [p0b, p1b]) ?_
                refine Z_lstore (lv' := [_, _, _, _, _, _, _, _, _, _]) dX5_worth_91 rfl rfl (Nat.le_of_ble_eq_true rfl) ?_
                refine Z_aload_n dX5_worth_93 rfl ?_
                refine Z_lload dX5_worth_94 rfl ?_
                refine Z_call0 (d' := 0) (zCal_V gX5_18 nX5_enters (by decide) dX5_worth_96) pX5_enters hM.1 zkl4 [_] rfl rfl (Nat.le_of_ble_eq_true rfl) (by omega) (c_tell g3 (by simp; omega) (fun J9 M9 t9 q9 => ?_))
                obtain ⟨m0, hm⟩ : ∃ m0, maxI (gnV D ro no n np k6) i = m0 := ⟨_, rfl⟩
                rw [hm]
                rcases m0 with _ | b
                · dsimp only [mbV, mgV]
                  refine Z_iload_n dX5_worth_99 rfl ?_
                  refine Z_iflt 111 dX5_worth_100 rfl (fun c100 => ?_) (fun c100 => ?_)
                  · refine Z_iload dX5_worth_111 rfl ?_
                    refine Z_istore_n (lv' := [_, _, _, _, _, _, _, _, _, _]) dX5_worth_113 rfl rfl (Nat.le_of_ble_eq_true rfl) ?_
                    refine Z_lload dX5_worth_114 rfl ?_
                    refine Z_lstore (lv' := [_, _, _, _, _, _, _, _, _, _]) dX5_worth_116 rfl rfl (Nat.le_of_ble_eq_true rfl) ?_
                    refine Z_iincN (a := _) (k := 1) (lv' := [_, _, _, _, _, _, _, _, _, _]) dX5_worth_118 rfl rfl rfl rfl ?_
                    refine Z_goto 51 dX5_worth_121 rfl ?_
                    have ih2 := ih (by omega) _ _ (by rw [List.range_succ, List.map_append]; exact t9) ((g2.tr x3).tr q9)
                    have e : maxI (gnV D ro no n np k6) (i + 1) = some (i, (gnV D ro no n np k6) i) := by simp [maxI, hm]
                    rw [e] at ih2
                    exact Z_fgt ih2 (by repeat first | exact zwk_n | refine zwk_f ?_ | refine zwk_c rfl ?_)
                  · exact absurd (by decide) c100
                · dsimp only [mbV, mgV]
                  have hb1 := maxI_mem _ _ hm
                  refine Z_iload_n dX5_worth_99 rfl ?_
                  refine Z_ifltN 111 dX5_worth_100 rfl (by omega) ?_
                  refine Z_lload dX5_worth_103 rfl ?_
                  refine Z_lload dX5_worth_105 rfl ?_
                  refine Z_lcmp dX5_worth_107 ?_
                  refine Z_ifle 118 dX5_worth_108 rfl (fun c108 => ?_) (fun c108 => ?_)
                  · refine Z_iincN (a := _) (k := 1) (lv' := [_, _, _, _, _, _, _, _, _, _]) dX5_worth_118 rfl rfl rfl rfl ?_
                    refine Z_goto 51 dX5_worth_121 rfl ?_
                    have ih2 := ih (by omega) _ _ (by rw [List.range_succ, List.map_append]; exact t9) ((g2.tr x3).tr q9)
                    have e : maxI (gnV D ro no n np k6) (i + 1) = some b := by simp [maxI, hm, lcm_le.mp c108]
                    rw [e] at ih2
                    exact Z_fgt ih2 (by repeat first | exact zwk_n | refine zwk_f ?_ | refine zwk_c rfl ?_)
                  · refine Z_iload dX5_worth_111 rfl ?_
                    refine Z_istore_n (lv' := [_, _, _, _, _, _, _, _, _, _]) dX5_worth_113 rfl rfl (Nat.le_of_ble_eq_true rfl) ?_
                    refine Z_lload dX5_worth_114 rfl ?_
                    refine Z_lstore (lv' := [_, _, _, _, _, _, _, _, _, _]) dX5_worth_116 rfl rfl (Nat.le_of_ble_eq_true rfl) ?_
                    refine Z_iincN (a := _) (k := 1) (lv' := [_, _, _, _, _, _, _, _, _, _]) dX5_worth_118 rfl rfl rfl rfl ?_
                    refine Z_goto 51 dX5_worth_121 rfl ?_
                    have ih2 := ih (by omega) _ _ (by rw [List.range_succ, List.map_append]; exact t9) ((g2.tr x3).tr q9)
                    have e : maxI (gnV D ro no n np k6) (i + 1) = some (i, (gnV D ro no n np k6) i) := by simp [maxI, hm, show ¬ (gnV D ro no n np k6) i ≤ b.2 from fun q => c108 (lcm_le.mpr q)]
                    rw [e] at ih2
                    exact Z_fgt ih2 (by repeat first | exact zwk_n | refine zwk_f ?_ | refine zwk_c rfl ?_)
              · refine Z_istore (lv' := [_, _, _, _, _, _, _, _, _, _]) dX5_worth_69 rfl rfl (Nat.le_of_ble_eq_true rfl) ?_
                refine Z_iload dX5_worth_71 rfl ?_
                refine Z_iflt 80 dX5_worth_73 rfl (fun c73 => ?_) (fun c73 => ?_)
                · refine Z_ldc2 q1652 dX5_worth_80 ?_
                  refine Z_goto 91 dX5_worth_83 rfl ?_
                  refine Z_rel (y := ((gnV D ro no n np k6) i).toInt64) (by show _ = (gnV _ _ _ _ _ _ _).toInt64; rw [gnV, p1a]; exact (by decide : (-9999 : Int64) = Int32.toInt64 (-9999))) ?_
                  refine Z_lstore (lv' := [_, _, _, _, _, _, _, _, _, _]) dX5_worth_91 rfl rfl (Nat.le_of_ble_eq_true rfl) ?_
                  refine Z_aload_n dX5_worth_93 rfl ?_
                  refine Z_lload dX5_worth_94 rfl ?_
                  refine Z_call0 (d' := 0) (zCal_V gX5_18 nX5_enters (by decide) dX5_worth_96) pX5_enters hM.1 zkl4 [_] rfl rfl (Nat.le_of_ble_eq_true rfl) (by omega) (c_tell g3 (by simp; omega) (fun J9 M9 t9 q9 => ?_))
                  obtain ⟨m0, hm⟩ : ∃ m0, maxI (gnV D ro no n np k6) i = m0 := ⟨_, rfl⟩
                  rw [hm]
                  rcases m0 with _ | b
                  · dsimp only [mbV, mgV]
                    refine Z_iload_n dX5_worth_99 rfl ?_
                    refine Z_iflt 111 dX5_worth_100 rfl (fun c100 => ?_) (fun c100 => ?_)
                    · refine Z_iload dX5_worth_111 rfl ?_
                      refine Z_istore_n (lv' := [_, _, _, _, _, _, _, _, _, _]) dX5_worth_113 rfl rfl (Nat.le_of_ble_eq_true rfl) ?_
                      refine Z_lload dX5_worth_114 rfl ?_
                      refine Z_lstore (lv' := [_, _, _, _, _, _, _, _, _, _]) dX5_worth_116 rfl rfl (Nat.le_of_ble_eq_true rfl) ?_
                      refine Z_iincN (a := _) (k := 1) (lv' := [_, _, _, _, _, _, _, _, _, _]) dX5_worth_118 rfl rfl rfl rfl ?_
                      refine Z_goto 51 dX5_worth_121 rfl ?_
                      have ih2 := ih (by omega) _ _ (by rw [List.range_succ, List.map_append]; exact t9) ((g2.tr x3).tr q9)
                      have e : maxI (gnV D ro no n np k6) (i + 1) = some (i, (gnV D ro no n np k6) i) := by simp [maxI, hm]
                      rw [e] at ih2
                      exact Z_fgt ih2 (by repeat first | exact zwk_n | refine zwk_f ?_ | refine zwk_c rfl ?_)
                    · exact absurd (by decide) c100
                  · dsimp only [mbV, mgV]
                    have hb1 := maxI_mem _ _ hm
                    refine Z_iload_n dX5_worth_99 rfl ?_
                    refine Z_ifltN 111 dX5_worth_100 rfl (by omega) ?_
                    refine Z_lload dX5_worth_103 rfl ?_
                    refine Z_lload dX5_worth_105 rfl ?_
                    refine Z_lcmp dX5_worth_107 ?_
                    refine Z_ifle 118 dX5_worth_108 rfl (fun c108 => ?_) (fun c108 => ?_)
                    · refine Z_iincN (a := _) (k := 1) (lv' := [_, _, _, _, _, _, _, _, _, _]) dX5_worth_118 rfl rfl rfl rfl ?_
                      refine Z_goto 51 dX5_worth_121 rfl ?_
                      have ih2 := ih (by omega) _ _ (by rw [List.range_succ, List.map_append]; exact t9) ((g2.tr x3).tr q9)
                      have e : maxI (gnV D ro no n np k6) (i + 1) = some b := by simp [maxI, hm, lcm_le.mp c108]
                      rw [e] at ih2
                      exact Z_fgt ih2 (by repeat first | exact zwk_n | refine zwk_f ?_ | refine zwk_c rfl ?_)
                    · refine Z_iload dX5_worth_111 rfl ?_
                      refine Z_istore_n (lv' := [_, _, _, _, _, _, _, _, _, _]) dX5_worth_113 rfl rfl (Nat.le_of_ble_eq_true rfl) ?_
                      refine Z_lload dX5_worth_114 rfl ?_
                      refine Z_lstore (lv' := [_, _, _, _, _, _, _, _, _, _]) dX5_worth_116 rfl rfl (Nat.le_of_ble_eq_true rfl) ?_
                      refine Z_iincN (a := _) (k := 1) (lv' := [_, _, _, _, _, _, _, _, _, _]) dX5_worth_118 rfl rfl rfl rfl ?_
                      refine Z_goto 51 dX5_worth_121 rfl ?_
                      have ih2 := ih (by omega) _ _ (by rw [List.range_succ, List.map_append]; exact t9) ((g2.tr x3).tr q9)
                      have e : maxI (gnV D ro no n np k6) (i + 1) = some (i, (gnV D ro no n np k6) i) := by simp [maxI, hm, show ¬ (gnV D ro no n np k6) i ≤ b.2 from fun q => c108 (lcm_le.mpr q)]
                      rw [e] at ih2
                      exact Z_fgt ih2 (by repeat first | exact zwk_n | refine zwk_f ?_ | refine zwk_c rfl ?_)
                · exact absurd (by decide) c73
          exact lp51 0 (by omega) _ _ (mR_t0 g0) (x0.tr (frM.rf.st (by decide)))
        · refine Z_istore_n (lv' := [_, _, _, _, _, _, _, _, _, _]) dX5_worth_37 rfl rfl (Nat.le_of_ble_eq_true rfl) ?_
          refine Z_iconst (-1) dX5_worth_38 rfl ?_
          refine Z_istore_n (lv' := [_, _, _, _, _, _, _, _, _, _]) dX5_worth_39 rfl rfl (Nat.le_of_ble_eq_true rfl) ?_
          refine Z_lconst (0) dX5_worth_40 rfl ?_
          refine Z_lstore (lv' := [_, _, _, _, _, _, _, _, _, _]) dX5_worth_41 rfl rfl (Nat.le_of_ble_eq_true rfl) ?_
          refine Z_aload_n dX5_worth_43 rfl ?_
          refine Z_iconst (nI 0) dX5_worth_44 rfl ?_
          refine Z_putI hM.1 fX5_11_4 dX5_worth_45 rfl rfl rfl ?_
          refine Z_iconst (nI 0) dX5_worth_48 rfl ?_
          refine Z_istore (lv' := [_, _, _, _, _, _, _, _, _, _]) dX5_worth_49 rfl rfl (Nat.le_of_ble_eq_true rfl) ?_
          have lp51 : ∀ i, i ≤ np → ∀ I2 L2, mR D ((List.range i).map (fun k => (gnV D ro no n np k6 k).toInt64)) I2 L2 P S → frM I1 L I2 L2 → Zj G mX5_worth 12 C Sl 51 [.ref 0, .int (nI k6), .int (-1), .int (mbV (maxI (gnV D ro no n np k6) i)), .long (mgV (maxI (gnV D ro no n np k6) i)), .retAddr 0, .int (nI i), .retAddr 0, .retAddr 0, .retAddr 0] [] I2 L2 P S Q := by
            refine zloop (np) (fun i => ∀ I2 L2, mR D ((List.range i).map (fun k => (gnV D ro no n np k6 k).toInt64)) I2 L2 P S → frM I1 L I2 L2 → Zj G mX5_worth 12 C Sl 51 [.ref 0, .int (nI k6), .int (-1), .int (mbV (maxI (gnV D ro no n np k6) i)), .long (mgV (maxI (gnV D ro no n np k6) i)), .retAddr 0, .int (nI i), .retAddr 0, .retAddr 0, .retAddr 0] [] I2 L2 P S Q) (fun i hi ih => ?_)
            intro I2 L2 g1 g2
            show Zj _ _ _ _ _ _ _ _ _ _ _ _ _
            refine Z_iload dX5_worth_51 rfl ?_
            refine Z_aload_n dX5_worth_53 rfl ?_
            refine Z_getI hM.1 fX5_434_4 dX5_worth_54 rfl ?_
            refine Z_re (y := nI (np)) ((dr g1.2.2.1 rfl).trans h50) ?_
            refine Z_icmpgeN 124 dX5_worth_57 rfl (by omega) (by omega) (fun c57 => ?_) (fun c57 => ?_)
            · refine Z_iload_n dX5_worth_124 rfl ?_
              refine Z_ireturn dX5_worth_125 rfl rfl ?_
              have ei : i = np := by omega
              obtain ⟨b, hb⟩ := maxI_0 (g := (gnV D ro no n np k6)) np (by omega)
              rw [ei] at g1
              rw [ei, hb]
              exact zO_k (D2 := D) (R2 := ((List.range np).map (fun k => (gnV D ro no n np k6 k).toInt64))) (by rw [fWorth, if_pos (by rw [r6, decide_eq_false (fun e => c16 ((nI_z (by omega)).mp ((show D 0 16 = nI n from hw.n16).symm.trans e)))]; rfl), if_neg (fun e => c25 ((nI_z (by omega)).mp (h50.symm.trans e))), v6, hb]; rfl) k g1 (f1.tr g2)
            · refine Z_aload_n dX5_worth_60 rfl ?_
              refine Z_iconst (nI 1) dX5_worth_61 rfl ?_
              refine Z_iload dX5_worth_62 rfl ?_
              refine Z_ishl dX5_worth_64 ?_
              rw [shl1 (by omega)]
              refine Z_iload_n dX5_worth_65 rfl ?_
              refine Z_call0 (d' := 11) (zCal_V gX5_451 nX5_endsWith (by decide) dX5_worth_66) pX5_endsWith hM.1 zkl4 [_, _] rfl rfl (Nat.le_of_ble_eq_true rfl) (by omega) (c_endsWithR (np := np) g1 hw hi9 hru h50 hnp hp (by omega) (fun J2 s1 t1 p1a p1b p1c g3 x3 => ?_) (fun J2 p1a g3 x3 => ?_))
              · refine Z_istore (lv' := [_, _, _, _, _, _, _, _, _, _]) dX5_worth_69 rfl rfl (Nat.le_of_ble_eq_true rfl) ?_
                refine Z_iload dX5_worth_71 rfl ?_
                refine Z_ifltN 80 dX5_worth_73 rfl (by omega) ?_
                refine Z_iload_n dX5_worth_76 rfl ?_
                refine Z_ifge 86 dX5_worth_77 rfl (fun c77 => ?_) (fun c77 => ?_)
                · exact absurd c77 (by decide)
                · refine Z_ldc2 q1652 dX5_worth_80 ?_
                  refine Z_goto 91 dX5_worth_83 rfl ?_
                  refine Z_rel (y := ((gnV D ro no n np k6) i).toInt64) (by show _ = (gnV _ _ _ _ _ _ _).toInt64; rw [gnV, p1a, p0a]; exact (by decide : (-9999 : Int64) = Int32.toInt64 (-9999))) ?_
                  refine Z_lstore (lv' := [_, _, _, _, _, _, _, _, _, _]) dX5_worth_91 rfl rfl (Nat.le_of_ble_eq_true rfl) ?_
                  refine Z_aload_n dX5_worth_93 rfl ?_
                  refine Z_lload dX5_worth_94 rfl ?_
                  refine Z_call0 (d' := 0) (zCal_V gX5_18 nX5_enters (by decide) dX5_worth_96) pX5_enters hM.1 zkl4 [_] rfl rfl (Nat.le_of_ble_eq_true rfl) (by omega) (c_tell g3 (by simp; omega) (fun J9 M9 t9 q9 => ?_))
                  obtain ⟨m0, hm⟩ : ∃ m0, maxI (gnV D ro no n np k6) i = m0 := ⟨_, rfl⟩
                  rw [hm]
                  rcases m0 with _ | b
                  · dsimp only [mbV, mgV]
                    refine Z_iload_n dX5_worth_99 rfl ?_
                    refine Z_iflt 111 dX5_worth_100 rfl (fun c100 => ?_) (fun c100 => ?_)
                    · refine Z_iload dX5_worth_111 rfl ?_
                      refine Z_istore_n (lv' := [_, _, _, _, _, _, _, _, _, _]) dX5_worth_113 rfl rfl (Nat.le_of_ble_eq_true rfl) ?_
                      refine Z_lload dX5_worth_114 rfl ?_
                      refine Z_lstore (lv' := [_, _, _, _, _, _, _, _, _, _]) dX5_worth_116 rfl rfl (Nat.le_of_ble_eq_true rfl) ?_
                      refine Z_iincN (a := _) (k := 1) (lv' := [_, _, _, _, _, _, _, _, _, _]) dX5_worth_118 rfl rfl rfl rfl ?_
                      refine Z_goto 51 dX5_worth_121 rfl ?_
                      have ih2 := ih (by omega) _ _ (by rw [List.range_succ, List.map_append]; exact t9) ((g2.tr x3).tr q9)
                      have e : maxI (gnV D ro no n np k6) (i + 1) = some (i, (gnV D ro no n np k6) i) := by simp [maxI, hm]
                      rw [e] at ih2
                      exact Z_fgt ih2 (by repeat first | exact zwk_n | refine zwk_f ?_ | refine zwk_c rfl ?_)
                    · exact absurd (by decide) c100
                  · dsimp only [mbV, mgV]
                    have hb1 := maxI_mem _ _ hm
                    refine Z_iload_n dX5_worth_99 rfl ?_
                    refine Z_ifltN 111 dX5_worth_100 rfl (by omega) ?_
                    refine Z_lload dX5_worth_103 rfl ?_
                    refine Z_lload dX5_worth_105 rfl ?_
                    refine Z_lcmp dX5_worth_107 ?_
                    refine Z_ifle 118 dX5_worth_108 rfl (fun c108 => ?_) (fun c108 => ?_)
                    · refine Z_iincN (a := _) (k := 1) (lv' := [_, _, _, _, _, _, _, _, _, _]) dX5_worth_118 rfl rfl rfl rfl ?_
                      refine Z_goto 51 dX5_worth_121 rfl ?_
                      have ih2 := ih (by omega) _ _ (by rw [List.range_succ, List.map_append]; exact t9) ((g2.tr x3).tr q9)
                      have e : maxI (gnV D ro no n np k6) (i + 1) = some b := by simp [maxI, hm, lcm_le.mp c108]
                      rw [e] at ih2
                      exact Z_fgt ih2 (by repeat first | exact zwk_n | refine zwk_f ?_ | refine zwk_c rfl ?_)
                    · refine Z_iload dX5_worth_111 rfl ?_
                      refine Z_istore_n (lv' := [_, _, _, _, _, _, _, _, _, _]) dX5_worth_113 rfl rfl (Nat.le_of_ble_eq_true rfl) ?_
                      refine Z_lload dX5_worth_114 rfl ?_
                      refine Z_lstore (lv' := [_, _, _, _, _, _, _, _, _, _]) dX5_worth_116 rfl rfl (Nat.le_of_ble_eq_true rfl) ?_
                      refine Z_iincN (a := _) (k := 1) (lv' := [_, _, _, _, _, _, _, _, _, _]) dX5_worth_118 rfl rfl rfl rfl ?_
                      refine Z_goto 51 dX5_worth_121 rfl ?_
                      have ih2 := ih (by omega) _ _ (by rw [List.range_succ, List.map_append]; exact t9) ((g2.tr x3).tr q9)
                      have e : maxI (gnV D ro no n np k6) (i + 1) = some (i, (gnV D ro no n np k6) i) := by simp [maxI, hm, show ¬ (gnV D ro no n np k6) i ≤ b.2 from fun q => c108 (lcm_le.mpr q)]
                      rw [e] at ih2
                      exact Z_fgt ih2 (by repeat first | exact zwk_n | refine zwk_f ?_ | refine zwk_c rfl ?_)
              · refine Z_istore (lv' := [_, _, _, _, _, _, _, _, _, _]) dX5_worth_69 rfl rfl (Nat.le_of_ble_eq_true rfl) ?_
                refine Z_iload dX5_worth_71 rfl ?_
                refine Z_iflt 80 dX5_worth_73 rfl (fun c73 => ?_) (fun c73 => ?_)
                · refine Z_ldc2 q1652 dX5_worth_80 ?_
                  refine Z_goto 91 dX5_worth_83 rfl ?_
                  refine Z_rel (y := ((gnV D ro no n np k6) i).toInt64) (by show _ = (gnV _ _ _ _ _ _ _).toInt64; rw [gnV, p1a]; exact (by decide : (-9999 : Int64) = Int32.toInt64 (-9999))) ?_
                  refine Z_lstore (lv' := [_, _, _, _, _, _, _, _, _, _]) dX5_worth_91 rfl rfl (Nat.le_of_ble_eq_true rfl) ?_
                  refine Z_aload_n dX5_worth_93 rfl ?_
                  refine Z_lload dX5_worth_94 rfl ?_
                  refine Z_call0 (d' := 0) (zCal_V gX5_18 nX5_enters (by decide) dX5_worth_96) pX5_enters hM.1 zkl4 [_] rfl rfl (Nat.le_of_ble_eq_true rfl) (by omega) (c_tell g3 (by simp; omega) (fun J9 M9 t9 q9 => ?_))
                  obtain ⟨m0, hm⟩ : ∃ m0, maxI (gnV D ro no n np k6) i = m0 := ⟨_, rfl⟩
                  rw [hm]
                  rcases m0 with _ | b
                  · dsimp only [mbV, mgV]
                    refine Z_iload_n dX5_worth_99 rfl ?_
                    refine Z_iflt 111 dX5_worth_100 rfl (fun c100 => ?_) (fun c100 => ?_)
                    · refine Z_iload dX5_worth_111 rfl ?_
                      refine Z_istore_n (lv' := [_, _, _, _, _, _, _, _, _, _]) dX5_worth_113 rfl rfl (Nat.le_of_ble_eq_true rfl) ?_
                      refine Z_lload dX5_worth_114 rfl ?_
                      refine Z_lstore (lv' := [_, _, _, _, _, _, _, _, _, _]) dX5_worth_116 rfl rfl (Nat.le_of_ble_eq_true rfl) ?_
                      refine Z_iincN (a := _) (k := 1) (lv' := [_, _, _, _, _, _, _, _, _, _]) dX5_worth_118 rfl rfl rfl rfl ?_
                      refine Z_goto 51 dX5_worth_121 rfl ?_
                      have ih2 := ih (by omega) _ _ (by rw [List.range_succ, List.map_append]; exact t9) ((g2.tr x3).tr q9)
                      have e : maxI (gnV D ro no n np k6) (i + 1) = some (i, (gnV D ro no n np k6) i) := by simp [maxI, hm]
                      rw [e] at ih2
                      exact Z_fgt ih2 (by repeat first | exact zwk_n | refine zwk_f ?_ | refine zwk_c rfl ?_)
                    · exact absurd (by decide) c100
                  · dsimp only [mbV, mgV]
                    have hb1 := maxI_mem _ _ hm
                    refine Z_iload_n dX5_worth_99 rfl ?_
                    refine Z_ifltN 111 dX5_worth_100 rfl (by omega) ?_
                    refine Z_lload dX5_worth_103 rfl ?_
                    refine Z_lload dX5_worth_105 rfl ?_
                    refine Z_lcmp dX5_worth_107 ?_
                    refine Z_ifle 118 dX5_worth_108 rfl (fun c108 => ?_) (fun c108 => ?_)
                    · refine Z_iincN (a := _) (k := 1) (lv' := [_, _, _, _, _, _, _, _, _, _]) dX5_worth_118 rfl rfl rfl rfl ?_
                      refine Z_goto 51 dX5_worth_121 rfl ?_
                      have ih2 := ih (by omega) _ _ (by rw [List.range_succ, List.map_append]; exact t9) ((g2.tr x3).tr q9)
                      have e : maxI (gnV D ro no n np k6) (i + 1) = some b := by simp [maxI, hm, lcm_le.mp c108]
                      rw [e] at ih2
                      exact Z_fgt ih2 (by repeat first | exact zwk_n | refine zwk_f ?_ | refine zwk_c rfl ?_)
                    · refine Z_iload dX5_worth_111 rfl ?_
                      refine Z_istore_n (lv' := [_, _, _, _, _, _, _, _, _, _]) dX5_worth_113 rfl rfl (Nat.le_of_ble_eq_true rfl) ?_
                      refine Z_lload dX5_worth_114 rfl ?_
                      refine Z_lstore (lv' := [_, _, _, _, _, _, _, _, _, _]) dX5_worth_116 rfl rfl (Nat.le_of_ble_eq_true rfl) ?_
                      refine Z_iincN (a := _) (k := 1) (lv' := [_, _, _, _, _, _, _, _, _, _]) dX5_worth_118 rfl rfl rfl rfl ?_
                      refine Z_goto 51 dX5_worth_121 rfl ?_
                      have ih2 := ih (by omega) _ _ (by rw [List.range_succ, List.map_append]; exact t9) ((g2.tr x3).tr q9)
                      have e : maxI (gnV D ro no n np k6) (i + 1) = some (i, (gnV D ro no n np k6) i) := by simp [maxI, hm, show ¬ (gnV D ro no n np k6) i ≤ b.2 from fun q => c108 (lcm_le.mpr q)]
                      rw [e] at ih2
                      exact Z_fgt ih2 (by repeat first | exact zwk_n | refine zwk_f ?_ | refine zwk_c rfl ?_)
                · exact absurd (by decide) c73
          exact lp51 0 (by omega) _ _ (mR_t0 g0) (x0.tr (frM.rf.st (by decide)))
      · refine Z_bipush (-2) dX5_worth_28 rfl ?_
        refine Z_ireturn dX5_worth_30 rfl rfl ?_
        exact zO_k (by rw [fWorth, if_pos (by rw [r6, decide_eq_false (fun e => c16 ((nI_z (by omega)).mp ((show D 0 16 = nI n from hw.n16).symm.trans e)))]; rfl), if_pos (by rw [h50, c25]; rfl)]) k hR1 f1
    · refine Z_iconst (-1) dX5_worth_19 rfl ?_
      refine Z_ireturn dX5_worth_20 rfl rfl ?_
      exact zO_k (by simp [fWorth, show D 0 16 = nI n from hw.n16, nI_0, r6, v6, c16]) k hR1 f1
  · have r6 : rB h 0 2399 = false := rB_f h6
    refine Z_ifeq 19 dX5_worth_9 rfl (fun _ => ?_) (fun h => absurd h (by decide))
    refine Z_iconst (-1) dX5_worth_19 rfl ?_
    refine Z_ireturn dX5_worth_20 rfl rfl ?_
    exact zO_k (by simp [fWorth, show D 0 16 = nI n from hw.n16, nI_0, r6]) k hR1 f1
end M20
