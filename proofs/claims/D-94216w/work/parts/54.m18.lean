set_option maxRecDepth 100000
/-! THE MODEL, part 18: a piece that lies alone -/
section M18
variable {G : zG} {d C Sl : Nat} {I D W : zI} {R : List Int64} {L : zL} {P : zR} {S : zT} {Q : zQ} {no n : Nat}
def t47 : Nat → Nat → Bool := fun h k => h == 0 && k == 47
theorem t47_w {a k : Nat} (h : wAt a k = true) : t47 a k = false := by
  unfold t47
  by_cases e : a = 0
  · subst e
    by_cases e2 : k = 47
    · subst e2; exact absurd h (by decide)
    · simp [e2]
  · simp [e]
theorem t47_d {a k : Nat} (h : dAt a k = true) : t47 a k = false := by
  unfold t47
  by_cases e : a = 0
  · subst e
    by_cases e2 : k = 47
    · subst e2; exact absurd h (by decide)
    · simp [e2]
  · simp [e]
theorem t47_hi {a k : Nat} (h : 100 ≤ a) : t47 a k = false := by
  unfold t47
  simp [show ¬ a = 0 by omega]
theorem mR_47 {I2 : zI} (h : mR D R I L P S) (hf : fr t47 I I2) : mR D R I2 L P S := by
  obtain ⟨h1, h2, h3, h4⟩ := h
  exact ⟨h1, h2, (md_fr hf fun _ _ => t47_d).trans h3, (hf 0 1 rfl).trans h4.1, h4.2⟩
/-- the best so far, its number -/
def bsV (m : Option (Nat × Nat)) : Int32 := match m with
  | none => -2
  | some b => nI b.1
def snV (m : Option (Nat × Nat)) : Int32 := match m with
  | none => nI 0
  | some b => nI b.2
def wtV (W : zI) (p h : Nat) (m : Option (Nat × Nat)) : Int32 := match m with
  | none => nI 0
  | some b => nI (((lieO W p h b.1).map (·.2)).getD 0)
set_option maxHeartbeats 4000000 in
theorem c_X5_lies (hM : mOk P S) (hW : wld I = W) (hw : wf W no n) {p o h : Nat} (hp : p < n) (ho : o < no) (hh : h ≤ 2399) (kt : ∀ I2 x, lieO W p h o = some x → I2 0 47 = nI x.2 → fr t47 I I2 → Q (.inl (some (.int (nI x.1)))) I2 L P S) (kf : ∀ I2, lieO W p h o = none → fr t47 I I2 → Q (.inl (some (.int (-1)))) I2 L P S) : Zm G mX5_lies 3 C Sl [.ref 0, .int (nI p), .int (nI o), .int (nI h)] I L P S Q := by
  have hn8 := hw.n8
  have ho6 := hw.o6
  have hW0 := hW
  obtain ⟨b, hb⟩ : ∃ b, h + b = 2399 := ⟨2399 - h, by omega⟩
  have eb : 2399 - h = b := by omega
  refine Z_entry (lv := [_, _, _, _, _, _, _, _]) (Nat.le_of_ble_eq_true rfl) rfl ?_
  refine Z_aload_n dX5_lies_0 rfl ?_
  refine Z_getR (r := 18) hM.1 fX5_146_4 dX5_lies_1 rfl (hM.2.2 18 _ rfl rfl) ?_
  refine Z_iload_n dX5_lies_4 rfl ?_
  refine Z_iald (hM.2.1 18 _ rfl) (zix_nI (by omega) (by decide)) dX5_lies_5 ?_
  refine Z_re (wr (by first | exact hW | exact (wld_zw rfl).trans hW) rfl) ?_
  refine Z_istore (lv' := [_, _, _, _, _, _, _, _]) dX5_lies_6 rfl rfl (Nat.le_of_ble_eq_true rfl) ?_
  refine Z_iconst (nI 0) dX5_lies_8 rfl ?_
  refine Z_istore (lv' := [_, _, _, _, _, _, _, _]) dX5_lies_9 rfl rfl (Nat.le_of_ble_eq_true rfl) ?_
  refine Z_iconst (nI 0) dX5_lies_11 rfl ?_
  refine Z_istore (lv' := [_, _, _, _, _, _, _, _]) dX5_lies_12 rfl rfl (Nat.le_of_ble_eq_true rfl) ?_
  refine Z_aload_n dX5_lies_14 rfl ?_
  refine Z_iconst (nI 0) dX5_lies_15 rfl ?_
  refine Z_putI hM.1 fX5_405_4 dX5_lies_16 rfl rfl rfl ?_
  refine Z_iload_n dX5_lies_19 rfl ?_
  refine Z_istore (lv' := [_, _, _, _, _, _, _, _]) dX5_lies_20 rfl rfl (Nat.le_of_ble_eq_true rfl) ?_
  have lp22 : ∀ i, i ≤ b → ∀ I2 l s w k, fr t47 I I2 → I2 0 47 = nI k → lieN W p o (b - i) (h + i) l s w k = lieO W p h o → (w = true → ∃ a, a < no ∧ W 21 p = nI a) → Zj G mX5_lies 3 C Sl 22 [.ref 0, .int (nI p), .int (nI o), .int (nI h), .int l, .int s, .int (nI (bI w)), .int (nI (h + i))] [] I2 L P S Q := by
    refine zloop (b) (fun i => ∀ I2 l s w k, fr t47 I I2 → I2 0 47 = nI k → lieN W p o (b - i) (h + i) l s w k = lieO W p h o → (w = true → ∃ a, a < no ∧ W 21 p = nI a) → Zj G mX5_lies 3 C Sl 22 [.ref 0, .int (nI p), .int (nI o), .int (nI h), .int l, .int s, .int (nI (bI w)), .int (nI (h + i))] [] I2 L P S Q) (fun i hi ih => ?_)
    intro I2 l s w k g1 g2 g3 hwt
    show Zj _ _ _ _ _ _ _ _ _ _ _ _ _
    have hW : wld I2 = W := (wld_fr g1 fun _ _ => t47_w).trans hW0
    have bw := bI_lt w
    refine Z_iload dX5_lies_22 rfl ?_
    refine Z_sipush (nI 2399) dX5_lies_24 rfl ?_
    refine Z_icmpgeN 156 dX5_lies_27 rfl (by omega) (by omega) (fun c27 => ?_) (fun c27 => ?_)
    · rw [show b - i = 0 by omega] at g3
      refine Z_iconst (-1) dX5_lies_156 rfl ?_
      refine Z_ireturn dX5_lies_157 rfl rfl ?_
      exact kf I2 (g3.symm.trans rfl) g1
    · have hi2 : b - i = (b - (i + 1)) + 1 := by omega
      refine Z_iload dX5_lies_30 rfl ?_
      refine Z_ifeqN 80 dX5_lies_32 rfl (by omega) (fun c32 => ?_) (fun c32 => ?_)
      · obtain rfl := bI_0.mp c32
        refine Z_aload_n dX5_lies_80 rfl ?_
        refine Z_iload_n dX5_lies_81 rfl ?_
        refine Z_iload dX5_lies_82 rfl ?_
        refine Z_call0 (d' := 2) (zCal_V gX5_120 nX5_isOpen (by decide) dX5_lies_84) pX5_isOpen hM.1 zkl4 [_, _] rfl rfl (Nat.le_of_ble_eq_true rfl) (by omega) (c_isOpenW hM (by first | exact hW | exact (wld_zw rfl).trans hW) (by omega) (fun h84 => ?_) (fun h84 => ?_))
        · refine Z_ifeq 150 dX5_lies_87 rfl (fun h => absurd h (by decide)) (fun _ => ?_)
          refine Z_aload_n dX5_lies_90 rfl ?_
          refine Z_getR (r := 9) hM.1 fX5_47_4 dX5_lies_91 rfl (hM.2.2 9 _ rfl rfl) ?_
          refine Z_iload_n dX5_lies_94 rfl ?_
          refine Z_iald (hM.2.1 9 _ rfl) (zix_nI (by omega) (by decide)) dX5_lies_95 ?_
          refine Z_re (wr (by first | exact hW | exact (wld_zw rfl).trans hW) rfl) ?_
          refine Z_aload_n dX5_lies_96 rfl ?_
          refine Z_getR (r := 17) hM.1 fX5_154_4 dX5_lies_97 rfl (hM.2.2 17 _ rfl rfl) ?_
          refine Z_iload_n dX5_lies_100 rfl ?_
          refine Z_iald (hM.2.1 17 _ rfl) (zix_nI (by omega) (by decide)) dX5_lies_101 ?_
          refine Z_re (wr (by first | exact hW | exact (wld_zw rfl).trans hW) rfl) ?_
          refine Z_callS0 (d' := 0) (zCal_S gX5_137 nX5_has (by decide) dX5_lies_102) pX5_has [_, _] rfl rfl (Nat.le_of_ble_eq_true rfl) (by omega) (c_X5_has (fun h102 => ?_) (fun h102 => ?_))
          · refine Z_ifeq 150 dX5_lies_105 rfl (fun h => absurd h (by decide)) (fun _ => ?_)
            refine Z_iinc (lv' := [_, _, _, _, _, _, _, _]) dX5_lies_108 rfl rfl rfl ?_
            refine Z_iinc (lv' := [_, _, _, _, _, _, _, _]) dX5_lies_111 rfl rfl rfl ?_
            rw [show Int32.ofInt (-1) = -1 from rfl, show Int32.ofInt 1 = nI 1 from rfl]
            refine Z_iload dX5_lies_114 rfl ?_
            refine Z_ifne 124 dX5_lies_116 rfl (fun c116 => ?_) (fun c116 => ?_)
            · refine Z_aload_n dX5_lies_124 rfl ?_
              refine Z_getR (r := 21) hM.1 fX5_163_4 dX5_lies_125 rfl (hM.2.2 21 _ rfl rfl) ?_
              refine Z_iload_n dX5_lies_128 rfl ?_
              refine Z_iald (hM.2.1 21 _ rfl) (zix_nI (by omega) (by decide)) dX5_lies_129 ?_
              refine Z_re (wr (by first | exact hW | exact (wld_zw rfl).trans hW) rfl) ?_
              refine Z_iflt 150 dX5_lies_130 rfl (fun c130 => ?_) (fun c130 => ?_)
              · refine Z_iincN (a := _) (k := 1) (lv' := [_, _, _, _, _, _, _, _]) dX5_lies_150 rfl rfl rfl rfl ?_
                refine Z_goto 22 dX5_lies_153 rfl ?_
                rw [hi2, lieN] at g3
                rw [if_neg (by decide)] at g3
                rw [if_pos (by simp [h84, h102]), if_neg c116] at g3
                rw [if_pos c130] at g3
                exact ih (by omega) _ _ _ false k g1 g2 g3 (fun q => absurd q (by decide))
              · refine Z_iload dX5_lies_133 rfl ?_
                refine Z_aload_n dX5_lies_135 rfl ?_
                refine Z_getR (r := 22) hM.1 fX5_157_4 dX5_lies_136 rfl (hM.2.2 22 _ rfl rfl) ?_
                refine Z_iload_n dX5_lies_139 rfl ?_
                refine Z_iald (hM.2.1 22 _ rfl) (zix_nI (by omega) (by decide)) dX5_lies_140 ?_
                refine Z_re (wr (by first | exact hW | exact (wld_zw rfl).trans hW) rfl) ?_
                refine Z_icmpne 150 dX5_lies_141 rfl (fun c141 => ?_) (fun c141 => ?_)
                · refine Z_iincN (a := _) (k := 1) (lv' := [_, _, _, _, _, _, _, _]) dX5_lies_150 rfl rfl rfl rfl ?_
                  refine Z_goto 22 dX5_lies_153 rfl ?_
                  rw [hi2, lieN] at g3
                  rw [if_neg (by decide)] at g3
                  rw [if_pos (by simp [h84, h102]), if_neg c116] at g3
                  rw [if_neg c130, if_neg c141] at g3
                  exact ih (by omega) _ _ _ false k g1 g2 g3 (fun q => absurd q (by decide))
                · refine Z_iconst (nI 1) dX5_lies_144 rfl ?_
                  refine Z_istore (lv' := [_, _, _, _, _, _, _, _]) dX5_lies_145 rfl rfl (Nat.le_of_ble_eq_true rfl) ?_
                  refine Z_iconst (nI 0) dX5_lies_147 rfl ?_
                  refine Z_istore (lv' := [_, _, _, _, _, _, _, _]) dX5_lies_148 rfl rfl (Nat.le_of_ble_eq_true rfl) ?_
                  refine Z_iincN (a := _) (k := 1) (lv' := [_, _, _, _, _, _, _, _]) dX5_lies_150 rfl rfl rfl rfl ?_
                  refine Z_goto 22 dX5_lies_153 rfl ?_
                  rw [hi2, lieN] at g3
                  rw [if_neg (by decide)] at g3
                  rw [if_pos (by simp [h84, h102]), if_neg c116] at g3
                  rw [if_neg c130, if_pos c141] at g3
                  exact ih (by omega) _ _ _ true k g1 g2 g3 (fun _ => (hw.asks hp).resolve_left (fun q => c130 (by rw [q]; decide)))
            · refine Z_iload dX5_lies_119 rfl ?_
              refine Z_iconst (nI 1) dX5_lies_121 rfl ?_
              refine Z_iaddN dX5_lies_122 ?_
              refine Z_ireturn dX5_lies_123 rfl rfl ?_
              rw [hi2, lieN, if_neg (by decide), if_pos (by simp [h84, h102]), if_pos c116] at g3
              exact kt I2 (h + i + 1, k) g3.symm g2 g1
          · refine Z_ifeq 150 dX5_lies_105 rfl (fun _ => ?_) (fun h => absurd h (by decide))
            refine Z_iincN (a := _) (k := 1) (lv' := [_, _, _, _, _, _, _, _]) dX5_lies_150 rfl rfl rfl rfl ?_
            refine Z_goto 22 dX5_lies_153 rfl ?_
            rw [hi2, lieN] at g3
            rw [if_neg (by decide)] at g3
            rw [if_neg (by simp [h84, h102])] at g3
            exact ih (by omega) _ l s false k g1 g2 g3 (fun q => absurd q (by decide))
        · refine Z_ifeq 150 dX5_lies_87 rfl (fun _ => ?_) (fun h => absurd h (by decide))
          refine Z_iincN (a := _) (k := 1) (lv' := [_, _, _, _, _, _, _, _]) dX5_lies_150 rfl rfl rfl rfl ?_
          refine Z_goto 22 dX5_lies_153 rfl ?_
          rw [hi2, lieN] at g3
          rw [if_neg (by decide)] at g3
          rw [if_neg (by simp [h84])] at g3
          exact ih (by omega) _ l s false k g1 g2 g3 (fun q => absurd q (by decide))
      · obtain rfl := bI_1.mp c32
        obtain ⟨a, ha6, hv⟩ := hwt rfl
        have e2 : (W 21 p).toNatClampNeg = a := by rw [hv, nI_clamp (by omega)]
        refine Z_aload_n dX5_lies_35 rfl ?_
        refine Z_dup dX5_lies_36 rfl ?_
        refine Z_getI hM.1 fX5_405_4 dX5_lies_37 rfl ?_
        refine Z_re (y := nI (k)) g2 ?_
        refine Z_iconst (nI 1) dX5_lies_40 rfl ?_
        refine Z_iaddN dX5_lies_41 ?_
        refine Z_putI hM.1 fX5_405_4 dX5_lies_42 rfl rfl rfl ?_
        refine Z_aload_n dX5_lies_45 rfl ?_
        refine Z_iload_n dX5_lies_46 rfl ?_
        refine Z_iload dX5_lies_47 rfl ?_
        refine Z_call0 (d' := 2) (zCal_V gX5_120 nX5_isOpen (by decide) dX5_lies_49) pX5_isOpen hM.1 zkl4 [_, _] rfl rfl (Nat.le_of_ble_eq_true rfl) (by omega) (c_isOpenW hM (by first | exact hW | exact (wld_zw rfl).trans hW) (by omega) (fun h49 => ?_) (fun h49 => ?_))
        · refine Z_ifeq 70 dX5_lies_52 rfl (fun h => absurd h (by decide)) (fun _ => ?_)
          refine Z_aload_n dX5_lies_55 rfl ?_
          refine Z_aload_n dX5_lies_56 rfl ?_
          refine Z_getR (r := 21) hM.1 fX5_163_4 dX5_lies_57 rfl (hM.2.2 21 _ rfl rfl) ?_
          refine Z_iload_n dX5_lies_60 rfl ?_
          refine Z_iald (hM.2.1 21 _ rfl) (zix_nI (by omega) (by decide)) dX5_lies_61 ?_
          refine Z_re (wr (by first | exact hW | exact (wld_zw rfl).trans hW) rfl) ?_
          refine Z_re (y := nI (a)) hv ?_
          refine Z_iload dX5_lies_62 rfl ?_
          refine Z_call0 (d' := 2) (zCal_V gX5_120 nX5_isOpen (by decide) dX5_lies_64) pX5_isOpen hM.1 zkl4 [_, _] rfl rfl (Nat.le_of_ble_eq_true rfl) (by omega) (c_isOpenW hM (by first | exact hW | exact (wld_zw rfl).trans hW) (by omega) (fun h64 => ?_) (fun h64 => ?_))
          · refine Z_ifne 74 dX5_lies_67 rfl (fun _ => ?_) (fun h => absurd h (by decide))
            refine Z_iconst (nI 0) dX5_lies_74 rfl ?_
            refine Z_istore (lv' := [_, _, _, _, _, _, _, _]) dX5_lies_75 rfl rfl (Nat.le_of_ble_eq_true rfl) ?_
            refine Z_goto 150 dX5_lies_77 rfl ?_
            refine Z_iincN (a := _) (k := 1) (lv' := [_, _, _, _, _, _, _, _]) dX5_lies_150 rfl rfl rfl rfl ?_
            refine Z_goto 22 dX5_lies_153 rfl ?_
            rw [hi2, lieN] at g3
            rw [if_pos rfl, show (!(opn W o (h + i) && opn W (W 21 p).toNatClampNeg (h + i))) = false from by simp [e2, h49, h64]] at g3
            exact ih (by omega) _ l s false (k + 1) (g1.st rfl) rfl g3 (fun _ => ⟨a, ha6, hv⟩)
          · refine Z_ifne 74 dX5_lies_67 rfl (fun h => absurd h (by decide)) (fun _ => ?_)
            refine Z_iconst (nI 1) dX5_lies_70 rfl ?_
            refine Z_goto 75 dX5_lies_71 rfl ?_
            refine Z_istore (lv' := [_, _, _, _, _, _, _, _]) dX5_lies_75 rfl rfl (Nat.le_of_ble_eq_true rfl) ?_
            refine Z_goto 150 dX5_lies_77 rfl ?_
            refine Z_iincN (a := _) (k := 1) (lv' := [_, _, _, _, _, _, _, _]) dX5_lies_150 rfl rfl rfl rfl ?_
            refine Z_goto 22 dX5_lies_153 rfl ?_
            rw [hi2, lieN] at g3
            rw [if_pos rfl, show (!(opn W o (h + i) && opn W (W 21 p).toNatClampNeg (h + i))) = true from by simp [e2, h49, h64]] at g3
            exact ih (by omega) _ l s true (k + 1) (g1.st rfl) rfl g3 (fun _ => ⟨a, ha6, hv⟩)
        · refine Z_ifeq 70 dX5_lies_52 rfl (fun _ => ?_) (fun h => absurd h (by decide))
          refine Z_iconst (nI 1) dX5_lies_70 rfl ?_
          refine Z_goto 75 dX5_lies_71 rfl ?_
          refine Z_istore (lv' := [_, _, _, _, _, _, _, _]) dX5_lies_75 rfl rfl (Nat.le_of_ble_eq_true rfl) ?_
          refine Z_goto 150 dX5_lies_77 rfl ?_
          refine Z_iincN (a := _) (k := 1) (lv' := [_, _, _, _, _, _, _, _]) dX5_lies_150 rfl rfl rfl rfl ?_
          refine Z_goto 22 dX5_lies_153 rfl ?_
          rw [hi2, lieN] at g3
          rw [if_pos rfl, show (!(opn W o (h + i) && opn W (W 21 p).toNatClampNeg (h + i))) = true from by simp [e2, h49]] at g3
          exact ih (by omega) _ l s true (k + 1) (g1.st rfl) rfl g3 (fun _ => ⟨a, ha6, hv⟩)
  exact lp22 0 (by omega) _ _ _ false 0 (fr.rf.st rfl) rfl (by rw [lieO, eb]; rfl) (fun q => absurd q (by decide))
set_option maxHeartbeats 4000000 in
theorem o_lie (hR : mR D R I L P S) (hw : wf (wld D) no n) {x h : Int32} (k : ∀ I2 L2, mR (fLie D R no x h).2.1 (fLie D R no x h).2.2 I2 L2 P S → frM I L I2 L2 → Q (.inl (some (.int (fLie D R no x h).1))) I2 L2 P S) : Zm G mX5_lie 4 C Sl [.ref 0, .int x, .int h] I L P S Q := by
  have hM := hR.1
  refine Z_entry (lv := [_, _, _, _, _, _, _, _]) (Nat.le_of_ble_eq_true rfl) rfl ?_
  refine Z_aload_n dX5_lie_0 rfl ?_
  refine Z_iconst (nI 0) dX5_lie_1 rfl ?_
  refine Z_putI hM.1 fX5_3_4 dX5_lie_2 rfl rfl rfl ?_
  refine Z_start hR (fun I1 hR1 f1 h00 => ?_)
  have hw8 := hw.n8
  have hw6 := hw.o6
  have hM := hR1.1
  have hD : mdat I1 = D := hR1.2.2.1
  have hW : wld I1 = wld D := wld_mdat hD
  have hs : I1 23 = D 23 := funext fun j => dr hD rfl
  have hno : noD D = no := by rw [noD, show D 0 3 = nI no from hw.o3, nI_clamp (by omega)]
  have hnn : nD D = n := by rw [nD, show D 0 16 = nI n from hw.n16, nI_clamp (by omega)]
  have hI3 : I1 0 3 = nI no := (wr hW rfl).trans hw.o3
  have hI16 : I1 0 16 = nI n := (wr hW rfl).trans hw.n16
  refine Z_aload_n dX5_lie_5 rfl ?_
  refine Z_iload_n dX5_lie_6 rfl ?_
  refine Z_call0 (d' := 1) (zCal_V gX5_256 nX5_isPiece (by decide) dX5_lie_7) pX5_isPiece hM.1 zkl4 [_] rfl rfl (Nat.le_of_ble_eq_true rfl) (by omega) (c_X5_isPiece hM (by omega) hI16 (fun k7 hk7 e7 => ?_) (fun h7 => ?_))
  · subst e7
    have r7 : pB D (nI k7) = true := rB_t (by rw [z_ti (by omega)]; omega) (by rw [z_ti (by omega), hnn]; omega)
    have v7 : (nI k7).toNatClampNeg = k7 := nI_clamp (by omega)
    refine Z_ifeq 20 dX5_lie_10 rfl (fun h => absurd h (by decide)) (fun _ => ?_)
    refine Z_iload_n dX5_lie_13 rfl ?_
    refine Z_callS0 (d' := 1) (zCal_S gX5_81 nX5_isHour (by decide) dX5_lie_14) pX5_isHour [_] rfl rfl (Nat.le_of_ble_eq_true rfl) (by omega) (c_X5_isHour (fun h14a h14b => ?_) (fun h14 => ?_))
    · have r14 : rB h 0 2399 = true := rB_t h14a h14b
      obtain ⟨k14, hk14, e14⟩ := z_rng (n := 2399) h14a h14b (by omega)
      subst e14
      have v14 : (nI k14).toNatClampNeg = k14 := nI_clamp (by omega)
      refine Z_ifne 22 dX5_lie_17 rfl (fun _ => ?_) (fun h => absurd h (by decide))
      refine Z_bipush (-2) dX5_lie_22 rfl ?_
      refine Z_istore_n (lv' := [_, _, _, _, _, _, _, _]) dX5_lie_24 rfl rfl (Nat.le_of_ble_eq_true rfl) ?_
      refine Z_iconst (nI 0) dX5_lie_25 rfl ?_
      refine Z_istore (lv' := [_, _, _, _, _, _, _, _]) dX5_lie_26 rfl rfl (Nat.le_of_ble_eq_true rfl) ?_
      refine Z_iconst (nI 0) dX5_lie_28 rfl ?_
      refine Z_istore (lv' := [_, _, _, _, _, _, _, _]) dX5_lie_29 rfl rfl (Nat.le_of_ble_eq_true rfl) ?_
      refine Z_iconst (nI 0) dX5_lie_31 rfl ?_
      refine Z_istore (lv' := [_, _, _, _, _, _, _, _]) dX5_lie_32 rfl rfl (Nat.le_of_ble_eq_true rfl) ?_
      have lp34 : ∀ i, i ≤ no → ∀ I2, mR D R I2 L P S → frM I1 L I2 L → Zj G mX5_lie 4 C Sl 34 [.ref 0, .int (nI k7), .int (nI k14), .int (bsV (minF (fun o => (lieO (wld D) k7 k14 o).map (·.1)) i)), .int (snV (minF (fun o => (lieO (wld D) k7 k14 o).map (·.1)) i)), .int (wtV (wld D) k7 k14 (minF (fun o => (lieO (wld D) k7 k14 o).map (·.1)) i)), .int (nI i), .retAddr 0] [] I2 L P S Q := by
        refine zloop (no) (fun i => ∀ I2, mR D R I2 L P S → frM I1 L I2 L → Zj G mX5_lie 4 C Sl 34 [.ref 0, .int (nI k7), .int (nI k14), .int (bsV (minF (fun o => (lieO (wld D) k7 k14 o).map (·.1)) i)), .int (snV (minF (fun o => (lieO (wld D) k7 k14 o).map (·.1)) i)), .int (wtV (wld D) k7 k14 (minF (fun o => (lieO (wld D) k7 k14 o).map (·.1)) i)), .int (nI i), .retAddr 0] [] I2 L P S Q) (fun i hi ih => ?_)
        intro I2 g1 g2
        show Zj _ _ _ _ _ _ _ _ _ _ _ _ _
        have hW : wld I2 = wld D := wld_mdat g1.2.2.1
        refine Z_iload dX5_lie_34 rfl ?_
        refine Z_aload_n dX5_lie_36 rfl ?_
        refine Z_getI hM.1 fX5_22_4 dX5_lie_37 rfl ?_
        refine Z_re ((wr (by first | exact hW | (simp only [wld_zw23, wld_zw33, wld_zw27, wld_zw34, wld_zw35, wld_zw36, wld_zw0, wld_zw1, wld_zu23]; exact hW)) rfl).trans hw.o3) ?_
        refine Z_icmpgeN 88 dX5_lie_40 rfl (by omega) (by omega) (fun c40 => ?_) (fun c40 => ?_)
        · have ei : i = no := by omega
          rw [ei]
          obtain ⟨m0, hm⟩ : ∃ m0, minF (fun o => (lieO (wld D) k7 k14 o).map (·.1)) no = m0 := ⟨_, rfl⟩
          rw [hm]
          rcases m0 with _ | b
          · dsimp only [bsV, snV, wtV]
            refine Z_iload_n dX5_lie_88 rfl ?_
            refine Z_iflt 111 dX5_lie_89 rfl (fun c89 => ?_) (fun c89 => ?_)
            · refine Z_iload_n dX5_lie_111 rfl ?_
              refine Z_ireturn dX5_lie_112 rfl rfl ?_
              exact zO_k (D2 := D) (R2 := R) (by simp [fLie, r7, r14, v7, v14, hm]) k g1 (f1.tr g2)
            · exact absurd (by decide) c89
          · dsimp only [bsV, snV, wtV]
            have hb1 := minF_mem _ _ hm
            obtain ⟨y, hy, hy2⟩ := Option.map_eq_some_iff.mp hb1.2
            have hb2 := lieN_b _ _ _ _ _ _ _ hy
            refine Z_iload_n dX5_lie_88 rfl ?_
            refine Z_ifltN 111 dX5_lie_89 rfl (by omega) ?_
            refine Z_aload_n dX5_lie_92 rfl ?_
            refine Z_iconst (nI 0) dX5_lie_93 rfl ?_
            refine Z_putI hM.1 fX5_11_4 dX5_lie_94 rfl rfl rfl ?_
            refine Z_aload_n dX5_lie_97 rfl ?_
            refine Z_iload dX5_lie_98 rfl ?_
            refine Z_i2l dX5_lie_100 ?_
            refine Z_call0 (d' := 0) (zCal_V gX5_18 nX5_enters (by decide) dX5_lie_101) pX5_enters hM.1 zkl4 [_] rfl rfl (Nat.le_of_ble_eq_true rfl) (by omega) (c_tell (mR_t0 g1) (by simp) (fun J1 M1 t1 q1 => ?_))
            refine Z_aload_n dX5_lie_104 rfl ?_
            refine Z_iload dX5_lie_105 rfl ?_
            refine Z_i2l dX5_lie_107 ?_
            refine Z_call0 (d' := 0) (zCal_V gX5_18 nX5_enters (by decide) dX5_lie_108) pX5_enters hM.1 zkl4 [_] rfl rfl (Nat.le_of_ble_eq_true rfl) (by omega) (c_tell t1 (by simp) (fun J2 M2 t2 q2 => ?_))
            refine Z_iload_n dX5_lie_111 rfl ?_
            refine Z_ireturn dX5_lie_112 rfl rfl ?_
            exact zO_k (D2 := D) (R2 := _) (by simp [fLie, r7, r14, v7, v14, hm]) k t2 (f1.tr (((g2.tr (frM.rf.st (by decide))).tr q1).tr q2))
        · refine Z_aload_n dX5_lie_43 rfl ?_
          refine Z_iload_n dX5_lie_44 rfl ?_
          refine Z_iload dX5_lie_45 rfl ?_
          refine Z_iload_n dX5_lie_47 rfl ?_
          refine Z_call0 (d' := 3) (zCal_V gX5_408 nX5_lies (by decide) dX5_lie_48) pX5_lies hM.1 zkl4 [_, _, _] rfl rfl (Nat.le_of_ble_eq_true rfl) (by omega) (c_X5_lies hM hW hw (by omega) (by omega) (by omega) (fun I3 x hx x47 gx => ?_) (fun I3 hxn gx => ?_))
          · have hbx := lieN_b _ _ _ _ _ _ _ hx
            refine Z_istore (lv' := [_, _, _, _, _, _, _, _]) dX5_lie_51 rfl rfl (Nat.le_of_ble_eq_true rfl) ?_
            refine Z_iload dX5_lie_53 rfl ?_
            refine Z_ifltN 82 dX5_lie_55 rfl (by omega) ?_
            obtain ⟨m0, hm⟩ : ∃ m0, minF (fun o => (lieO (wld D) k7 k14 o).map (·.1)) i = m0 := ⟨_, rfl⟩
            rw [hm]
            rcases m0 with _ | b
            · dsimp only [bsV, snV, wtV]
              refine Z_iload_n dX5_lie_58 rfl ?_
              refine Z_iflt 69 dX5_lie_59 rfl (fun c59 => ?_) (fun c59 => ?_)
              · refine Z_iload dX5_lie_69 rfl ?_
                refine Z_istore_n (lv' := [_, _, _, _, _, _, _, _]) dX5_lie_71 rfl rfl (Nat.le_of_ble_eq_true rfl) ?_
                refine Z_iload dX5_lie_72 rfl ?_
                refine Z_istore (lv' := [_, _, _, _, _, _, _, _]) dX5_lie_74 rfl rfl (Nat.le_of_ble_eq_true rfl) ?_
                refine Z_aload_n dX5_lie_76 rfl ?_
                refine Z_getI hM.1 fX5_405_4 dX5_lie_77 rfl ?_
                refine Z_re (y := nI (x.2)) x47 ?_
                refine Z_istore (lv' := [_, _, _, _, _, _, _, _]) dX5_lie_80 rfl rfl (Nat.le_of_ble_eq_true rfl) ?_
                refine Z_iincN (a := _) (k := 1) (lv' := [_, _, _, _, _, _, _, _]) dX5_lie_82 rfl rfl rfl rfl ?_
                refine Z_goto 34 dX5_lie_85 rfl ?_
                have e : minF (fun o => (lieO (wld D) k7 k14 o).map (·.1)) (i + 1) = some (i, x.1) := by simp [minF, hx, hm]
                have ih2 := ih (by omega) _ (mR_47 g1 gx) (g2.tr (frM.of gx fun _ _ => t47_hi))
                rw [e] at ih2
                rw [show wtV (wld D) k7 k14 (some (i, x.1)) = nI x.2 from by simp [wtV, hx]] at ih2
                exact Z_fgt ih2 (by repeat first | exact zwk_n | refine zwk_f ?_ | refine zwk_c rfl ?_)
              · exact absurd (by decide) c59
            · dsimp only [bsV, snV, wtV]
              have hb1 := minF_mem _ _ hm
              obtain ⟨y, hy, hy2⟩ := Option.map_eq_some_iff.mp hb1.2
              have hb2 := lieN_b _ _ _ _ _ _ _ hy
              refine Z_iload_n dX5_lie_58 rfl ?_
              refine Z_ifltN 69 dX5_lie_59 rfl (by omega) ?_
              refine Z_iload dX5_lie_62 rfl ?_
              refine Z_iload dX5_lie_64 rfl ?_
              refine Z_icmpgeN 82 dX5_lie_66 rfl (by omega) (by omega) (fun c66 => ?_) (fun c66 => ?_)
              · refine Z_iincN (a := _) (k := 1) (lv' := [_, _, _, _, _, _, _, _]) dX5_lie_82 rfl rfl rfl rfl ?_
                refine Z_goto 34 dX5_lie_85 rfl ?_
                have e : minF (fun o => (lieO (wld D) k7 k14 o).map (·.1)) (i + 1) = some b := by simp [minF, hx, hm, c66]
                have ih2 := ih (by omega) _ (mR_47 g1 gx) (g2.tr (frM.of gx fun _ _ => t47_hi))
                rw [e] at ih2
                exact Z_fgt ih2 (by repeat first | exact zwk_n | refine zwk_f ?_ | refine zwk_c rfl ?_)
              · refine Z_iload dX5_lie_69 rfl ?_
                refine Z_istore_n (lv' := [_, _, _, _, _, _, _, _]) dX5_lie_71 rfl rfl (Nat.le_of_ble_eq_true rfl) ?_
                refine Z_iload dX5_lie_72 rfl ?_
                refine Z_istore (lv' := [_, _, _, _, _, _, _, _]) dX5_lie_74 rfl rfl (Nat.le_of_ble_eq_true rfl) ?_
                refine Z_aload_n dX5_lie_76 rfl ?_
                refine Z_getI hM.1 fX5_405_4 dX5_lie_77 rfl ?_
                refine Z_re (y := nI (x.2)) x47 ?_
                refine Z_istore (lv' := [_, _, _, _, _, _, _, _]) dX5_lie_80 rfl rfl (Nat.le_of_ble_eq_true rfl) ?_
                refine Z_iincN (a := _) (k := 1) (lv' := [_, _, _, _, _, _, _, _]) dX5_lie_82 rfl rfl rfl rfl ?_
                refine Z_goto 34 dX5_lie_85 rfl ?_
                have e : minF (fun o => (lieO (wld D) k7 k14 o).map (·.1)) (i + 1) = some (i, x.1) := by simp [minF, hx, hm, Nat.not_le.mpr c66]
                have ih2 := ih (by omega) _ (mR_47 g1 gx) (g2.tr (frM.of gx fun _ _ => t47_hi))
                rw [e] at ih2
                rw [show wtV (wld D) k7 k14 (some (i, x.1)) = nI x.2 from by simp [wtV, hx]] at ih2
                exact Z_fgt ih2 (by repeat first | exact zwk_n | refine zwk_f ?_ | refine zwk_c rfl ?_)
          · refine Z_istore (lv' := [_, _, _, _, _, _, _, _]) dX5_lie_51 rfl rfl (Nat.le_of_ble_eq_true rfl) ?_
            refine Z_iload dX5_lie_53 rfl ?_
            refine Z_iflt 82 dX5_lie_55 rfl (fun c55 => ?_) (fun c55 => ?_)
            · refine Z_iincN (a := _) (k := 1) (lv' := [_, _, _, _, _, _, _, _]) dX5_lie_82 rfl rfl rfl rfl ?_
              refine Z_goto 34 dX5_lie_85 rfl ?_
              have e : minF (fun o => (lieO (wld D) k7 k14 o).map (·.1)) (i + 1) = minF (fun o => (lieO (wld D) k7 k14 o).map (·.1)) i := by simp [minF, hxn]
              have ih2 := ih (by omega) _ (mR_47 g1 gx) (g2.tr (frM.of gx fun _ _ => t47_hi))
              rw [e] at ih2
              exact Z_fgt ih2 (by repeat first | exact zwk_n | refine zwk_f ?_ | refine zwk_c rfl ?_)
            · exact absurd (by decide) c55
      exact lp34 0 (by omega) I1 hR1 frM.rf
    · have r14 : rB h 0 2399 = false := rB_f h14
      refine Z_ifne 22 dX5_lie_17 rfl (fun h => absurd h (by decide)) (fun _ => ?_)
      refine Z_iconst (-1) dX5_lie_20 rfl ?_
      refine Z_ireturn dX5_lie_21 rfl rfl ?_
      exact zO_k (D2 := D) (R2 := R) (by simp [fLie, r7, v7, r14]) k (hR1) (f1.tr (frM.rf))
  · have r7 : pB D x = false := rB_f (fun q => h7 ⟨q.1, by have := q.2; rw [hnn] at this; omega⟩)
    refine Z_ifeq 20 dX5_lie_10 rfl (fun _ => ?_) (fun h => absurd h (by decide))
    refine Z_iconst (-1) dX5_lie_20 rfl ?_
    refine Z_ireturn dX5_lie_21 rfl rfl ?_
    exact zO_k (D2 := D) (R2 := R) (by simp [fLie, r7]) k (hR1) (f1.tr (frM.rf))
end M18
