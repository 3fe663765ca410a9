set_option maxRecDepth 100000
/-! THE COMPONENT, part 2: a state -/
section X2
variable {G : zG} {d C Sl : Nat} {I D W : zI} {R : List Int64} {L : zL} {P : zR} {S : zT} {Q : zQ} {no n np : Nat} {s : zS} {oh ph : Nat → Nat}
set_option maxHeartbeats 4000000 in
theorem c_X3_doneOnes (hx : xO S P) {h : Nat} (hT : stO S P h) (g : sRw n I h s) (hn : I 100 1 = nI n) (hn8 : n ≤ 8) (hdn : ∀ p, p < n → s (35 + p) = -1 ∨ ∃ k, k < 2 ^ 31 ∧ s (35 + p) = nI k) (k : Q (.inl (some (.int (orB (isDn s) n)))) I L P S) : Zm G mX3_doneOnes 0 C Sl [.ref h] I L P S Q := by
  refine Z_entry (lv := [_, _, _]) (Nat.le_of_ble_eq_true rfl) rfl ?_
  refine Z_iconst (nI 0) dX3_doneOnes_0 rfl ?_
  refine Z_istore_n (lv' := [_, _, _]) dX3_doneOnes_1 rfl rfl (Nat.le_of_ble_eq_true rfl) ?_
  refine Z_iconst (nI 0) dX3_doneOnes_2 rfl ?_
  refine Z_istore_n (lv' := [_, _, _]) dX3_doneOnes_3 rfl rfl (Nat.le_of_ble_eq_true rfl) ?_
  have lp4 : ∀ i, i ≤ n → Zj G mX3_doneOnes 0 C Sl 4 [.ref h, .int (orB (isDn s) i), .int (nI i)] [] I L P S Q := by
    refine zloop (n) (fun i => Zj G mX3_doneOnes 0 C Sl 4 [.ref h, .int (orB (isDn s) i), .int (nI i)] [] I L P S Q) (fun i hi ih => ?_)
    show Zj _ _ _ _ _ _ _ _ _ _ _ _ _
    refine Z_iload_n dX3_doneOnes_4 rfl ?_
    refine Z_aload_n dX3_doneOnes_5 rfl ?_
    refine Z_getR (r := 100) hT.1 fX3_3_2 dX3_doneOnes_6 rfl hT.2.2 ?_
    refine Z_getIN hx.1 fX3_60_0 dX3_doneOnes_9 rfl ?_
    refine Z_re (y := nI (n)) hn ?_
    refine Z_icmpgeN 41 dX3_doneOnes_12 rfl (by omega) (by omega) (fun c12 => ?_) (fun c12 => ?_)
    · have ei : i = n := by omega
      rw [ei]
      refine Z_iload_n dX3_doneOnes_41 rfl ?_
      refine Z_ireturn dX3_doneOnes_42 rfl rfl ?_
      exact k
    · refine Z_iload_n dX3_doneOnes_15 rfl ?_
      refine Z_aload_n dX3_doneOnes_16 rfl ?_
      refine Z_getR (r := (h + 7)) hT.1 fX3_25_2 dX3_doneOnes_17 rfl (hT.2.1 7 _ rfl).2 ?_
      refine Z_iload_n dX3_doneOnes_20 rfl ?_
      refine Z_iald (hT.2.1 7 _ rfl).1 (zix_nI (by first | omega | (dsimp only; omega)) (by decide)) dX3_doneOnes_21 ?_
      refine Z_re (g.f (k := 7) (by decide) (by decide) (p := i) (by omega)) ?_
      refine Z_iconst (-1) dX3_doneOnes_22 rfl ?_
      refine Z_icmpne 30 dX3_doneOnes_23 rfl (fun c23 => ?_) (fun c23 => ?_)
      · refine Z_iconst (nI 1) dX3_doneOnes_30 rfl ?_
        refine Z_iload_n dX3_doneOnes_31 rfl ?_
        refine Z_ishl dX3_doneOnes_32 ?_
        refine Z_ior dX3_doneOnes_33 ?_
        refine Z_istore_n (lv' := [_, _, _]) dX3_doneOnes_34 rfl rfl (Nat.le_of_ble_eq_true rfl) ?_
        refine Z_iincN (a := _) (k := 1) (lv' := [_, _, _]) dX3_doneOnes_35 rfl rfl rfl rfl ?_
        refine Z_goto 4 dX3_doneOnes_38 rfl ?_
        have ih2 := ih (by omega)
        have e : isDn s i = true := by
          rcases hdn i (by omega) with q | ⟨k2, hk2, q⟩
          · exact absurd q c23
          · unfold isDn; rw [q, decide_eq_false (nI_pos hk2)]; rfl
        rw [orB, e] at ih2
        exact ih2
      · refine Z_iconst (nI 0) dX3_doneOnes_26 rfl ?_
        refine Z_goto 33 dX3_doneOnes_27 rfl ?_
        refine Z_ior dX3_doneOnes_33 ?_
        refine Z_istore_n (lv' := [_, _, _]) dX3_doneOnes_34 rfl rfl (Nat.le_of_ble_eq_true rfl) ?_
        refine Z_iincN (a := _) (k := 1) (lv' := [_, _, _]) dX3_doneOnes_35 rfl rfl rfl rfl ?_
        refine Z_goto 4 dX3_doneOnes_38 rfl ?_
        have ih2 := ih (by omega)
        have e : isDn s i = false := by
          unfold isDn; rw [show s (35 + i) = -1 from c23]; decide
        rw [orB, e] at ih2
        exact ih2
  exact lp4 0 (by omega)
theorem dn_i {p : Nat} (h : s (35 + p) = -1 ∨ ∃ k, k < 2 ^ 31 ∧ s (35 + p) = nI k) : isDn s p = !decide (s (35 + p) = -1) := by
  unfold isDn
  rcases h with q | ⟨k, hk, q⟩
  · rw [q]; decide
  · rw [q, decide_eq_false (nI_pos hk), decide_eq_false (nI_m1 hk)]
set_option maxHeartbeats 4000000 in
theorem c_X3_isReady (hx : xO S P) {h : Nat} (hT : stO S P h) (g : sRw n I h s) (hn : I 100 1 = nI n) (hn8 : n ≤ 8) (hdn : ∀ p, p < n → s (35 + p) = -1 ∨ ∃ k, k < 2 ^ 31 ∧ s (35 + p) = nI k) (hPc : pcR S P I W n ph) (hf : xf W n) {p : Nat} (hp : p < n) (kt : rdy W s p = true → Q (.inl (some (.int (nI 1)))) I L P S) (kf : rdy W s p = false → Q (.inl (some (.int (nI 0)))) I L P S) : Zm G mX3_isReady 1 C Sl [.ref h, .int (nI p)] I L P S Q := by
  obtain ⟨A, hA, eA⟩ := (hf p hp).1
  have ed := dn_i (hdn p hp)
  have er := rdy_bits (f := isDn s) hA hp hn8
  refine Z_entry (lv := [_, _]) (Nat.le_of_ble_eq_true rfl) rfl ?_
  refine Z_aload_n dX3_isReady_0 rfl ?_
  refine Z_getR (r := (h + 7)) hT.1 fX3_25_2 dX3_isReady_1 rfl (hT.2.1 7 _ rfl).2 ?_
  refine Z_iload_n dX3_isReady_4 rfl ?_
  refine Z_iald (hT.2.1 7 _ rfl).1 (zix_nI (by first | omega | (dsimp only; omega)) (by decide)) dX3_isReady_5 ?_
  refine Z_re (g.f (k := 7) (by decide) (by decide) (p := p) (by omega)) ?_
  refine Z_iconst (-1) dX3_isReady_6 rfl ?_
  refine Z_icmpne 36 dX3_isReady_7 rfl (fun c7 => ?_) (fun c7 => ?_)
  · refine Z_iconst (nI 0) dX3_isReady_36 rfl ?_
    refine Z_ireturn dX3_isReady_37 rfl rfl ?_
    exact kf (by rw [rdy, ed, decide_eq_false (show ¬ s (35 + p) = -1 from c7)]; rfl)
  · refine Z_aload_n dX3_isReady_10 rfl ?_
    refine Z_getR (r := 100) hT.1 fX3_3_2 dX3_isReady_11 rfl hT.2.2 ?_
    refine Z_getRN (r := 110) hx.1 fX3_73_0 dX3_isReady_14 rfl (hx.2.2.1 0 _ rfl).2 ?_
    refine Z_iload_n dX3_isReady_17 rfl ?_
    refine Z_aald (r := (ph p)) (hx.2.2.1 0 _ rfl).1 (by simp [zTys]) rfl (zix_nI (by first | omega | (dsimp only; omega)) (by decide)) (hPc p (by omega)).1 dX3_isReady_18 ?_
    refine Z_getI (hPc p (by omega)).2.1 fX3_85_6 dX3_isReady_19 rfl ?_
    refine Z_re (hPc p (by omega)).2.2.1.2.2 ?_
    refine Z_aload_n dX3_isReady_22 rfl ?_
    refine Z_call0 (d' := 0) (zCal_V gX3_88 nX3_doneOnes (by decide) dX3_isReady_23) pX3_doneOnes hT.1 zkl2 [] rfl rfl (Nat.le_of_ble_eq_true rfl) (by omega) (c_X3_doneOnes hx hT g hn hn8 hdn ?_)
    refine Z_iconst (-1) dX3_isReady_26 rfl ?_
    refine Z_ixor dX3_isReady_27 ?_
    refine Z_iand dX3_isReady_28 ?_
    refine Z_ifne 36 dX3_isReady_29 rfl (fun c29 => ?_) (fun c29 => ?_)
    · refine Z_iconst (nI 0) dX3_isReady_36 rfl ?_
      refine Z_ireturn dX3_isReady_37 rfl rfl ?_
      exact kf (by rw [rdy, ed, decide_eq_true (show s (35 + p) = -1 from c7), eA]; rw [eA] at c29; rw [Bool.eq_false_iff.mpr (fun q => c29 (er.mpr q))]; rfl)
    · refine Z_iconst (nI 1) dX3_isReady_32 rfl ?_
      refine Z_goto 37 dX3_isReady_33 rfl ?_
      refine Z_ireturn dX3_isReady_37 rfl rfl ?_
      exact kt (by rw [rdy, ed, decide_eq_true (show s (35 + p) = -1 from c7), eA]; rw [eA] at c29; rw [er.mp c29]; rfl)
set_option maxHeartbeats 4000000 in
theorem c_X3_isAllDone (hx : xO S P) {h : Nat} (hT : stO S P h) (g : sRw n I h s) (hn : I 100 1 = nI n) (hn8 : n ≤ 8) (hdn : ∀ p, p < n → s (35 + p) = -1 ∨ ∃ k, k < 2 ^ 31 ∧ s (35 + p) = nI k) (kt : allDn s n = true → Q (.inl (some (.int (nI 1)))) I L P S) (kf : allDn s n = false → Q (.inl (some (.int (nI 0)))) I L P S) : Zm G mX3_isAllDone 1 C Sl [.ref h] I L P S Q := by
  refine Z_entry (lv := [_]) (Nat.le_of_ble_eq_true rfl) rfl ?_
  refine Z_aload_n dX3_isAllDone_0 rfl ?_
  refine Z_call0 (d' := 0) (zCal_V gX3_88 nX3_doneOnes (by decide) dX3_isAllDone_1) pX3_doneOnes hT.1 zkl2 [] rfl rfl (Nat.le_of_ble_eq_true rfl) (by omega) (c_X3_doneOnes hx hT g hn hn8 hdn ?_)
  refine Z_iconst (nI 1) dX3_isAllDone_4 rfl ?_
  refine Z_aload_n dX3_isAllDone_5 rfl ?_
  refine Z_getR (r := 100) hT.1 fX3_3_2 dX3_isAllDone_6 rfl hT.2.2 ?_
  refine Z_getIN hx.1 fX3_60_0 dX3_isAllDone_9 rfl ?_
  refine Z_re (y := nI (n)) hn ?_
  refine Z_ishl dX3_isAllDone_12 ?_
  refine Z_iconst (nI 1) dX3_isAllDone_13 rfl ?_
  refine Z_isub dX3_isAllDone_14 ?_
  refine Z_icmpne 22 dX3_isAllDone_15 rfl (fun c15 => ?_) (fun c15 => ?_)
  · refine Z_iconst (nI 0) dX3_isAllDone_22 rfl ?_
    refine Z_ireturn dX3_isAllDone_23 rfl rfl ?_
    exact kf (Bool.eq_false_iff.mpr (fun q => c15 ((all_bits hn8).mpr q)))
  · refine Z_iconst (nI 1) dX3_isAllDone_18 rfl ?_
    refine Z_goto 23 dX3_isAllDone_19 rfl ?_
    refine Z_ireturn dX3_isAllDone_23 rfl rfl ?_
    exact kt ((all_bits hn8).mp c15)
set_option maxHeartbeats 4000000 in
theorem c_X3_pieceOf (hx : xO S P) {h : Nat} (hT : stO S P h) (hPc : pcR S P I W n ph) (hn8 : n ≤ 8) {p : Nat} (hp : p < n) (k : Q (.inl (some (.ref (ph p)))) I L P S) : Zm G mX3_pieceOf 0 C Sl [.ref h, .int (nI p)] I L P S Q := by
  refine Z_entry (lv := [_, _]) (Nat.le_of_ble_eq_true rfl) rfl ?_
  refine Z_aload_n dX3_pieceOf_0 rfl ?_
  refine Z_getR (r := 100) hT.1 fX3_3_2 dX3_pieceOf_1 rfl hT.2.2 ?_
  refine Z_getRN (r := 110) hx.1 fX3_73_0 dX3_pieceOf_4 rfl (hx.2.2.1 0 _ rfl).2 ?_
  refine Z_iload_n dX3_pieceOf_7 rfl ?_
  refine Z_aald (r := (ph p)) (hx.2.2.1 0 _ rfl).1 (by simp [zTys]) rfl (zix_nI (by first | omega | (dsimp only; omega)) (by decide)) (hPc p (by omega)).1 dX3_pieceOf_8 ?_
  refine Z_areturn dX3_pieceOf_9 rfl (by first | exact Or.inl ⟨_, rfl⟩ | exact Or.inr ⟨_, rfl⟩) ?_
  exact k
end X2
