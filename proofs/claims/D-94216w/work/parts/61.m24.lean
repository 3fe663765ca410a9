set_option maxRecDepth 100000
/-! THE MODEL, part 24: homes -/
section M24
variable {G : zG} {d C Sl : Nat} {I D W : zI} {R : List Int64} {L : zL} {P : zR} {S : zT} {Q : zQ} {no n np : Nat} {s : zS}
def mvH (x : Int32) (no : Nat) : Nat → zS → zS × Bool
  | 0, b => (b, false)
  | p + 1, b => if zbit x (nI p) = true then (if nI no ≤ b p + nI 1 then mvH x no p (zu b p (nI 0)) else (zu b p (b p + nI 1), true)) else mvH x no p b
theorem mv_plc {x : Int32} {no : Nat} (h0 : 0 < no) (h6 : no ≤ 6) : ∀ (p w : Nat) (b : zS), w < no ^ cntB (fun q => zbit x (nI q)) p →
    (w + 1 < no ^ cntB (fun q => zbit x (nI q)) p → mvH x no p (plc x no p w b) = (plc x no p (w + 1) b, true)) ∧ (w + 1 = no ^ cntB (fun q => zbit x (nI q)) p → (mvH x no p (plc x no p w b)).2 = false ∧ ∀ j, p ≤ j → (mvH x no p (plc x no p w b)).1 j = b j) := by
  intro p
  induction p with
  | zero =>
    intro w b hw
    simp only [cntB, Nat.pow_zero] at hw ⊢
    exact ⟨fun h => absurd h (by omega), fun _ => ⟨rfl, fun _ _ => rfl⟩⟩
  | succ p ih =>
    intro w b hw
    by_cases hb : zbit x (nI p) = true
    · have e1 : cntB (fun q => zbit x (nI q)) (p + 1) = cntB (fun q => zbit x (nI q)) p + 1 := by simp [cntB, hb, bI]
      rw [e1, Nat.pow_succ] at hw ⊢
      have hd := Nat.div_add_mod w no
      have hm := Nat.mod_lt w h0
      generalize w / no = q at hd ⊢
      generalize w % no = r at hd hm ⊢
      have hq : q < no ^ cntB (fun q => zbit x (nI q)) p := by
        refine Decidable.byContradiction fun hc => ?_
        have := Nat.mul_le_mul_left no (Nat.not_lt.mp hc)
        rw [Nat.mul_comm] at hw
        omega
      obtain ⟨i1, i2⟩ := ih q (zu b p (nI 0)) hq
      have e2 : plc x no (p + 1) w b = plc x no p q (zu b p (nI r)) := by
        rw [plc, if_pos hb, ← hd, Nat.mul_add_div h0, Nat.div_eq_of_lt hm, Nat.mul_add_mod, Nat.mod_eq_of_lt hm, Nat.add_zero]
      have e3 : plc x no p q (zu b p (nI r)) p = nI r := by rw [plc_ge _ _ _ (Nat.le_refl _), zu_s]
      have hr : no ^ cntB (fun q => zbit x (nI q)) p * no = no * no ^ cntB (fun q => zbit x (nI q)) p := Nat.mul_comm _ _
      rw [e2, mvH, if_pos hb, e3, nI_add]
      by_cases hc : no ≤ r + 1
      · have hr1 : r + 1 = no := by omega
        rw [if_pos (nI_le hc (by omega)), plc_zu _ _ _ (Nat.le_refl _), zu_zu]
        have e4 : ∀ b, plc x no (p + 1) (w + 1) b = plc x no p (q + 1) (zu b p (nI 0)) := fun b => by
          have : w + 1 = no * (q + 1) + 0 := by rw [Nat.mul_add]; omega
          rw [plc, if_pos hb, this, Nat.mul_add_div h0, Nat.mul_add_mod, Nat.zero_div, Nat.zero_mod, Nat.add_zero]
        have hk : w + 1 = no * (q + 1) := by rw [Nat.mul_add]; omega
        refine ⟨fun h => ?_, fun h => ?_⟩
        · rw [e4]
          refine i1 ?_
          rw [hk, hr] at h
          exact Nat.lt_of_mul_lt_mul_left h
        · rw [hk, hr] at h
          obtain ⟨j1, j2⟩ := i2 (Nat.eq_of_mul_eq_mul_left h0 h)
          exact ⟨j1, fun j hj => (j2 j (by omega)).trans (zu_n _ _ _ (by omega))⟩
      · rw [if_neg (nI_ge (by omega) (by omega)), plc_zu _ _ _ (Nat.le_refl _), zu_zu]
        have e4 : plc x no (p + 1) (w + 1) b = plc x no p q (zu b p (nI (r + 1))) := by
          have : w + 1 = no * q + (r + 1) := by omega
          rw [plc, if_pos hb, this, Nat.mul_add_div h0, Nat.div_eq_of_lt (show r + 1 < no by omega), Nat.mul_add_mod, Nat.mod_eq_of_lt (show r + 1 < no by omega), Nat.add_zero]
        refine ⟨fun _ => by rw [e4], fun h => ?_⟩
        exfalso
        have : no * (q + 1) ≤ no * no ^ cntB (fun q => zbit x (nI q)) p := Nat.mul_le_mul_left no hq
        rw [Nat.mul_add] at this
        omega
    · have e1 : cntB (fun q => zbit x (nI q)) (p + 1) = cntB (fun q => zbit x (nI q)) p := by simp [cntB, hb, bI]
      have e2 : ∀ w b, plc x no (p + 1) w b = plc x no p w b := fun w b => by rw [plc, if_neg hb]
      rw [e1] at hw ⊢
      rw [e2, e2, mvH, if_neg hb]
      obtain ⟨i1, i2⟩ := ih w b hw
      exact ⟨i1, fun h => ⟨(i2 h).1, fun j hj => (i2 h).2 j (by omega)⟩⟩
set_option maxHeartbeats 4000000 in
theorem c_X5_movesHomes (hR : mR D R I L P S) (h3 : D 0 3 = nI no) (h16 : D 0 16 = nI n) (h8 : n ≤ 8) {x : Int32} (k : ∀ I2, mR (zu D 20 (mvH x no n (D 20)).1) R I2 L P S → frM I L I2 L → fr (fun h _ => h == 20) I I2 → Q (.inl (some (.int (nI (bI (mvH x no n (D 20)).2))))) I2 L P S) : Zm G mX5_movesHomes 1 C Sl [.ref 0, .int x] I L P S Q := by
  have hM := hR.1
  refine Z_entry (lv := [_, _, _]) (Nat.le_of_ble_eq_true rfl) rfl ?_
  refine Z_aload_n dX5_movesHomes_0 rfl ?_
  refine Z_getI hM.1 fX5_151_4 dX5_movesHomes_1 rfl ?_
  refine Z_re (y := nI (n)) ((dr hR.2.2.1 rfl).trans h16) ?_
  refine Z_iconst (nI 1) dX5_movesHomes_4 rfl ?_
  refine Z_isub dX5_movesHomes_5 ?_
  rw [show nI n - nI 1 = nI n + -1 from by rw [Int32.sub_eq_add_neg]; rfl]
  refine Z_istore_n (lv' := [_, _, _]) dX5_movesHomes_6 rfl rfl (Nat.le_of_ble_eq_true rfl) ?_
  have lp7 : ∀ i, i ≤ n → ∀ I2 b, mR (zu D 20 b) R I2 L P S → frM I L I2 L → mvH x no (n - i) b = mvH x no n (D 20) → fr (fun h _ => h == 20) I I2 → Zj G mX5_movesHomes 1 C Sl 7 [.ref 0, .int x, .int (nI (n - i) + -1)] [] I2 L P S Q := by
    refine zloop (n) (fun i => ∀ I2 b, mR (zu D 20 b) R I2 L P S → frM I L I2 L → mvH x no (n - i) b = mvH x no n (D 20) → fr (fun h _ => h == 20) I I2 → Zj G mX5_movesHomes 1 C Sl 7 [.ref 0, .int x, .int (nI (n - i) + -1)] [] I2 L P S Q) (fun i hi ih => ?_)
    intro I2 b g1 f1 e1 g3
    show Zj _ _ _ _ _ _ _ _ _ _ _ _ _
    refine Z_iload_n dX5_movesHomes_7 rfl ?_
    refine Z_iflt 60 dX5_movesHomes_8 rfl (fun c8 => ?_) (fun c8 => ?_)
    · have hz : n - i = 0 := by
        refine Decidable.byContradiction fun hc => ?_
        obtain ⟨q, hq⟩ : ∃ q, n - i = q + 1 := ⟨n - i - 1, by omega⟩
        rw [hq, pk_m1] at c8
        exact nI_pos (by omega) c8
      rw [hz] at e1
      refine Z_iconst (nI 0) dX5_movesHomes_60 rfl ?_
      refine Z_ireturn dX5_movesHomes_61 rfl rfl ?_
      rw [← e1] at k
      exact k _ g1 f1 g3
    · obtain ⟨q, hq⟩ : ∃ q, n - i = q + 1 := by
        refine ⟨n - i - 1, ?_⟩
        have : n - i ≠ 0 := fun e => by rw [e] at c8; exact absurd c8 (by decide)
        omega
      rw [hq, pk_m1]
      have hqn : q < 8 := by omega
      refine Z_iload_n dX5_movesHomes_11 rfl ?_
      refine Z_iload_n dX5_movesHomes_12 rfl ?_
      refine Z_callS0 (d' := 0) (zCal_S gX5_137 nX5_has (by decide) dX5_movesHomes_13) pX5_has [_, _] rfl rfl (Nat.le_of_ble_eq_true rfl) (by omega) (c_X5_has (fun h13 => ?_) (fun h13 => ?_))
      · refine Z_ifne 22 dX5_movesHomes_16 rfl (fun _ => ?_) (fun h => absurd h (by decide))
        refine Z_aload_n dX5_movesHomes_22 rfl ?_
        refine Z_getR (r := 20) hM.1 fX5_143_4 dX5_movesHomes_23 rfl (hM.2.2 20 _ rfl rfl) ?_
        refine Z_iload_n dX5_movesHomes_26 rfl ?_
        refine Z_dup2_11 dX5_movesHomes_27 rfl rfl ?_
        refine Z_iald (hM.2.1 20 _ rfl) (zix_nI (by omega) (by decide)) dX5_movesHomes_28 ?_
        refine Z_re (y := b q) ((dr g1.2.2.1 rfl).trans (congrFun (zu_s _ _ _) q)) ?_
        refine Z_iconst (nI 1) dX5_movesHomes_29 rfl ?_
        refine Z_iadd dX5_movesHomes_30 ?_
        refine Z_iast (hM.2.1 20 _ rfl) (zix_nI (by omega) (by decide)) dX5_movesHomes_31 ?_
        refine Z_aload_n dX5_movesHomes_32 rfl ?_
        refine Z_getR (r := 20) hM.1 fX5_143_4 dX5_movesHomes_33 rfl (hM.2.2 20 _ rfl rfl) ?_
        refine Z_iload_n dX5_movesHomes_36 rfl ?_
        refine Z_iald (hM.2.1 20 _ rfl) (zix_nI (by omega) (by decide)) dX5_movesHomes_37 ?_
        refine Z_re (zw_s _ _ _ _) ?_
        refine Z_aload_n dX5_movesHomes_38 rfl ?_
        refine Z_getI hM.1 fX5_22_4 dX5_movesHomes_39 rfl ?_
        refine Z_re (y := nI (no)) ((dr g1.2.2.1 rfl).trans h3) ?_
        refine Z_icmpge 47 dX5_movesHomes_42 rfl (fun c42 => ?_) (fun c42 => ?_)
        · refine Z_aload_n dX5_movesHomes_47 rfl ?_
          refine Z_getR (r := 20) hM.1 fX5_143_4 dX5_movesHomes_48 rfl (hM.2.2 20 _ rfl rfl) ?_
          refine Z_iload_n dX5_movesHomes_51 rfl ?_
          refine Z_iconst (nI 0) dX5_movesHomes_52 rfl ?_
          refine Z_iast (hM.2.1 20 _ rfl) (zix_nI (by omega) (by decide)) dX5_movesHomes_53 ?_
          refine Z_iinc (lv' := [_, _, _]) dX5_movesHomes_54 rfl rfl rfl ?_
          refine Z_goto 7 dX5_movesHomes_57 rfl ?_
          have ih2 := ih (by omega)
          rw [show n - (i + 1) = q by omega] at ih2
          exact ih2 _ (zu b q (nI 0)) (by have := (g1.zw (a := 20) (k := q) (v := b q + nI 1) rfl).zw (a := 20) (k := q) (v := nI 0) rfl; rw [zw_zu, zw_zu, zu_zu] at this; exact this) ((f1.st (by decide)).st (by decide)) (by rw [← e1, hq, mvH, if_pos h13, if_pos c42]) ((g3.st rfl).st rfl)
        · refine Z_iconst (nI 1) dX5_movesHomes_45 rfl ?_
          refine Z_ireturn dX5_movesHomes_46 rfl rfl ?_
          rw [hq, mvH, if_pos h13, if_neg c42] at e1
          rw [← e1] at k
          exact k _ (by have := g1.zw (a := 20) (k := q) (v := b q + nI 1) rfl; rw [zw_zu] at this; exact this) (f1.st (by decide)) (g3.st rfl)
      · refine Z_ifne 22 dX5_movesHomes_16 rfl (fun h => absurd h (by decide)) (fun _ => ?_)
        refine Z_goto 54 dX5_movesHomes_19 rfl ?_
        refine Z_iinc (lv' := [_, _, _]) dX5_movesHomes_54 rfl rfl rfl ?_
        refine Z_goto 7 dX5_movesHomes_57 rfl ?_
        have ih2 := ih (by omega)
        rw [show n - (i + 1) = q by omega] at ih2
        exact ih2 _ _ g1 f1 (by rw [← e1, hq, mvH, if_neg (by simp [h13])]) g3
  exact lp7 0 (by omega) I (D 20) (by rw [zu_id]; exact hR) frM.rf rfl fr.rf
def hbV (m : Option (Nat × Nat)) : Int32 := match m with
  | none => -1
  | some b => nI b.2
def hm0 (D : zI) (x : Int32) (i : Nat) : zI := zu (zw D 26 0 (nI 0)) 20 (fun j => if j < i then (if zbit x (nI j) = true then nI 0 else D 20 j) else D 20 j)
theorem hm0_s {x : Int32} {i : Nat} : zw (hm0 D x i) 20 i (if zbit x (nI i) = true then nI 0 else D 20 i) = hm0 D x (i + 1) := by
  unfold hm0
  rw [zw_zu]
  congr 1
  funext j
  unfold zu
  by_cases e : j = i
  · subst e; simp
  · by_cases h : j < i
    · simp [e, h, show j < i + 1 by omega]
    · simp [e, h, show ¬ j < i + 1 by omega]
theorem hm0_0 {x : Int32} : hm0 D x 0 = zw D 26 0 (nI 0) := by
  unfold hm0
  have e : (zw D 26 0 (nI 0)) 20 = D 20 := zw_n _ _ _ _ (by decide)
  simp only [Nat.not_lt_zero, if_false]
  rw [← e, zu_id]
theorem hm0_n {x : Int32} : hm0 D x n = hmD D x no n 0 := by
  unfold hm0 hmD
  congr 1
  funext j
  rw [plc_0]
theorem hm_back {b : zS} : zu (zw (zu (zw D 26 0 (nI 0)) 20 b) 26 0 (D 26 0)) 20 (D 20) = D := by
  funext a
  by_cases e20 : a = 20
  · subst e20; rw [zu_s]
  rw [zu_n _ _ _ e20]
  by_cases e26 : a = 26
  · subst e26
    rw [zw_a, zu_n _ _ _ (by decide), zw_a, zu_zu, zu_id]
  rw [zw_n _ _ _ _ e26, zu_n _ _ _ e20, zw_n _ _ _ _ e26]
theorem c_nextHomes {x : Int32} {w : Nat} (hR : mR (hmD D x no n w) R I L P S) (hw : wf (wld D) no n) (h0 : 0 < no) (hq : w < no ^ cntB (fun p => zbit x (nI p)) n) (kt : ∀ I2, w + 1 < no ^ cntB (fun p => zbit x (nI p)) n → mR (hmD D x no n (w + 1)) R I2 L P S → frM I L I2 L → fr (fun h _ => h == 20) I I2 → Q (.inl (some (.int (nI 1)))) I2 L P S) (kf : ∀ I2 b, w + 1 = no ^ cntB (fun p => zbit x (nI p)) n → (∀ j, n ≤ j → b j = D 20 j) → mR (zu (zw D 26 0 (nI 0)) 20 b) R I2 L P S → frM I L I2 L → fr (fun h _ => h == 20) I I2 → Q (.inl (some (.int (nI 0)))) I2 L P S) : Zm G mX5_movesHomes 1 C Sl [.ref 0, .int x] I L P S Q := by
  refine c_X5_movesHomes hR ((congrFun (hmD_n (by decide) (by decide)) 3).trans hw.o3) ((congrFun (hmD_n (by decide) (by decide)) 16).trans hw.n16) hw.n8 (fun I2 g f e => ?_)
  have eD : (hmD D x no n w) 20 = plc x no n w (D 20) := by unfold hmD; rw [zu_s]
  have eZ : ∀ b, zu (hmD D x no n w) 20 b = zu (zw D 26 0 (nI 0)) 20 b := fun b => by unfold hmD; rw [zu_zu]
  obtain ⟨m1, m2⟩ := mv_plc (x := x) h0 hw.o6 n w (D 20) hq
  rw [eD] at g ⊢
  rw [eZ] at g
  by_cases hl : w + 1 < no ^ cntB (fun p => zbit x (nI p)) n
  · rw [m1 hl] at g ⊢
    exact kt I2 hl g f e
  · rw [(m2 (by omega)).1]
    exact kf I2 _ (by omega) (m2 (by omega)).2 g f e
def hmR1 (D : zI) (x : Int32) (no n w j : Nat) : List Int64 := ((List.range j).filter (fun p => zbit x (nI p))).map (fun p => (plc x no n w (D 20) p).toInt64)
theorem mR_49 {j : Nat} {v : Int32} (h : mR D R I L P S) : mR D R (zw I 49 j v) L P S := by
  obtain ⟨h1, h2, h3, h4⟩ := h
  exact ⟨h1, h2, (md_out rfl).trans h3, h4⟩
theorem hmR_s {x : Int32} {w j : Nat} : hmR1 D x no n w (j + 1) = hmR1 D x no n w j ++ (if zbit x (nI j) = true then [(plc x no n w (D 20) j).toInt64] else []) := by
  unfold hmR1
  rw [List.range_succ, List.filter_append, List.map_append]
  congr 1
  by_cases h : zbit x (nI j) = true <;> simp [h]
theorem hmR_len {x : Int32} {w j : Nat} : (hmR1 D x no n w j).length ≤ j := by
  unfold hmR1
  rw [List.length_map]
  exact Nat.le_trans (List.length_filter_le _ _) (by simp)
set_option maxHeartbeats 16000000 in
theorem o_homes (hR : mR D R I L P S) (hw : wf (wld D) no n) (hi9 : ∀ j, 127 ≤ j → D 23 j = 0) (h0 : 0 < no) {x h : Int32} (k : ∀ I2 L2, mR (fHomes D R no n x h).2.1 (fHomes D R no n x h).2.2 I2 L2 P S → frM I L I2 L2 → Q (.inl (some (.int (fHomes D R no n x h).1))) I2 L2 P S) : Zm G mX5_homes 12 C Sl [.ref 0, .int x, .int h] I L P S Q := by
  have h6 := hw.o6
  have hN : 0 < no ^ cntB (fun p => zbit x (nI p)) n := Nat.pow_pos h0
  have hM := hR.1
  refine Z_entry (lv := [_, _, _, _, _, _, _, _]) (Nat.le_of_ble_eq_true rfl) rfl ?_
  refine Z_aload_n dX5_homes_0 rfl ?_
  refine Z_iconst (nI 0) dX5_homes_1 rfl ?_
  refine Z_putI hM.1 fX5_3_4 dX5_homes_2 rfl rfl rfl ?_
  refine Z_start hR (fun I1 hR1 f1 h00 => ?_)
  have hw8 := hw.n8
  have hw6 := hw.o6
  have hM := hR1.1
  have hD : mdat I1 = D := hR1.2.2.1
  have hW : wld I1 = wld D := wld_mdat hD
  have hs : I1 23 = D 23 := funext fun j => dr hD rfl
  have hno : noD D = no := by rw [noD, show D 0 3 = nI no from hw.o3, nI_clamp (by omega)]
  have hnn : nD D = n := by rw [nD, show D 0 16 = nI n from hw.n16, nI_clamp (by omega)]
  have hI3 : I1 0 3 = nI no := (wr hW rfl).trans hw.o3
  have hI16 : I1 0 16 = nI n := (wr hW rfl).trans hw.n16
  refine Z_iload_n dX5_homes_5 rfl ?_
  refine Z_i2l dX5_homes_6 ?_
  refine Z_lconst (1) dX5_homes_7 rfl ?_
  refine Z_iconst (nI 1) dX5_homes_8 rfl ?_
  refine Z_aload_n dX5_homes_9 rfl ?_
  refine Z_getI hM.1 fX5_151_4 dX5_homes_10 rfl ?_
  refine Z_re (dr hD rfl) ?_
  refine Z_ishl dX5_homes_13 ?_
  refine Z_iconst (nI 1) dX5_homes_14 rfl ?_
  refine Z_isub dX5_homes_15 ?_
  refine Z_i2l dX5_homes_16 ?_
  refine Z_callS0 (d' := 0) (zCal_S gX5_25 nX5_in (by decide) dX5_homes_17) pX5_in [_, _, _] rfl rfl (Nat.le_of_ble_eq_true rfl) (by omega) (c_X5_in (fun h17a h17b => ?_) (fun h17 => ?_))
  · rw [z_i64] at h17b
    rw [z_i64] at h17a
    rw [z_i64] at h17b
    have r17 : rB x 1 ((nI 1 <<< (D 0 16 &&& 31)) - nI 1).toInt = true := rB_t h17a h17b
    refine Z_ifeq 38 dX5_homes_20 rfl (fun h => absurd h (by decide)) (fun _ => ?_)
    refine Z_iload_n dX5_homes_23 rfl ?_
    refine Z_callS0 (d' := 0) (zCal_S gX5_414 nJ11_bitCount (by decide) dX5_homes_24) pJ11_bitCount [_] rfl rfl (Nat.le_of_ble_eq_true rfl) (by omega) (c_J11_bitCount ?_)
    refine Z_iconst (nI 4) dX5_homes_27 rfl ?_
    refine Z_icmpgt 38 dX5_homes_28 rfl (fun c28 => ?_) (fun c28 => ?_)
    · have c28 := Int32.not_le.mpr c28
      refine Z_iconst (-1) dX5_homes_38 rfl ?_
      refine Z_ireturn dX5_homes_39 rfl rfl ?_
      exact zO_k (by simp [fHomes, r17, c28, -Int32.toInt_sub]) k hR1 f1
    · have c28 := Int32.not_lt.mp c28
      refine Z_iload_n dX5_homes_31 rfl ?_
      refine Z_callS0 (d' := 1) (zCal_S gX5_81 nX5_isHour (by decide) dX5_homes_32) pX5_isHour [_] rfl rfl (Nat.le_of_ble_eq_true rfl) (by omega) (c_X5_isHour (fun h32a h32b => ?_) (fun h32 => ?_))
      · have r32 : rB h 0 2399 = true := rB_t h32a h32b
        obtain ⟨k32, hk32, e32⟩ := z_rng (n := 2399) h32a h32b (by omega)
        subst e32
        have v32 : (nI k32).toNatClampNeg = k32 := nI_clamp (by omega)
        refine Z_ifne 40 dX5_homes_35 rfl (fun _ => ?_) (fun h => absurd h (by decide))
        refine Z_aload_n dX5_homes_40 rfl ?_
        refine Z_getR (r := 26) hM.1 fX5_199_4 dX5_homes_41 rfl (hM.2.2 26 _ rfl rfl) ?_
        refine Z_iconst (nI 0) dX5_homes_44 rfl ?_
        refine Z_iald (hM.2.1 26 _ rfl) (zix_nI (by omega) (by decide)) dX5_homes_45 ?_
        refine Z_re (dr hD rfl) ?_
        refine Z_istore_n (lv' := [_, _, _, _, _, _, _, _]) dX5_homes_46 rfl rfl (Nat.le_of_ble_eq_true rfl) ?_
        refine Z_aload_n dX5_homes_47 rfl ?_
        refine Z_getR (r := 26) hM.1 fX5_199_4 dX5_homes_48 rfl (hM.2.2 26 _ rfl rfl) ?_
        refine Z_iconst (nI 0) dX5_homes_51 rfl ?_
        refine Z_iconst (nI 0) dX5_homes_52 rfl ?_
        refine Z_iast (hM.2.1 26 _ rfl) (zix_nI (by omega) (by decide)) dX5_homes_53 ?_
        refine Z_aload_n dX5_homes_54 rfl ?_
        refine Z_call0 (d' := 0) (zCal_V gX5_419 nX5_keepsBorn (by decide) dX5_homes_55) pX5_keepsBorn hM.1 zkl4 [] rfl rfl (Nat.le_of_ble_eq_true rfl) (by omega) (c_X5_keepsBorn hM (fun Ik z1 z2 z3 => ?_))
        have gk : mR (hm0 D x 0) R Ik L P S := by
          rw [hm0_0]
          obtain ⟨h1, h2, h3, h4⟩ := hR1.zw (a := 26) (k := 0) (v := nI 0) rfl
          refine ⟨h1, h2, (md_fr z3 fun a k h => ?_).trans h3, (z3 0 1 rfl).trans h4.1, h4.2⟩
          by_cases e : a = 48
          · subst e; exact absurd h (by simp [dAt, wAt])
          · simp [e]
        have k48 : ∀ j, j < 8 → Ik 48 j = D 20 j := fun j hj => (z1 j hj).trans ((congrFun (zw_n _ _ _ _ (by decide)) j).trans (dr hD rfl))
        have fk : frM I1 L Ik L := (frM.rf.st (by decide)).tr (frM.of z3 fun a k h => by simp; omega)
        refine Z_iconst (nI 0) dX5_homes_58 rfl ?_
        refine Z_istore (lv' := [_, _, _, _, _, _, _, _]) dX5_homes_59 rfl rfl (Nat.le_of_ble_eq_true rfl) ?_
        have lp61 : ∀ i, i ≤ n → ∀ I2, mR (hm0 D x i) R I2 L P S → (∀ j, j < 8 → I2 48 j = D 20 j) → frM I1 L I2 L → Zj G mX5_homes 12 C Sl 61 [.ref 0, .int x, .int (nI k32), .int (D 26 0), .int (nI i), .retAddr 0, .retAddr 0, .retAddr 0] [] I2 L P S Q := by
          refine zloop (n) (fun i => ∀ I2, mR (hm0 D x i) R I2 L P S → (∀ j, j < 8 → I2 48 j = D 20 j) → frM I1 L I2 L → Zj G mX5_homes 12 C Sl 61 [.ref 0, .int x, .int (nI k32), .int (D 26 0), .int (nI i), .retAddr 0, .retAddr 0, .retAddr 0] [] I2 L P S Q) (fun i hi ih => ?_)
          intro I2 g1 z48 g2
          show Zj _ _ _ _ _ _ _ _ _ _ _ _ _
          refine Z_iload dX5_homes_61 rfl ?_
          refine Z_aload_n dX5_homes_63 rfl ?_
          refine Z_getI hM.1 fX5_151_4 dX5_homes_64 rfl ?_
          refine Z_re (y := nI (n)) ((dr g1.2.2.1 rfl).trans hw.n16) ?_
          refine Z_icmpgeN 103 dX5_homes_67 rfl (by omega) (by omega) (fun c67 => ?_) (fun c67 => ?_)
          · have ei : i = n := by omega
            rw [ei, hm0_n (no := no)] at g1
            refine Z_iconst (-1) dX5_homes_103 rfl ?_
            refine Z_istore (lv' := [_, _, _, _, _, _, _, _]) dX5_homes_104 rfl rfl (Nat.le_of_ble_eq_true rfl) ?_
            refine Z_iconst (nI 1) dX5_homes_106 rfl ?_
            refine Z_istore (lv' := [_, _, _, _, _, _, _, _]) dX5_homes_107 rfl rfl (Nat.le_of_ble_eq_true rfl) ?_
            have lp109 : ∀ q, q ≤ no ^ cntB (fun p => zbit x (nI p)) n - 1 → ∀ I2, mR (hmD D x no n q) R I2 L P S → (∀ j, j < 8 → I2 48 j = D 20 j) → (∀ b, minF (fun w => endO (hmE D x no n k32 w)) q = some b → ∀ j, j < n → I2 49 j = plc x no n b.1 (D 20) j) → frM I1 L I2 L → Zj G mX5_homes 12 C Sl 109 [.ref 0, .int x, .int (nI k32), .int (D 26 0), .int (hbV (minF (fun w => endO (hmE D x no n k32 w)) q)), .int (nI 1), .retAddr 0, .retAddr 0] [] I2 L P S Q := by
              refine zloop (no ^ cntB (fun p => zbit x (nI p)) n - 1) (fun q => ∀ I2, mR (hmD D x no n q) R I2 L P S → (∀ j, j < 8 → I2 48 j = D 20 j) → (∀ b, minF (fun w => endO (hmE D x no n k32 w)) q = some b → ∀ j, j < n → I2 49 j = plc x no n b.1 (D 20) j) → frM I1 L I2 L → Zj G mX5_homes 12 C Sl 109 [.ref 0, .int x, .int (nI k32), .int (D 26 0), .int (hbV (minF (fun w => endO (hmE D x no n k32 w)) q)), .int (nI 1), .retAddr 0, .retAddr 0] [] I2 L P S Q) (fun q hq0 ih => ?_)
              intro I2 g1 z48 z49 g2
              show Zj _ _ _ _ _ _ _ _ _ _ _ _ _
              have hq : q < no ^ cntB (fun p => zbit x (nI p)) n := by omega
              refine Z_iload dX5_homes_109 rfl ?_
              refine Z_ifeq 184 dX5_homes_111 rfl (fun h => absurd h (by decide)) (fun _ => ?_)
              refine Z_aload_n dX5_homes_114 rfl ?_
              refine Z_iload_n dX5_homes_115 rfl ?_
              refine Z_call0 (d' := 10) (zCal_V gX5_422 nX5_endsFrom (by decide) dX5_homes_116) pX5_endsFrom hM.1 zkl4 [_] rfl rfl (Nat.le_of_ble_eq_true rfl) (by omega) (c_endsFromR (D := hmD D x no n q) g1 (hm_wf hw h0) (by rw [hmD_n (by decide) (by decide)]; exact hi9) hm_ru (by omega) (fun J1 s1 t1 p1a p1b p1c g4 x4 y1 => ?_) (fun J1 p1a g4 x4 y1 => ?_))
              · rw [hmD_n (by decide) (by decide)] at p1a
                have k48 : ∀ j, j < 8 → J1 48 j = D 20 j := fun j hj => (y1 48 j rfl).trans (z48 j hj)
                have k49 : ∀ b, minF (fun w => endO (hmE D x no n k32 w)) q = some b → ∀ j, j < n → J1 49 j = plc x no n b.1 (D 20) j := fun b hb j hj => (y1 49 j rfl).trans (z49 b hb j hj)
                refine Z_istore (lv' := [_, _, _, _, _, _, _, _]) dX5_homes_119 rfl rfl (Nat.le_of_ble_eq_true rfl) ?_
                refine Z_iload dX5_homes_121 rfl ?_
                refine Z_ifltN 174 dX5_homes_123 rfl (by omega) ?_
                obtain ⟨m0, hm⟩ : ∃ m0, minF (fun w => endO (hmE D x no n k32 w)) q = m0 := ⟨_, rfl⟩
                rw [hm]
                rcases m0 with _ | b
                · dsimp only [hbV]
                  refine Z_iload dX5_homes_126 rfl ?_
                  refine Z_iflt 138 dX5_homes_128 rfl (fun c128 => ?_) (fun c128 => ?_)
                  · refine Z_iload dX5_homes_138 rfl ?_
                    refine Z_istore (lv' := [_, _, _, _, _, _, _, _]) dX5_homes_140 rfl rfl (Nat.le_of_ble_eq_true rfl) ?_
                    refine Z_iconst (nI 0) dX5_homes_142 rfl ?_
                    refine Z_istore (lv' := [_, _, _, _, _, _, _, _]) dX5_homes_143 rfl rfl (Nat.le_of_ble_eq_true rfl) ?_
                    have lp145 : ∀ j, j ≤ n → ∀ J3, mR (hmD D x no n q) R J3 L P S → (∀ j2, j2 < j → J3 49 j2 = plc x no n q (D 20) j2) → (∀ j2, j2 < 8 → J3 48 j2 = D 20 j2) → frM J1 L J3 L → Zj G mX5_homes 12 C Sl 145 [.ref 0, .int x, .int (nI k32), .int (D 26 0), .int (nI t1), .int (nI 1), .int (nI t1), .int (nI j)] [] J3 L P S Q := by
                      refine zloop (n) (fun j => ∀ J3, mR (hmD D x no n q) R J3 L P S → (∀ j2, j2 < j → J3 49 j2 = plc x no n q (D 20) j2) → (∀ j2, j2 < 8 → J3 48 j2 = D 20 j2) → frM J1 L J3 L → Zj G mX5_homes 12 C Sl 145 [.ref 0, .int x, .int (nI k32), .int (D 26 0), .int (nI t1), .int (nI 1), .int (nI t1), .int (nI j)] [] J3 L P S Q) (fun j hj ihj => ?_)
                      intro J3 g6 z6 z48b x6
                      show Zj _ _ _ _ _ _ _ _ _ _ _ _ _
                      refine Z_iload dX5_homes_145 rfl ?_
                      refine Z_aload_n dX5_homes_147 rfl ?_
                      refine Z_getI hM.1 fX5_151_4 dX5_homes_148 rfl ?_
                      refine Z_re (y := nI (n)) ((dr g6.2.2.1 rfl).trans hw.n16) ?_
                      refine Z_icmpgeN 174 dX5_homes_151 rfl (by omega) (by omega) (fun c151 => ?_) (fun c151 => ?_)
                      · have ej : j = n := by omega
                        rw [ej] at z6
                        refine Z_aload_n dX5_homes_174 rfl ?_
                        refine Z_iload_n dX5_homes_175 rfl ?_
                        refine Z_call0 (d' := 1) (zCal_V gX5_428 nX5_movesHomes (by decide) dX5_homes_176) pX5_movesHomes hM.1 zkl4 [_] rfl rfl (Nat.le_of_ble_eq_true rfl) (by omega) (c_nextHomes g6 hw h0 hq (fun I5 hl g7 x7 y7 => ?_) (fun I5 b5 hl b5h g7 x7 y7 => ?_))
                        · refine Z_istore (lv' := [_, _, _, _, _, _, _, _]) dX5_homes_179 rfl rfl (Nat.le_of_ble_eq_true rfl) ?_
                          refine Z_goto 109 dX5_homes_181 rfl ?_
                          have ev : endO (hmE D x no n k32 q) = some t1 := by rw [hmE, p1a]; show some (s1 0).toNatClampNeg = _; rw [p1b, nI_clamp (by omega)]
                          have e : minF (fun w => endO (hmE D x no n k32 w)) (q + 1) = some (q, t1) := by simp [minF, ev, hm]
                          have e49 : ∀ b, minF (fun w => endO (hmE D x no n k32 w)) (q + 1) = some b → ∀ j, j < n → I5 49 j = plc x no n b.1 (D 20) j := by
                            rw [e]
                            intro b hb j hj
                            cases hb
                            exact (y7 49 j rfl).trans (z6 j hj)
                          have e48 : ∀ j, j < 8 → I5 48 j = D 20 j := fun j hj => (y7 48 j rfl).trans (z48b j hj)
                          have ef : frM I1 L I5 L := ((g2.tr x4).tr x6).tr x7
                          have ih2 := ih (by omega) _ g7 e48 e49 ef
                          rw [e] at ih2
                          exact Z_fgt ih2 (by repeat first | exact zwk_n | refine zwk_f ?_ | refine zwk_c rfl ?_)
                        · refine Z_istore (lv' := [_, _, _, _, _, _, _, _]) dX5_homes_179 rfl rfl (Nat.le_of_ble_eq_true rfl) ?_
                          refine Z_goto 109 dX5_homes_181 rfl ?_
                          have ev : endO (hmE D x no n k32 q) = some t1 := by rw [hmE, p1a]; show some (s1 0).toNatClampNeg = _; rw [p1b, nI_clamp (by omega)]
                          have e : minF (fun w => endO (hmE D x no n k32 w)) (q + 1) = some (q, t1) := by simp [minF, ev, hm]
                          have e49 : ∀ b, minF (fun w => endO (hmE D x no n k32 w)) (q + 1) = some b → ∀ j, j < n → I5 49 j = plc x no n b.1 (D 20) j := by
                            rw [e]
                            intro b hb j hj
                            cases hb
                            exact (y7 49 j rfl).trans (z6 j hj)
                          have e48 : ∀ j, j < 8 → I5 48 j = D 20 j := fun j hj => (y7 48 j rfl).trans (z48b j hj)
                          have ef : frM I1 L I5 L := ((g2.tr x4).tr x6).tr x7
                          rw [hl] at e e49
                          refine Z_iload dX5_homes_109 rfl ?_
                          refine Z_ifeq 184 dX5_homes_111 rfl (fun _ => ?_) (fun h => absurd h (by decide))
                          refine Z_aload_n dX5_homes_184 rfl ?_
                          refine Z_call0 (d' := 0) (zCal_V gX5_431 nX5_givesBorn (by decide) dX5_homes_185) pX5_givesBorn hM.1 zkl4 [] rfl rfl (Nat.le_of_ble_eq_true rfl) (by omega) (c_X5_givesBorn hM (fun Iz z1 z2 z3 => ?_))
                          refine Z_aload_n dX5_homes_188 rfl ?_
                          refine Z_getR (r := 26) hM.1 fX5_199_4 dX5_homes_189 rfl (hM.2.2 26 _ rfl rfl) ?_
                          refine Z_iconst (nI 0) dX5_homes_192 rfl ?_
                          refine Z_iload_n dX5_homes_193 rfl ?_
                          refine Z_iast (hM.2.1 26 _ rfl) (zix_nI (by omega) (by decide)) dX5_homes_194 ?_
                          have g9 : mR D R (zw Iz 26 0 (D 26 0)) L P S := by
                            have ga := g7.zw (a := 26) (k := 0) (v := D 26 0) rfl
                            obtain ⟨h1, h2, h3, h4⟩ := ga
                            refine ⟨h1, h2, ?_, (z3 0 1 rfl).trans h4.1, h4.2⟩
                            rw [← hm_back (D := D) (b := b5)]
                            funext a k
                            by_cases e : a = 20
                            · subst e
                              rw [zu_s]
                              show Iz 20 k = D 20 k
                              by_cases hk : k < 8
                              · rw [z1 k hk]; exact e48 k hk
                              · rw [z2 k (by omega)]
                                exact (dr h3 (a := 20) (k := k) rfl).trans (b5h k (by omega))
                            · rw [zu_n _ _ _ e, ← h3]
                              unfold mdat
                              split
                              · by_cases e2 : a = 26
                                · subst e2; by_cases e3 : k = 0
                                  · subst e3; rfl
                                  · rw [zw_a, zw_a, zu_n _ _ _ e3, zu_n _ _ _ e3]; exact z3 26 k rfl
                                · rw [zw_n _ _ _ _ e2, zw_n _ _ _ _ e2]; exact z3 a k (by simp [e])
                              · rfl
                          have f9 : frM I L (zw Iz 26 0 (D 26 0)) L := ((f1.tr ef).tr (frM.of z3 fun a k h => by simp; omega)).st (by decide)
                          have q49 : ∀ b, minF (fun w => endO (hmE D x no n k32 w)) (no ^ cntB (fun p => zbit x (nI p)) n) = some b → ∀ j, j < n → (zw Iz 26 0 (D 26 0)) 49 j = plc x no n b.1 (D 20) j := fun b hb j hj => (z3 49 j rfl).trans (e49 b hb j hj)
                          have e8 := e
                          refine Z_iload dX5_homes_195 rfl ?_
                          refine Z_ifgeN 203 dX5_homes_197 rfl (by omega) ?_
                          refine Z_aload_n dX5_homes_203 rfl ?_
                          refine Z_iconst (nI 0) dX5_homes_204 rfl ?_
                          refine Z_putI hM.1 fX5_11_4 dX5_homes_205 rfl rfl rfl ?_
                          refine Z_iconst (nI 0) dX5_homes_208 rfl ?_
                          refine Z_istore (lv' := [_, _, _, _, _, _, _, _]) dX5_homes_209 rfl rfl (Nat.le_of_ble_eq_true rfl) ?_
                          have lp211 : ∀ r, r ≤ n → ∀ I7 L7, mR D (hmR1 D x no n (q, t1).1 r) I7 L7 P S → (∀ j, j < n → I7 49 j = plc x no n (q, t1).1 (D 20) j) → frM (zw Iz 26 0 (D 26 0)) L I7 L7 → Zj G mX5_homes 12 C Sl 211 [.ref 0, .int x, .int (nI k32), .int (D 26 0), .int (nI t1), .int (nI 0), .int (nI r), .retAddr 0] [] I7 L7 P S Q := by
                            refine zloop (n) (fun r => ∀ I7 L7, mR D (hmR1 D x no n (q, t1).1 r) I7 L7 P S → (∀ j, j < n → I7 49 j = plc x no n (q, t1).1 (D 20) j) → frM (zw Iz 26 0 (D 26 0)) L I7 L7 → Zj G mX5_homes 12 C Sl 211 [.ref 0, .int x, .int (nI k32), .int (D 26 0), .int (nI t1), .int (nI 0), .int (nI r), .retAddr 0] [] I7 L7 P S Q) (fun r hr ihr => ?_)
                            intro I7 L7 g7 z7 x8
                            show Zj _ _ _ _ _ _ _ _ _ _ _ _ _
                            refine Z_iload dX5_homes_211 rfl ?_
                            refine Z_aload_n dX5_homes_213 rfl ?_
                            refine Z_getI hM.1 fX5_151_4 dX5_homes_214 rfl ?_
                            refine Z_re (y := nI (n)) ((dr g7.2.2.1 rfl).trans hw.n16) ?_
                            refine Z_icmpgeN 247 dX5_homes_217 rfl (by omega) (by omega) (fun c217 => ?_) (fun c217 => ?_)
                            · have er : r = n := by omega
                              rw [er] at g7
                              refine Z_iload dX5_homes_247 rfl ?_
                              refine Z_ireturn dX5_homes_249 rfl rfl ?_
                              exact zO_k (D2 := D) (R2 := hmR D x no n (q, t1).1) (by rw [fHomes, if_pos (by rw [r17, decide_eq_true c28, r32]; rfl), v32, e8]) k g7 (f9.tr x8)
                            · refine Z_iload_n dX5_homes_220 rfl ?_
                              refine Z_iload dX5_homes_221 rfl ?_
                              refine Z_callS0 (d' := 0) (zCal_S gX5_137 nX5_has (by decide) dX5_homes_223) pX5_has [_, _] rfl rfl (Nat.le_of_ble_eq_true rfl) (by omega) (c_X5_has (fun h223 => ?_) (fun h223 => ?_))
                              · refine Z_ifeq 241 dX5_homes_226 rfl (fun h => absurd h (by decide)) (fun _ => ?_)
                                refine Z_aload_n dX5_homes_229 rfl ?_
                                refine Z_aload_n dX5_homes_230 rfl ?_
                                refine Z_getR (r := 49) hM.1 fX5_425_4 dX5_homes_231 rfl (hM.2.2 49 _ rfl rfl) ?_
                                refine Z_iload dX5_homes_234 rfl ?_
                                refine Z_iald (hM.2.1 49 _ rfl) (zix_nI (by omega) (by decide)) dX5_homes_236 ?_
                                refine Z_re (z7 r (by omega)) ?_
                                refine Z_i2l dX5_homes_237 ?_
                                refine Z_call0 (d' := 0) (zCal_V gX5_18 nX5_enters (by decide) dX5_homes_238) pX5_enters hM.1 zkl4 [_] rfl rfl (Nat.le_of_ble_eq_true rfl) (by omega) (c_tellW hM g7.2.2.2 (by have := hmR_len (D := D) (x := x) (no := no) (n := n) (w := (q, t1).1) (j := r); omega) (fun J9 M9 u9 v9 w9 => ?_))
                                have g9b := mR_of0 g7 (v9.wk fun _ _ => tR_Q) ((v9.s23 fun _ => rfl).trans (funext fun j => dr g7.2.2.1 rfl)) u9
                                refine Z_iincN (a := _) (k := 1) (lv' := [_, _, _, _, _, _, _, _]) dX5_homes_241 rfl rfl rfl rfl ?_
                                refine Z_goto 211 dX5_homes_244 rfl ?_
                                exact ihr (by omega) _ _ (by rw [hmR_s, if_pos h223]; exact g9b) (fun j hj => (v9 49 j rfl).trans (z7 j hj)) (x8.tr (frM_of (v9.wk fun _ _ => tR_Q) w9))
                              · refine Z_ifeq 241 dX5_homes_226 rfl (fun _ => ?_) (fun h => absurd h (by decide))
                                refine Z_iincN (a := _) (k := 1) (lv' := [_, _, _, _, _, _, _, _]) dX5_homes_241 rfl rfl rfl rfl ?_
                                refine Z_goto 211 dX5_homes_244 rfl ?_
                                exact ihr (by omega) _ _ (by rw [hmR_s, if_neg (by simp [h223]), List.append_nil]; exact g7) z7 x8
                          exact Z_fgt (lp211 0 (by omega) _ _ (mR_t0 g9) (fun j hj => q49 (q, t1) e8 j hj) (frM.rf.st (by decide))) (by repeat first | exact zwk_n | refine zwk_f ?_ | refine zwk_c rfl ?_)
                      · refine Z_aload_n dX5_homes_154 rfl ?_
                        refine Z_getR (r := 49) hM.1 fX5_425_4 dX5_homes_155 rfl (hM.2.2 49 _ rfl rfl) ?_
                        refine Z_iload dX5_homes_158 rfl ?_
                        refine Z_aload_n dX5_homes_160 rfl ?_
                        refine Z_getR (r := 20) hM.1 fX5_143_4 dX5_homes_161 rfl (hM.2.2 20 _ rfl rfl) ?_
                        refine Z_iload dX5_homes_164 rfl ?_
                        refine Z_iald (hM.2.1 20 _ rfl) (zix_nI (by omega) (by decide)) dX5_homes_166 ?_
                        refine Z_re (y := plc x no n q (D 20) j) ((dr g6.2.2.1 rfl).trans (by unfold hmD; rw [zu_s])) ?_
                        refine Z_iast (hM.2.1 49 _ rfl) (zix_nI (by omega) (by decide)) dX5_homes_167 ?_
                        refine Z_iincN (a := _) (k := 1) (lv' := [_, _, _, _, _, _, _, _]) dX5_homes_168 rfl rfl rfl rfl ?_
                        refine Z_goto 145 dX5_homes_171 rfl ?_
                        refine ihj (by omega) _ (mR_49 g6) (fun j2 hj2 => ?_) (fun j2 hj2 => (congrFun (zw_n _ _ _ _ (by decide)) j2).trans (z48b j2 hj2)) (x6.st (by decide))
                        rw [zw_a]
                        by_cases e : j2 = j
                        · subst e; rw [zu_s]
                        · rw [zu_n _ _ _ e]; exact z6 j2 (by omega)
                    exact lp145 0 (by omega) _ g4 (fun j hj => absurd hj (by omega)) k48 frM.rf
                  · exact absurd (by decide) c128
                · dsimp only [hbV]
                  have hb1 := minF_mem _ _ hm
                  have hb2 := hmE_b hw h0 hi9 (by omega) hb1.2
                  refine Z_iload dX5_homes_126 rfl ?_
                  refine Z_ifltN 138 dX5_homes_128 rfl (by omega) ?_
                  refine Z_iload dX5_homes_131 rfl ?_
                  refine Z_iload dX5_homes_133 rfl ?_
                  refine Z_icmpgeN 174 dX5_homes_135 rfl (by omega) (by omega) (fun c135 => ?_) (fun c135 => ?_)
                  · refine Z_aload_n dX5_homes_174 rfl ?_
                    refine Z_iload_n dX5_homes_175 rfl ?_
                    refine Z_call0 (d' := 1) (zCal_V gX5_428 nX5_movesHomes (by decide) dX5_homes_176) pX5_movesHomes hM.1 zkl4 [_] rfl rfl (Nat.le_of_ble_eq_true rfl) (by omega) (c_nextHomes g4 hw h0 hq (fun I5 hl g7 x7 y7 => ?_) (fun I5 b5 hl b5h g7 x7 y7 => ?_))
                    · refine Z_istore (lv' := [_, _, _, _, _, _, _, _]) dX5_homes_179 rfl rfl (Nat.le_of_ble_eq_true rfl) ?_
                      refine Z_goto 109 dX5_homes_181 rfl ?_
                      have ev : endO (hmE D x no n k32 q) = some t1 := by rw [hmE, p1a]; show some (s1 0).toNatClampNeg = _; rw [p1b, nI_clamp (by omega)]
                      have e : minF (fun w => endO (hmE D x no n k32 w)) (q + 1) = some b := by simp [minF, ev, hm, c135]
                      have e49 : ∀ b, minF (fun w => endO (hmE D x no n k32 w)) (q + 1) = some b → ∀ j, j < n → I5 49 j = plc x no n b.1 (D 20) j := by
                        rw [e]
                        rw [← hm]
                        exact fun b hb j hj => (y7 49 j rfl).trans (k49 b hb j hj)
                      have e48 : ∀ j, j < 8 → I5 48 j = D 20 j := fun j hj => (y7 48 j rfl).trans (k48 j hj)
                      have ef : frM I1 L I5 L := (g2.tr x4).tr x7
                      have ih2 := ih (by omega) _ g7 e48 e49 ef
                      rw [e] at ih2
                      exact Z_fgt ih2 (by repeat first | exact zwk_n | refine zwk_f ?_ | refine zwk_c rfl ?_)
                    · refine Z_istore (lv' := [_, _, _, _, _, _, _, _]) dX5_homes_179 rfl rfl (Nat.le_of_ble_eq_true rfl) ?_
                      refine Z_goto 109 dX5_homes_181 rfl ?_
                      have ev : endO (hmE D x no n k32 q) = some t1 := by rw [hmE, p1a]; show some (s1 0).toNatClampNeg = _; rw [p1b, nI_clamp (by omega)]
                      have e : minF (fun w => endO (hmE D x no n k32 w)) (q + 1) = some b := by simp [minF, ev, hm, c135]
                      have e49 : ∀ b, minF (fun w => endO (hmE D x no n k32 w)) (q + 1) = some b → ∀ j, j < n → I5 49 j = plc x no n b.1 (D 20) j := by
                        rw [e]
                        rw [← hm]
                        exact fun b hb j hj => (y7 49 j rfl).trans (k49 b hb j hj)
                      have e48 : ∀ j, j < 8 → I5 48 j = D 20 j := fun j hj => (y7 48 j rfl).trans (k48 j hj)
                      have ef : frM I1 L I5 L := (g2.tr x4).tr x7
                      rw [hl] at e e49
                      refine Z_iload dX5_homes_109 rfl ?_
                      refine Z_ifeq 184 dX5_homes_111 rfl (fun _ => ?_) (fun h => absurd h (by decide))
                      refine Z_aload_n dX5_homes_184 rfl ?_
                      refine Z_call0 (d' := 0) (zCal_V gX5_431 nX5_givesBorn (by decide) dX5_homes_185) pX5_givesBorn hM.1 zkl4 [] rfl rfl (Nat.le_of_ble_eq_true rfl) (by omega) (c_X5_givesBorn hM (fun Iz z1 z2 z3 => ?_))
                      refine Z_aload_n dX5_homes_188 rfl ?_
                      refine Z_getR (r := 26) hM.1 fX5_199_4 dX5_homes_189 rfl (hM.2.2 26 _ rfl rfl) ?_
                      refine Z_iconst (nI 0) dX5_homes_192 rfl ?_
                      refine Z_iload_n dX5_homes_193 rfl ?_
                      refine Z_iast (hM.2.1 26 _ rfl) (zix_nI (by omega) (by decide)) dX5_homes_194 ?_
                      have g9 : mR D R (zw Iz 26 0 (D 26 0)) L P S := by
                        have ga := g7.zw (a := 26) (k := 0) (v := D 26 0) rfl
                        obtain ⟨h1, h2, h3, h4⟩ := ga
                        refine ⟨h1, h2, ?_, (z3 0 1 rfl).trans h4.1, h4.2⟩
                        rw [← hm_back (D := D) (b := b5)]
                        funext a k
                        by_cases e : a = 20
                        · subst e
                          rw [zu_s]
                          show Iz 20 k = D 20 k
                          by_cases hk : k < 8
                          · rw [z1 k hk]; exact e48 k hk
                          · rw [z2 k (by omega)]
                            exact (dr h3 (a := 20) (k := k) rfl).trans (b5h k (by omega))
                        · rw [zu_n _ _ _ e, ← h3]
                          unfold mdat
                          split
                          · by_cases e2 : a = 26
                            · subst e2; by_cases e3 : k = 0
                              · subst e3; rfl
                              · rw [zw_a, zw_a, zu_n _ _ _ e3, zu_n _ _ _ e3]; exact z3 26 k rfl
                            · rw [zw_n _ _ _ _ e2, zw_n _ _ _ _ e2]; exact z3 a k (by simp [e])
                          · rfl
                      have f9 : frM I L (zw Iz 26 0 (D 26 0)) L := ((f1.tr ef).tr (frM.of z3 fun a k h => by simp; omega)).st (by decide)
                      have q49 : ∀ b, minF (fun w => endO (hmE D x no n k32 w)) (no ^ cntB (fun p => zbit x (nI p)) n) = some b → ∀ j, j < n → (zw Iz 26 0 (D 26 0)) 49 j = plc x no n b.1 (D 20) j := fun b hb j hj => (z3 49 j rfl).trans (e49 b hb j hj)
                      have e8 := e
                      refine Z_iload dX5_homes_195 rfl ?_
                      refine Z_ifgeN 203 dX5_homes_197 rfl (by omega) ?_
                      refine Z_aload_n dX5_homes_203 rfl ?_
                      refine Z_iconst (nI 0) dX5_homes_204 rfl ?_
                      refine Z_putI hM.1 fX5_11_4 dX5_homes_205 rfl rfl rfl ?_
                      refine Z_iconst (nI 0) dX5_homes_208 rfl ?_
                      refine Z_istore (lv' := [_, _, _, _, _, _, _, _]) dX5_homes_209 rfl rfl (Nat.le_of_ble_eq_true rfl) ?_
                      have lp211 : ∀ r, r ≤ n → ∀ I7 L7, mR D (hmR1 D x no n b.1 r) I7 L7 P S → (∀ j, j < n → I7 49 j = plc x no n b.1 (D 20) j) → frM (zw Iz 26 0 (D 26 0)) L I7 L7 → Zj G mX5_homes 12 C Sl 211 [.ref 0, .int x, .int (nI k32), .int (D 26 0), .int (nI b.2), .int (nI 0), .int (nI r), .retAddr 0] [] I7 L7 P S Q := by
                        refine zloop (n) (fun r => ∀ I7 L7, mR D (hmR1 D x no n b.1 r) I7 L7 P S → (∀ j, j < n → I7 49 j = plc x no n b.1 (D 20) j) → frM (zw Iz 26 0 (D 26 0)) L I7 L7 → Zj G mX5_homes 12 C Sl 211 [.ref 0, .int x, .int (nI k32), .int (D 26 0), .int (nI b.2), .int (nI 0), .int (nI r), .retAddr 0] [] I7 L7 P S Q) (fun r hr ihr => ?_)
                        intro I7 L7 g7 z7 x8
                        show Zj _ _ _ _ _ _ _ _ _ _ _ _ _
                        refine Z_iload dX5_homes_211 rfl ?_
                        refine Z_aload_n dX5_homes_213 rfl ?_
                        refine Z_getI hM.1 fX5_151_4 dX5_homes_214 rfl ?_
                        refine Z_re (y := nI (n)) ((dr g7.2.2.1 rfl).trans hw.n16) ?_
                        refine Z_icmpgeN 247 dX5_homes_217 rfl (by omega) (by omega) (fun c217 => ?_) (fun c217 => ?_)
                        · have er : r = n := by omega
                          rw [er] at g7
                          refine Z_iload dX5_homes_247 rfl ?_
                          refine Z_ireturn dX5_homes_249 rfl rfl ?_
                          exact zO_k (D2 := D) (R2 := hmR D x no n b.1) (by rw [fHomes, if_pos (by rw [r17, decide_eq_true c28, r32]; rfl), v32, e8]) k g7 (f9.tr x8)
                        · refine Z_iload_n dX5_homes_220 rfl ?_
                          refine Z_iload dX5_homes_221 rfl ?_
                          refine Z_callS0 (d' := 0) (zCal_S gX5_137 nX5_has (by decide) dX5_homes_223) pX5_has [_, _] rfl rfl (Nat.le_of_ble_eq_true rfl) (by omega) (c_X5_has (fun h223 => ?_) (fun h223 => ?_))
                          · refine Z_ifeq 241 dX5_homes_226 rfl (fun h => absurd h (by decide)) (fun _ => ?_)
                            refine Z_aload_n dX5_homes_229 rfl ?_
                            refine Z_aload_n dX5_homes_230 rfl ?_
                            refine Z_getR (r := 49) hM.1 fX5_425_4 dX5_homes_231 rfl (hM.2.2 49 _ rfl rfl) ?_
                            refine Z_iload dX5_homes_234 rfl ?_
                            refine Z_iald (hM.2.1 49 _ rfl) (zix_nI (by omega) (by decide)) dX5_homes_236 ?_
                            refine Z_re (z7 r (by omega)) ?_
                            refine Z_i2l dX5_homes_237 ?_
                            refine Z_call0 (d' := 0) (zCal_V gX5_18 nX5_enters (by decide) dX5_homes_238) pX5_enters hM.1 zkl4 [_] rfl rfl (Nat.le_of_ble_eq_true rfl) (by omega) (c_tellW hM g7.2.2.2 (by have := hmR_len (D := D) (x := x) (no := no) (n := n) (w := b.1) (j := r); omega) (fun J9 M9 u9 v9 w9 => ?_))
                            have g9b := mR_of0 g7 (v9.wk fun _ _ => tR_Q) ((v9.s23 fun _ => rfl).trans (funext fun j => dr g7.2.2.1 rfl)) u9
                            refine Z_iincN (a := _) (k := 1) (lv' := [_, _, _, _, _, _, _, _]) dX5_homes_241 rfl rfl rfl rfl ?_
                            refine Z_goto 211 dX5_homes_244 rfl ?_
                            exact ihr (by omega) _ _ (by rw [hmR_s, if_pos h223]; exact g9b) (fun j hj => (v9 49 j rfl).trans (z7 j hj)) (x8.tr (frM_of (v9.wk fun _ _ => tR_Q) w9))
                          · refine Z_ifeq 241 dX5_homes_226 rfl (fun _ => ?_) (fun h => absurd h (by decide))
                            refine Z_iincN (a := _) (k := 1) (lv' := [_, _, _, _, _, _, _, _]) dX5_homes_241 rfl rfl rfl rfl ?_
                            refine Z_goto 211 dX5_homes_244 rfl ?_
                            exact ihr (by omega) _ _ (by rw [hmR_s, if_neg (by simp [h223]), List.append_nil]; exact g7) z7 x8
                      exact Z_fgt (lp211 0 (by omega) _ _ (mR_t0 g9) (fun j hj => q49 b e8 j hj) (frM.rf.st (by decide))) (by repeat first | exact zwk_n | refine zwk_f ?_ | refine zwk_c rfl ?_)
                  · refine Z_iload dX5_homes_138 rfl ?_
                    refine Z_istore (lv' := [_, _, _, _, _, _, _, _]) dX5_homes_140 rfl rfl (Nat.le_of_ble_eq_true rfl) ?_
                    refine Z_iconst (nI 0) dX5_homes_142 rfl ?_
                    refine Z_istore (lv' := [_, _, _, _, _, _, _, _]) dX5_homes_143 rfl rfl (Nat.le_of_ble_eq_true rfl) ?_
                    have lp145 : ∀ j, j ≤ n → ∀ J3, mR (hmD D x no n q) R J3 L P S → (∀ j2, j2 < j → J3 49 j2 = plc x no n q (D 20) j2) → (∀ j2, j2 < 8 → J3 48 j2 = D 20 j2) → frM J1 L J3 L → Zj G mX5_homes 12 C Sl 145 [.ref 0, .int x, .int (nI k32), .int (D 26 0), .int (nI t1), .int (nI 1), .int (nI t1), .int (nI j)] [] J3 L P S Q := by
                      refine zloop (n) (fun j => ∀ J3, mR (hmD D x no n q) R J3 L P S → (∀ j2, j2 < j → J3 49 j2 = plc x no n q (D 20) j2) → (∀ j2, j2 < 8 → J3 48 j2 = D 20 j2) → frM J1 L J3 L → Zj G mX5_homes 12 C Sl 145 [.ref 0, .int x, .int (nI k32), .int (D 26 0), .int (nI t1), .int (nI 1), .int (nI t1), .int (nI j)] [] J3 L P S Q) (fun j hj ihj => ?_)
                      intro J3 g6 z6 z48b x6
                      show Zj _ _ _ _ _ _ _ _ _ _ _ _ _
                      refine Z_iload dX5_homes_145 rfl ?_
                      refine Z_aload_n dX5_homes_147 rfl ?_
                      refine Z_getI hM.1 fX5_151_4 dX5_homes_148 rfl ?_
                      refine Z_re (y := nI (n)) ((dr g6.2.2.1 rfl).trans hw.n16) ?_
                      refine Z_icmpgeN 174 dX5_homes_151 rfl (by omega) (by omega) (fun c151 => ?_) (fun c151 => ?_)
                      · have ej : j = n := by omega
                        rw [ej] at z6
                        refine Z_aload_n dX5_homes_174 rfl ?_
                        refine Z_iload_n dX5_homes_175 rfl ?_
                        refine Z_call0 (d' := 1) (zCal_V gX5_428 nX5_movesHomes (by decide) dX5_homes_176) pX5_movesHomes hM.1 zkl4 [_] rfl rfl (Nat.le_of_ble_eq_true rfl) (by omega) (c_nextHomes g6 hw h0 hq (fun I5 hl g7 x7 y7 => ?_) (fun I5 b5 hl b5h g7 x7 y7 => ?_))
                        · refine Z_istore (lv' := [_, _, _, _, _, _, _, _]) dX5_homes_179 rfl rfl (Nat.le_of_ble_eq_true rfl) ?_
                          refine Z_goto 109 dX5_homes_181 rfl ?_
                          have ev : endO (hmE D x no n k32 q) = some t1 := by rw [hmE, p1a]; show some (s1 0).toNatClampNeg = _; rw [p1b, nI_clamp (by omega)]
                          have e : minF (fun w => endO (hmE D x no n k32 w)) (q + 1) = some (q, t1) := by simp [minF, ev, hm, Nat.not_le.mpr c135]
                          have e49 : ∀ b, minF (fun w => endO (hmE D x no n k32 w)) (q + 1) = some b → ∀ j, j < n → I5 49 j = plc x no n b.1 (D 20) j := by
                            rw [e]
                            intro b hb j hj
                            cases hb
                            exact (y7 49 j rfl).trans (z6 j hj)
                          have e48 : ∀ j, j < 8 → I5 48 j = D 20 j := fun j hj => (y7 48 j rfl).trans (z48b j hj)
                          have ef : frM I1 L I5 L := ((g2.tr x4).tr x6).tr x7
                          have ih2 := ih (by omega) _ g7 e48 e49 ef
                          rw [e] at ih2
                          exact Z_fgt ih2 (by repeat first | exact zwk_n | refine zwk_f ?_ | refine zwk_c rfl ?_)
                        · refine Z_istore (lv' := [_, _, _, _, _, _, _, _]) dX5_homes_179 rfl rfl (Nat.le_of_ble_eq_true rfl) ?_
                          refine Z_goto 109 dX5_homes_181 rfl ?_
                          have ev : endO (hmE D x no n k32 q) = some t1 := by rw [hmE, p1a]; show some (s1 0).toNatClampNeg = _; rw [p1b, nI_clamp (by omega)]
                          have e : minF (fun w => endO (hmE D x no n k32 w)) (q + 1) = some (q, t1) := by simp [minF, ev, hm, Nat.not_le.mpr c135]
                          have e49 : ∀ b, minF (fun w => endO (hmE D x no n k32 w)) (q + 1) = some b → ∀ j, j < n → I5 49 j = plc x no n b.1 (D 20) j := by
                            rw [e]
                            intro b hb j hj
                            cases hb
                            exact (y7 49 j rfl).trans (z6 j hj)
                          have e48 : ∀ j, j < 8 → I5 48 j = D 20 j := fun j hj => (y7 48 j rfl).trans (z48b j hj)
                          have ef : frM I1 L I5 L := ((g2.tr x4).tr x6).tr x7
                          rw [hl] at e e49
                          refine Z_iload dX5_homes_109 rfl ?_
                          refine Z_ifeq 184 dX5_homes_111 rfl (fun _ => ?_) (fun h => absurd h (by decide))
                          refine Z_aload_n dX5_homes_184 rfl ?_
                          refine Z_call0 (d' := 0) (zCal_V gX5_431 nX5_givesBorn (by decide) dX5_homes_185) pX5_givesBorn hM.1 zkl4 [] rfl rfl (Nat.le_of_ble_eq_true rfl) (by omega) (c_X5_givesBorn hM (fun Iz z1 z2 z3 => ?_))
                          refine Z_aload_n dX5_homes_188 rfl ?_
                          refine Z_getR (r := 26) hM.1 fX5_199_4 dX5_homes_189 rfl (hM.2.2 26 _ rfl rfl) ?_
                          refine Z_iconst (nI 0) dX5_homes_192 rfl ?_
                          refine Z_iload_n dX5_homes_193 rfl ?_
                          refine Z_iast (hM.2.1 26 _ rfl) (zix_nI (by omega) (by decide)) dX5_homes_194 ?_
                          have g9 : mR D R (zw Iz 26 0 (D 26 0)) L P S := by
                            have ga := g7.zw (a := 26) (k := 0) (v := D 26 0) rfl
                            obtain ⟨h1, h2, h3, h4⟩ := ga
                            refine ⟨h1, h2, ?_, (z3 0 1 rfl).trans h4.1, h4.2⟩
                            rw [← hm_back (D := D) (b := b5)]
                            funext a k
                            by_cases e : a = 20
                            · subst e
                              rw [zu_s]
                              show Iz 20 k = D 20 k
                              by_cases hk : k < 8
                              · rw [z1 k hk]; exact e48 k hk
                              · rw [z2 k (by omega)]
                                exact (dr h3 (a := 20) (k := k) rfl).trans (b5h k (by omega))
                            · rw [zu_n _ _ _ e, ← h3]
                              unfold mdat
                              split
                              · by_cases e2 : a = 26
                                · subst e2; by_cases e3 : k = 0
                                  · subst e3; rfl
                                  · rw [zw_a, zw_a, zu_n _ _ _ e3, zu_n _ _ _ e3]; exact z3 26 k rfl
                                · rw [zw_n _ _ _ _ e2, zw_n _ _ _ _ e2]; exact z3 a k (by simp [e])
                              · rfl
                          have f9 : frM I L (zw Iz 26 0 (D 26 0)) L := ((f1.tr ef).tr (frM.of z3 fun a k h => by simp; omega)).st (by decide)
                          have q49 : ∀ b, minF (fun w => endO (hmE D x no n k32 w)) (no ^ cntB (fun p => zbit x (nI p)) n) = some b → ∀ j, j < n → (zw Iz 26 0 (D 26 0)) 49 j = plc x no n b.1 (D 20) j := fun b hb j hj => (z3 49 j rfl).trans (e49 b hb j hj)
                          have e8 := e
                          refine Z_iload dX5_homes_195 rfl ?_
                          refine Z_ifgeN 203 dX5_homes_197 rfl (by omega) ?_
                          refine Z_aload_n dX5_homes_203 rfl ?_
                          refine Z_iconst (nI 0) dX5_homes_204 rfl ?_
                          refine Z_putI hM.1 fX5_11_4 dX5_homes_205 rfl rfl rfl ?_
                          refine Z_iconst (nI 0) dX5_homes_208 rfl ?_
                          refine Z_istore (lv' := [_, _, _, _, _, _, _, _]) dX5_homes_209 rfl rfl (Nat.le_of_ble_eq_true rfl) ?_
                          have lp211 : ∀ r, r ≤ n → ∀ I7 L7, mR D (hmR1 D x no n (q, t1).1 r) I7 L7 P S → (∀ j, j < n → I7 49 j = plc x no n (q, t1).1 (D 20) j) → frM (zw Iz 26 0 (D 26 0)) L I7 L7 → Zj G mX5_homes 12 C Sl 211 [.ref 0, .int x, .int (nI k32), .int (D 26 0), .int (nI t1), .int (nI 0), .int (nI r), .retAddr 0] [] I7 L7 P S Q := by
                            refine zloop (n) (fun r => ∀ I7 L7, mR D (hmR1 D x no n (q, t1).1 r) I7 L7 P S → (∀ j, j < n → I7 49 j = plc x no n (q, t1).1 (D 20) j) → frM (zw Iz 26 0 (D 26 0)) L I7 L7 → Zj G mX5_homes 12 C Sl 211 [.ref 0, .int x, .int (nI k32), .int (D 26 0), .int (nI t1), .int (nI 0), .int (nI r), .retAddr 0] [] I7 L7 P S Q) (fun r hr ihr => ?_)
                            intro I7 L7 g7 z7 x8
                            show Zj _ _ _ _ _ _ _ _ _ _ _ _ _
                            refine Z_iload dX5_homes_211 rfl ?_
                            refine Z_aload_n dX5_homes_213 rfl ?_
                            refine Z_getI hM.1 fX5_151_4 dX5_homes_214 rfl ?_
                            refine Z_re (y := nI (n)) ((dr g7.2.2.1 rfl).trans hw.n16) ?_
                            refine Z_icmpgeN 247 dX5_homes_217 rfl (by omega) (by omega) (fun c217 => ?_) (fun c217 => ?_)
                            · have er : r = n := by omega
                              rw [er] at g7
                              refine Z_iload dX5_homes_247 rfl ?_
                              refine Z_ireturn dX5_homes_249 rfl rfl ?_
                              exact zO_k (D2 := D) (R2 := hmR D x no n (q, t1).1) (by rw [fHomes, if_pos (by rw [r17, decide_eq_true c28, r32]; rfl), v32, e8]) k g7 (f9.tr x8)
                            · refine Z_iload_n dX5_homes_220 rfl ?_
                              refine Z_iload dX5_homes_221 rfl ?_
                              refine Z_callS0 (d' := 0) (zCal_S gX5_137 nX5_has (by decide) dX5_homes_223) pX5_has [_, _] rfl rfl (Nat.le_of_ble_eq_true rfl) (by omega) (c_X5_has (fun h223 => ?_) (fun h223 => ?_))
                              · refine Z_ifeq 241 dX5_homes_226 rfl (fun h => absurd h (by decide)) (fun _ => ?_)
                                refine Z_aload_n dX5_homes_229 rfl ?_
                                refine Z_aload_n dX5_homes_230 rfl ?_
                                refine Z_getR (r := 49) hM.1 fX5_425_4 dX5_homes_231 rfl (hM.2.2 49 _ rfl rfl) ?_
                                refine Z_iload dX5_homes_234 rfl ?_
                                refine Z_iald (hM.2.1 49 _ rfl) (zix_nI (by omega) (by decide)) dX5_homes_236 ?_
                                refine Z_re (z7 r (by omega)) ?_
                                refine Z_i2l dX5_homes_237 ?_
                                refine Z_call0 (d' := 0) (zCal_V gX5_18 nX5_enters (by decide) dX5_homes_238) pX5_enters hM.1 zkl4 [_] rfl rfl (Nat.le_of_ble_eq_true rfl) (by omega) (c_tellW hM g7.2.2.2 (by have := hmR_len (D := D) (x := x) (no := no) (n := n) (w := (q, t1).1) (j := r); omega) (fun J9 M9 u9 v9 w9 => ?_))
                                have g9b := mR_of0 g7 (v9.wk fun _ _ => tR_Q) ((v9.s23 fun _ => rfl).trans (funext fun j => dr g7.2.2.1 rfl)) u9
                                refine Z_iincN (a := _) (k := 1) (lv' := [_, _, _, _, _, _, _, _]) dX5_homes_241 rfl rfl rfl rfl ?_
                                refine Z_goto 211 dX5_homes_244 rfl ?_
                                exact ihr (by omega) _ _ (by rw [hmR_s, if_pos h223]; exact g9b) (fun j hj => (v9 49 j rfl).trans (z7 j hj)) (x8.tr (frM_of (v9.wk fun _ _ => tR_Q) w9))
                              · refine Z_ifeq 241 dX5_homes_226 rfl (fun _ => ?_) (fun h => absurd h (by decide))
                                refine Z_iincN (a := _) (k := 1) (lv' := [_, _, _, _, _, _, _, _]) dX5_homes_241 rfl rfl rfl rfl ?_
                                refine Z_goto 211 dX5_homes_244 rfl ?_
                                exact ihr (by omega) _ _ (by rw [hmR_s, if_neg (by simp [h223]), List.append_nil]; exact g7) z7 x8
                          exact Z_fgt (lp211 0 (by omega) _ _ (mR_t0 g9) (fun j hj => q49 (q, t1) e8 j hj) (frM.rf.st (by decide))) (by repeat first | exact zwk_n | refine zwk_f ?_ | refine zwk_c rfl ?_)
                      · refine Z_aload_n dX5_homes_154 rfl ?_
                        refine Z_getR (r := 49) hM.1 fX5_425_4 dX5_homes_155 rfl (hM.2.2 49 _ rfl rfl) ?_
                        refine Z_iload dX5_homes_158 rfl ?_
                        refine Z_aload_n dX5_homes_160 rfl ?_
                        refine Z_getR (r := 20) hM.1 fX5_143_4 dX5_homes_161 rfl (hM.2.2 20 _ rfl rfl) ?_
                        refine Z_iload dX5_homes_164 rfl ?_
                        refine Z_iald (hM.2.1 20 _ rfl) (zix_nI (by omega) (by decide)) dX5_homes_166 ?_
                        refine Z_re (y := plc x no n q (D 20) j) ((dr g6.2.2.1 rfl).trans (by unfold hmD; rw [zu_s])) ?_
                        refine Z_iast (hM.2.1 49 _ rfl) (zix_nI (by omega) (by decide)) dX5_homes_167 ?_
                        refine Z_iincN (a := _) (k := 1) (lv' := [_, _, _, _, _, _, _, _]) dX5_homes_168 rfl rfl rfl rfl ?_
                        refine Z_goto 145 dX5_homes_171 rfl ?_
                        refine ihj (by omega) _ (mR_49 g6) (fun j2 hj2 => ?_) (fun j2 hj2 => (congrFun (zw_n _ _ _ _ (by decide)) j2).trans (z48b j2 hj2)) (x6.st (by decide))
                        rw [zw_a]
                        by_cases e : j2 = j
                        · subst e; rw [zu_s]
                        · rw [zu_n _ _ _ e]; exact z6 j2 (by omega)
                    exact lp145 0 (by omega) _ g4 (fun j hj => absurd hj (by omega)) k48 frM.rf
              · rw [hmD_n (by decide) (by decide)] at p1a
                have k48 : ∀ j, j < 8 → J1 48 j = D 20 j := fun j hj => (y1 48 j rfl).trans (z48 j hj)
                have k49 : ∀ b, minF (fun w => endO (hmE D x no n k32 w)) q = some b → ∀ j, j < n → J1 49 j = plc x no n b.1 (D 20) j := fun b hb j hj => (y1 49 j rfl).trans (z49 b hb j hj)
                refine Z_istore (lv' := [_, _, _, _, _, _, _, _]) dX5_homes_119 rfl rfl (Nat.le_of_ble_eq_true rfl) ?_
                refine Z_iload dX5_homes_121 rfl ?_
                refine Z_iflt 174 dX5_homes_123 rfl (fun c123 => ?_) (fun c123 => ?_)
                · refine Z_aload_n dX5_homes_174 rfl ?_
                  refine Z_iload_n dX5_homes_175 rfl ?_
                  refine Z_call0 (d' := 1) (zCal_V gX5_428 nX5_movesHomes (by decide) dX5_homes_176) pX5_movesHomes hM.1 zkl4 [_] rfl rfl (Nat.le_of_ble_eq_true rfl) (by omega) (c_nextHomes g4 hw h0 hq (fun I5 hl g7 x7 y7 => ?_) (fun I5 b5 hl b5h g7 x7 y7 => ?_))
                  · refine Z_istore (lv' := [_, _, _, _, _, _, _, _]) dX5_homes_179 rfl rfl (Nat.le_of_ble_eq_true rfl) ?_
                    refine Z_goto 109 dX5_homes_181 rfl ?_
                    have ev : endO (hmE D x no n k32 q) = none := by rw [hmE, p1a]; rfl
                    have e : minF (fun w => endO (hmE D x no n k32 w)) (q + 1) = minF (fun w => endO (hmE D x no n k32 w)) q := by simp [minF, ev]
                    have e49 : ∀ b, minF (fun w => endO (hmE D x no n k32 w)) (q + 1) = some b → ∀ j, j < n → I5 49 j = plc x no n b.1 (D 20) j := by
                      rw [e]
                      exact fun b hb j hj => (y7 49 j rfl).trans (k49 b hb j hj)
                    have e48 : ∀ j, j < 8 → I5 48 j = D 20 j := fun j hj => (y7 48 j rfl).trans (k48 j hj)
                    have ef : frM I1 L I5 L := (g2.tr x4).tr x7
                    have ih2 := ih (by omega) _ g7 e48 e49 ef
                    rw [e] at ih2
                    exact Z_fgt ih2 (by repeat first | exact zwk_n | refine zwk_f ?_ | refine zwk_c rfl ?_)
                  · refine Z_istore (lv' := [_, _, _, _, _, _, _, _]) dX5_homes_179 rfl rfl (Nat.le_of_ble_eq_true rfl) ?_
                    refine Z_goto 109 dX5_homes_181 rfl ?_
                    have ev : endO (hmE D x no n k32 q) = none := by rw [hmE, p1a]; rfl
                    have e : minF (fun w => endO (hmE D x no n k32 w)) (q + 1) = minF (fun w => endO (hmE D x no n k32 w)) q := by simp [minF, ev]
                    have e49 : ∀ b, minF (fun w => endO (hmE D x no n k32 w)) (q + 1) = some b → ∀ j, j < n → I5 49 j = plc x no n b.1 (D 20) j := by
                      rw [e]
                      exact fun b hb j hj => (y7 49 j rfl).trans (k49 b hb j hj)
                    have e48 : ∀ j, j < 8 → I5 48 j = D 20 j := fun j hj => (y7 48 j rfl).trans (k48 j hj)
                    have ef : frM I1 L I5 L := (g2.tr x4).tr x7
                    rw [hl] at e e49
                    refine Z_iload dX5_homes_109 rfl ?_
                    refine Z_ifeq 184 dX5_homes_111 rfl (fun _ => ?_) (fun h => absurd h (by decide))
                    refine Z_aload_n dX5_homes_184 rfl ?_
                    refine Z_call0 (d' := 0) (zCal_V gX5_431 nX5_givesBorn (by decide) dX5_homes_185) pX5_givesBorn hM.1 zkl4 [] rfl rfl (Nat.le_of_ble_eq_true rfl) (by omega) (c_X5_givesBorn hM (fun Iz z1 z2 z3 => ?_))
                    refine Z_aload_n dX5_homes_188 rfl ?_
                    refine Z_getR (r := 26) hM.1 fX5_199_4 dX5_homes_189 rfl (hM.2.2 26 _ rfl rfl) ?_
                    refine Z_iconst (nI 0) dX5_homes_192 rfl ?_
                    refine Z_iload_n dX5_homes_193 rfl ?_
                    refine Z_iast (hM.2.1 26 _ rfl) (zix_nI (by omega) (by decide)) dX5_homes_194 ?_
                    have g9 : mR D R (zw Iz 26 0 (D 26 0)) L P S := by
                      have ga := g7.zw (a := 26) (k := 0) (v := D 26 0) rfl
                      obtain ⟨h1, h2, h3, h4⟩ := ga
                      refine ⟨h1, h2, ?_, (z3 0 1 rfl).trans h4.1, h4.2⟩
                      rw [← hm_back (D := D) (b := b5)]
                      funext a k
                      by_cases e : a = 20
                      · subst e
                        rw [zu_s]
                        show Iz 20 k = D 20 k
                        by_cases hk : k < 8
                        · rw [z1 k hk]; exact e48 k hk
                        · rw [z2 k (by omega)]
                          exact (dr h3 (a := 20) (k := k) rfl).trans (b5h k (by omega))
                      · rw [zu_n _ _ _ e, ← h3]
                        unfold mdat
                        split
                        · by_cases e2 : a = 26
                          · subst e2; by_cases e3 : k = 0
                            · subst e3; rfl
                            · rw [zw_a, zw_a, zu_n _ _ _ e3, zu_n _ _ _ e3]; exact z3 26 k rfl
                          · rw [zw_n _ _ _ _ e2, zw_n _ _ _ _ e2]; exact z3 a k (by simp [e])
                        · rfl
                    have f9 : frM I L (zw Iz 26 0 (D 26 0)) L := ((f1.tr ef).tr (frM.of z3 fun a k h => by simp; omega)).st (by decide)
                    have q49 : ∀ b, minF (fun w => endO (hmE D x no n k32 w)) (no ^ cntB (fun p => zbit x (nI p)) n) = some b → ∀ j, j < n → (zw Iz 26 0 (D 26 0)) 49 j = plc x no n b.1 (D 20) j := fun b hb j hj => (z3 49 j rfl).trans (e49 b hb j hj)
                    obtain ⟨m0, hm⟩ : ∃ m0, minF (fun w => endO (hmE D x no n k32 w)) q = m0 := ⟨_, rfl⟩
                    rw [hm]
                    rcases m0 with _ | b
                    · dsimp only [hbV]
                      have e8 := e.trans hm
                      refine Z_iload dX5_homes_195 rfl ?_
                      refine Z_ifge 203 dX5_homes_197 rfl (fun c197 => ?_) (fun c197 => ?_)
                      · exact absurd c197 (by decide)
                      · refine Z_bipush (-2) dX5_homes_200 rfl ?_
                        refine Z_ireturn dX5_homes_202 rfl rfl ?_
                        exact zO_k (D2 := D) (R2 := R) (by rw [fHomes, if_pos (by rw [r17, decide_eq_true c28, r32]; rfl), v32, e8]) k g9 f9
                    · dsimp only [hbV]
                      have e8 := e.trans hm
                      have hb1 := minF_mem _ _ hm
                      have hb2 := hmE_b hw h0 hi9 (by omega) hb1.2
                      refine Z_iload dX5_homes_195 rfl ?_
                      refine Z_ifgeN 203 dX5_homes_197 rfl (by omega) ?_
                      refine Z_aload_n dX5_homes_203 rfl ?_
                      refine Z_iconst (nI 0) dX5_homes_204 rfl ?_
                      refine Z_putI hM.1 fX5_11_4 dX5_homes_205 rfl rfl rfl ?_
                      refine Z_iconst (nI 0) dX5_homes_208 rfl ?_
                      refine Z_istore (lv' := [_, _, _, _, _, _, _, _]) dX5_homes_209 rfl rfl (Nat.le_of_ble_eq_true rfl) ?_
                      have lp211 : ∀ r, r ≤ n → ∀ I7 L7, mR D (hmR1 D x no n b.1 r) I7 L7 P S → (∀ j, j < n → I7 49 j = plc x no n b.1 (D 20) j) → frM (zw Iz 26 0 (D 26 0)) L I7 L7 → Zj G mX5_homes 12 C Sl 211 [.ref 0, .int x, .int (nI k32), .int (D 26 0), .int (nI b.2), .int (nI 0), .int (nI r), .retAddr 0] [] I7 L7 P S Q := by
                        refine zloop (n) (fun r => ∀ I7 L7, mR D (hmR1 D x no n b.1 r) I7 L7 P S → (∀ j, j < n → I7 49 j = plc x no n b.1 (D 20) j) → frM (zw Iz 26 0 (D 26 0)) L I7 L7 → Zj G mX5_homes 12 C Sl 211 [.ref 0, .int x, .int (nI k32), .int (D 26 0), .int (nI b.2), .int (nI 0), .int (nI r), .retAddr 0] [] I7 L7 P S Q) (fun r hr ihr => ?_)
                        intro I7 L7 g7 z7 x8
                        show Zj _ _ _ _ _ _ _ _ _ _ _ _ _
                        refine Z_iload dX5_homes_211 rfl ?_
                        refine Z_aload_n dX5_homes_213 rfl ?_
                        refine Z_getI hM.1 fX5_151_4 dX5_homes_214 rfl ?_
                        refine Z_re (y := nI (n)) ((dr g7.2.2.1 rfl).trans hw.n16) ?_
                        refine Z_icmpgeN 247 dX5_homes_217 rfl (by omega) (by omega) (fun c217 => ?_) (fun c217 => ?_)
                        · have er : r = n := by omega
                          rw [er] at g7
                          refine Z_iload dX5_homes_247 rfl ?_
                          refine Z_ireturn dX5_homes_249 rfl rfl ?_
                          exact zO_k (D2 := D) (R2 := hmR D x no n b.1) (by rw [fHomes, if_pos (by rw [r17, decide_eq_true c28, r32]; rfl), v32, e8]) k g7 (f9.tr x8)
                        · refine Z_iload_n dX5_homes_220 rfl ?_
                          refine Z_iload dX5_homes_221 rfl ?_
                          refine Z_callS0 (d' := 0) (zCal_S gX5_137 nX5_has (by decide) dX5_homes_223) pX5_has [_, _] rfl rfl (Nat.le_of_ble_eq_true rfl) (by omega) (c_X5_has (fun h223 => ?_) (fun h223 => ?_))
                          · refine Z_ifeq 241 dX5_homes_226 rfl (fun h => absurd h (by decide)) (fun _ => ?_)
                            refine Z_aload_n dX5_homes_229 rfl ?_
                            refine Z_aload_n dX5_homes_230 rfl ?_
                            refine Z_getR (r := 49) hM.1 fX5_425_4 dX5_homes_231 rfl (hM.2.2 49 _ rfl rfl) ?_
                            refine Z_iload dX5_homes_234 rfl ?_
                            refine Z_iald (hM.2.1 49 _ rfl) (zix_nI (by omega) (by decide)) dX5_homes_236 ?_
                            refine Z_re (z7 r (by omega)) ?_
                            refine Z_i2l dX5_homes_237 ?_
                            refine Z_call0 (d' := 0) (zCal_V gX5_18 nX5_enters (by decide) dX5_homes_238) pX5_enters hM.1 zkl4 [_] rfl rfl (Nat.le_of_ble_eq_true rfl) (by omega) (c_tellW hM g7.2.2.2 (by have := hmR_len (D := D) (x := x) (no := no) (n := n) (w := b.1) (j := r); omega) (fun J9 M9 u9 v9 w9 => ?_))
                            have g9b := mR_of0 g7 (v9.wk fun _ _ => tR_Q) ((v9.s23 fun _ => rfl).trans (funext fun j => dr g7.2.2.1 rfl)) u9
                            refine Z_iincN (a := _) (k := 1) (lv' := [_, _, _, _, _, _, _, _]) dX5_homes_241 rfl rfl rfl rfl ?_
                            refine Z_goto 211 dX5_homes_244 rfl ?_
                            exact ihr (by omega) _ _ (by rw [hmR_s, if_pos h223]; exact g9b) (fun j hj => (v9 49 j rfl).trans (z7 j hj)) (x8.tr (frM_of (v9.wk fun _ _ => tR_Q) w9))
                          · refine Z_ifeq 241 dX5_homes_226 rfl (fun _ => ?_) (fun h => absurd h (by decide))
                            refine Z_iincN (a := _) (k := 1) (lv' := [_, _, _, _, _, _, _, _]) dX5_homes_241 rfl rfl rfl rfl ?_
                            refine Z_goto 211 dX5_homes_244 rfl ?_
                            exact ihr (by omega) _ _ (by rw [hmR_s, if_neg (by simp [h223]), List.append_nil]; exact g7) z7 x8
                      exact Z_fgt (lp211 0 (by omega) _ _ (mR_t0 g9) (fun j hj => q49 b e8 j hj) (frM.rf.st (by decide))) (by repeat first | exact zwk_n | refine zwk_f ?_ | refine zwk_c rfl ?_)
                · exact absurd (by decide) c123
            exact lp109 0 (by omega) _ g1 z48 (fun b hb => absurd hb (by simp [minF])) g2
          · refine Z_aload_n dX5_homes_70 rfl ?_
            refine Z_getR (r := 20) hM.1 fX5_143_4 dX5_homes_71 rfl (hM.2.2 20 _ rfl rfl) ?_
            refine Z_iload dX5_homes_74 rfl ?_
            refine Z_iload_n dX5_homes_76 rfl ?_
            refine Z_iload dX5_homes_77 rfl ?_
            refine Z_callS0 (d' := 0) (zCal_S gX5_137 nX5_has (by decide) dX5_homes_79) pX5_has [_, _] rfl rfl (Nat.le_of_ble_eq_true rfl) (by omega) (c_X5_has (fun h79 => ?_) (fun h79 => ?_))
            · refine Z_ifeq 89 dX5_homes_82 rfl (fun h => absurd h (by decide)) (fun _ => ?_)
              refine Z_iconst (nI 0) dX5_homes_85 rfl ?_
              refine Z_goto 96 dX5_homes_86 rfl ?_
              refine Z_iast (hM.2.1 20 _ rfl) (zix_nI (by omega) (by decide)) dX5_homes_96 ?_
              refine Z_iincN (a := _) (k := 1) (lv' := [_, _, _, _, _, _, _, _]) dX5_homes_97 rfl rfl rfl rfl ?_
              refine Z_goto 61 dX5_homes_100 rfl ?_
              exact ih (by omega) _ (by rw [← hm0_s, if_pos h79]; exact g1.zw rfl) (fun j hj => (congrFun (zw_n _ _ _ _ (by decide)) j).trans (z48 j hj)) (g2.st (by decide))
            · refine Z_ifeq 89 dX5_homes_82 rfl (fun _ => ?_) (fun h => absurd h (by decide))
              refine Z_aload_n dX5_homes_89 rfl ?_
              refine Z_getR (r := 20) hM.1 fX5_143_4 dX5_homes_90 rfl (hM.2.2 20 _ rfl rfl) ?_
              refine Z_iload dX5_homes_93 rfl ?_
              refine Z_iald (hM.2.1 20 _ rfl) (zix_nI (by omega) (by decide)) dX5_homes_95 ?_
              refine Z_re (y := D 20 i) ((dr g1.2.2.1 rfl).trans (by unfold hm0; rw [zu_s]; simp)) ?_
              refine Z_iast (hM.2.1 20 _ rfl) (zix_nI (by omega) (by decide)) dX5_homes_96 ?_
              refine Z_iincN (a := _) (k := 1) (lv' := [_, _, _, _, _, _, _, _]) dX5_homes_97 rfl rfl rfl rfl ?_
              refine Z_goto 61 dX5_homes_100 rfl ?_
              exact ih (by omega) _ (by rw [← hm0_s, if_neg (by simp [h79])]; exact g1.zw rfl) (fun j hj => (congrFun (zw_n _ _ _ _ (by decide)) j).trans (z48 j hj)) (g2.st (by decide))
        exact lp61 0 (by omega) _ gk k48 fk
      · have r32 : rB h 0 2399 = false := rB_f h32
        refine Z_ifne 40 dX5_homes_35 rfl (fun h => absurd h (by decide)) (fun _ => ?_)
        refine Z_iconst (-1) dX5_homes_38 rfl ?_
        refine Z_ireturn dX5_homes_39 rfl rfl ?_
        exact zO_k (by simp [fHomes, r17, c28, r32, -Int32.toInt_sub]) k hR1 f1
  · rw [z_i64, z_i64] at h17
    have r17 : rB x 1 ((nI 1 <<< (D 0 16 &&& 31)) - nI 1).toInt = false := rB_f h17
    refine Z_ifeq 38 dX5_homes_20 rfl (fun _ => ?_) (fun h => absurd h (by decide))
    refine Z_iconst (-1) dX5_homes_38 rfl ?_
    refine Z_ireturn dX5_homes_39 rfl rfl ?_
    exact zO_k (by simp [fHomes, r17, -Int32.toInt_sub]) k hR1 f1
end M24
