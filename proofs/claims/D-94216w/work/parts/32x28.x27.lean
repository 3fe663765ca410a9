set_option maxRecDepth 100000
/-! THE COMPONENT, part 27: some pieces' homes -/
section X27C
variable {G : zG} {d C Sl : Nat} {I D W : zI} {R : List Int64} {L : zL} {P : zR} {S : zT} {Q : zQ} {no n np : Nat} {s : zS} {oh ph : Nat → Nat} {ro : Option (List Nat)}
theorem nI_leq {a b : Nat} (ha : a < 2 ^ 31) (hb : b < 2 ^ 31) : nI a ≤ nI b ↔ a ≤ b := by
  rw [Int32.le_iff_toInt_le, z_ti ha, z_ti hb]
  omega
section PC
variable {W2 : zI}
/-- where pieces are born, a rule: no matter -/
def eqW (W W2 : zI) : Prop := ∀ a, a ≠ 20 → a ≠ 25 → a ≠ 26 → W2 a = W a
theorem opn_c (h : eqW W W2) {o t : Nat} : opn W2 o t = opn W o t := by
  have h4 := h 4 (by decide) (by decide) (by decide)
  have h5 := h 5 (by decide) (by decide) (by decide)
  have h6 := h 6 (by decide) (by decide) (by decide)
  have h10 := h 10 (by decide) (by decide) (by decide)
  have h11 := h 11 (by decide) (by decide) (by decide)
  have h12 := h 12 (by decide) (by decide) (by decide)
  unfold opn opF opD opG opL
  rw [h4, h5, h6, h10, h11, h12]
theorem canW_c (h : eqW W W2) {hd : zS} {t p o : Nat} : canW W2 hd t p o = canW W hd t p o := by
  have h9 := h 9 (by decide) (by decide) (by decide)
  have h17 := h 17 (by decide) (by decide) (by decide)
  have h8 := h 8 (by decide) (by decide) (by decide)
  simp only [canW, opn_c h, h9, h17, h8]
theorem wrk1_c (h : eqW W W2) {t p o : Nat} : wrk1 W2 s t p o = wrk1 W s t p o := by
  have h0 := h 0 (by decide) (by decide) (by decide)
  have h7 := h 7 (by decide) (by decide) (by decide)
  have h21 := h 21 (by decide) (by decide) (by decide)
  have h22 := h 22 (by decide) (by decide) (by decide)
  unfold wrk1 askd
  rw [h0, h7, h21, h22]
theorem wrkN_c (h : eqW W W2) {rd : Int32} {t : Nat} {k : zK4} : ∀ n, wrkN W2 rd t k n = wrkN W rd t k n := by
  intro n
  have h21 := h 21 (by decide) (by decide) (by decide)
  induction n with
  | zero => rfl
  | succ n ih =>
    rw [wrkN, wrkN, ih]
    simp only [wrkS, canW_c h, wrk1_c h, opn_c h, h21]
theorem rdyB_c (h : eqW W W2) : rdyB W2 s n = rdyB W s n := by
  have h19 := h 19 (by decide) (by decide) (by decide)
  have e : rdy W2 s = rdy W s := funext fun p => by simp only [rdy, h19]
  simp only [rdyB, e]
theorem hrS_c (h : eqW W W2) : hrS W2 none no n s = hrS W none no n s := by
  simp only [hrS, clss, wrks, rdyB_c h, wrkN_c h]
theorem endN_c (h : eqW W W2) : ∀ (f : Nat) (s : zS), endN W2 none no n f s = endN W none no n f s := by
  intro f
  induction f with
  | zero => exact fun _ => rfl
  | succ f ih => intro s; rw [endN, endN, ih, hrS_c h]
theorem pEnd_c (h : eqW W W2) : pEnd W2 none no n s = pEnd W none no n s := by
  unfold pEnd; exact endN_c h _ _
theorem layN_20 (h18 : W2 18 = W 18) : ∀ m, m ≤ 8 → ∀ j, layN W2 s m j = if 3 ≤ j ∧ j < 3 + m then W2 20 (j - 3) else layN W s m j := by
  intro m
  induction m with
  | zero => intro _ j; rw [if_neg (by omega)]; rfl
  | succ m ih =>
    intro hm j
    rw [layN, layN]
    by_cases a : 3 ≤ j ∧ j < 3 + m
    · rw [if_pos (by omega), layS_n (by omega), ih (by omega), if_pos a]
    · by_cases e : j = 3 + m
      · subst e
        rw [if_pos (by omega), (layS_v (by omega)).1.1, Nat.add_sub_cancel_left]
      · have ihj : layN W2 s m j = layN W s m j := by rw [ih (by omega), if_neg a]
        rw [if_neg (by omega)]
        unfold layS
        simp only [zu, h18, if_neg e, ihj]
end PC
section PLC
variable {x : Int32}
theorem plc_at {j : Nat} {b c : zS} (h : b j = c j) : ∀ (p w : Nat) (b c : zS), b j = c j → plc x no p w b j = plc x no p w c j := by
  clear h
  intro p
  induction p with
  | zero => exact fun _ _ _ h => h
  | succ p ih =>
    intro w b c h
    rw [plc, plc]
    split
    · refine ih _ _ _ ?_
      unfold zu
      split
      · rfl
      · exact h
    · exact ih _ _ _ h
def plcS (x : Int32) (no : Nat) : Nat → Nat → zS → zS
  | 0, _, s => s
  | p + 1, w, s => if zbit x (nI p) = true then plcS x no p (w / no) (zu s (3 + p) (nI (w % no))) else plcS x no p w s
theorem plcS_at {j : Nat} : ∀ (p w : Nat) (s : zS), plcS x no p w s j = if 3 ≤ j ∧ j < 3 + p then plc x no p w (fun i => s (3 + i)) (j - 3) else s j := by
  intro p
  induction p with
  | zero => intro w s; rw [if_neg (by omega)]; rfl
  | succ p ih =>
    intro w s
    rw [plcS, plc]
    split
    · rw [ih]
      have ez : (fun i => zu s (3 + p) (nI (w % no)) (3 + i)) = zu (fun i => s (3 + i)) p (nI (w % no)) := by
        funext i
        by_cases e : i = p
        · subst e; rw [zu_s, zu_s]
        · rw [zu_n _ _ _ e, zu_n _ _ _ (by omega)]
      rw [ez]
      by_cases a : 3 ≤ j ∧ j < 3 + p
      · rw [if_pos a, if_pos (by omega)]
      · rw [if_neg a]
        by_cases e : j = 3 + p
        · subst e; rw [if_pos (by omega), plc_ge _ _ _ (by omega), Nat.add_sub_cancel_left, zu_s, zu_s]
        · rw [if_neg (by omega), zu_n _ _ _ e]
    · rw [ih]
      by_cases a : 3 ≤ j ∧ j < 3 + p
      · rw [if_pos a, if_pos (by omega)]
      · rw [if_neg a]
        by_cases e : j = 3 + p
        · subst e; rw [if_pos (by omega), plc_ge _ _ _ (by omega), Nat.add_sub_cancel_left]
        · rw [if_neg (by omega)]
theorem hmD_20 {w : Nat} : wld (hmD D x no n w) 20 = plc x no n w (D 20) := by
  have e : hmD D x no n w 20 = plc x no n w (D 20) := by unfold hmD; rw [zu_s]
  rw [← e]; rfl
theorem hm_eq {w : Nat} : eqW (wld D) (wld (hmD D x no n w)) := fun a h20 _ h26 => wld_row (hmD_n h20 h26)
theorem beg_plc {w t : Nat} (hn : n ≤ 8) : plcS x no n w (begS (wld D) s n t) = begS (wld (hmD D x no n w)) s n t := by
  funext j
  unfold begS
  rw [plcS_at, layN_20 (W2 := wld (hmD D x no n w)) (W := wld D) (hm_eq 18 (by decide) (by decide) (by decide)) n hn]
  by_cases a : 3 ≤ j ∧ j < 3 + n
  · rw [if_pos a, if_pos a, hmD_20]
    refine plc_at (b := D 20) (c := D 20) rfl _ _ _ _ ?_
    rw [(layN_v n (j - 3) (by omega) hn).1.1]
    rfl
  · rw [if_neg a, if_neg a]
theorem bc256 : ∀ X, X < 256 → bcI (nI X) = nI (cntB (fun p => zbit (nI X) (nI p)) 8) := by decide +kernel
theorem bc_cnt {X : Nat} (hX : X < 2 ^ n) (hn : n ≤ 8) : bcI (nI X) = nI (cntB (fun p => zbit (nI X) (nI p)) n) := by
  have h8 : X < 256 := Nat.lt_of_lt_of_le hX (Nat.pow_le_pow_right (by decide) hn)
  rw [bc256 X h8]
  have key : ∀ m, n + m ≤ 8 → cntB (fun p => zbit (nI X) (nI p)) (n + m) = cntB (fun p => zbit (nI X) (nI p)) n := by
    intro m
    induction m with
    | zero => exact fun _ => rfl
    | succ m ih =>
      intro h
      show cntB _ (n + m) + bI (zbit (nI X) (nI (n + m))) = _
      rw [ih (by omega), zbit_n X h8 (n + m) (by omega), Nat.testBit_lt_two_pow (Nat.lt_of_lt_of_le hX (Nat.pow_le_pow_right (by decide) (by omega)))]
      rfl
  have := key (8 - n) (by omega)
  rw [show n + (8 - n) = 8 by omega] at this
  rw [this]
def hmR2 (D : zI) (x : Int32) (no n w j : Nat) : List Int64 := ((List.range j).filter (fun p => zbit x (nI p))).map (fun p => (plc x no n w (D 20) p).toInt64)
theorem hmR2_s {w j : Nat} : hmR2 D x no n w (j + 1) = hmR2 D x no n w j ++ (if zbit x (nI j) = true then [(plc x no n w (D 20) j).toInt64] else []) := by
  unfold hmR2
  rw [List.range_succ, List.filter_append, List.map_append]
  congr 1
  by_cases h : zbit x (nI j) = true <;> simp [h]
theorem hmR2_len {w j : Nat} : (hmR2 D x no n w j).length ≤ j := by
  unfold hmR2
  rw [List.length_map]
  exact Nat.le_trans (List.length_filter_le _ _) (by simp)
theorem pow_b {c : Nat} (h6 : no ≤ 6) (hc : c ≤ 4) : no ^ c ≤ 1296 := by
  have a : no ^ c ≤ 6 ^ c := Nat.pow_le_pow_left h6 c
  have b : 6 ^ c ≤ 6 ^ 4 := Nat.pow_le_pow_right (by decide) hc
  exact Nat.le_trans a b
end PLC
set_option maxHeartbeats 4000000 in
theorem c_J11_bitCount {x : Int32} (k : Q (.inl (some (.int (bcI x)))) I L P S) : Zm G mJ11_bitCount 0 C Sl [.int x] I L P S Q := by
  refine Z_entry (lv := [_]) (Nat.le_of_ble_eq_true rfl) rfl ?_
  refine Z_iload_n dJ11_bitCount_0 rfl ?_
  refine Z_iload_n dJ11_bitCount_1 rfl ?_
  refine Z_iconst (nI 1) dJ11_bitCount_2 rfl ?_
  refine Z_iushr dJ11_bitCount_3 ?_
  refine Z_ldcw q1077 dJ11_bitCount_4 ?_
  refine Z_iand dJ11_bitCount_7 ?_
  refine Z_isub dJ11_bitCount_8 ?_
  refine Z_istore_n (lv' := [_]) dJ11_bitCount_9 rfl rfl (Nat.le_of_ble_eq_true rfl) ?_
  refine Z_iload_n dJ11_bitCount_10 rfl ?_
  refine Z_ldcw q1078 dJ11_bitCount_11 ?_
  refine Z_iand dJ11_bitCount_14 ?_
  refine Z_iload_n dJ11_bitCount_15 rfl ?_
  refine Z_iconst (nI 2) dJ11_bitCount_16 rfl ?_
  refine Z_iushr dJ11_bitCount_17 ?_
  refine Z_ldcw q1078 dJ11_bitCount_18 ?_
  refine Z_iand dJ11_bitCount_21 ?_
  refine Z_iadd dJ11_bitCount_22 ?_
  refine Z_istore_n (lv' := [_]) dJ11_bitCount_23 rfl rfl (Nat.le_of_ble_eq_true rfl) ?_
  refine Z_iload_n dJ11_bitCount_24 rfl ?_
  refine Z_iload_n dJ11_bitCount_25 rfl ?_
  refine Z_iconst (nI 4) dJ11_bitCount_26 rfl ?_
  refine Z_iushr dJ11_bitCount_27 ?_
  refine Z_iadd dJ11_bitCount_28 ?_
  refine Z_ldcw q1079 dJ11_bitCount_29 ?_
  refine Z_iand dJ11_bitCount_32 ?_
  refine Z_istore_n (lv' := [_]) dJ11_bitCount_33 rfl rfl (Nat.le_of_ble_eq_true rfl) ?_
  refine Z_iload_n dJ11_bitCount_34 rfl ?_
  refine Z_iload_n dJ11_bitCount_35 rfl ?_
  refine Z_bipush (nI 8) dJ11_bitCount_36 rfl ?_
  refine Z_iushr dJ11_bitCount_38 ?_
  refine Z_iadd dJ11_bitCount_39 ?_
  refine Z_istore_n (lv' := [_]) dJ11_bitCount_40 rfl rfl (Nat.le_of_ble_eq_true rfl) ?_
  refine Z_iload_n dJ11_bitCount_41 rfl ?_
  refine Z_iload_n dJ11_bitCount_42 rfl ?_
  refine Z_bipush (nI 16) dJ11_bitCount_43 rfl ?_
  refine Z_iushr dJ11_bitCount_45 ?_
  refine Z_iadd dJ11_bitCount_46 ?_
  refine Z_istore_n (lv' := [_]) dJ11_bitCount_47 rfl rfl (Nat.le_of_ble_eq_true rfl) ?_
  refine Z_iload_n dJ11_bitCount_48 rfl ?_
  refine Z_bipush (nI 63) dJ11_bitCount_49 rfl ?_
  refine Z_iand dJ11_bitCount_51 ?_
  refine Z_ireturn dJ11_bitCount_52 rfl rfl ?_
  exact k
set_option maxHeartbeats 4000000 in
theorem c_X1_place {w h : Nat} (e : hE W no n oh ph 220 240 I P S) (gs : sRw n I 270 s) (h0 : 0 < no) {x : Int32} {w0 : Nat} (hw0 : w0 < 2 ^ 31) (kk : ∀ I2, sRw n I2 270 (plcS x no n w0 s) → frS 270 I I2 → Q (.inl none) I2 L P S) (h200 : I 200 1 = nI no) : Zm G mX1_place 1 C Sl [.ref 100, .ref 270, .int x, .int (nI w0)] I L P S Q := by
  have hx := e.x
  have hn := e.nn
  have hn8 := e.hw.n8
  have h6 := e.hw.o6
  have hT := hx.2.2.2.2.2.2.2
  have hO := hx.2.2.2.2.1
  refine Z_entry (lv := [_, _, _, _, _, _]) (Nat.le_of_ble_eq_true rfl) rfl ?_
  refine Z_iload_n dX1_place_0 rfl ?_
  refine Z_istore (lv' := [_, _, _, _, _, _]) dX1_place_1 rfl rfl (Nat.le_of_ble_eq_true rfl) ?_
  refine Z_aload_n dX1_place_3 rfl ?_
  refine Z_getI hx.1 fX1_105_0 dX1_place_4 rfl ?_
  refine Z_re (y := nI (n)) hn ?_
  refine Z_iconst (nI 1) dX1_place_7 rfl ?_
  refine Z_isub dX1_place_8 ?_
  rw [show nI n - nI 1 = nI n + -1 from by rw [Int32.sub_eq_add_neg]; rfl]
  refine Z_istore (lv' := [_, _, _, _, _, _]) dX1_place_9 rfl rfl (Nat.le_of_ble_eq_true rfl) ?_
  have lp11 : ∀ i, i ≤ n → ∀ I2 w s2, sRw n I2 270 s2 → frS 270 I I2 → plcS x no (n - i) w s2 = plcS x no n w0 s → w < 2 ^ 31 → Zj G mX1_place 1 C Sl 11 [.ref 100, .ref 270, .int x, .int (nI w0), .int (nI w), .int (nI (n - i) + -1)] [] I2 L P S Q := by
    refine zloop (n) (fun i => ∀ I2 w s2, sRw n I2 270 s2 → frS 270 I I2 → plcS x no (n - i) w s2 = plcS x no n w0 s → w < 2 ^ 31 → Zj G mX1_place 1 C Sl 11 [.ref 100, .ref 270, .int x, .int (nI w0), .int (nI w), .int (nI (n - i) + -1)] [] I2 L P S Q) (fun i hi ih => ?_)
    intro I2 w s2 g1 g2 g3 g4
    show Zj _ _ _ _ _ _ _ _ _ _ _ _ _
    refine Z_iload dX1_place_11 rfl ?_
    refine Z_iflt 63 dX1_place_13 rfl (fun c13 => ?_) (fun c13 => ?_)
    · have hz : n - i = 0 := by
        refine Decidable.byContradiction fun hc => ?_
        obtain ⟨q, hq⟩ : ∃ q, n - i = q + 1 := ⟨n - i - 1, by omega⟩
        rw [hq, pk_m1] at c13
        exact nI_pos (by omega) c13
      rw [hz] at g3
      refine Z_return dX1_place_63 rfl ?_
      exact kk _ (by rw [← g3]; exact g1) g2
    · obtain ⟨q, hq⟩ : ∃ q, n - i = q + 1 := by
        refine ⟨n - i - 1, ?_⟩
        have : n - i ≠ 0 := fun e => by rw [e] at c13; exact absurd (by decide) c13
        omega
      rw [hq, pk_m1]
      have hqn : q < 8 := by omega
      rw [hq, plcS] at g3
      have eq9 : n - (i + 1) = q := by omega
      refine Z_iload_n dX1_place_16 rfl ?_
      refine Z_iload dX1_place_17 rfl ?_
      refine Z_callS0 (d' := 0) (zCal_S gX1_287 nX1_has (by decide) dX1_place_19) pX1_has [_, _] rfl rfl (Nat.le_of_ble_eq_true rfl) (by omega) (c_X1_has (fun h19 => ?_) (fun h19 => ?_))
      · refine Z_ifne 28 dX1_place_22 rfl (fun _ => ?_) (fun h => absurd h (by decide))
        refine Z_aload_n dX1_place_28 rfl ?_
        refine Z_getR (r := (270 + 4)) hT.1 fX1_7_2 dX1_place_29 rfl (hT.2.1 4 _ rfl).2 ?_
        refine Z_iload dX1_place_32 rfl ?_
        refine Z_iload dX1_place_34 rfl ?_
        refine Z_aload_n dX1_place_36 rfl ?_
        refine Z_getR (r := 200) hx.1 fX1_52_0 dX1_place_37 rfl hx.2.2.2.1.1 ?_
        refine Z_getI hO.1 fX1_19_1 dX1_place_40 rfl ?_
        refine Z_re (y := nI (no)) ((congrFun (g2 200 (by decide)) 1).trans h200) ?_
        refine Z_iremN dX1_place_43 (by omega) (by omega) (by omega) ?_
        refine Z_iast (hT.2.1 4 _ rfl).1 (zix_nI (by first | omega | (dsimp only; omega)) (by decide)) dX1_place_44 ?_
        refine Z_iload dX1_place_45 rfl ?_
        refine Z_aload_n dX1_place_47 rfl ?_
        refine Z_getR (r := 200) hx.1 fX1_52_0 dX1_place_48 rfl hx.2.2.2.1.1 ?_
        refine Z_getI hO.1 fX1_19_1 dX1_place_51 rfl ?_
        refine Z_re (y := nI (no)) ((congrFun (zw_n _ _ _ _ (by decide)) 1).trans ((congrFun (g2 200 (by decide)) 1).trans h200)) ?_
        refine Z_idivN dX1_place_54 (by omega) (by omega) (by omega) ?_
        refine Z_istore (lv' := [_, _, _, _, _, _]) dX1_place_55 rfl rfl (Nat.le_of_ble_eq_true rfl) ?_
        refine Z_iinc (lv' := [_, _, _, _, _, _]) dX1_place_57 rfl rfl rfl ?_
        refine Z_goto 11 dX1_place_60 rfl ?_
        rw [if_pos h19] at g3
        have ih2 := ih (by omega) _ (w / no) _ (g1.put hn8 (k := 4) (p := q) (v := nI (w % no)) (by decide) (by decide) (by omega)) (g2.st (by decide)) (by rw [eq9]; exact g3) (Nat.lt_of_le_of_lt (Nat.div_le_self _ _) g4)
        rw [eq9] at ih2
        exact Z_fgt ih2 (by repeat first | exact zwk_n | refine zwk_f ?_ | refine zwk_c rfl ?_)
      · refine Z_ifne 28 dX1_place_22 rfl (fun h => absurd h (by decide)) (fun _ => ?_)
        refine Z_goto 57 dX1_place_25 rfl ?_
        refine Z_iinc (lv' := [_, _, _, _, _, _]) dX1_place_57 rfl rfl rfl ?_
        refine Z_goto 11 dX1_place_60 rfl ?_
        rw [if_neg (by simp [h19])] at g3
        have ih2 := ih (by omega) _ w _ g1 g2 (by rw [eq9]; exact g3) g4
        rw [eq9] at ih2
        exact Z_fgt ih2 (by repeat first | exact zwk_n | refine zwk_f ?_ | refine zwk_c rfl ?_)
  exact lp11 0 (by omega) I w0 s gs (fun _ _ => rfl) rfl hw0
theorem hE.s70 {I2 : zI} {h : Nat} (e : hE W no n oh ph 220 h I P S) (f : frS 270 I I2) : hE W no n oh ph 220 240 I2 P S := by
  have e2 : hE W no n oh ph 220 240 I P S := ⟨e.1, e.2.1, ⟨e.x.2.2.2.2.2.2.1, e.pc⟩, e.2.2.2.1, ⟨by decide, by decide, e.b.2.2.1, e.b.2.2.2⟩, e.2.2.2.2.2⟩
  have e7 := e2.s270.fr (fH.of f) (f3.rf (f := P))
  exact ⟨e7.1, e7.2.1, ⟨e7.x.2.2.2.2.2.2.1, e7.pc⟩, e7.2.2.2.1, ⟨by decide, by decide, e.b.2.2.1, e.b.2.2.2⟩, e7.2.2.2.2.2⟩
theorem hE.s70b {I2 : zI} {h : Nat} (e : hE W no n oh ph 220 h I P S) (f : frS 270 I I2) : hE W no n oh ph 220 270 I2 P S := (e.s70 f).s270
theorem hE.s70f {I2 : zI} {P2 : zR} (e : hE W no n oh ph 220 240 I P S) (f : fH 270 I I2) (f2 : f3 P P2) : hE W no n oh ph 220 240 I2 P2 S := by
  have e7 := e.s270.fr f f2
  exact ⟨e7.1, e7.2.1, ⟨e7.x.2.2.2.2.2.2.1, e7.pc⟩, e7.2.2.2.1, ⟨by decide, by decide, e.b.2.2.1, e.b.2.2.2⟩, e7.2.2.2.2.2⟩
set_option maxHeartbeats 16000000 in
theorem o_xhomes (hX : xR D R no n np ro oh ph I L P S) (hi9 : ∀ j, 127 ≤ j → D 23 j = 0) {x h : Int32} (k : ∀ I2 L2 P2 S2, xR (fHomes D R no n x h).2.1 (fHomes D R no n x h).2.2 no n np ro oh ph I2 L2 P2 S2 → frX I L P S I2 L2 P2 S2 → Q (.inl (some (.int (fHomes D R no n x h).1))) I2 L2 P2 S2) : Zm G mX1_homes 104 C Sl [.ref 100, .int x, .int h] I L P S Q := by
  obtain ⟨e, ⟨g, hro⟩, ⟨⟨h29, h50⟩, hrw⟩, ⟨htx, hpr, hkp⟩, htl, hoh, hph⟩ := hX
  have hX : xR D R no n np ro oh ph I L P S := ⟨e, ⟨g, hro⟩, ⟨⟨h29, h50⟩, hrw⟩, ⟨htx, hpr, hkp⟩, htl, hoh, hph⟩
  have hx := e.x
  have hO := e.wd
  have hR := e.wr
  have hT := e.st
  have hPc := e.pc
  have hw := e.hw
  have hf := e.hx
  have hb := e.b
  have hn := e.nn
  have n8 := hw.n8
  have h6 := hw.o6
  have hn8 := hw.n8
  have hno : noD D = no := by rw [noD, show D 0 3 = nI no from hw.o3, nI_clamp (by omega)]
  have hnn : nD D = n := by rw [nD, show D 0 16 = nI n from hw.n16, nI_clamp (by omega)]
  obtain ⟨-, -, -, -, ⟨-, -, hN⟩, -⟩ := id hX
  have hM := hR.1
  refine Z_entry (lv := [_, _, _, _, _, _, _, _, _, _]) (Nat.le_of_ble_eq_true rfl) rfl ?_
  refine Z_iload_n dX1_homes_0 rfl ?_
  refine Z_iconst (nI 1) dX1_homes_1 rfl ?_
  refine Z_iconst (nI 1) dX1_homes_2 rfl ?_
  refine Z_aload_n dX1_homes_3 rfl ?_
  refine Z_getI hx.1 fX1_105_0 dX1_homes_4 rfl ?_
  refine Z_re (y := nI (n)) hn ?_
  refine Z_ishl dX1_homes_7 ?_
  refine Z_iconst (nI 1) dX1_homes_8 rfl ?_
  refine Z_isub dX1_homes_9 ?_
  refine Z_callS0 (d' := 0) (zCal_S gX1_3 nX1_in (by decide) dX1_homes_10) pX1_in [_, _, _] rfl rfl (Nat.le_of_ble_eq_true rfl) (by omega) (c_X1_in (fun h10a h10b => ?_) (fun h10 => ?_))
  · have r10 : rB x 1 ((nI 1 <<< (D 0 16 &&& 31)) - nI 1).toInt = true := rB_t h10a (by rw [show D 0 16 = nI n from hw.n16]; exact h10b)
    rw [shl1 (by omega)] at h10b
    have h10c : (1 : Int) ≤ x.toInt := h10a
    have p9 := p2_lt (k := n) (by omega)
    have p0 : 0 < 2 ^ n := Nat.two_pow_pos n
    rw [nI_s1 (by omega)] at h10b
    obtain ⟨X, hX9, eX⟩ := z_rng (n := 2 ^ n - 1) (x := x) (by omega) (by omega) (by omega)
    have hX2 : X < 2 ^ n := by omega
    have hX1 : 1 ≤ X := by rw [eX, z_ti (by omega)] at h10c; omega
    have hn1 : 0 < n := by
      refine Nat.pos_of_ne_zero fun e => ?_
      subst e
      omega
    have h0 : 0 < no := by obtain ⟨k, hk, -⟩ := hw.born hn1; omega
    obtain ⟨cc, ecc⟩ : ∃ cc, cc = cntB (fun p => zbit x (nI p)) n := ⟨_, rfl⟩
    have hbc : bcI x = nI cc := by rw [ecc, eX]; exact bc_cnt hX2 hn8
    have hc8 : cc ≤ 8 := by rw [ecc]; exact Nat.le_trans (cntB_le _ _) hn8
    refine Z_ifeq 31 dX1_homes_13 rfl (fun h => absurd h (by decide)) (fun _ => ?_)
    refine Z_iload_n dX1_homes_16 rfl ?_
    refine Z_callS0 (d' := 0) (zCal_S gX1_340 nJ11_bitCount (by decide) dX1_homes_17) pJ11_bitCount [_] rfl rfl (Nat.le_of_ble_eq_true rfl) (by omega) (c_J11_bitCount ?_)
    refine Z_iconst (nI 4) dX1_homes_20 rfl ?_
    refine Z_icmpgt 31 dX1_homes_21 rfl (fun c21 => ?_) (fun c21 => ?_)
    · have c21 := Int32.not_le.mpr c21
      refine Z_iconst (-1) dX1_homes_31 rfl ?_
      refine Z_ireturn dX1_homes_32 rfl rfl ?_
      exact xO_k (D2 := D) (R2 := R) (by simp [fHomes, r10, c21, -Int32.toInt_sub]) k hX frX.rf
    · have c21 := Int32.not_lt.mp c21
      have hc4 : cc ≤ 4 := by rw [hbc] at c21; exact (nI_leq (by omega) (by decide)).mp c21
      have hpw := pow_b (no := no) h6 hc4
      refine Z_iload_n dX1_homes_24 rfl ?_
      refine Z_callS0 (d' := 1) (zCal_S gX1_124 nX1_isHour (by decide) dX1_homes_25) pX1_isHour [_] rfl rfl (Nat.le_of_ble_eq_true rfl) (by omega) (c_X1_isHour (fun h25a h25b => ?_) (fun h25 => ?_))
      · have r25 : rB h 0 2399 = true := rB_t h25a h25b
        obtain ⟨k25, hk25, e25⟩ := z_rng (n := 2399) h25a h25b (by omega)
        subst e25
        have v25 : (nI k25).toNatClampNeg = k25 := nI_clamp (by omega)
        refine Z_ifne 33 dX1_homes_28 rfl (fun _ => ?_) (fun h => absurd h (by decide))
        refine Z_aload_n dX1_homes_33 rfl ?_
        refine Z_getR (r := 220) hx.1 fX1_56_0 dX1_homes_34 rfl hx.2.2.2.1.2.1 ?_
        refine Z_aload_n dX1_homes_37 rfl ?_
        refine Z_getR (r := 200) hx.1 fX1_52_0 dX1_homes_38 rfl hx.2.2.2.1.1 ?_
        refine Z_call0 (d' := 1) (zCal_V gX1_346 nX2_as (by decide) dX1_homes_41) pX2_as hx.2.2.2.2.2.1.1 zkl1 [_] rfl rfl (Nat.le_of_ble_eq_true rfl) (by omega) (c_X2_asB hO hx.2.2.2.2.2.1 hR htl.1.1 h6 e.ho (by decide) (by decide) (fun Ia Pa q1 q2 q3 q4 q5 q6 q7 q8 => ?_))
        refine Z_astore_n (lv' := [_, _, _, _, _, _, _, _, _, _]) dX1_homes_44 rfl rfl (Nat.le_of_ble_eq_true rfl) ?_
        refine Z_aload_n dX1_homes_45 rfl ?_
        refine Z_null dX1_homes_46 ?_
        refine Z_putN hx.2.2.2.2.2.1.1 fX1_13_1 dX1_homes_47 rfl ?_
        obtain ⟨P1, eP1⟩ : ∃ P1, P1 = zw Pa 220 5 none := ⟨_, rfl⟩
        rw [← eP1]
        have q1b : wdO S P1 220 := by rw [eP1]; exact q1.w (by rw [zw_a, zu_n _ _ _ (by decide)]) (by rw [zw_a, zu_n _ _ _ (by decide)]) (zw_n _ _ _ _ (by decide))
        have q2b : wRw S P1 Ia 220 (wld D) no oh := by
          obtain ⟨w1, w2, w3⟩ := q2
          refine ⟨w1, w2, fun o ho => ?_⟩
          obtain ⟨x1, x2, x3⟩ := w3 o ho
          have := e.ho o ho
          exact ⟨by rw [eP1, zw_n _ _ _ _ (by decide)]; exact x1, x2.o rfl rfl (by rw [eP1, zw_n _ _ _ _ (by omega)]), x3⟩
        have q6b : fW 220 P P1 := by rw [eP1]; exact q6.st (by omega)
        have eB := e.oth (W2 := wld D) q1b q2b q5 q6b hw hf hPc
        have hroB1 : P1 220 5 = none := by rw [eP1, zw_s]
        have FB : fX I L P S Ia L P1 S := (fX.rf hN).w q5 q6b (fun j hj => by rw [eP1, zw_a, zu_n _ _ _ hj]; exact q7 j hj) (by rw [eP1, zw_n _ _ _ _ (by decide)]; exact q8)
        have hx := eB.x
        have h2001 : Ia 200 1 = nI no := (congrFun (q5 200 (by omega)) 1).trans hR.1.1
        refine Z_iconst (nI 1) dX1_homes_50 rfl ?_
        refine Z_istore (lv' := [_, _, _, _, _, _, _, _, _, _]) dX1_homes_51 rfl rfl (Nat.le_of_ble_eq_true rfl) ?_
        refine Z_iconst (nI 0) dX1_homes_53 rfl ?_
        refine Z_istore (lv' := [_, _, _, _, _, _, _, _, _, _]) dX1_homes_54 rfl rfl (Nat.le_of_ble_eq_true rfl) ?_
        have lp56 : ∀ i, i ≤ cc → Zj G mX1_homes 104 C Sl 56 [.ref 100, .int x, .int (nI k25), .ref 220, .int (nI (no ^ i)), .int (nI i), .retAddr 0, .retAddr 0, .retAddr 0, .retAddr 0] [] Ia L P1 S Q := by
          refine zloop (cc) (fun i => Zj G mX1_homes 104 C Sl 56 [.ref 100, .int x, .int (nI k25), .ref 220, .int (nI (no ^ i)), .int (nI i), .retAddr 0, .retAddr 0, .retAddr 0, .retAddr 0] [] Ia L P1 S Q) (fun i hi ih => ?_)
          show Zj _ _ _ _ _ _ _ _ _ _ _ _ _
          refine Z_iload dX1_homes_56 rfl ?_
          refine Z_iload_n dX1_homes_58 rfl ?_
          refine Z_callS0 (d' := 0) (zCal_S gX1_340 nJ11_bitCount (by decide) dX1_homes_59) pJ11_bitCount [_] rfl rfl (Nat.le_of_ble_eq_true rfl) (by omega) (c_J11_bitCount ?_)
          refine Z_re (y := nI cc) hbc ?_
          refine Z_icmpgeN 80 dX1_homes_62 rfl (by omega) (by omega) (fun c62 => ?_) (fun c62 => ?_)
          · have ei : i = cc := by omega
            rw [ei]
            refine Z_bipush (-2) dX1_homes_80 rfl ?_
            refine Z_istore (lv' := [_, _, _, _, _, _, _, _, _, _]) dX1_homes_82 rfl rfl (Nat.le_of_ble_eq_true rfl) ?_
            refine Z_iconst (nI 0) dX1_homes_84 rfl ?_
            refine Z_istore (lv' := [_, _, _, _, _, _, _, _, _, _]) dX1_homes_85 rfl rfl (Nat.le_of_ble_eq_true rfl) ?_
            refine Z_iconst (nI 0) dX1_homes_87 rfl ?_
            refine Z_istore (lv' := [_, _, _, _, _, _, _, _, _, _]) dX1_homes_88 rfl rfl (Nat.le_of_ble_eq_true rfl) ?_
            have lp90 : ∀ q, q ≤ no ^ cc → ∀ I2 P2, fH 270 Ia I2 → f3 P1 P2 → Zj G mX1_homes 104 C Sl 90 [.ref 100, .int x, .int (nI k25), .ref 220, .int (nI (no ^ cc)), .int (xlB (minF (fun w => endO (hmE D x no n k25 w)) q)), .int (xlS (minF (fun w => endO (hmE D x no n k25 w)) q)), .int (nI q), .retAddr 0, .retAddr 0] [] I2 L P2 S Q := by
              refine zloop (no ^ cc) (fun q => ∀ I2 P2, fH 270 Ia I2 → f3 P1 P2 → Zj G mX1_homes 104 C Sl 90 [.ref 100, .int x, .int (nI k25), .ref 220, .int (nI (no ^ cc)), .int (xlB (minF (fun w => endO (hmE D x no n k25 w)) q)), .int (xlS (minF (fun w => endO (hmE D x no n k25 w)) q)), .int (nI q), .retAddr 0, .retAddr 0] [] I2 L P2 S Q) (fun q hq ih => ?_)
              intro I2 P2 g1 g2
              show Zj _ _ _ _ _ _ _ _ _ _ _ _ _
              have e2 := eB.s70f g1 g2
              have hx := e2.x
              have hO2 := e2.wd
              have hroB : P2 220 5 = none := (congrFun (g2 220 (by decide)) 5).trans hroB1
              have h2001 : I2 200 1 = nI no := (congrFun (g1 200 (by decide) (by decide)) 1).trans h2001
              refine Z_iload dX1_homes_90 rfl ?_
              refine Z_iload dX1_homes_92 rfl ?_
              refine Z_icmpgeN 158 dX1_homes_94 rfl (by omega) (by omega) (fun c94 => ?_) (fun c94 => ?_)
              · have eq1 : q = no ^ cc := by omega
                obtain ⟨m0, hm⟩ : ∃ m0, minF (fun w => endO (hmE D x no n k25 w)) q = m0 := ⟨_, rfl⟩
                rw [hm]
                rcases m0 with _ | b
                · dsimp only [xlB, xlS]
                  refine Z_iload dX1_homes_158 rfl ?_
                  refine Z_ifge 166 dX1_homes_160 rfl (fun c160 => ?_) (fun c160 => ?_)
                  · exact absurd c160 (by decide)
                  · refine Z_bipush (-2) dX1_homes_163 rfl ?_
                    refine Z_ireturn dX1_homes_165 rfl rfl ?_
                    exact xO_k (D2 := D) (R2 := R) (by rw [fHomes, if_pos (by rw [r10, decide_eq_true c21, r25]; rfl), v25, ← ecc, ← eq1, hm]) k (hX.go (FB.fH g1 g2) (hrw.fX (by rw [g1 100 (by decide) (by decide), q5 100 (by omega)]) rfl)) (FB.fH g1 g2).frX
                · dsimp only [xlB, xlS]
                  have hb1 := minF_mem _ _ hm
                  have hb2 := hmE_b hw h0 hi9 (by omega) hb1.2
                  refine Z_iload dX1_homes_158 rfl ?_
                  refine Z_ifgeN 166 dX1_homes_160 rfl (by omega) ?_
                  refine Z_aload_n dX1_homes_166 rfl ?_
                  refine Z_getR (r := 270) hx.1 fX1_66_0 dX1_homes_167 rfl hx.2.2.2.1.2.2.2.1 ?_
                  refine Z_iload_n dX1_homes_170 rfl ?_
                  refine Z_call0 (d' := 1) (zCal_V gX1_221 nX3_begin (by decide) dX1_homes_171) pX3_begin hx.2.2.2.2.2.2.2.1 zkl2 [_] rfl rfl (Nat.le_of_ble_eq_true rfl) (by omega) (c_X3_begin hx hx.2.2.2.2.2.2.2 e2.nn hn8 e2.pc (by omega) e2.hp (fun I3 gB fI => ?_))
                  have eA : hE (wld D) no n oh ph 220 240 I3 P2 S := e2.s70 fI
                  refine Z_astore (lv' := [_, _, _, _, _, _, _, _, _, _]) dX1_homes_174 rfl rfl (Nat.le_of_ble_eq_true rfl) ?_
                  refine Z_aload_n dX1_homes_176 rfl ?_
                  refine Z_aload dX1_homes_177 rfl ?_
                  refine Z_iload_n dX1_homes_179 rfl ?_
                  refine Z_iload dX1_homes_180 rfl ?_
                  refine Z_call0 (d' := 1) (zCal_V gX1_349 nX1_place (by decide) dX1_homes_182) pX1_place hx.1 zkl0 [_, _, _] rfl rfl (Nat.le_of_ble_eq_true rfl) (by omega) (c_X1_place (w := 0) (h := 0) eA (gB (D 23)) h0 (w0 := b.1) (by omega) (fun I4 gC fI2 => ?_) ((congrFun (fI 200 (by decide)) 1).trans h2001))
                  rw [beg_plc hn8] at gC
                  have FC : fX I L P S I4 L P2 S := (FB.fH g1 g2).fH ((fH.of (fI.tr fI2))) (f3.rf (f := P2))
                  have e100 : I4 100 = I 100 := (fI2 100 (by decide)).trans ((fI 100 (by decide)).trans ((g1 100 (by decide) (by decide)).trans (q5 100 (by omega))))
                  refine Z_aload_n dX1_homes_185 rfl ?_
                  refine Z_iconst (nI 0) dX1_homes_186 rfl ?_
                  refine Z_putI hx.1 fX1_94_0 dX1_homes_187 rfl rfl rfl ?_
                  refine Z_iconst (nI 0) dX1_homes_190 rfl ?_
                  refine Z_istore (lv' := [_, _, _, _, _, _, _, _, _, _]) dX1_homes_191 rfl rfl (Nat.le_of_ble_eq_true rfl) ?_
                  have lp193 : ∀ r, r ≤ n → ∀ I7 L7, rwX I7 L7 (hmR2 D x no n b.1 r) → fR I4 L I7 L7 → Zj G mX1_homes 104 C Sl 193 [.ref 100, .int x, .int (nI k25), .ref 220, .int (nI (no ^ cc)), .int (nI b.1), .int (nI b.2), .ref 270, .int (nI r), .retAddr 0] [] I7 L7 P2 S Q := by
                    refine zloop (n) (fun r => ∀ I7 L7, rwX I7 L7 (hmR2 D x no n b.1 r) → fR I4 L I7 L7 → Zj G mX1_homes 104 C Sl 193 [.ref 100, .int x, .int (nI k25), .ref 220, .int (nI (no ^ cc)), .int (nI b.1), .int (nI b.2), .ref 270, .int (nI r), .retAddr 0] [] I7 L7 P2 S Q) (fun r hr ihr => ?_)
                    intro I7 L7 y1 y2
                    show Zj _ _ _ _ _ _ _ _ _ _ _ _ _
                    have bplc : ∀ r, r < n → begS (wld (hmD D x no n b.1)) (D 23) n k25 (sBs 4 + r) = plc x no n b.1 (D 20) r := fun r hr => by
                      show begS _ _ _ _ (3 + r) = _
                      unfold begS
                      rw [(layN_v n r hr hn8).1.1, hmD_20]
                    refine Z_iload dX1_homes_193 rfl ?_
                    refine Z_aload_n dX1_homes_195 rfl ?_
                    refine Z_getI hx.1 fX1_105_0 dX1_homes_196 rfl ?_
                    refine Z_re (y := nI (n)) ((y2.2.1 1 (by decide)).trans ((congrFun e100 1).trans hn)) ?_
                    refine Z_icmpgeN 230 dX1_homes_199 rfl (by omega) (by omega) (fun c199 => ?_) (fun c199 => ?_)
                    · have er : r = n := by omega
                      rw [er] at y1
                      refine Z_iload dX1_homes_230 rfl ?_
                      refine Z_ireturn dX1_homes_232 rfl rfl ?_
                      exact xO_k (D2 := D) (R2 := hmR D x no n b.1) (by rw [fHomes, if_pos (by rw [r10, decide_eq_true c21, r25]; rfl), v25, ← ecc, ← eq1, hm]) k (hX.go (FC.fR y2) y1) (FC.fR y2).frX
                    · refine Z_iload_n dX1_homes_202 rfl ?_
                      refine Z_iload dX1_homes_203 rfl ?_
                      refine Z_callS0 (d' := 0) (zCal_S gX1_287 nX1_has (by decide) dX1_homes_205) pX1_has [_, _] rfl rfl (Nat.le_of_ble_eq_true rfl) (by omega) (c_X1_has (fun h205 => ?_) (fun h205 => ?_))
                      · refine Z_ifeq 224 dX1_homes_208 rfl (fun h => absurd h (by decide)) (fun _ => ?_)
                        refine Z_aload_n dX1_homes_211 rfl ?_
                        refine Z_aload dX1_homes_212 rfl ?_
                        refine Z_getR (r := (270 + 4)) hx.2.2.2.2.2.2.2.1 fX1_7_2 dX1_homes_214 rfl (hx.2.2.2.2.2.2.2.2.1 4 _ rfl).2 ?_
                        refine Z_iload dX1_homes_217 rfl ?_
                        refine Z_iald (hx.2.2.2.2.2.2.2.2.1 4 _ rfl).1 (zix_nI (by first | omega | (dsimp only; omega)) (by decide)) dX1_homes_219 ?_
                        refine Z_re (y := plc x no n b.1 (D 20) r) (((congrFun (y2.1 274 (by decide)) r).trans (gC.f (k := 4) (by decide) (by decide) (by omega))).trans (bplc r (by omega))) ?_
                        refine Z_i2l dX1_homes_220 ?_
                        refine Z_call0 (d' := 0) (zCal_V gX1_101 nX1_tell (by decide) dX1_homes_221) pX1_tell hx.1 zkl0 [_] rfl rfl (Nat.le_of_ble_eq_true rfl) (by omega) (c_X1_tell hx y1 (by have := hmR2_len (D := D) (x := x) (no := no) (n := n) (w := b.1) (j := r); omega) (fun J9 M9 u9 v9 => ?_))
                        refine Z_iincN (a := _) (k := 1) (lv' := [_, _, _, _, _, _, _, _, _, _]) dX1_homes_224 rfl rfl rfl rfl ?_
                        refine Z_goto 193 dX1_homes_227 rfl ?_
                        exact ihr (by omega) _ _ (by rw [hmR2_s, if_pos h205]; exact u9) (y2.tr v9)
                      · refine Z_ifeq 224 dX1_homes_208 rfl (fun _ => ?_) (fun h => absurd h (by decide))
                        refine Z_iincN (a := _) (k := 1) (lv' := [_, _, _, _, _, _, _, _, _, _]) dX1_homes_224 rfl rfl rfl rfl ?_
                        refine Z_goto 193 dX1_homes_227 rfl ?_
                        exact ihr (by omega) _ _ (by rw [hmR2_s, if_neg (by simp [h205]), List.append_nil]; exact y1) y2
                  exact Z_fgt (lp193 0 (by omega) _ _ (rwX.z (I := I4) (L := L)) (fR.rf.z)) (by repeat first | exact zwk_n | refine zwk_f ?_ | refine zwk_c rfl ?_)
              · refine Z_aload_n dX1_homes_97 rfl ?_
                refine Z_getR (r := 270) hx.1 fX1_66_0 dX1_homes_98 rfl hx.2.2.2.1.2.2.2.1 ?_
                refine Z_iload_n dX1_homes_101 rfl ?_
                refine Z_call0 (d' := 1) (zCal_V gX1_221 nX3_begin (by decide) dX1_homes_102) pX3_begin hx.2.2.2.2.2.2.2.1 zkl2 [_] rfl rfl (Nat.le_of_ble_eq_true rfl) (by omega) (c_X3_begin hx hx.2.2.2.2.2.2.2 e2.nn hn8 e2.pc (by omega) e2.hp (fun I3 gB fI => ?_))
                have eA : hE (wld D) no n oh ph 220 240 I3 P2 S := e2.s70 fI
                refine Z_astore (lv' := [_, _, _, _, _, _, _, _, _, _]) dX1_homes_105 rfl rfl (Nat.le_of_ble_eq_true rfl) ?_
                refine Z_aload_n dX1_homes_107 rfl ?_
                refine Z_aload dX1_homes_108 rfl ?_
                refine Z_iload_n dX1_homes_110 rfl ?_
                refine Z_iload dX1_homes_111 rfl ?_
                refine Z_call0 (d' := 1) (zCal_V gX1_349 nX1_place (by decide) dX1_homes_113) pX1_place hx.1 zkl0 [_, _, _] rfl rfl (Nat.le_of_ble_eq_true rfl) (by omega) (c_X1_place (w := 0) (h := 0) eA (gB (D 23)) h0 (w0 := q) (by omega) (fun I4 gC fI2 => ?_) ((congrFun (fI 200 (by decide)) 1).trans h2001))
                rw [beg_plc hn8] at gC
                refine Z_aload dX1_homes_116 rfl ?_
                refine Z_aload_n dX1_homes_118 rfl ?_
                refine Z_call0 (d' := 103) (zCal_V gX1_268 nX3_end (by decide) dX1_homes_119) pX3_end hx.2.2.2.2.2.2.2.1 zkl2 [_] rfl rfl (Nat.le_of_ble_eq_true rfl) (by omega) (c_X3_end (ro := none) (eA.s70b fI2) gC hroB (sf_eq (sf_begS (hm_wf (x := x) (w := q) hw h0) hi9 (by omega)) (hm_eq 0 (by decide) (by decide) (by decide)).symm (hm_eq 21 (by decide) (by decide) (by decide)).symm) (hk_beg hn8) (by decide) (fun e => absurd rfl e) (fun s1 t1 I5 P5 a1 a2 a3 b4 b5 b6 a4 a5 => ?_) (fun a1 I5 P5 a4 a5 => ?_))
                · refine Z_istore (lv' := [_, _, _, _, _, _, _, _, _, _]) dX1_homes_122 rfl rfl (Nat.le_of_ble_eq_true rfl) ?_
                  refine Z_iload dX1_homes_124 rfl ?_
                  refine Z_ifltN 152 dX1_homes_126 rfl (by omega) ?_
                  obtain ⟨m0, hm⟩ : ∃ m0, minF (fun w => endO (hmE D x no n k25 w)) q = m0 := ⟨_, rfl⟩
                  rw [hm]
                  rcases m0 with _ | b
                  · dsimp only [xlB, xlS]
                    refine Z_iload dX1_homes_129 rfl ?_
                    refine Z_iflt 144 dX1_homes_131 rfl (fun c131 => ?_) (fun c131 => ?_)
                    · refine Z_iload dX1_homes_144 rfl ?_
                      refine Z_istore (lv' := [_, _, _, _, _, _, _, _, _, _]) dX1_homes_146 rfl rfl (Nat.le_of_ble_eq_true rfl) ?_
                      refine Z_iload dX1_homes_148 rfl ?_
                      refine Z_istore (lv' := [_, _, _, _, _, _, _, _, _, _]) dX1_homes_150 rfl rfl (Nat.le_of_ble_eq_true rfl) ?_
                      refine Z_iincN (a := _) (k := 1) (lv' := [_, _, _, _, _, _, _, _, _, _]) dX1_homes_152 rfl rfl rfl rfl ?_
                      refine Z_goto 90 dX1_homes_155 rfl ?_
                      rw [← pEnd_c (hm_eq (D := D) (x := x) (no := no) (n := n) (w := q))] at a1
                      have ev : endO (hmE D x no n k25 q) = some t1 := by rw [hmE]; (try dsimp only); rw [a1]; show some (s1 0).toNatClampNeg = _; rw [a2, nI_clamp (by omega)]
                      have e9 : minF (fun w => endO (hmE D x no n k25 w)) (q + 1) = some (q, t1) := by simp [minF, ev, hm]
                      have ih2 := ih (by omega) _ _ ((g1.tr (fH.of (fI.tr fI2))).tr a4) (g2.tr a5)
                      rw [e9] at ih2
                      exact Z_fgt ih2 (by repeat first | exact zwk_n | refine zwk_f ?_ | refine zwk_c rfl ?_)
                    · exact absurd (by decide) c131
                  · dsimp only [xlB, xlS]
                    have hb1 := minF_mem _ _ hm
                    have hb2 := hmE_b hw h0 hi9 (by omega) hb1.2
                    refine Z_iload dX1_homes_129 rfl ?_
                    refine Z_ifltN 144 dX1_homes_131 rfl (by omega) ?_
                    refine Z_iload dX1_homes_134 rfl ?_
                    refine Z_iload dX1_homes_136 rfl ?_
                    refine Z_icmpltN 144 dX1_homes_138 rfl (by omega) (by omega) (fun c138 => ?_) (fun c138 => ?_)
                    · refine Z_iload dX1_homes_144 rfl ?_
                      refine Z_istore (lv' := [_, _, _, _, _, _, _, _, _, _]) dX1_homes_146 rfl rfl (Nat.le_of_ble_eq_true rfl) ?_
                      refine Z_iload dX1_homes_148 rfl ?_
                      refine Z_istore (lv' := [_, _, _, _, _, _, _, _, _, _]) dX1_homes_150 rfl rfl (Nat.le_of_ble_eq_true rfl) ?_
                      refine Z_iincN (a := _) (k := 1) (lv' := [_, _, _, _, _, _, _, _, _, _]) dX1_homes_152 rfl rfl rfl rfl ?_
                      refine Z_goto 90 dX1_homes_155 rfl ?_
                      rw [← pEnd_c (hm_eq (D := D) (x := x) (no := no) (n := n) (w := q))] at a1
                      have ev : endO (hmE D x no n k25 q) = some t1 := by rw [hmE]; (try dsimp only); rw [a1]; show some (s1 0).toNatClampNeg = _; rw [a2, nI_clamp (by omega)]
                      have e9 : minF (fun w => endO (hmE D x no n k25 w)) (q + 1) = some (q, t1) := by simp [minF, ev, hm, Nat.not_le.mpr c138]
                      have ih2 := ih (by omega) _ _ ((g1.tr (fH.of (fI.tr fI2))).tr a4) (g2.tr a5)
                      rw [e9] at ih2
                      exact Z_fgt ih2 (by repeat first | exact zwk_n | refine zwk_f ?_ | refine zwk_c rfl ?_)
                    · refine Z_goto 152 dX1_homes_141 rfl ?_
                      refine Z_iincN (a := _) (k := 1) (lv' := [_, _, _, _, _, _, _, _, _, _]) dX1_homes_152 rfl rfl rfl rfl ?_
                      refine Z_goto 90 dX1_homes_155 rfl ?_
                      rw [← pEnd_c (hm_eq (D := D) (x := x) (no := no) (n := n) (w := q))] at a1
                      have ev : endO (hmE D x no n k25 q) = some t1 := by rw [hmE]; (try dsimp only); rw [a1]; show some (s1 0).toNatClampNeg = _; rw [a2, nI_clamp (by omega)]
                      have e9 : minF (fun w => endO (hmE D x no n k25 w)) (q + 1) = some b := by simp [minF, ev, hm, c138]
                      have ih2 := ih (by omega) _ _ ((g1.tr (fH.of (fI.tr fI2))).tr a4) (g2.tr a5)
                      rw [e9] at ih2
                      exact Z_fgt ih2 (by repeat first | exact zwk_n | refine zwk_f ?_ | refine zwk_c rfl ?_)
                · refine Z_istore (lv' := [_, _, _, _, _, _, _, _, _, _]) dX1_homes_122 rfl rfl (Nat.le_of_ble_eq_true rfl) ?_
                  refine Z_iload dX1_homes_124 rfl ?_
                  refine Z_iflt 152 dX1_homes_126 rfl (fun c126 => ?_) (fun c126 => ?_)
                  · refine Z_iincN (a := _) (k := 1) (lv' := [_, _, _, _, _, _, _, _, _, _]) dX1_homes_152 rfl rfl rfl rfl ?_
                    refine Z_goto 90 dX1_homes_155 rfl ?_
                    rw [← pEnd_c (hm_eq (D := D) (x := x) (no := no) (n := n) (w := q))] at a1
                    have ev : endO (hmE D x no n k25 q) = none := by rw [hmE]; (try dsimp only); rw [a1]; rfl
                    have e9 : minF (fun w => endO (hmE D x no n k25 w)) (q + 1) = minF (fun w => endO (hmE D x no n k25 w)) q := by simp [minF, ev]
                    have ih2 := ih (by omega) _ _ ((g1.tr (fH.of (fI.tr fI2))).tr a4) (g2.tr a5)
                    rw [e9] at ih2
                    exact Z_fgt ih2 (by repeat first | exact zwk_n | refine zwk_f ?_ | refine zwk_c rfl ?_)
                  · exact absurd (show (-2 : Int32) < 0 by decide) c126
            exact Z_fgt (lp90 0 (by omega) Ia P1 fH.rf f3.rf) (by repeat first | exact zwk_n | refine zwk_f ?_ | refine zwk_c rfl ?_)
          · refine Z_iload dX1_homes_65 rfl ?_
            refine Z_aload_n dX1_homes_67 rfl ?_
            refine Z_getI hx.2.2.2.2.2.1.1 fX1_19_1 dX1_homes_68 rfl ?_
            refine Z_re (y := nI (no)) q2b.1.1 ?_
            refine Z_imulN dX1_homes_71 ?_
            refine Z_istore (lv' := [_, _, _, _, _, _, _, _, _, _]) dX1_homes_72 rfl rfl (Nat.le_of_ble_eq_true rfl) ?_
            refine Z_iincN (a := _) (k := 1) (lv' := [_, _, _, _, _, _, _, _, _, _]) dX1_homes_74 rfl rfl rfl rfl ?_
            refine Z_goto 56 dX1_homes_77 rfl ?_
            exact Z_fgt (ih (by omega)) (by repeat first | exact zwk_n | refine zwk_f ?_ | refine zwk_c rfl ?_)
        exact lp56 0 (by omega)
      · have r25 : rB h 0 2399 = false := rB_f h25
        refine Z_ifne 33 dX1_homes_28 rfl (fun h => absurd h (by decide)) (fun _ => ?_)
        refine Z_iconst (-1) dX1_homes_31 rfl ?_
        refine Z_ireturn dX1_homes_32 rfl rfl ?_
        exact xO_k (D2 := D) (R2 := R) (by simp [fHomes, r10, c21, r25, -Int32.toInt_sub]) k hX frX.rf
  · have r10 : rB x 1 ((nI 1 <<< (D 0 16 &&& 31)) - nI 1).toInt = false := rB_f (by rw [show D 0 16 = nI n from hw.n16]; exact h10)
    refine Z_ifeq 31 dX1_homes_13 rfl (fun _ => ?_) (fun h => absurd h (by decide))
    refine Z_iconst (-1) dX1_homes_31 rfl ?_
    refine Z_ireturn dX1_homes_32 rfl rfl ?_
    exact xO_k (D2 := D) (R2 := R) (by simp [fHomes, r10, -Int32.toInt_sub]) k hX frX.rf
end X27C
