set_option maxRecDepth 100000
/-! THE MODEL, part 28: tables of a search -/
section M28
variable {G : zG} {d C Sl : Nat} {I D W : zI} {R : List Int64} {L : zL} {P : zR} {S : zT} {Q : zQ} {no n np : Nat} {s : zS}
theorem wld_40 {k : Nat} {v : Int32} : wld (zw I 40 k v) = wld I := by
  funext a k2
  unfold wld
  split
  · next q =>
    by_cases e : a = 40
    · subst e; exact absurd q (by simp [wAt])
    · rw [zw_n _ _ _ _ e]
  · rfl
set_option maxHeartbeats 4000000 in
theorem c_X5_placeAt {n o l : Nat} (k : Q (.inl (some (.int (nI ((n * 6 + o) * 128 + l))))) I L P S) : Zm G mX5_placeAt 0 C Sl [.int (nI n), .int (nI o), .int (nI l)] I L P S Q := by
  refine Z_entry (lv := [_, _, _]) (Nat.le_of_ble_eq_true rfl) rfl ?_
  refine Z_iload_n dX5_placeAt_0 rfl ?_
  refine Z_bipush (nI 6) dX5_placeAt_1 rfl ?_
  refine Z_imulN dX5_placeAt_3 ?_
  refine Z_iload_n dX5_placeAt_4 rfl ?_
  refine Z_iaddN dX5_placeAt_5 ?_
  refine Z_sipush (nI 128) dX5_placeAt_6 rfl ?_
  refine Z_imulN dX5_placeAt_9 ?_
  refine Z_iload_n dX5_placeAt_10 rfl ?_
  refine Z_iaddN dX5_placeAt_11 ?_
  refine Z_ireturn dX5_placeAt_12 rfl rfl ?_
  exact k
set_option maxHeartbeats 4000000 in
theorem c_X5_empties {a : Nat} (hA : S a = some (.inr (.int, 3072))) (k : ∀ I2, (∀ j, j < 3072 → I2 a j = -1) → fr (fun h _ => h == a) I I2 → Q (.inl none) I2 L P S) : Zm G mX5_empties 0 C Sl [.ref 0, .ref a] I L P S Q := by
  refine Z_entry (lv := [_, _, _]) (Nat.le_of_ble_eq_true rfl) rfl ?_
  refine Z_iconst (nI 0) dX5_empties_0 rfl ?_
  refine Z_istore_n (lv' := [_, _, _]) dX5_empties_1 rfl rfl (Nat.le_of_ble_eq_true rfl) ?_
  have lp2 : ∀ i, i ≤ 3072 → ∀ I2, (∀ j, j < i → I2 a j = -1) → fr (fun h _ => h == a) I I2 → Zj G mX5_empties 0 C Sl 2 [.ref 0, .ref a, .int (nI i)] [] I2 L P S Q := by
    refine zloop (3072) (fun i => ∀ I2, (∀ j, j < i → I2 a j = -1) → fr (fun h _ => h == a) I I2 → Zj G mX5_empties 0 C Sl 2 [.ref 0, .ref a, .int (nI i)] [] I2 L P S Q) (fun i hi ih => ?_)
    intro I2 g1 g2
    show Zj _ _ _ _ _ _ _ _ _ _ _ _ _
    refine Z_iload_n dX5_empties_2 rfl ?_
    refine Z_aload_n dX5_empties_3 rfl ?_
    refine Z_alen hA (by simp [zTys]) dX5_empties_4 ?_
    refine Z_icmpgeN 18 dX5_empties_5 rfl (by omega) (by omega) (fun c5 => ?_) (fun c5 => ?_)
    · have ei : i = 3072 := by omega
      rw [ei] at g1
      refine Z_return dX5_empties_18 rfl ?_
      exact k _ g1 g2
    · refine Z_aload_n dX5_empties_8 rfl ?_
      refine Z_iload_n dX5_empties_9 rfl ?_
      refine Z_iconst (-1) dX5_empties_10 rfl ?_
      refine Z_iast hA (zix_nI (by omega) (by decide)) dX5_empties_11 ?_
      refine Z_iincN (a := _) (k := 1) (lv' := [_, _, _]) dX5_empties_12 rfl rfl rfl rfl ?_
      refine Z_goto 2 dX5_empties_15 rfl ?_
      refine ih (by omega) _ (fun j hj => ?_) (g2.st (by simp))
      rw [zw_a]
      by_cases e : j = i
      · subst e; rw [zu_s]
      · rw [zu_n _ _ _ e]; exact g1 j (by omega)
  exact lp2 0 (by omega) _ (fun j hj => absurd hj (by omega)) fr.rf
set_option maxHeartbeats 4000000 in
theorem c_X5_least {a j : Nat} {v : Int32} (hA : S a = some (.inr (.int, 3072))) (hj : j < 3072) (k : Q (.inl none) (zw I a j (lstV (I a j) v)) L P S) : Zm G mX5_least 1 C Sl [.ref a, .int (nI j), .int v] I L P S Q := by
  refine Z_entry (lv := [_, _, _]) (Nat.le_of_ble_eq_true rfl) rfl ?_
  refine Z_aload_n dX5_least_0 rfl ?_
  refine Z_iload_n dX5_least_1 rfl ?_
  refine Z_aload_n dX5_least_2 rfl ?_
  refine Z_iload_n dX5_least_3 rfl ?_
  refine Z_iald hA (zix_nI (by omega) (by decide)) dX5_least_4 ?_
  refine Z_ifge 12 dX5_least_5 rfl (fun c5 => ?_) (fun c5 => ?_)
  · refine Z_aload_n dX5_least_12 rfl ?_
    refine Z_iload_n dX5_least_13 rfl ?_
    refine Z_iald hA (zix_nI (by omega) (by decide)) dX5_least_14 ?_
    refine Z_iload_n dX5_least_15 rfl ?_
    refine Z_callS0 (d' := 0) (zCal_S gX5_95 nJ5_min (by decide) dX5_least_16) pJ5_min [_, _] rfl rfl (Nat.le_of_ble_eq_true rfl) (by omega) (c_J5_min ?_)
    refine Z_iast hA (zix_nI (by omega) (by decide)) dX5_least_19 ?_
    refine Z_return dX5_least_20 rfl ?_
    have e : lstV (I a j) v = mn (I a j) v := by unfold lstV; first | exact if_pos c5 | exact if_neg c5 | exact if_neg (Int32.not_le.mpr c5)
    rw [e] at k
    exact k
  · refine Z_iload_n dX5_least_8 rfl ?_
    refine Z_goto 19 dX5_least_9 rfl ?_
    refine Z_iast hA (zix_nI (by omega) (by decide)) dX5_least_19 ?_
    refine Z_return dX5_least_20 rfl ?_
    have e : lstV (I a j) v = v := by unfold lstV; first | exact if_pos c5 | exact if_neg c5 | exact if_neg (Int32.not_le.mpr c5)
    rw [e] at k
    exact k
set_option maxHeartbeats 4000000 in
theorem c_X5_losesAll (hM : mOk P S) (hW : wld I = W) (h3 : W 0 3 = nI no) (h6 : no ≤ 6) {h : Nat} (hh : h < 2 ^ 30) (k : ∀ I2, (∀ a b, a < no → b < no → I2 40 (6 * a + b) = lst W a b h) → fr (fun x _ => x == 40) I I2 → Q (.inl none) I2 L P S) : Zm G mX5_losesAll 5 C Sl [.ref 0, .int (nI h)] I L P S Q := by
  refine Z_entry (lv := [_, _, _, _]) (Nat.le_of_ble_eq_true rfl) rfl ?_
  refine Z_iconst (nI 0) dX5_losesAll_0 rfl ?_
  refine Z_istore_n (lv' := [_, _, _, _]) dX5_losesAll_1 rfl rfl (Nat.le_of_ble_eq_true rfl) ?_
  have lp2 : ∀ i, i ≤ no → ∀ I2, wld I2 = W → (∀ a b, a < i → b < no → I2 40 (6 * a + b) = lst W a b h) → fr (fun x _ => x == 40) I I2 → Zj G mX5_losesAll 5 C Sl 2 [.ref 0, .int (nI h), .int (nI i), .retAddr 0] [] I2 L P S Q := by
    refine zloop (no) (fun i => ∀ I2, wld I2 = W → (∀ a b, a < i → b < no → I2 40 (6 * a + b) = lst W a b h) → fr (fun x _ => x == 40) I I2 → Zj G mX5_losesAll 5 C Sl 2 [.ref 0, .int (nI h), .int (nI i), .retAddr 0] [] I2 L P S Q) (fun i hi ih => ?_)
    intro I2 hW g1 g2
    show Zj _ _ _ _ _ _ _ _ _ _ _ _ _
    refine Z_iload_n dX5_losesAll_2 rfl ?_
    refine Z_aload_n dX5_losesAll_3 rfl ?_
    refine Z_getI hM.1 fX5_22_4 dX5_losesAll_4 rfl ?_
    refine Z_re (y := nI (no)) ((wr hW rfl).trans h3) ?_
    refine Z_icmpgeN 50 dX5_losesAll_7 rfl (by omega) (by omega) (fun c7 => ?_) (fun c7 => ?_)
    · have ei : i = no := by omega
      rw [ei] at g1
      refine Z_return dX5_losesAll_50 rfl ?_
      exact k _ g1 g2
    · refine Z_iconst (nI 0) dX5_losesAll_10 rfl ?_
      refine Z_istore_n (lv' := [_, _, _, _]) dX5_losesAll_11 rfl rfl (Nat.le_of_ble_eq_true rfl) ?_
      have lp12 : ∀ j, j ≤ no → ∀ I3, wld I3 = W → (∀ a b, a < i → b < no → I3 40 (6 * a + b) = lst W a b h) → (∀ b, b < j → I3 40 (6 * i + b) = lst W i b h) → fr (fun x _ => x == 40) I I3 → Zj G mX5_losesAll 5 C Sl 12 [.ref 0, .int (nI h), .int (nI i), .int (nI j)] [] I3 L P S Q := by
        refine zloop (no) (fun j => ∀ I3, wld I3 = W → (∀ a b, a < i → b < no → I3 40 (6 * a + b) = lst W a b h) → (∀ b, b < j → I3 40 (6 * i + b) = lst W i b h) → fr (fun x _ => x == 40) I I3 → Zj G mX5_losesAll 5 C Sl 12 [.ref 0, .int (nI h), .int (nI i), .int (nI j)] [] I3 L P S Q) (fun j hj ihj => ?_)
        intro I3 hW g4 g5 g6
        show Zj _ _ _ _ _ _ _ _ _ _ _ _ _
        refine Z_iload_n dX5_losesAll_12 rfl ?_
        refine Z_aload_n dX5_losesAll_13 rfl ?_
        refine Z_getI hM.1 fX5_22_4 dX5_losesAll_14 rfl ?_
        refine Z_re (y := nI (no)) ((wr hW rfl).trans h3) ?_
        refine Z_icmpgeN 44 dX5_losesAll_17 rfl (by omega) (by omega) (fun c17 => ?_) (fun c17 => ?_)
        · have ej : j = no := by omega
          refine Z_iincN (a := _) (k := 1) (lv' := [_, _, _, _]) dX5_losesAll_44 rfl rfl rfl rfl ?_
          refine Z_goto 2 dX5_losesAll_47 rfl ?_
          exact Z_fgt (ih (by omega) _ hW (fun a b ha hb => by
            by_cases e : a = i
            · subst e; exact g5 b (by omega)
            · exact g4 a b (by omega) hb) g6) (by repeat first | exact zwk_n | refine zwk_f ?_ | refine zwk_c rfl ?_)
        · refine Z_aload_n dX5_losesAll_20 rfl ?_
          refine Z_getR (r := 40) hM.1 fX5_335_4 dX5_losesAll_21 rfl (hM.2.2 40 _ rfl rfl) ?_
          refine Z_bipush (nI 6) dX5_losesAll_24 rfl ?_
          refine Z_iload_n dX5_losesAll_26 rfl ?_
          refine Z_imulN dX5_losesAll_27 ?_
          refine Z_iload_n dX5_losesAll_28 rfl ?_
          refine Z_iaddN dX5_losesAll_29 ?_
          refine Z_aload_n dX5_losesAll_30 rfl ?_
          refine Z_iload_n dX5_losesAll_31 rfl ?_
          refine Z_iload_n dX5_losesAll_32 rfl ?_
          refine Z_iload_n dX5_losesAll_33 rfl ?_
          refine Z_call0 (d' := 4) (zCal_V gX5_132 nX5_lostOf (by decide) dX5_losesAll_34) pX5_lostOf hM.1 zkl4 [_, _, _] rfl rfl (Nat.le_of_ble_eq_true rfl) (by omega) (c_lostOfW hM (by first | exact hW | (simp only [wld_zw23, wld_zw33, wld_zw27, wld_zw34, wld_zw35, wld_zw36, wld_zw0, wld_zw1, wld_zu23]; exact hW)) (by omega) (by omega) (by omega) ?_)
          refine Z_iast (hM.2.1 40 _ rfl) (zix_nI (by omega) (by decide)) dX5_losesAll_37 ?_
          refine Z_iincN (a := _) (k := 1) (lv' := [_, _, _, _]) dX5_losesAll_38 rfl rfl rfl rfl ?_
          refine Z_goto 12 dX5_losesAll_41 rfl ?_
          refine ihj (by omega) _ (wld_40.trans hW) (fun a b ha hb => ?_) (fun b hb => ?_) (g6.st rfl)
          · rw [zw_a, zu_n _ _ _ (by omega)]; exact g4 a b ha hb
          · rw [zw_a]
            by_cases e : b = j
            · subst e; rw [zu_s]
            · rw [zu_n _ _ _ (by omega)]; exact g5 b (by omega)
      exact lp12 0 (by omega) _ hW g1 (fun b hb => absurd hb (by omega)) g2
  exact lp2 0 (by omega) _ hW (fun a b ha hb => absurd ha (by omega)) fr.rf
end M28
