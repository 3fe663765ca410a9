set_option maxRecDepth 100000
/-! THE MODEL, part 25: the rule is read -/
section M25
variable {G : zG} {d C Sl : Nat} {I D W : zI} {R : List Int64} {L : zL} {P : zR} {S : zT} {Q : zQ} {no n np : Nat} {s : zS} {c : Nat → Nat} {to : Nat}
set_option maxHeartbeats 4000000 in
theorem c_J4_coder (hX : zTx S) {i : Nat} (hi : i < 9) (k : Q (.inl (some (.int (nI 0)))) I L P S) : Zm G mJ4_coder 0 C Sl [.ref (5000 + i)] I L P S Q := by
  refine Z_entry (lv := [_]) (Nat.le_of_ble_eq_true rfl) rfl ?_
  refine Z_gsC rfl dJ4_coder_0 ?_
  refine Z_ifeq 13 dJ4_coder_3 rfl (fun h => absurd h (by decide)) (fun _ => ?_)
  refine Z_aload_n dJ4_coder_6 rfl ?_
  refine Z_txC hi (hX _ (by omega)) rfl dJ4_coder_7 ?_
  refine Z_goto 14 dJ4_coder_10 rfl ?_
  refine Z_ireturn dJ4_coder_14 rfl rfl ?_
  exact k
def zBn : List (List Nat) := [[33, 45], [107, 108, 111, 119, 114, 99, 115, 98, 113, 112, 102, 110], [40], [41], [124], [38], [60, 62, 61], [43, 45], [42]]
theorem zLen_eq : ∀ i, i < 9 → zLen.getD i 0 = (zBn.getD i []).length := by decide
theorem zLen_le : ∀ i, i < 9 → zLen.getD i 0 ≤ 12 := by decide
theorem zByt_eq : ∀ i, i < 9 → ∀ j, j < zLen.getD i 0 → ((((zByt.getD i []).getD j 0) &&& nI 255).toUInt32 % 65536).toInt32 = nI ((zBn.getD i []).getD j 0) ∧ (zBn.getD i []).getD j 0 < 256 := by decide +kernel
theorem z_shr0 {n : Nat} : nI n >>> (nI 0 &&& 31) = nI n := by
  rw [show (nI 0 &&& 31 : Int32) = 0 from by decide]
  simp
theorem nar_c {q : Nat} (hq : q < 65536) : narrow .char (.int (nI q)) = .int (nI q) := (pk_charN hq).1
set_option maxHeartbeats 4000000 in
theorem c_J4_length (hX : zTx S) {i : Nat} (hi : i < 9) (k : Q (.inl (some (.int (nI (zLen.getD i 0))))) I L P S) : Zm G mJ4_length 1 C Sl [.ref (5000 + i)] I L P S Q := by
  refine Z_entry (lv := [_]) (Nat.le_of_ble_eq_true rfl) rfl ?_
  refine Z_aload_n dJ4_length_0 rfl ?_
  refine Z_txV hi (hX _ (by omega)) (hX _ (by omega)) rfl dJ4_length_1 ?_
  refine Z_txL hi (hX _ (by omega)) dJ4_length_4 ?_
  refine Z_aload_n dJ4_length_5 rfl ?_
  refine Z_callT (d' := 0) gJ4_335 nJ4_coder (by decide) dJ4_length_6 rfl pJ4_coder rfl hi (hX _ (by omega)) [] rfl rfl (Nat.le_of_ble_eq_true rfl) (by omega) (c_J4_coder hX hi ?_)
  refine Z_ishr dJ4_length_9 ?_
  refine Z_ireturn dJ4_length_10 rfl rfl ?_
  exact zQe z_shr0 k
set_option maxHeartbeats 4000000 in
theorem c_J4_isLatin1 (hX : zTx S) {i : Nat} (hi : i < 9) (k : Q (.inl (some (.int (nI 1)))) I L P S) : Zm G mJ4_isLatin1 0 C Sl [.ref (5000 + i)] I L P S Q := by
  refine Z_entry (lv := [_]) (Nat.le_of_ble_eq_true rfl) rfl ?_
  refine Z_gsC rfl dJ4_isLatin1_0 ?_
  refine Z_ifeq 17 dJ4_isLatin1_3 rfl (fun h => absurd h (by decide)) (fun _ => ?_)
  refine Z_aload_n dJ4_isLatin1_6 rfl ?_
  refine Z_txC hi (hX _ (by omega)) rfl dJ4_isLatin1_7 ?_
  refine Z_ifne 17 dJ4_isLatin1_10 rfl (fun h => absurd h (by decide)) (fun _ => ?_)
  refine Z_iconst (nI 1) dJ4_isLatin1_13 rfl ?_
  refine Z_goto 18 dJ4_isLatin1_14 rfl ?_
  refine Z_ireturn dJ4_isLatin1_18 rfl rfl ?_
  exact k
set_option maxHeartbeats 4000000 in
theorem c_J7_checkIndex {a n : Nat} (h : a < n) (hn : n < 2 ^ 31) (k : Q (.inl (some (.int (nI a)))) I L P S) : Zm G mJ7_checkIndex 0 C Sl [.int (nI a), .int (nI n), .null] I L P S Q := by
  refine Z_entry (lv := [_, _, _]) (Nat.le_of_ble_eq_true rfl) rfl ?_
  refine Z_iload_n dJ7_checkIndex_0 rfl ?_
  refine Z_ifltN 9 dJ7_checkIndex_1 rfl (by omega) ?_
  refine Z_iload_n dJ7_checkIndex_4 rfl ?_
  refine Z_iload_n dJ7_checkIndex_5 rfl ?_
  refine Z_icmpltN 16 dJ7_checkIndex_6 rfl (by omega) (by omega) (fun c6 => ?_) (fun c6 => ?_)
  · refine Z_iload_n dJ7_checkIndex_16 rfl ?_
    refine Z_ireturn dJ7_checkIndex_17 rfl rfl ?_
    exact k
  · exact absurd h (by omega)
set_option maxHeartbeats 4000000 in
theorem c_J7_checkIndexR {a n r : Nat} (h : a < n) (hn : n < 2 ^ 31) (k : Q (.inl (some (.int (nI a)))) I L P S) : Zm G mJ7_checkIndex 0 C Sl [.int (nI a), .int (nI n), .ref r] I L P S Q := by
  refine Z_entry (lv := [_, _, _]) (Nat.le_of_ble_eq_true rfl) rfl ?_
  refine Z_iload_n dJ7_checkIndex_0 rfl ?_
  refine Z_ifltN 9 dJ7_checkIndex_1 rfl (by omega) ?_
  refine Z_iload_n dJ7_checkIndex_4 rfl ?_
  refine Z_iload_n dJ7_checkIndex_5 rfl ?_
  refine Z_icmpltN 16 dJ7_checkIndex_6 rfl (by omega) (by omega) (fun c6 => ?_) (fun c6 => ?_)
  · refine Z_iload_n dJ7_checkIndex_16 rfl ?_
    refine Z_ireturn dJ7_checkIndex_17 rfl rfl ?_
    exact k
  · exact absurd h (by omega)
set_option maxHeartbeats 4000000 in
theorem c_J4_checkIndex (hX : zTx S) {a n : Nat} (h : a < n) (hn : n < 2 ^ 31) (k : Q (.inl none) I L P S) : Zm G mJ4_checkIndex 1 C Sl [.int (nI a), .int (nI n)] I L P S Q := by
  refine Z_entry (lv := [_, _]) (Nat.le_of_ble_eq_true rfl) rfl ?_
  refine Z_iload_n dJ4_checkIndex_0 rfl ?_
  refine Z_iload_n dJ4_checkIndex_1 rfl ?_
  refine Z_gsF rfl (hX _ (by omega)) dJ4_checkIndex_2 ?_ ?_
  · refine Z_callS0 (d' := 0) (zCal_S gJ4_1059 nJ7_checkIndex (by decide) dJ4_checkIndex_5) pJ7_checkIndex [_, _, _] rfl rfl (Nat.le_of_ble_eq_true rfl) (by omega) (c_J7_checkIndex h hn ?_)
    refine Z_pop dJ4_checkIndex_8 rfl ?_
    refine Z_return dJ4_checkIndex_9 rfl ?_
    exact k
  · refine Z_callS0 (d' := 0) (zCal_S gJ4_1059 nJ7_checkIndex (by decide) dJ4_checkIndex_5) pJ7_checkIndex [_, _, _] rfl rfl (Nat.le_of_ble_eq_true rfl) (by omega) (c_J7_checkIndexR h hn ?_)
    refine Z_pop dJ4_checkIndex_8 rfl ?_
    refine Z_return dJ4_checkIndex_9 rfl ?_
    exact k
set_option maxHeartbeats 4000000 in
theorem c_J6_charAt (hX : zTx S) {i : Nat} (hi : i < 9) {j : Nat} (hj : j < zLen.getD i 0) (k : Q (.inl (some (.int (nI ((zBn.getD i []).getD j 0))))) I L P S) : Zm G mJ6_charAt 2 C Sl [.ref (5100 + i), .int (nI j)] I L P S Q := by
  have h12 := zLen_le i hi
  obtain ⟨e1, e2⟩ := zByt_eq i hi j hj
  refine Z_entry (lv := [_, _]) (Nat.le_of_ble_eq_true rfl) rfl ?_
  refine Z_iload_n dJ6_charAt_0 rfl ?_
  refine Z_aload_n dJ6_charAt_1 rfl ?_
  refine Z_txL hi (hX _ (by omega)) dJ6_charAt_2 ?_
  refine Z_callS0 (d' := 1) (zCal_S gJ6_9 nJ4_checkIndex (by decide) dJ6_charAt_3) pJ4_checkIndex [_, _] rfl rfl (Nat.le_of_ble_eq_true rfl) (by omega) (c_J4_checkIndex hX hj (by omega) ?_)
  refine Z_aload_n dJ6_charAt_6 rfl ?_
  refine Z_iload_n dJ6_charAt_7 rfl ?_
  refine Z_txB hi (zix_nI hj (by omega)) (hX _ (by omega)) dJ6_charAt_8 ?_
  refine Z_sipush (nI 255) dJ6_charAt_9 rfl ?_
  refine Z_iand dJ6_charAt_12 ?_
  refine Z_i2c dJ6_charAt_13 ?_
  rw [e1]
  refine Z_ireturn dJ6_charAt_14 rfl (nar_c (by omega)) ?_
  exact k
set_option maxHeartbeats 4000000 in
theorem c_J4_charAt (hX : zTx S) {i : Nat} (hi : i < 9) {j : Nat} (hj : j < zLen.getD i 0) (k : Q (.inl (some (.int (nI ((zBn.getD i []).getD j 0))))) I L P S) : Zm G mJ4_charAt 3 C Sl [.ref (5000 + i), .int (nI j)] I L P S Q := by
  obtain ⟨e1, e2⟩ := zByt_eq i hi j hj
  refine Z_entry (lv := [_, _]) (Nat.le_of_ble_eq_true rfl) rfl ?_
  refine Z_aload_n dJ4_charAt_0 rfl ?_
  refine Z_callT (d' := 0) gJ4_492 nJ4_isLatin1 (by decide) dJ4_charAt_1 rfl pJ4_isLatin1 rfl hi (hX _ (by omega)) [] rfl rfl (Nat.le_of_ble_eq_true rfl) (by omega) (c_J4_isLatin1 hX hi ?_)
  refine Z_ifeq 16 dJ4_charAt_4 rfl (fun h => absurd h (by decide)) (fun _ => ?_)
  refine Z_aload_n dJ4_charAt_7 rfl ?_
  refine Z_txV hi (hX _ (by omega)) (hX _ (by omega)) rfl dJ4_charAt_8 ?_
  refine Z_iload_n dJ4_charAt_11 rfl ?_
  refine Z_callS0 (d' := 2) (zCal_S gJ4_495 nJ6_charAt (by decide) dJ4_charAt_12) pJ6_charAt [_, _] rfl rfl (Nat.le_of_ble_eq_true rfl) (by omega) (c_J6_charAt hX hi hj ?_)
  refine Z_ireturn dJ4_charAt_15 rfl (nar_c (by omega)) ?_
  exact k
def pS (c : Nat → Nat) (to : Nat) (I : zI) (p ns : Nat) : Prop := I 0 30 = nI p ∧ I 0 31 = nI to ∧ I 0 32 = nI ns ∧ ∀ j, j < 60 → I 28 j = nI (c j)
def tU : Nat → Nat → Bool := fun h k => (h == 0 && (k == 30 || k == 32)) || ((h == 26 && k == 1) || (h == 25 && decide (48 ≤ k)))
def mkR (I I2 : zI) (m : Nat) (l : List Nat) : Prop := I2 26 1 = nI (m + l.length) ∧ (∀ j, j < m → I2 25 (48 + j) = I 25 (48 + j)) ∧ ∀ j, j < l.length → I2 25 (48 + (m + j)) = nI (l.getD j 0)
theorem mkR.nil {m : Nat} (h : I 26 1 = nI m) : mkR I I m [] := ⟨h, fun _ _ => rfl, fun j hj => absurd hj (by simp)⟩
theorem mkR.app {I2 I3 : zI} {m : Nat} {l l2 : List Nat} (h : mkR I I2 m l) (h2 : mkR I2 I3 (m + l.length) l2) : mkR I I3 m (l ++ l2) := by
  obtain ⟨a1, a2, a3⟩ := h
  obtain ⟨b1, b2, b3⟩ := h2
  refine ⟨by rw [b1, List.length_append, Nat.add_assoc], fun j hj => (b2 j (by omega)).trans (a2 j hj), fun j hj => ?_⟩
  rw [List.length_append] at hj
  by_cases h : j < l.length
  · rw [b2 (m + j) (by omega), a3 j h]
    simp [List.getElem?_append_left h]
  · have := b3 (j - l.length) (by omega)
    rw [show m + l.length + (j - l.length) = m + j by omega] at this
    rw [this]
    simp [List.getElem?_append_right (Nat.not_lt.mp h)]
theorem mkR.fr {I2 I3 : zI} {m : Nat} {l : List Nat} (h : mkR I I2 m l) (h26 : I3 26 1 = I2 26 1) (h25 : I3 25 = I2 25) : mkR I I3 m l := ⟨h26.trans h.1, fun j hj => by rw [h25]; exact h.2.1 j hj, fun j hj => by rw [h25]; exact h.2.2 j hj⟩
theorem mkR.one {m : Nat} {v : Nat} : mkR I (zw (zw I 25 (48 + m) (nI v)) 26 1 (nI (m + 1))) m [v] := by
  refine ⟨zw_s _ _ _ _, fun j hj => ?_, fun j hj => ?_⟩
  · rw [zw_n _ _ _ _ (by decide), zw_a, zu_n _ _ _ (by omega)]
  · have : j = 0 := by simp at hj; omega
    subst this
    rw [zw_n _ _ _ _ (by decide), zw_a, Nat.add_zero, zu_s]
    rfl
set_option maxHeartbeats 4000000 in
theorem c_X5_among (hM : mOk P S) (hX : zTx S) {i : Nat} (hi : i < 9) {p ns : Nat} (hP : pS c to I p ns) (ht : to ≤ 40) (hp : p ≤ to) (hc : ∀ j, c j < 256) (kt : ∀ j, amg c to (zBn.getD i []) p = some j → j < 12 → Q (.inl (some (.int (nI j)))) I L P S) (kf : amg c to (zBn.getD i []) p = none → Q (.inl (some (.int (-1)))) I L P S) : Zm G mX5_among 5 C Sl [.ref 0, .ref (5000 + i)] I L P S Q := by
  have h12 := zLen_le i hi
  have hL := zLen_eq i hi
  obtain ⟨h30, h31, h32, h28⟩ := hP
  have hcp := hc p
  refine Z_entry (lv := [_, _, _]) (Nat.le_of_ble_eq_true rfl) rfl ?_
  refine Z_iconst (nI 0) dX5_among_0 rfl ?_
  refine Z_istore_n (lv' := [_, _, _]) dX5_among_1 rfl rfl (Nat.le_of_ble_eq_true rfl) ?_
  have lp2 : ∀ q, q ≤ zLen.getD i 0 → (∀ j, j < q → p < to → (zBn.getD i []).getD j 0 ≠ c p) → Zj G mX5_among 5 C Sl 2 [.ref 0, .ref (5000 + i), .int (nI q)] [] I L P S Q := by
    refine zloop (zLen.getD i 0) (fun q => (∀ j, j < q → p < to → (zBn.getD i []).getD j 0 ≠ c p) → Zj G mX5_among 5 C Sl 2 [.ref 0, .ref (5000 + i), .int (nI q)] [] I L P S Q) (fun q hq ihq => ?_)
    intro g
    show Zj _ _ _ _ _ _ _ _ _ _ _ _ _
    refine Z_iload_n dX5_among_2 rfl ?_
    refine Z_aload_n dX5_among_3 rfl ?_
    refine Z_callT (d' := 1) gX5_186 nJ4_length (by decide) dX5_among_4 rfl pJ4_length rfl hi (hX _ (by omega)) [] rfl rfl (Nat.le_of_ble_eq_true rfl) (by omega) (c_J4_length hX hi ?_)
    refine Z_icmpgeN 46 dX5_among_7 rfl (by omega) (by omega) (fun c7 => ?_) (fun c7 => ?_)
    · have eq : q = zLen.getD i 0 := by omega
      refine Z_iconst (-1) dX5_among_46 rfl ?_
      refine Z_ireturn dX5_among_47 rfl rfl ?_
      exact kf (by
        by_cases hl : p < to
        · rw [amg, if_pos hl]; exact ixL_n (fun j hj => g j (by omega) hl)
        · rw [amg, if_neg hl])
    · refine Z_aload_n dX5_among_10 rfl ?_
      refine Z_getI hM.1 fX5_176_4 dX5_among_11 rfl ?_
      refine Z_re (y := nI (p)) h30 ?_
      refine Z_aload_n dX5_among_14 rfl ?_
      refine Z_getI hM.1 fX5_179_4 dX5_among_15 rfl ?_
      refine Z_re (y := nI (to)) h31 ?_
      refine Z_icmpgeN 46 dX5_among_18 rfl (by omega) (by omega) (fun c18 => ?_) (fun c18 => ?_)
      · refine Z_iconst (-1) dX5_among_46 rfl ?_
        refine Z_ireturn dX5_among_47 rfl rfl ?_
        exact kf (by
          by_cases hl : p < to
          · rw [amg, if_pos hl]; exact ixL_n (fun j hj => g j (by omega) hl)
          · rw [amg, if_neg hl])
      · refine Z_aload_n dX5_among_21 rfl ?_
        refine Z_iload_n dX5_among_22 rfl ?_
        refine Z_callT (d' := 3) gX5_192 nJ4_charAt (by decide) dX5_among_23 rfl pJ4_charAt rfl hi (hX _ (by omega)) [_] rfl rfl (Nat.le_of_ble_eq_true rfl) (by omega) (c_J4_charAt hX hi (by omega) ?_)
        have hbq := (zByt_eq i hi q (by omega)).2
        refine Z_aload_n dX5_among_26 rfl ?_
        refine Z_getR (r := 28) hM.1 fX5_173_4 dX5_among_27 rfl (hM.2.2 28 _ rfl rfl) ?_
        refine Z_aload_n dX5_among_30 rfl ?_
        refine Z_getI hM.1 fX5_176_4 dX5_among_31 rfl ?_
        refine Z_re (y := nI (p)) h30 ?_
        refine Z_iald (hM.2.1 28 _ rfl) (zix_nI (by omega) (by decide)) dX5_among_34 ?_
        refine Z_re (y := nI (c p)) (h28 p (by omega)) ?_
        refine Z_icmpneN 40 dX5_among_35 rfl (by omega) (by omega) (fun c35 => ?_) (fun c35 => ?_)
        · refine Z_iincN (a := _) (k := 1) (lv' := [_, _, _]) dX5_among_40 rfl rfl rfl rfl ?_
          refine Z_goto 2 dX5_among_43 rfl ?_
          exact ihq (by omega) (fun j hj h => by
            by_cases e : j = q
            · subst e; exact c35
            · exact g j (by omega) h)
        · refine Z_iload_n dX5_among_38 rfl ?_
          refine Z_ireturn dX5_among_39 rfl rfl ?_
          exact kt q (by rw [amg, if_pos c18]; exact ixL_s (by omega) (fun j hj => g j hj c18) c35) (by omega)
  exact lp2 0 (by omega) (fun j hj => absurd hj (by omega))
set_option maxHeartbeats 4000000 in
theorem c_X5_isDigit (hM : mOk P S) {p ns : Nat} (hP : pS c to I p ns) (ht : to ≤ 40) (hp : p ≤ to) (hc : ∀ j, c j < 256) (kt : (p < to ∧ isDg (c p) = true) → Q (.inl (some (.int (nI 1)))) I L P S) (kf : ¬ (p < to ∧ isDg (c p) = true) → Q (.inl (some (.int (nI 0)))) I L P S) : Zm G mX5_isDigit 1 C Sl [.ref 0] I L P S Q := by
  obtain ⟨h30, h31, h32, h28⟩ := hP
  have hcp := hc p
  refine Z_entry (lv := [_]) (Nat.le_of_ble_eq_true rfl) rfl ?_
  refine Z_aload_n dX5_isDigit_0 rfl ?_
  refine Z_getI hM.1 fX5_176_4 dX5_isDigit_1 rfl ?_
  refine Z_re (y := nI (p)) h30 ?_
  refine Z_aload_n dX5_isDigit_4 rfl ?_
  refine Z_getI hM.1 fX5_179_4 dX5_isDigit_5 rfl ?_
  refine Z_re (y := nI (to)) h31 ?_
  refine Z_icmpgeN 37 dX5_isDigit_8 rfl (by omega) (by omega) (fun c8 => ?_) (fun c8 => ?_)
  · refine Z_iconst (nI 0) dX5_isDigit_37 rfl ?_
    refine Z_ireturn dX5_isDigit_38 rfl rfl ?_
    exact kf (fun q => absurd q.1 (by omega))
  · refine Z_aload_n dX5_isDigit_11 rfl ?_
    refine Z_getR (r := 28) hM.1 fX5_173_4 dX5_isDigit_12 rfl (hM.2.2 28 _ rfl rfl) ?_
    refine Z_aload_n dX5_isDigit_15 rfl ?_
    refine Z_getI hM.1 fX5_176_4 dX5_isDigit_16 rfl ?_
    refine Z_re (y := nI (p)) h30 ?_
    refine Z_iald (hM.2.1 28 _ rfl) (zix_nI (by omega) (by decide)) dX5_isDigit_19 ?_
    refine Z_re (y := nI (c p)) (h28 p (by omega)) ?_
    refine Z_i2l dX5_isDigit_20 ?_
    refine Z_ldc2 q1424 dX5_isDigit_21 ?_
    refine Z_ldc2 q1425 dX5_isDigit_24 ?_
    refine Z_callS0 (d' := 0) (zCal_S gX5_25 nX5_in (by decide) dX5_isDigit_27) pX5_in [_, _, _] rfl rfl (Nat.le_of_ble_eq_true rfl) (by omega) (c_X5_in (fun h27a h27b => ?_) (fun h27 => ?_))
    · rw [z_i64, z_ti (by omega)] at h27a h27b
      refine Z_ifeq 37 dX5_isDigit_30 rfl (fun h => absurd h (by decide)) (fun _ => ?_)
      refine Z_iconst (nI 1) dX5_isDigit_33 rfl ?_
      refine Z_goto 38 dX5_isDigit_34 rfl ?_
      refine Z_ireturn dX5_isDigit_38 rfl rfl ?_
      exact kt ⟨c8, by unfold isDg; rw [decide_eq_true (show 48 ≤ c p by have : (48 : Int) ≤ c p := h27a; omega), decide_eq_true (show c p ≤ 57 by have : ((c p : Nat) : Int) ≤ 57 := h27b; omega)]; rfl⟩
    · rw [z_i64, z_ti (by omega)] at h27
      refine Z_ifeq 37 dX5_isDigit_30 rfl (fun _ => ?_) (fun h => absurd h (by decide))
      refine Z_iconst (nI 0) dX5_isDigit_37 rfl ?_
      refine Z_ireturn dX5_isDigit_38 rfl rfl ?_
      exact kf (fun q => h27 (by have := q.2; unfold isDg at this; simp only [Bool.and_eq_true, decide_eq_true_eq] at this; exact ⟨by show (48 : Int) ≤ c p; omega, by show ((c p : Nat) : Int) ≤ 57; omega⟩))
set_option maxHeartbeats 4000000 in
theorem c_X5_marks (hM : mOk P S) {m v : Nat} (h26 : I 26 1 = nI m) (hm : m < 48) (k : Q (.inl none) (zw (zw I 25 (48 + m) (nI v)) 26 1 (nI (m + 1))) L P S) : Zm G mX5_marks 0 C Sl [.ref 0, .int (nI v)] I L P S Q := by
  refine Z_entry (lv := [_, _]) (Nat.le_of_ble_eq_true rfl) rfl ?_
  refine Z_aload_n dX5_marks_0 rfl ?_
  refine Z_getR (r := 25) hM.1 fX5_196_4 dX5_marks_1 rfl (hM.2.2 25 _ rfl rfl) ?_
  refine Z_bipush (nI 48) dX5_marks_4 rfl ?_
  refine Z_aload_n dX5_marks_6 rfl ?_
  refine Z_getR (r := 26) hM.1 fX5_199_4 dX5_marks_7 rfl (hM.2.2 26 _ rfl rfl) ?_
  refine Z_iconst (nI 1) dX5_marks_10 rfl ?_
  refine Z_iald (hM.2.1 26 _ rfl) (zix_nI (by omega) (by decide)) dX5_marks_11 ?_
  refine Z_re (y := nI (m)) h26 ?_
  refine Z_iaddN dX5_marks_12 ?_
  refine Z_iload_n dX5_marks_13 rfl ?_
  refine Z_iast (hM.2.1 25 _ rfl) (zix_nI (by omega) (by decide)) dX5_marks_14 ?_
  refine Z_aload_n dX5_marks_15 rfl ?_
  refine Z_getR (r := 26) hM.1 fX5_199_4 dX5_marks_16 rfl (hM.2.2 26 _ rfl rfl) ?_
  refine Z_iconst (nI 1) dX5_marks_19 rfl ?_
  refine Z_dup2_11 dX5_marks_20 rfl rfl ?_
  refine Z_iald (hM.2.1 26 _ rfl) (zix_nI (by omega) (by decide)) dX5_marks_21 ?_
  refine Z_re (y := nI (m)) h26 ?_
  refine Z_iconst (nI 1) dX5_marks_22 rfl ?_
  refine Z_iaddN dX5_marks_23 ?_
  refine Z_iast (hM.2.1 26 _ rfl) (zix_nI (by omega) (by decide)) dX5_marks_24 ?_
  refine Z_return dX5_marks_25 rfl ?_
  exact k
end M25
