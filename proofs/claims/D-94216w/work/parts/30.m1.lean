set_option maxRecDepth 100000
/-! THE MODEL (X5), part 1. Handle 0: the object; handle k: the array of its field k. -/
def mAr : Nat → Option (FieldType × Nat) := fun k => match k with
  | 2 => some (.long, 24)
  | 4 => some (.int, 6) | 5 => some (.int, 6) | 6 => some (.int, 6) | 7 => some (.int, 6) | 8 => some (.int, 6) | 9 => some (.int, 6) | 10 => some (.int, 6) | 11 => some (.int, 6)
  | 12 => some (.boolean, 600) | 13 => some (.int, 36)
  | 17 => some (.int, 8) | 18 => some (.int, 8) | 19 => some (.int, 8) | 20 => some (.int, 8) | 21 => some (.int, 8) | 22 => some (.int, 8)
  | 23 => some (.int, 127) | 24 => some (.int, 127) | 25 => some (.int, 96) | 26 => some (.int, 2) | 27 => some (.int, 48) | 28 => some (.int, 60)
  | 33 => some (.int, 6) | 38 => some (.int, 3072) | 39 => some (.int, 3072) | 40 => some (.int, 36) | 43 => some (.long, 3072) | 44 => some (.long, 3072)
  | 48 => some (.int, 8) | 49 => some (.int, 8) | 51 => some (.int, 9) | 52 => some (.int, 9) | 53 => some (.int, 9) | 54 => some (.int, 36) | 55 => some (.long, 9) | 56 => some (.int, 3) | 57 => some (.int, 381)
  | _ => none
/-- fields that change places -/
def mSwp (k : Nat) : Bool := k == 38 || k == 39 || k == 43 || k == 44
def mOk (P : zR) (S : zT) : Prop := S 0 = some (.inl 4) ∧ (∀ k q, mAr k = some q → S k = some (.inr q)) ∧ (∀ k q, mAr k = some q → mSwp k = false → P 0 k = some k)
section M1
variable {G : zG} {d C Sl : Nat} {I : zI} {L : zL} {P : zR} {S : zT} {Q : zQ}
theorem lg_le {x y : Int64} : ¬ lg_cmp x y < 0 ↔ y.toInt ≤ x.toInt := by
  unfold lg_cmp
  rw [← Int64.le_iff_toInt_le]
  by_cases h1 : x < y <;> by_cases h2 : y < x <;> simp_all <;> grind
theorem lg_ge {x y : Int64} : 0 < lg_cmp x y ↔ y.toInt < x.toInt := by
  unfold lg_cmp
  rw [← Int64.lt_iff_toInt_lt]
  by_cases h1 : x < y <;> by_cases h2 : y < x <;> simp_all <;> grind
set_option maxHeartbeats 4000000 in
theorem c_X5_in {v lo hi : Int64} (kt : lo.toInt ≤ v.toInt → v.toInt ≤ hi.toInt → Q (.inl (some (.int (nI 1)))) I L P S) (kf : ¬ (lo.toInt ≤ v.toInt ∧ v.toInt ≤ hi.toInt) → Q (.inl (some (.int (nI 0)))) I L P S) : Zm G mX5_in 0 C Sl [.long v, .long lo, .long hi] I L P S Q := by
  refine Z_entry (lv := [_, _, _, _, _, _]) (Nat.le_of_ble_eq_true rfl) rfl ?_
  refine Z_lload_n dX5_in_0 rfl ?_
  refine Z_lload_n dX5_in_1 rfl ?_
  refine Z_lcmp dX5_in_2 ?_
  refine Z_iflt 17 dX5_in_3 rfl (fun c3 => ?_) (fun c3 => ?_)
  · refine Z_iconst (nI 0) dX5_in_17 rfl ?_
    refine Z_ireturn dX5_in_18 rfl rfl ?_
    have c3 := fun q => (lg_le.mpr q) c3
    exact kf (fun q => c3 q.1)
  · refine Z_lload_n dX5_in_6 rfl ?_
    refine Z_lload dX5_in_7 rfl ?_
    refine Z_lcmp dX5_in_9 ?_
    refine Z_ifgt 17 dX5_in_10 rfl (fun c10 => ?_) (fun c10 => ?_)
    · refine Z_iconst (nI 0) dX5_in_17 rfl ?_
      refine Z_ireturn dX5_in_18 rfl rfl ?_
      rw [lg_le] at c3
      rw [lg_ge] at c10
      exact kf (by omega)
    · refine Z_iconst (nI 1) dX5_in_13 rfl ?_
      refine Z_goto 18 dX5_in_14 rfl ?_
      refine Z_ireturn dX5_in_18 rfl rfl ?_
      rw [lg_le] at c3
      rw [lg_ge] at c10
      exact kt (by omega) (by omega)
set_option maxHeartbeats 4000000 in
theorem c_X5_has {x k : Int32} (kt : zbit x k = true → Q (.inl (some (.int (nI 1)))) I L P S) (kf : zbit x k = false → Q (.inl (some (.int (nI 0)))) I L P S) : Zm G mX5_has 0 C Sl [.int x, .int k] I L P S Q := by
  refine Z_entry (lv := [_, _]) (Nat.le_of_ble_eq_true rfl) rfl ?_
  refine Z_iload_n dX5_has_0 rfl ?_
  refine Z_iload_n dX5_has_1 rfl ?_
  refine Z_ishr dX5_has_2 ?_
  refine Z_iconst (nI 1) dX5_has_3 rfl ?_
  refine Z_iand dX5_has_4 ?_
  refine Z_iconst (nI 1) dX5_has_5 rfl ?_
  refine Z_icmpne 13 dX5_has_6 rfl (fun c6 => ?_) (fun c6 => ?_)
  · refine Z_iconst (nI 0) dX5_has_13 rfl ?_
    refine Z_ireturn dX5_has_14 rfl rfl ?_
    exact kf (by simpa [zbit] using c6)
  · refine Z_iconst (nI 1) dX5_has_9 rfl ?_
    refine Z_goto 14 dX5_has_10 rfl ?_
    refine Z_ireturn dX5_has_14 rfl rfl ?_
    exact kt (by simpa [zbit] using c6)
set_option maxHeartbeats 4000000 in
theorem c_X5_flag {n : Nat} (hn : n < 2) (k : Q (.inl (some (.int (nI n)))) I L P S) : Zm G mX5_flag 0 C Sl [.int (nI n)] I L P S Q := by
  refine Z_entry (lv := [_]) (Nat.le_of_ble_eq_true rfl) rfl ?_
  refine Z_iload_n dX5_flag_0 rfl ?_
  refine Z_ifeqN 8 dX5_flag_1 rfl (by omega) (fun c1 => ?_) (fun c1 => ?_)
  · refine Z_iconst (nI 0) dX5_flag_8 rfl ?_
    refine Z_ireturn dX5_flag_9 rfl rfl ?_
    obtain rfl : n = 0 := by omega
    exact k
  · refine Z_iconst (nI 1) dX5_flag_4 rfl ?_
    refine Z_goto 9 dX5_flag_5 rfl ?_
    refine Z_ireturn dX5_flag_9 rfl rfl ?_
    obtain rfl : n = 1 := by omega
    exact k
set_option maxHeartbeats 4000000 in
theorem c_X5_refuse (hM : mOk P S) (k : Q (.inl (some (.int (nI 0)))) (zw I 0 0 (nI 1)) L P S) : Zm G mX5_refuse 0 C Sl [.ref 0] I L P S Q := by
  refine Z_entry (lv := [_]) (Nat.le_of_ble_eq_true rfl) rfl ?_
  refine Z_aload_n dX5_refuse_0 rfl ?_
  refine Z_iconst (nI 1) dX5_refuse_1 rfl ?_
  refine Z_putI hM.1 fX5_3_4 dX5_refuse_2 rfl rfl rfl ?_
  refine Z_iconst (nI 0) dX5_refuse_5 rfl ?_
  refine Z_ireturn dX5_refuse_6 rfl rfl ?_
  exact k
set_option maxHeartbeats 4000000 in
theorem c_X5_thrown (hM : mOk P S) (k : Q (.inl (some (.int (I 0 0)))) I L P S) : Zm G mX5_thrown 0 C Sl [.ref 0] I L P S Q := by
  refine Z_entry (lv := [_]) (Nat.le_of_ble_eq_true rfl) rfl ?_
  refine Z_aload_n dX5_thrown_0 rfl ?_
  refine Z_getI hM.1 fX5_3_4 dX5_thrown_1 rfl ?_
  refine Z_ireturn dX5_thrown_4 rfl rfl ?_
  exact k
set_option maxHeartbeats 4000000 in
theorem c_X5_enters (hM : mOk P S) {v : Int64} {r : Nat} (hr : r < 24) (hI : I 0 1 = nI r) (k : Q (.inl none) (zw I 0 1 (nI (r + 1))) (zw L 2 r v) P S) : Zm G mX5_enters 0 C Sl [.ref 0, .long v] I L P S Q := by
  refine Z_entry (lv := [_, _, _]) (Nat.le_of_ble_eq_true rfl) rfl ?_
  refine Z_aload_n dX5_enters_0 rfl ?_
  refine Z_getR (r := 2) hM.1 fX5_7_4 dX5_enters_1 rfl (hM.2.2 2 _ rfl rfl) ?_
  refine Z_aload_n dX5_enters_4 rfl ?_
  refine Z_getI hM.1 fX5_11_4 dX5_enters_5 rfl ?_
  refine Z_re (y := nI (r)) hI ?_
  refine Z_lload_n dX5_enters_8 rfl ?_
  refine Z_last (hM.2.1 2 _ rfl) (zix_nI (by omega) (by decide)) dX5_enters_9 ?_
  refine Z_aload_n dX5_enters_10 rfl ?_
  refine Z_dup dX5_enters_11 rfl ?_
  refine Z_getI hM.1 fX5_11_4 dX5_enters_12 rfl ?_
  refine Z_re (y := nI (r)) hI ?_
  refine Z_iconst (nI 1) dX5_enters_15 rfl ?_
  refine Z_iaddN dX5_enters_16 ?_
  refine Z_putI hM.1 fX5_11_4 dX5_enters_17 rfl rfl rfl ?_
  refine Z_return dX5_enters_20 rfl ?_
  exact k
set_option maxHeartbeats 4000000 in
theorem c_X5_isHour {h : Int32} (kt : 0 ≤ h.toInt → h.toInt ≤ 2399 → Q (.inl (some (.int (nI 1)))) I L P S) (kf : ¬ (0 ≤ h.toInt ∧ h.toInt ≤ 2399) → Q (.inl (some (.int (nI 0)))) I L P S) : Zm G mX5_isHour 1 C Sl [.int h] I L P S Q := by
  refine Z_entry (lv := [_]) (Nat.le_of_ble_eq_true rfl) rfl ?_
  refine Z_iload_n dX5_isHour_0 rfl ?_
  refine Z_i2l dX5_isHour_1 ?_
  refine Z_lconst (0) dX5_isHour_2 rfl ?_
  refine Z_ldc2 q1263 dX5_isHour_3 ?_
  refine Z_callS0 (d' := 0) (zCal_S gX5_25 nX5_in (by decide) dX5_isHour_6) pX5_in [_, _, _] rfl rfl (Nat.le_of_ble_eq_true rfl) (by omega) (c_X5_in (fun h6a h6b => ?_) (fun h6 => ?_))
  · refine Z_ireturn dX5_isHour_9 rfl rfl ?_
    rw [z_i64] at h6a h6b
    exact kt h6a h6b
  · refine Z_ireturn dX5_isHour_9 rfl rfl ?_
    rw [z_i64] at h6
    exact kf h6
set_option maxHeartbeats 4000000 in
theorem c_X5_isDay {h : Int32} (kt : 0 ≤ h.toInt → h.toInt ≤ 99 → Q (.inl (some (.int (nI 1)))) I L P S) (kf : ¬ (0 ≤ h.toInt ∧ h.toInt ≤ 99) → Q (.inl (some (.int (nI 0)))) I L P S) : Zm G mX5_isDay 1 C Sl [.int h] I L P S Q := by
  refine Z_entry (lv := [_]) (Nat.le_of_ble_eq_true rfl) rfl ?_
  refine Z_iload_n dX5_isDay_0 rfl ?_
  refine Z_i2l dX5_isDay_1 ?_
  refine Z_lconst (0) dX5_isDay_2 rfl ?_
  refine Z_ldc2 q1244 dX5_isDay_3 ?_
  refine Z_callS0 (d' := 0) (zCal_S gX5_25 nX5_in (by decide) dX5_isDay_6) pX5_in [_, _, _] rfl rfl (Nat.le_of_ble_eq_true rfl) (by omega) (c_X5_in (fun h6a h6b => ?_) (fun h6 => ?_))
  · refine Z_ireturn dX5_isDay_9 rfl rfl ?_
    rw [z_i64] at h6a h6b
    exact kt h6a h6b
  · refine Z_ireturn dX5_isDay_9 rfl rfl ?_
    rw [z_i64] at h6
    exact kf h6
set_option maxHeartbeats 4000000 in
theorem c_X5_isOffice (hM : mOk P S) {o : Int32} {n : Nat} (hn : n < 1000) (hI : I 0 3 = nI n) (kt : ∀ k, k < n → o = nI k → Q (.inl (some (.int (nI 1)))) I L P S) (kf : ¬ (0 ≤ o.toInt ∧ o.toInt < n) → Q (.inl (some (.int (nI 0)))) I L P S) : Zm G mX5_isOffice 1 C Sl [.ref 0, .int o] I L P S Q := by
  refine Z_entry (lv := [_, _]) (Nat.le_of_ble_eq_true rfl) rfl ?_
  refine Z_iload_n dX5_isOffice_0 rfl ?_
  refine Z_i2l dX5_isOffice_1 ?_
  refine Z_lconst (0) dX5_isOffice_2 rfl ?_
  refine Z_aload_n dX5_isOffice_3 rfl ?_
  refine Z_getI hM.1 fX5_22_4 dX5_isOffice_4 rfl ?_
  refine Z_re (y := nI (n)) hI ?_
  refine Z_iconst (nI 1) dX5_isOffice_7 rfl ?_
  refine Z_isub dX5_isOffice_8 ?_
  refine Z_i2l dX5_isOffice_9 ?_
  refine Z_callS0 (d' := 0) (zCal_S gX5_25 nX5_in (by decide) dX5_isOffice_10) pX5_in [_, _, _] rfl rfl (Nat.le_of_ble_eq_true rfl) (by omega) (c_X5_in (fun h10a h10b => ?_) (fun h10 => ?_))
  · refine Z_ireturn dX5_isOffice_13 rfl rfl ?_
    rw [z_i64] at h10a h10b
    rw [z_i64, z_pred (by omega)] at h10b
    obtain ⟨k, hk, rfl⟩ := z_rng (n := n) h10a (by omega) (by omega)
    rw [z_ti (by omega)] at h10b
    exact kt k (by omega) rfl
  · refine Z_ireturn dX5_isOffice_13 rfl rfl ?_
    rw [z_i64, z_i64, z_pred (by omega)] at h10
    exact kf (fun q => h10 ⟨q.1, by omega⟩)
set_option maxHeartbeats 4000000 in
theorem c_X5_isPiece (hM : mOk P S) {o : Int32} {n : Nat} (hn : n < 1000) (hI : I 0 16 = nI n) (kt : ∀ k, k < n → o = nI k → Q (.inl (some (.int (nI 1)))) I L P S) (kf : ¬ (0 ≤ o.toInt ∧ o.toInt < n) → Q (.inl (some (.int (nI 0)))) I L P S) : Zm G mX5_isPiece 1 C Sl [.ref 0, .int o] I L P S Q := by
  refine Z_entry (lv := [_, _]) (Nat.le_of_ble_eq_true rfl) rfl ?_
  refine Z_iload_n dX5_isPiece_0 rfl ?_
  refine Z_i2l dX5_isPiece_1 ?_
  refine Z_lconst (0) dX5_isPiece_2 rfl ?_
  refine Z_aload_n dX5_isPiece_3 rfl ?_
  refine Z_getI hM.1 fX5_151_4 dX5_isPiece_4 rfl ?_
  refine Z_re (y := nI (n)) hI ?_
  refine Z_iconst (nI 1) dX5_isPiece_7 rfl ?_
  refine Z_isub dX5_isPiece_8 ?_
  refine Z_i2l dX5_isPiece_9 ?_
  refine Z_callS0 (d' := 0) (zCal_S gX5_25 nX5_in (by decide) dX5_isPiece_10) pX5_in [_, _, _] rfl rfl (Nat.le_of_ble_eq_true rfl) (by omega) (c_X5_in (fun h10a h10b => ?_) (fun h10 => ?_))
  · refine Z_ireturn dX5_isPiece_13 rfl rfl ?_
    rw [z_i64] at h10a h10b
    rw [z_i64, z_pred (by omega)] at h10b
    obtain ⟨k, hk, rfl⟩ := z_rng (n := n) h10a (by omega) (by omega)
    rw [z_ti (by omega)] at h10b
    exact kt k (by omega) rfl
  · refine Z_ireturn dX5_isPiece_13 rfl rfl ?_
    rw [z_i64, z_i64, z_pred (by omega)] at h10
    exact kf (fun q => h10 ⟨q.1, by omega⟩)
set_option maxHeartbeats 4000000 in
theorem c_J5_floorMod {x y : Int32} (h0 : ¬ y = 0) (k : Q (.inl (some (.int (fMod x y)))) I L P S) : Zm G mJ5_floorMod 0 C Sl [.int x, .int y] I L P S Q := by
  refine Z_entry (lv := [_, _, _]) (Nat.le_of_ble_eq_true rfl) rfl ?_
  refine Z_iload_n dJ5_floorMod_0 rfl ?_
  refine Z_iload_n dJ5_floorMod_1 rfl ?_
  refine Z_irem dJ5_floorMod_2 h0 ?_
  refine Z_istore_n (lv' := [_, _, _]) dJ5_floorMod_3 rfl rfl (Nat.le_of_ble_eq_true rfl) ?_
  refine Z_iload_n dJ5_floorMod_4 rfl ?_
  refine Z_iload_n dJ5_floorMod_5 rfl ?_
  refine Z_ixor dJ5_floorMod_6 ?_
  refine Z_ifge 18 dJ5_floorMod_7 rfl (fun c7 => ?_) (fun c7 => ?_)
  · refine Z_iload_n dJ5_floorMod_18 rfl ?_
    refine Z_ireturn dJ5_floorMod_19 rfl rfl ?_
    exact zQe (by simp [fMod, c7]) k
  · refine Z_iload_n dJ5_floorMod_10 rfl ?_
    refine Z_ifeq 18 dJ5_floorMod_11 rfl (fun c11 => ?_) (fun c11 => ?_)
    · refine Z_iload_n dJ5_floorMod_18 rfl ?_
      refine Z_ireturn dJ5_floorMod_19 rfl rfl ?_
      exact zQe (by simp [fMod, c7, c11]) k
    · refine Z_iload_n dJ5_floorMod_14 rfl ?_
      refine Z_iload_n dJ5_floorMod_15 rfl ?_
      refine Z_iadd dJ5_floorMod_16 ?_
      refine Z_ireturn dJ5_floorMod_17 rfl rfl ?_
      exact zQe (by simp [fMod, c7, c11]) k
set_option maxHeartbeats 4000000 in
theorem c_J5_floorDiv {x y : Int32} (h0 : ¬ y = 0) (k : Q (.inl (some (.int (fDiv x y)))) I L P S) : Zm G mJ5_floorDiv 0 C Sl [.int x, .int y] I L P S Q := by
  refine Z_entry (lv := [_, _, _]) (Nat.le_of_ble_eq_true rfl) rfl ?_
  refine Z_iload_n dJ5_floorDiv_0 rfl ?_
  refine Z_iload_n dJ5_floorDiv_1 rfl ?_
  refine Z_idiv dJ5_floorDiv_2 h0 ?_
  refine Z_istore_n (lv' := [_, _, _]) dJ5_floorDiv_3 rfl rfl (Nat.le_of_ble_eq_true rfl) ?_
  refine Z_iload_n dJ5_floorDiv_4 rfl ?_
  refine Z_iload_n dJ5_floorDiv_5 rfl ?_
  refine Z_ixor dJ5_floorDiv_6 ?_
  refine Z_ifge 21 dJ5_floorDiv_7 rfl (fun c7 => ?_) (fun c7 => ?_)
  · refine Z_iload_n dJ5_floorDiv_21 rfl ?_
    refine Z_ireturn dJ5_floorDiv_22 rfl rfl ?_
    exact zQe (by simp [fDiv, c7]) k
  · refine Z_iload_n dJ5_floorDiv_10 rfl ?_
    refine Z_iload_n dJ5_floorDiv_11 rfl ?_
    refine Z_imul dJ5_floorDiv_12 ?_
    refine Z_iload_n dJ5_floorDiv_13 rfl ?_
    refine Z_icmpeq 21 dJ5_floorDiv_14 rfl (fun c14 => ?_) (fun c14 => ?_)
    · refine Z_iload_n dJ5_floorDiv_21 rfl ?_
      refine Z_ireturn dJ5_floorDiv_22 rfl rfl ?_
      exact zQe (by simp [fDiv, c7, c14]) k
    · refine Z_iload_n dJ5_floorDiv_17 rfl ?_
      refine Z_iconst (nI 1) dJ5_floorDiv_18 rfl ?_
      refine Z_isub dJ5_floorDiv_19 ?_
      refine Z_ireturn dJ5_floorDiv_20 rfl rfl ?_
      exact zQe (by simp [fDiv, c7, c14]) k
set_option maxHeartbeats 4000000 in
theorem c_J5_max {x y : Int32} (k : Q (.inl (some (.int (mx x y)))) I L P S) : Zm G mJ5_max 0 C Sl [.int x, .int y] I L P S Q := by
  refine Z_entry (lv := [_, _]) (Nat.le_of_ble_eq_true rfl) rfl ?_
  refine Z_iload_n dJ5_max_0 rfl ?_
  refine Z_iload_n dJ5_max_1 rfl ?_
  refine Z_icmplt 9 dJ5_max_2 rfl (fun c2 => ?_) (fun c2 => ?_)
  · refine Z_iload_n dJ5_max_9 rfl ?_
    refine Z_ireturn dJ5_max_10 rfl rfl ?_
    exact zQe (by simp [mx, c2]) k
  · refine Z_iload_n dJ5_max_5 rfl ?_
    refine Z_goto 10 dJ5_max_6 rfl ?_
    refine Z_ireturn dJ5_max_10 rfl rfl ?_
    exact zQe (by simp [mx, c2]) k
set_option maxHeartbeats 4000000 in
theorem c_J5_min {x y : Int32} (k : Q (.inl (some (.int (mn x y)))) I L P S) : Zm G mJ5_min 0 C Sl [.int x, .int y] I L P S Q := by
  refine Z_entry (lv := [_, _]) (Nat.le_of_ble_eq_true rfl) rfl ?_
  refine Z_iload_n dJ5_min_0 rfl ?_
  refine Z_iload_n dJ5_min_1 rfl ?_
  refine Z_icmpgt 9 dJ5_min_2 rfl (fun c2 => ?_) (fun c2 => ?_)
  · refine Z_iload_n dJ5_min_9 rfl ?_
    refine Z_ireturn dJ5_min_10 rfl rfl ?_
    exact zQe (by simp [mn, c2]) k
  · refine Z_iload_n dJ5_min_5 rfl ?_
    refine Z_goto 10 dJ5_min_6 rfl ?_
    refine Z_ireturn dJ5_min_10 rfl rfl ?_
    exact zQe (by simp [mn, c2]) k
end M1
