set_option maxRecDepth 100000
/-! THE COMPONENT, part 30: a sheet of who knows whom -/
section X30C
variable {G : zG} {d C Sl : Nat} {I D W : zI} {R : List Int64} {L : zL} {P : zR} {S : zT} {Q : zQ} {no n np : Nat} {s : zS} {oh ph : Nat → Nat} {ro : Option (List Nat)}
def kTy (y : Nat) : FieldType := if y = 0 then .byte else if y = 1 then .short else .int
theorem i8_8 {v : Int32} : v.toInt8.toInt32.toInt8.toInt32 = v.toInt8.toInt32 := by simp
theorem i16_16 {v : Int32} : v.toInt16.toInt32.toInt16.toInt32 = v.toInt16.toInt32 := by simp
set_option maxHeartbeats 4000000 in
theorem c_X1_rowOf0 {a k : Nat} (hS : S a = none) (hk6 : k ≤ 6) {f t : Int32} (kt : ∀ I2, (∀ i, i < k → I2 a i = shI (nI 0) (shV f t i)) → (∀ b, b ≠ a → I2 b = I b) → Q (.inl (some (.ref a))) I2 (zu L a fun _ => 0) (zu P a fun _ => none) (zu S a (some (.inr (.byte, k))))) : Zm G mX1_rowOf 200 (C + 3) (Sl + 54) [.int (nI 0), .int (nI k), .int f, .int t] I L P S Q := by
  refine Z_entry (lv := [_, _, _, _, _, _, _]) (Nat.le_of_ble_eq_true rfl) rfl ?_
  refine Z_iload_n dX1_rowOf_0 rfl ?_
  refine Z_istore (lv' := [_, _, _, _, _, _, _]) dX1_rowOf_1 rfl rfl (Nat.le_of_ble_eq_true rfl) ?_
  refine Z_iload_n dX1_rowOf_3 rfl ?_
  refine Z_ifne 44 dX1_rowOf_4 rfl (fun h => absurd h (by decide)) (fun _ => ?_)
  refine Z_iload_n dX1_rowOf_7 rfl ?_
  refine Zj.less (C := C + 1) (Sl := Sl + k) ?_ (Nat.le_refl _) (by omega) (by omega)
  refine Z_newa (N := k) a hS .byte (by simp [zTys, newarray.typeOf]) rfl q320 (nI_pos (by omega)) (nI_clamp (by omega)) (Nat.le_trans (Nat.mul_le_mul_right _ hk6) (by decide)) dX1_rowOf_8 ?_
  refine Z_astore (lv' := [_, _, _, _, _, _, _]) dX1_rowOf_10 rfl rfl (Nat.le_of_ble_eq_true rfl) ?_
  refine Z_iconst (nI 0) dX1_rowOf_12 rfl ?_
  refine Z_istore (lv' := [_, _, _, _, _, _, _]) dX1_rowOf_13 rfl rfl (Nat.le_of_ble_eq_true rfl) ?_
  have lp15 : ∀ i, i ≤ k → ∀ I2, (∀ j, j < i → I2 a j = shI (nI 0) (shV f t j)) → (∀ b, b ≠ a → I2 b = I b) → Zj G mX1_rowOf 200 C Sl 15 [.int (nI 0), .int (nI k), .int f, .int t, .int (shV f t i), .ref a, .int (nI i)] [] I2 (zu L a fun _ => 0) (zu P a fun _ => none) (zu S a (some (.inr (.byte, k)))) Q := by
    refine zloop (k) (fun i => ∀ I2, (∀ j, j < i → I2 a j = shI (nI 0) (shV f t j)) → (∀ b, b ≠ a → I2 b = I b) → Zj G mX1_rowOf 200 C Sl 15 [.int (nI 0), .int (nI k), .int f, .int t, .int (shV f t i), .ref a, .int (nI i)] [] I2 (zu L a fun _ => 0) (zu P a fun _ => none) (zu S a (some (.inr (.byte, k)))) Q) (fun i hi ih => ?_)
    intro I2 g1 g2
    show Zj _ _ _ _ _ _ _ _ _ _ _ _ _
    refine Z_iload dX1_rowOf_15 rfl ?_
    refine Z_iload_n dX1_rowOf_17 rfl ?_
    refine Z_icmpgeN 41 dX1_rowOf_18 rfl (by omega) (by omega) (fun c18 => ?_) (fun c18 => ?_)
    · obtain rfl : i = k := by omega
      refine Z_aload dX1_rowOf_41 rfl ?_
      refine Z_areturn dX1_rowOf_43 rfl (by first | exact Or.inl ⟨_, rfl⟩ | exact Or.inr ⟨_, rfl⟩) ?_
      exact kt _ g1 g2
    · refine Z_aload dX1_rowOf_21 rfl ?_
      refine Z_iload dX1_rowOf_23 rfl ?_
      refine Z_iload dX1_rowOf_25 rfl ?_
      refine Z_i2b dX1_rowOf_27 ?_
      refine Z_bast (zu_s _ _ _) (zix_nI (by omega) (by omega)) dX1_rowOf_28 ?_
      refine Z_iincN (a := _) (k := 1) (lv' := [_, _, _, _, _, _, _]) dX1_rowOf_29 rfl rfl rfl rfl ?_
      refine Z_iload dX1_rowOf_32 rfl ?_
      refine Z_iload_n dX1_rowOf_34 rfl ?_
      refine Z_iadd dX1_rowOf_35 ?_
      refine Z_istore (lv' := [_, _, _, _, _, _, _]) dX1_rowOf_36 rfl rfl (Nat.le_of_ble_eq_true rfl) ?_
      refine Z_goto 15 dX1_rowOf_38 rfl ?_
      refine ih (by omega) _ (fun j hj => ?_) (fun b hb => (zw_n _ _ _ _ hb).trans (g2 b hb))
      by_cases e : j = i
      · subst e; rw [zw_s]; rw [i8_8]; rfl
      · rw [zw_a, zu_n _ _ _ e]; exact g1 j (by omega)
  exact lp15 0 (by omega) _ (fun j hj => absurd hj (by omega)) (fun b hb => zu_n _ _ _ hb)
set_option maxHeartbeats 4000000 in
theorem c_X1_rowOf1 {a k : Nat} (hS : S a = none) (hk6 : k ≤ 6) {f t : Int32} (kt : ∀ I2, (∀ i, i < k → I2 a i = shI (nI 1) (shV f t i)) → (∀ b, b ≠ a → I2 b = I b) → Q (.inl (some (.ref a))) I2 (zu L a fun _ => 0) (zu P a fun _ => none) (zu S a (some (.inr (.short, k))))) : Zm G mX1_rowOf 200 (C + 3) (Sl + 54) [.int (nI 1), .int (nI k), .int f, .int t] I L P S Q := by
  refine Z_entry (lv := [_, _, _, _, _, _, _]) (Nat.le_of_ble_eq_true rfl) rfl ?_
  refine Z_iload_n dX1_rowOf_0 rfl ?_
  refine Z_istore (lv' := [_, _, _, _, _, _, _]) dX1_rowOf_1 rfl rfl (Nat.le_of_ble_eq_true rfl) ?_
  refine Z_iload_n dX1_rowOf_3 rfl ?_
  refine Z_ifne 44 dX1_rowOf_4 rfl (fun _ => ?_) (fun h => absurd h (by decide))
  refine Z_iload_n dX1_rowOf_44 rfl ?_
  refine Z_iconst (nI 1) dX1_rowOf_45 rfl ?_
  refine Z_icmpne 86 dX1_rowOf_46 rfl (fun h => absurd h (by decide)) (fun _ => ?_)
  refine Z_iload_n dX1_rowOf_49 rfl ?_
  refine Zj.less (C := C + 1) (Sl := Sl + k) ?_ (Nat.le_refl _) (by omega) (by omega)
  refine Z_newa (N := k) a hS .short (by simp [zTys, newarray.typeOf]) rfl q496 (nI_pos (by omega)) (nI_clamp (by omega)) (Nat.le_trans (Nat.mul_le_mul_right _ hk6) (by decide)) dX1_rowOf_50 ?_
  refine Z_astore (lv' := [_, _, _, _, _, _, _]) dX1_rowOf_52 rfl rfl (Nat.le_of_ble_eq_true rfl) ?_
  refine Z_iconst (nI 0) dX1_rowOf_54 rfl ?_
  refine Z_istore (lv' := [_, _, _, _, _, _, _]) dX1_rowOf_55 rfl rfl (Nat.le_of_ble_eq_true rfl) ?_
  have lp57 : ∀ i, i ≤ k → ∀ I2, (∀ j, j < i → I2 a j = shI (nI 1) (shV f t j)) → (∀ b, b ≠ a → I2 b = I b) → Zj G mX1_rowOf 200 C Sl 57 [.int (nI 1), .int (nI k), .int f, .int t, .int (shV f t i), .ref a, .int (nI i)] [] I2 (zu L a fun _ => 0) (zu P a fun _ => none) (zu S a (some (.inr (.short, k)))) Q := by
    refine zloop (k) (fun i => ∀ I2, (∀ j, j < i → I2 a j = shI (nI 1) (shV f t j)) → (∀ b, b ≠ a → I2 b = I b) → Zj G mX1_rowOf 200 C Sl 57 [.int (nI 1), .int (nI k), .int f, .int t, .int (shV f t i), .ref a, .int (nI i)] [] I2 (zu L a fun _ => 0) (zu P a fun _ => none) (zu S a (some (.inr (.short, k)))) Q) (fun i hi ih => ?_)
    intro I2 g1 g2
    show Zj _ _ _ _ _ _ _ _ _ _ _ _ _
    refine Z_iload dX1_rowOf_57 rfl ?_
    refine Z_iload_n dX1_rowOf_59 rfl ?_
    refine Z_icmpgeN 83 dX1_rowOf_60 rfl (by omega) (by omega) (fun c60 => ?_) (fun c60 => ?_)
    · obtain rfl : i = k := by omega
      refine Z_aload dX1_rowOf_83 rfl ?_
      refine Z_areturn dX1_rowOf_85 rfl (by first | exact Or.inl ⟨_, rfl⟩ | exact Or.inr ⟨_, rfl⟩) ?_
      exact kt _ g1 g2
    · refine Z_aload dX1_rowOf_63 rfl ?_
      refine Z_iload dX1_rowOf_65 rfl ?_
      refine Z_iload dX1_rowOf_67 rfl ?_
      refine Z_i2s dX1_rowOf_69 ?_
      refine Z_sast (zu_s _ _ _) (zix_nI (by omega) (by omega)) dX1_rowOf_70 ?_
      refine Z_iincN (a := _) (k := 1) (lv' := [_, _, _, _, _, _, _]) dX1_rowOf_71 rfl rfl rfl rfl ?_
      refine Z_iload dX1_rowOf_74 rfl ?_
      refine Z_iload_n dX1_rowOf_76 rfl ?_
      refine Z_iadd dX1_rowOf_77 ?_
      refine Z_istore (lv' := [_, _, _, _, _, _, _]) dX1_rowOf_78 rfl rfl (Nat.le_of_ble_eq_true rfl) ?_
      refine Z_goto 57 dX1_rowOf_80 rfl ?_
      refine ih (by omega) _ (fun j hj => ?_) (fun b hb => (zw_n _ _ _ _ hb).trans (g2 b hb))
      by_cases e : j = i
      · subst e; rw [zw_s]; rw [i16_16]; rfl
      · rw [zw_a, zu_n _ _ _ e]; exact g1 j (by omega)
  exact lp57 0 (by omega) _ (fun j hj => absurd hj (by omega)) (fun b hb => zu_n _ _ _ hb)
set_option maxHeartbeats 4000000 in
theorem c_X1_rowOf2 {a k : Nat} (hS : S a = none) (hk6 : k ≤ 6) {f t : Int32} (kt : ∀ I2, (∀ i, i < k → I2 a i = shI (nI 2) (shV f t i)) → (∀ b, b ≠ a → I2 b = I b) → Q (.inl (some (.ref a))) I2 (zu L a fun _ => 0) (zu P a fun _ => none) (zu S a (some (.inr (.int, k))))) : Zm G mX1_rowOf 200 (C + 3) (Sl + 54) [.int (nI 2), .int (nI k), .int f, .int t] I L P S Q := by
  refine Z_entry (lv := [_, _, _, _, _, _, _]) (Nat.le_of_ble_eq_true rfl) rfl ?_
  refine Z_iload_n dX1_rowOf_0 rfl ?_
  refine Z_istore (lv' := [_, _, _, _, _, _, _]) dX1_rowOf_1 rfl rfl (Nat.le_of_ble_eq_true rfl) ?_
  refine Z_iload_n dX1_rowOf_3 rfl ?_
  refine Z_ifne 44 dX1_rowOf_4 rfl (fun _ => ?_) (fun h => absurd h (by decide))
  refine Z_iload_n dX1_rowOf_44 rfl ?_
  refine Z_iconst (nI 1) dX1_rowOf_45 rfl ?_
  refine Z_icmpne 86 dX1_rowOf_46 rfl (fun _ => ?_) (fun h => absurd h (by decide))
  refine Z_iload_n dX1_rowOf_86 rfl ?_
  refine Zj.less (C := C + 1) (Sl := Sl + k) ?_ (Nat.le_refl _) (by omega) (by omega)
  refine Z_newa (N := k) a hS .int (by simp [zTys, newarray.typeOf]) rfl q165 (nI_pos (by omega)) (nI_clamp (by omega)) (Nat.le_trans (Nat.mul_le_mul_right _ hk6) (by decide)) dX1_rowOf_87 ?_
  refine Z_astore (lv' := [_, _, _, _, _, _, _]) dX1_rowOf_89 rfl rfl (Nat.le_of_ble_eq_true rfl) ?_
  refine Z_iconst (nI 0) dX1_rowOf_91 rfl ?_
  refine Z_istore (lv' := [_, _, _, _, _, _, _]) dX1_rowOf_92 rfl rfl (Nat.le_of_ble_eq_true rfl) ?_
  have lp94 : ∀ i, i ≤ k → ∀ I2, (∀ j, j < i → I2 a j = shI (nI 2) (shV f t j)) → (∀ b, b ≠ a → I2 b = I b) → Zj G mX1_rowOf 200 C Sl 94 [.int (nI 2), .int (nI k), .int f, .int t, .int (shV f t i), .ref a, .int (nI i)] [] I2 (zu L a fun _ => 0) (zu P a fun _ => none) (zu S a (some (.inr (.int, k)))) Q := by
    refine zloop (k) (fun i => ∀ I2, (∀ j, j < i → I2 a j = shI (nI 2) (shV f t j)) → (∀ b, b ≠ a → I2 b = I b) → Zj G mX1_rowOf 200 C Sl 94 [.int (nI 2), .int (nI k), .int f, .int t, .int (shV f t i), .ref a, .int (nI i)] [] I2 (zu L a fun _ => 0) (zu P a fun _ => none) (zu S a (some (.inr (.int, k)))) Q) (fun i hi ih => ?_)
    intro I2 g1 g2
    show Zj _ _ _ _ _ _ _ _ _ _ _ _ _
    refine Z_iload dX1_rowOf_94 rfl ?_
    refine Z_iload_n dX1_rowOf_96 rfl ?_
    refine Z_icmpgeN 119 dX1_rowOf_97 rfl (by omega) (by omega) (fun c97 => ?_) (fun c97 => ?_)
    · obtain rfl : i = k := by omega
      refine Z_aload dX1_rowOf_119 rfl ?_
      refine Z_areturn dX1_rowOf_121 rfl (by first | exact Or.inl ⟨_, rfl⟩ | exact Or.inr ⟨_, rfl⟩) ?_
      exact kt _ g1 g2
    · refine Z_aload dX1_rowOf_100 rfl ?_
      refine Z_iload dX1_rowOf_102 rfl ?_
      refine Z_iload dX1_rowOf_104 rfl ?_
      refine Z_iast (zu_s _ _ _) (zix_nI (by omega) (by omega)) dX1_rowOf_106 ?_
      refine Z_iincN (a := _) (k := 1) (lv' := [_, _, _, _, _, _, _]) dX1_rowOf_107 rfl rfl rfl rfl ?_
      refine Z_iload dX1_rowOf_110 rfl ?_
      refine Z_iload_n dX1_rowOf_112 rfl ?_
      refine Z_iadd dX1_rowOf_113 ?_
      refine Z_istore (lv' := [_, _, _, _, _, _, _]) dX1_rowOf_114 rfl rfl (Nat.le_of_ble_eq_true rfl) ?_
      refine Z_goto 94 dX1_rowOf_116 rfl ?_
      refine ih (by omega) _ (fun j hj => ?_) (fun b hb => (zw_n _ _ _ _ hb).trans (g2 b hb))
      by_cases e : j = i
      · subst e; rw [zw_s]; rfl
      · rw [zw_a, zu_n _ _ _ e]; exact g1 j (by omega)
  exact lp94 0 (by omega) _ (fun j hj => absurd hj (by omega)) (fun b hb => zu_n _ _ _ hb)
set_option maxHeartbeats 4000000 in
theorem c_X1_rowX0 {m f t : Int32} (hm : m < 0) (kx : Q (.inr (17, none)) I L P S) : Zm G mX1_rowOf 200 (C + 3) (Sl + 54) [.int (nI 0), .int m, .int f, .int t] I L P S Q := by
  refine Z_entry (lv := [_, _, _, _, _, _, _]) (Nat.le_of_ble_eq_true rfl) rfl ?_
  refine Z_iload_n dX1_rowOf_0 rfl ?_
  refine Z_istore (lv' := [_, _, _, _, _, _, _]) dX1_rowOf_1 rfl rfl (Nat.le_of_ble_eq_true rfl) ?_
  refine Z_iload_n dX1_rowOf_3 rfl ?_
  refine Z_ifne 44 dX1_rowOf_4 rfl (fun h => absurd h (by decide)) (fun _ => ?_)
  refine Z_iload_n dX1_rowOf_7 rfl ?_
  exact Z_newaX (d := 0) hm dX1_rowOf_8 (by decide) (Zx_out (fun x hx => by cases hx) kx)
set_option maxHeartbeats 4000000 in
theorem c_X1_rowX1 {m f t : Int32} (hm : m < 0) (kx : Q (.inr (17, none)) I L P S) : Zm G mX1_rowOf 200 (C + 3) (Sl + 54) [.int (nI 1), .int m, .int f, .int t] I L P S Q := by
  refine Z_entry (lv := [_, _, _, _, _, _, _]) (Nat.le_of_ble_eq_true rfl) rfl ?_
  refine Z_iload_n dX1_rowOf_0 rfl ?_
  refine Z_istore (lv' := [_, _, _, _, _, _, _]) dX1_rowOf_1 rfl rfl (Nat.le_of_ble_eq_true rfl) ?_
  refine Z_iload_n dX1_rowOf_3 rfl ?_
  refine Z_ifne 44 dX1_rowOf_4 rfl (fun _ => ?_) (fun h => absurd h (by decide))
  refine Z_iload_n dX1_rowOf_44 rfl ?_
  refine Z_iconst (nI 1) dX1_rowOf_45 rfl ?_
  refine Z_icmpne 86 dX1_rowOf_46 rfl (fun h => absurd h (by decide)) (fun _ => ?_)
  refine Z_iload_n dX1_rowOf_49 rfl ?_
  exact Z_newaX (d := 0) hm dX1_rowOf_50 (by decide) (Zx_out (fun x hx => by cases hx) kx)
set_option maxHeartbeats 4000000 in
theorem c_X1_rowX2 {m f t : Int32} (hm : m < 0) (kx : Q (.inr (17, none)) I L P S) : Zm G mX1_rowOf 200 (C + 3) (Sl + 54) [.int (nI 2), .int m, .int f, .int t] I L P S Q := by
  refine Z_entry (lv := [_, _, _, _, _, _, _]) (Nat.le_of_ble_eq_true rfl) rfl ?_
  refine Z_iload_n dX1_rowOf_0 rfl ?_
  refine Z_istore (lv' := [_, _, _, _, _, _, _]) dX1_rowOf_1 rfl rfl (Nat.le_of_ble_eq_true rfl) ?_
  refine Z_iload_n dX1_rowOf_3 rfl ?_
  refine Z_ifne 44 dX1_rowOf_4 rfl (fun _ => ?_) (fun h => absurd h (by decide))
  refine Z_iload_n dX1_rowOf_44 rfl ?_
  refine Z_iconst (nI 1) dX1_rowOf_45 rfl ?_
  refine Z_icmpne 86 dX1_rowOf_46 rfl (fun _ => ?_) (fun h => absurd h (by decide))
  refine Z_iload_n dX1_rowOf_86 rfl ?_
  exact Z_newaX (d := 0) hm dX1_rowOf_87 (by decide) (Zx_out (fun x hx => by cases hx) kx)
theorem c_X1_rowOf {a k y : Nat} (hy : y < 3) (hS : S a = none) (hk6 : k ≤ 6) {f t : Int32} (kt : ∀ I2, (∀ i, i < k → I2 a i = shI (nI y) (shV f t i)) → (∀ b, b ≠ a → I2 b = I b) → Q (.inl (some (.ref a))) I2 (zu L a fun _ => 0) (zu P a fun _ => none) (zu S a (some (.inr (kTy y, k))))) : Zm G mX1_rowOf 200 (C + 3) (Sl + 54) [.int (nI y), .int (nI k), .int f, .int t] I L P S Q := by
  obtain rfl | rfl | rfl : y = 0 ∨ y = 1 ∨ y = 2 := by omega
  · exact c_X1_rowOf0 hS hk6 kt
  · exact c_X1_rowOf1 hS hk6 kt
  · exact c_X1_rowOf2 hS hk6 kt
theorem c_X1_rowX {y : Nat} (hy : y < 3) {m f t : Int32} (hm : m < 0) (kx : Q (.inr (17, none)) I L P S) : Zm G mX1_rowOf 200 (C + 3) (Sl + 54) [.int (nI y), .int m, .int f, .int t] I L P S Q := by
  obtain rfl | rfl | rfl : y = 0 ∨ y = 1 ∨ y = 2 := by omega
  · exact c_X1_rowX0 hm kx
  · exact c_X1_rowX1 hm kx
  · exact c_X1_rowX2 hm kx
set_option maxHeartbeats 4000000 in
theorem c_X1_entry0 {a k i : Nat} (hS : S a = some (.inr (.byte, k))) (hi : i < k) (hk : k ≤ 6) (kk : Q (.inl (some (.int (I a i)))) I L P S) : Zm G mX1_entry 0 C Sl [.ref a, .int (nI i)] I L P S Q := by
  refine Z_entry (lv := [_, _]) (Nat.le_of_ble_eq_true rfl) rfl ?_
  refine Z_aload_n dX1_entry_0 rfl ?_
  refine Z_instA (ty := .byte) hS (by simp [zTys]) (by decide) q487 dX1_entry_1 ?_
  refine Z_ifeq 14 dX1_entry_4 rfl (fun h => absurd h (by decide)) (fun _ => ?_)
  refine Z_aload_n dX1_entry_7 rfl ?_
  refine Z_castA (ty := .byte) hS (by simp [zTys]) (by decide) q487 dX1_entry_8 ?_
  refine Z_iload_n dX1_entry_11 rfl ?_
  refine Z_bald hS (zix_nI hi (by omega)) dX1_entry_12 ?_
  refine Z_ireturn dX1_entry_13 rfl rfl ?_
  exact kk
set_option maxHeartbeats 4000000 in
theorem c_X1_entry1 {a k i : Nat} (hS : S a = some (.inr (.short, k))) (hi : i < k) (hk : k ≤ 6) (kk : Q (.inl (some (.int (I a i)))) I L P S) : Zm G mX1_entry 0 C Sl [.ref a, .int (nI i)] I L P S Q := by
  refine Z_entry (lv := [_, _]) (Nat.le_of_ble_eq_true rfl) rfl ?_
  refine Z_aload_n dX1_entry_0 rfl ?_
  refine Z_instN (ty := .short) hS (by simp [zTys]) (by decide) zNc_SB q487 dX1_entry_1 ?_
  refine Z_ifeq 14 dX1_entry_4 rfl (fun _ => ?_) (fun h => absurd h (by decide))
  refine Z_aload_n dX1_entry_14 rfl ?_
  refine Z_instA (ty := .short) hS (by simp [zTys]) (by decide) q488 dX1_entry_15 ?_
  refine Z_ifeq 30 dX1_entry_18 rfl (fun h => absurd h (by decide)) (fun _ => ?_)
  refine Z_aload_n dX1_entry_21 rfl ?_
  refine Z_castA (ty := .short) hS (by simp [zTys]) (by decide) q488 dX1_entry_22 ?_
  refine Z_iload_n dX1_entry_25 rfl ?_
  refine Z_sald hS (zix_nI hi (by omega)) dX1_entry_26 ?_
  refine Z_goto 36 dX1_entry_27 rfl ?_
  refine Z_ireturn dX1_entry_36 rfl rfl ?_
  exact kk
set_option maxHeartbeats 4000000 in
theorem c_X1_entry2 {a k i : Nat} (hS : S a = some (.inr (.int, k))) (hi : i < k) (hk : k ≤ 6) (kk : Q (.inl (some (.int (I a i)))) I L P S) : Zm G mX1_entry 0 C Sl [.ref a, .int (nI i)] I L P S Q := by
  refine Z_entry (lv := [_, _]) (Nat.le_of_ble_eq_true rfl) rfl ?_
  refine Z_aload_n dX1_entry_0 rfl ?_
  refine Z_instN (ty := .int) hS (by simp [zTys]) (by decide) zNc_IB q487 dX1_entry_1 ?_
  refine Z_ifeq 14 dX1_entry_4 rfl (fun _ => ?_) (fun h => absurd h (by decide))
  refine Z_aload_n dX1_entry_14 rfl ?_
  refine Z_instN (ty := .int) hS (by simp [zTys]) (by decide) zNc_IS q488 dX1_entry_15 ?_
  refine Z_ifeq 30 dX1_entry_18 rfl (fun _ => ?_) (fun h => absurd h (by decide))
  refine Z_aload_n dX1_entry_30 rfl ?_
  refine Z_castA (ty := .int) hS (by simp [zTys]) (by decide) q489 dX1_entry_31 ?_
  refine Z_iload_n dX1_entry_34 rfl ?_
  refine Z_iald hS (zix_nI hi (by omega)) dX1_entry_35 ?_
  refine Z_ireturn dX1_entry_36 rfl rfl ?_
  exact kk
theorem c_X1_entry {a k i y : Nat} (hy : y < 3) (hS : S a = some (.inr (kTy y, k))) (hi : i < k) (hk : k ≤ 6) (kk : Q (.inl (some (.int (I a i)))) I L P S) : Zm G mX1_entry 0 C Sl [.ref a, .int (nI i)] I L P S Q := by
  obtain rfl | rfl | rfl : y = 0 ∨ y = 1 ∨ y = 2 := by omega
  · exact c_X1_entry0 hS hi hk kk
  · exact c_X1_entry1 hS hi hk kk
  · exact c_X1_entry2 hS hi hk kk
theorem shD_h {o : Nat} {y m f t : Int32} {a k : Nat} (h : a ≠ 13) (i : Nat) : shD D o y m f t i a k = D a k := congrFun (shD_n h i) k
set_option maxHeartbeats 4000000 in
theorem s_xsheetN (hX : xR D R no n np ro oh ph I L P S) {o y : Nat} (ho : o < no) {m f t : Int32} (hy : y = 3) (k : ∀ I2, xR (shD D o (nI y) m f t no) R no n np ro oh ph I2 L P S → frX I L P S I2 L P S → Q (.inl (some (.int (shS D o (nI y) m f t no)))) I2 L P S) : Zj G mX1_sheet 201 C Sl 52 [.ref 100, .int (nI o), .int (nI y), .int m, .int f, .int t, .null, .retAddr 0, .retAddr 0] [] I L P S Q := by
  obtain ⟨e, ⟨g, hro⟩, ⟨⟨h29, h50⟩, hrw⟩, ⟨htx, hpr, hkp⟩, htl, hoh, hph⟩ := hX
  have hX : xR D R no n np ro oh ph I L P S := ⟨e, ⟨g, hro⟩, ⟨⟨h29, h50⟩, hrw⟩, ⟨htx, hpr, hkp⟩, htl, hoh, hph⟩
  have hx := e.x
  have hO := e.wd
  have hR := e.wr
  have hT := e.st
  have hPc := e.pc
  have hw := e.hw
  have hf := e.hx
  have hb := e.b
  have hn := e.nn
  have n8 := hw.n8
  have h6 := hw.o6
  have hn8 := hw.n8
  have hno : noD D = no := by rw [noD, show D 0 3 = nI no from hw.o3, nI_clamp (by omega)]
  have hnn : nD D = n := by rw [nD, show D 0 16 = nI n from hw.n16, nI_clamp (by omega)]
  refine Z_iconst (nI 0) dX1_sheet_52 rfl ?_
  refine Z_istore (lv' := [_, _, _, _, _, _, _, _, _]) dX1_sheet_53 rfl rfl (Nat.le_of_ble_eq_true rfl) ?_
  refine Z_iconst (nI 0) dX1_sheet_55 rfl ?_
  refine Z_istore (lv' := [_, _, _, _, _, _, _, _, _]) dX1_sheet_56 rfl rfl (Nat.le_of_ble_eq_true rfl) ?_
  have lp58 : ∀ i, i ≤ no → ∀ I2, xR (shD D o (nI y) m f t i) R no n np ro oh ph I2 L P S → (∀ b, b ≠ 200 → ¬ (203 ≤ b ∧ b ≤ 208) → I2 b = I b) → Zj G mX1_sheet 201 C Sl 58 [.ref 100, .int (nI o), .int (nI y), .int m, .int f, .int t, .null, .int (shS D o (nI y) m f t i), .int (nI i)] [] I2 L P S Q := by
    refine zloop (no) (fun i => ∀ I2, xR (shD D o (nI y) m f t i) R no n np ro oh ph I2 L P S → (∀ b, b ≠ 200 → ¬ (203 ≤ b ∧ b ≤ 208) → I2 b = I b) → Zj G mX1_sheet 201 C Sl 58 [.ref 100, .int (nI o), .int (nI y), .int m, .int f, .int t, .null, .int (shS D o (nI y) m f t i), .int (nI i)] [] I2 L P S Q) (fun i hi ih => ?_)
    intro I2 hX1 e7
    show Zj _ _ _ _ _ _ _ _ _ _ _ _ _
    have hx := hX1.1.x
    have hO := hX1.1.wd
    have hR := hX1.1.wr
    refine Z_iload dX1_sheet_58 rfl ?_
    refine Z_aload_n dX1_sheet_60 rfl ?_
    refine Z_getR (r := 200) hx.1 fX1_52_0 dX1_sheet_61 rfl hx.2.2.2.1.1 ?_
    refine Z_getI hO.1 fX1_19_1 dX1_sheet_64 rfl ?_
    refine Z_re (y := nI (no)) hR.1.1 ?_
    refine Z_icmpgeN 148 dX1_sheet_67 rfl (by omega) (by omega) (fun c67 => ?_) (fun c67 => ?_)
    · obtain rfl : i = no := by omega
      refine Z_iload dX1_sheet_148 rfl ?_
      refine Z_ireturn dX1_sheet_150 rfl rfl ?_
      exact k _ hX1 (frX.rf.i fun b hb => e7 b (by omega) (by omega))
    · refine Z_iload dX1_sheet_70 rfl ?_
      refine Z_iload_n dX1_sheet_72 rfl ?_
      refine Z_icmpneN 79 dX1_sheet_73 rfl (by omega) (by omega) (fun c73 => ?_) (fun c73 => ?_)
      · have c73 : ¬ i = o := c73
        refine Z_aloadN dX1_sheet_79 rfl ?_
        refine Z_ifnullN 90 dX1_sheet_81 rfl ?_
        refine Z_aload_n dX1_sheet_90 rfl ?_
        refine Z_getR (r := 200) hx.1 fX1_52_0 dX1_sheet_91 rfl hx.2.2.2.1.1 ?_
        refine Z_iload_n dX1_sheet_94 rfl ?_
        refine Z_iload dX1_sheet_95 rfl ?_
        refine Z_aloadN dX1_sheet_97 rfl ?_
        refine Z_ifnonnullN dX1_sheet_99 ?_
        refine Z_iconst (nI 0) dX1_sheet_102 rfl ?_
        refine Z_goto 122 dX1_sheet_103 rfl ?_
        refine Z_call0 (d' := 0) (zCal_V gX1_145 nX2_know (by decide) dX1_sheet_122) pX2_know hO.1 zkl1 [_, _, _] rfl rfl (Nat.le_of_ble_eq_true rfl) (by omega) (c_X2_know hO (by omega) (by omega) ?_)
        have e1 : shW (nI y) m o i = true := by rw [shW, decide_eq_false c73, hy]; simp
        have e2 : shD D o (nI y) m f t (i + 1) = stKn (shD D o (nI y) m f t i) o i (nI 0) := by rw [shD, if_pos e1]; rw [show shI (nI y) (shV f t i) = nI 0 from by rw [hy]; rfl]; rfl
        have hX3 : xR (stKn (shD D o (nI y) m f t i) o i (nI 0)) R no n np ro oh ph (zw (zw I2 (200 + 3 + o) i (nI 0)) (200 + 3 + i) o (nI 0)) L P S := hX1.wd (fun b h1 h2 h3 => by rw [zw_n _ _ _ _ (by omega), zw_n _ _ _ _ (by omega)]) (fun b j h1 h2 => by unfold stKn; rw [zw_n _ _ _ _ (by omega), zw_n _ _ _ _ (by omega)]) (by unfold stKn; rw [wld_zi rfl, wld_zi rfl]; exact hR.knw ho (by omega) h6 e.ho (by decide))
        have e8 : ∀ b, b ≠ 200 → ¬ (203 ≤ b ∧ b ≤ 208) → zw (zw I2 (200 + 3 + o) i (nI 0)) (200 + 3 + i) o (nI 0) b = I b := fun b h1 h2 => by rw [zw_n _ _ _ _ (by omega), zw_n _ _ _ _ (by omega)]; exact e7 b h1 h2
        have hR3 := hX3.1.wr
        rw [← e2] at hR3
        refine Z_iload dX1_sheet_125 rfl ?_
        refine Z_aload_n dX1_sheet_127 rfl ?_
        refine Z_getR (r := 200) hx.1 fX1_52_0 dX1_sheet_128 rfl hx.2.2.2.1.1 ?_
        refine Z_getR (r := (200 + 2)) hO.1 fX1_141_1 dX1_sheet_131 rfl hO.2.2.1.2 ?_
        refine Z_iload_n dX1_sheet_134 rfl ?_
        refine Z_aald (r := (200 + 3 + o)) hO.2.2.1.1 (by simp [zTys]) rfl (zix_nI (by first | omega | (dsimp only; omega)) (by decide)) (hO.2.2.2 o (by omega)).2 dX1_sheet_135 ?_
        refine Z_iload dX1_sheet_136 rfl ?_
        refine Z_iald (hO.2.2.2 o (by omega)).1 (zix_nI (by first | omega | (dsimp only; omega)) (by decide)) dX1_sheet_138 ?_
        refine Z_re (y := shD D o (nI y) m f t (i + 1) 13 (6 * o + i)) (hR3.kn h6 ho (by omega)) ?_
        refine Z_iadd dX1_sheet_139 ?_
        refine Z_istore (lv' := [_, _, _, _, _, _, _, _, _]) dX1_sheet_140 rfl rfl (Nat.le_of_ble_eq_true rfl) ?_
        refine Z_iincN (a := _) (k := 1) (lv' := [_, _, _, _, _, _, _, _, _]) dX1_sheet_142 rfl rfl rfl rfl ?_
        refine Z_goto 58 dX1_sheet_145 rfl ?_
        have ih2 := ih (by omega) _ (by rw [e2]; exact hX3) e8
        rw [show shS D o (nI y) m f t (i + 1) = shS D o (nI y) m f t i + shD D o (nI y) m f t (i + 1) 13 (6 * o + i) from by rw [shS, if_neg c73]] at ih2
        exact Z_fgt ih2 (by repeat first | exact zwk_n | refine zwk_f ?_ | refine zwk_c rfl ?_)
      · have c73 : i = o := by omega
        refine Z_goto 142 dX1_sheet_76 rfl ?_
        refine Z_iincN (a := _) (k := 1) (lv' := [_, _, _, _, _, _, _, _, _]) dX1_sheet_142 rfl rfl rfl rfl ?_
        refine Z_goto 58 dX1_sheet_145 rfl ?_
        have e1 : ¬ shW (nI y) m o i = true := by rw [shW, decide_eq_true c73]; simp
        have e2 : shD D o (nI y) m f t (i + 1) = shD D o (nI y) m f t i := by rw [shD, if_neg e1]
        have ih2 := ih (by omega) _ (by rw [e2]; exact hX1) e7
        rw [show shS D o (nI y) m f t (i + 1) = shS D o (nI y) m f t i + nI 0 from by rw [shS, if_pos c73], nI_0, Int32.add_zero] at ih2
        exact Z_fgt ih2 (by repeat first | exact zwk_n | refine zwk_f ?_ | refine zwk_c rfl ?_)
  exact lp58 0 (by omega) I hX (fun _ _ _ => rfl)
set_option maxHeartbeats 4000000 in
theorem s_xsheetA (hX : xR D R no n np ro oh ph I L P S) {o y : Nat} (ho : o < no) {m f t : Int32} {a k0 : Nat} (hy : y < 3) (hm : m = nI k0) (hk0 : k0 ≤ 6) (ha : 7000 ≤ a) (hS : S a = some (.inr (kTy y, k0))) (hv : ∀ i, i < k0 → I a i = shI (nI y) (shV f t i)) (k : ∀ I2, xR (shD D o (nI y) m f t no) R no n np ro oh ph I2 L P S → frX I L P S I2 L P S → Q (.inl (some (.int (shS D o (nI y) m f t no)))) I2 L P S) : Zj G mX1_sheet 201 C Sl 52 [.ref 100, .int (nI o), .int (nI y), .int m, .int f, .int t, .ref a, .retAddr 0, .retAddr 0] [] I L P S Q := by
  obtain ⟨e, ⟨g, hro⟩, ⟨⟨h29, h50⟩, hrw⟩, ⟨htx, hpr, hkp⟩, htl, hoh, hph⟩ := hX
  have hX : xR D R no n np ro oh ph I L P S := ⟨e, ⟨g, hro⟩, ⟨⟨h29, h50⟩, hrw⟩, ⟨htx, hpr, hkp⟩, htl, hoh, hph⟩
  have hx := e.x
  have hO := e.wd
  have hR := e.wr
  have hT := e.st
  have hPc := e.pc
  have hw := e.hw
  have hf := e.hx
  have hb := e.b
  have hn := e.nn
  have n8 := hw.n8
  have h6 := hw.o6
  have hn8 := hw.n8
  have hno : noD D = no := by rw [noD, show D 0 3 = nI no from hw.o3, nI_clamp (by omega)]
  have hnn : nD D = n := by rw [nD, show D 0 16 = nI n from hw.n16, nI_clamp (by omega)]
  refine Z_iconst (nI 0) dX1_sheet_52 rfl ?_
  refine Z_istore (lv' := [_, _, _, _, _, _, _, _, _]) dX1_sheet_53 rfl rfl (Nat.le_of_ble_eq_true rfl) ?_
  refine Z_iconst (nI 0) dX1_sheet_55 rfl ?_
  refine Z_istore (lv' := [_, _, _, _, _, _, _, _, _]) dX1_sheet_56 rfl rfl (Nat.le_of_ble_eq_true rfl) ?_
  have lp58 : ∀ i, i ≤ no → ∀ I2, xR (shD D o (nI y) m f t i) R no n np ro oh ph I2 L P S → (∀ b, b ≠ 200 → ¬ (203 ≤ b ∧ b ≤ 208) → I2 b = I b) → Zj G mX1_sheet 201 C Sl 58 [.ref 100, .int (nI o), .int (nI y), .int m, .int f, .int t, .ref a, .int (shS D o (nI y) m f t i), .int (nI i)] [] I2 L P S Q := by
    refine zloop (no) (fun i => ∀ I2, xR (shD D o (nI y) m f t i) R no n np ro oh ph I2 L P S → (∀ b, b ≠ 200 → ¬ (203 ≤ b ∧ b ≤ 208) → I2 b = I b) → Zj G mX1_sheet 201 C Sl 58 [.ref 100, .int (nI o), .int (nI y), .int m, .int f, .int t, .ref a, .int (shS D o (nI y) m f t i), .int (nI i)] [] I2 L P S Q) (fun i hi ih => ?_)
    intro I2 hX1 e7
    show Zj _ _ _ _ _ _ _ _ _ _ _ _ _
    have hx := hX1.1.x
    have hO := hX1.1.wd
    have hR := hX1.1.wr
    refine Z_iload dX1_sheet_58 rfl ?_
    refine Z_aload_n dX1_sheet_60 rfl ?_
    refine Z_getR (r := 200) hx.1 fX1_52_0 dX1_sheet_61 rfl hx.2.2.2.1.1 ?_
    refine Z_getI hO.1 fX1_19_1 dX1_sheet_64 rfl ?_
    refine Z_re (y := nI (no)) hR.1.1 ?_
    refine Z_icmpgeN 148 dX1_sheet_67 rfl (by omega) (by omega) (fun c67 => ?_) (fun c67 => ?_)
    · obtain rfl : i = no := by omega
      refine Z_iload dX1_sheet_148 rfl ?_
      refine Z_ireturn dX1_sheet_150 rfl rfl ?_
      exact k _ hX1 (frX.rf.i fun b hb => e7 b (by omega) (by omega))
    · refine Z_iload dX1_sheet_70 rfl ?_
      refine Z_iload_n dX1_sheet_72 rfl ?_
      refine Z_icmpneN 79 dX1_sheet_73 rfl (by omega) (by omega) (fun c73 => ?_) (fun c73 => ?_)
      · have c73 : ¬ i = o := c73
        refine Z_aload dX1_sheet_79 rfl ?_
        refine Z_ifnullR dX1_sheet_81 ?_
        refine Z_iload dX1_sheet_84 rfl ?_
        refine Z_iload_n dX1_sheet_86 rfl ?_
        refine Z_re (y := nI k0) hm ?_
        refine Z_icmpgeN 125 dX1_sheet_87 rfl (by omega) (by omega) (fun c87 => ?_) (fun c87 => ?_)
        · have c87 : m ≤ nI i := by rw [hm]; exact (nI_leq (by omega) (by omega)).mpr c87
          refine Z_iload dX1_sheet_125 rfl ?_
          refine Z_aload_n dX1_sheet_127 rfl ?_
          refine Z_getR (r := 200) hx.1 fX1_52_0 dX1_sheet_128 rfl hx.2.2.2.1.1 ?_
          refine Z_getR (r := (200 + 2)) hO.1 fX1_141_1 dX1_sheet_131 rfl hO.2.2.1.2 ?_
          refine Z_iload_n dX1_sheet_134 rfl ?_
          refine Z_aald (r := (200 + 3 + o)) hO.2.2.1.1 (by simp [zTys]) rfl (zix_nI (by first | omega | (dsimp only; omega)) (by decide)) (hO.2.2.2 o (by omega)).2 dX1_sheet_135 ?_
          refine Z_iload dX1_sheet_136 rfl ?_
          refine Z_iald (hO.2.2.2 o (by omega)).1 (zix_nI (by first | omega | (dsimp only; omega)) (by decide)) dX1_sheet_138 ?_
          refine Z_re (y := shD D o (nI y) m f t i 13 (6 * o + i)) (hR.kn h6 ho (by omega)) ?_
          refine Z_iadd dX1_sheet_139 ?_
          refine Z_istore (lv' := [_, _, _, _, _, _, _, _, _]) dX1_sheet_140 rfl rfl (Nat.le_of_ble_eq_true rfl) ?_
          refine Z_iincN (a := _) (k := 1) (lv' := [_, _, _, _, _, _, _, _, _]) dX1_sheet_142 rfl rfl rfl rfl ?_
          refine Z_goto 58 dX1_sheet_145 rfl ?_
          have e1 : ¬ shW (nI y) m o i = true := by rw [shW, decide_eq_false c73, decide_eq_false (show ¬ nI y = nI 3 from fun e => absurd ((nI_eq (by omega) (by decide)).mp e) (by omega)), decide_eq_true c87]; simp
          have e2 : shD D o (nI y) m f t (i + 1) = shD D o (nI y) m f t i := by rw [shD, if_neg e1]
          have ih2 := ih (by omega) _ (by rw [e2]; exact hX1) e7
          rw [show shS D o (nI y) m f t (i + 1) = shS D o (nI y) m f t i + shD D o (nI y) m f t (i + 1) 13 (6 * o + i) from by rw [shS, if_neg c73]] at ih2
          rw [e2] at ih2
          exact Z_fgt ih2 (by repeat first | exact zwk_n | refine zwk_f ?_ | refine zwk_c rfl ?_)
        · have c87k : i < k0 := by omega
          have c87m : ¬ m ≤ nI i := by rw [hm]; exact fun q => absurd ((nI_leq (by omega) (by omega)).mp q) (by omega)
          refine Z_aload_n dX1_sheet_90 rfl ?_
          refine Z_getR (r := 200) hx.1 fX1_52_0 dX1_sheet_91 rfl hx.2.2.2.1.1 ?_
          refine Z_iload_n dX1_sheet_94 rfl ?_
          refine Z_iload dX1_sheet_95 rfl ?_
          refine Z_aload dX1_sheet_97 rfl ?_
          refine Z_ifnonnullR 106 dX1_sheet_99 rfl ?_
          refine Z_iconst (nI 0) dX1_sheet_106 rfl ?_
          refine Z_bipush (nI 9) dX1_sheet_107 rfl ?_
          refine Z_aload dX1_sheet_109 rfl ?_
          refine Z_iload dX1_sheet_111 rfl ?_
          refine Z_callS0 (d' := 0) (zCal_S gX1_159 nX1_entry (by decide) dX1_sheet_113) pX1_entry [_, _] rfl rfl (Nat.le_of_ble_eq_true rfl) (by omega) (c_X1_entry hy hS c87k hk0 ?_)
          refine Z_re ((congrFun (e7 a (by omega) (by omega)) i).trans (hv i c87k)) ?_
          refine Z_callS0 (d' := 0) (zCal_S gX1_163 nJ5_min (by decide) dX1_sheet_116) pJ5_min [_, _] rfl rfl (Nat.le_of_ble_eq_true rfl) (by omega) (c_J5_min ?_)
          refine Z_callS0 (d' := 0) (zCal_S gX1_169 nJ5_max (by decide) dX1_sheet_119) pJ5_max [_, _] rfl rfl (Nat.le_of_ble_eq_true rfl) (by omega) (c_J5_max ?_)
          refine Z_call0 (d' := 0) (zCal_V gX1_145 nX2_know (by decide) dX1_sheet_122) pX2_know hO.1 zkl1 [_, _, _] rfl rfl (Nat.le_of_ble_eq_true rfl) (by omega) (c_X2_know hO (by omega) (by omega) ?_)
          have e1 : shW (nI y) m o i = true := by rw [shW, decide_eq_false c73, decide_eq_false (show ¬ m ≤ nI i from c87m)]; simp
          have e2 : shD D o (nI y) m f t (i + 1) = stKn (shD D o (nI y) m f t i) o i (mx (nI 0) (mn (nI 9) (shI (nI y) (shV f t i)))) := by rw [shD, if_pos e1]
          have hX3 : xR (stKn (shD D o (nI y) m f t i) o i (mx (nI 0) (mn (nI 9) (shI (nI y) (shV f t i))))) R no n np ro oh ph (zw (zw I2 (200 + 3 + o) i (mx (nI 0) (mn (nI 9) (shI (nI y) (shV f t i))))) (200 + 3 + i) o (mx (nI 0) (mn (nI 9) (shI (nI y) (shV f t i))))) L P S := hX1.wd (fun b h1 h2 h3 => by rw [zw_n _ _ _ _ (by omega), zw_n _ _ _ _ (by omega)]) (fun b j h1 h2 => by unfold stKn; rw [zw_n _ _ _ _ (by omega), zw_n _ _ _ _ (by omega)]) (by unfold stKn; rw [wld_zi rfl, wld_zi rfl]; exact hR.knw ho (by omega) h6 e.ho (by decide))
          have e8 : ∀ b, b ≠ 200 → ¬ (203 ≤ b ∧ b ≤ 208) → zw (zw I2 (200 + 3 + o) i (mx (nI 0) (mn (nI 9) (shI (nI y) (shV f t i))))) (200 + 3 + i) o (mx (nI 0) (mn (nI 9) (shI (nI y) (shV f t i)))) b = I b := fun b h1 h2 => by rw [zw_n _ _ _ _ (by omega), zw_n _ _ _ _ (by omega)]; exact e7 b h1 h2
          have hR3 := hX3.1.wr
          rw [← e2] at hR3
          refine Z_iload dX1_sheet_125 rfl ?_
          refine Z_aload_n dX1_sheet_127 rfl ?_
          refine Z_getR (r := 200) hx.1 fX1_52_0 dX1_sheet_128 rfl hx.2.2.2.1.1 ?_
          refine Z_getR (r := (200 + 2)) hO.1 fX1_141_1 dX1_sheet_131 rfl hO.2.2.1.2 ?_
          refine Z_iload_n dX1_sheet_134 rfl ?_
          refine Z_aald (r := (200 + 3 + o)) hO.2.2.1.1 (by simp [zTys]) rfl (zix_nI (by first | omega | (dsimp only; omega)) (by decide)) (hO.2.2.2 o (by omega)).2 dX1_sheet_135 ?_
          refine Z_iload dX1_sheet_136 rfl ?_
          refine Z_iald (hO.2.2.2 o (by omega)).1 (zix_nI (by first | omega | (dsimp only; omega)) (by decide)) dX1_sheet_138 ?_
          refine Z_re (y := shD D o (nI y) m f t (i + 1) 13 (6 * o + i)) (hR3.kn h6 ho (by omega)) ?_
          refine Z_iadd dX1_sheet_139 ?_
          refine Z_istore (lv' := [_, _, _, _, _, _, _, _, _]) dX1_sheet_140 rfl rfl (Nat.le_of_ble_eq_true rfl) ?_
          refine Z_iincN (a := _) (k := 1) (lv' := [_, _, _, _, _, _, _, _, _]) dX1_sheet_142 rfl rfl rfl rfl ?_
          refine Z_goto 58 dX1_sheet_145 rfl ?_
          have ih2 := ih (by omega) _ (by rw [e2]; exact hX3) e8
          rw [show shS D o (nI y) m f t (i + 1) = shS D o (nI y) m f t i + shD D o (nI y) m f t (i + 1) 13 (6 * o + i) from by rw [shS, if_neg c73]] at ih2
          exact Z_fgt ih2 (by repeat first | exact zwk_n | refine zwk_f ?_ | refine zwk_c rfl ?_)
      · have c73 : i = o := by omega
        refine Z_goto 142 dX1_sheet_76 rfl ?_
        refine Z_iincN (a := _) (k := 1) (lv' := [_, _, _, _, _, _, _, _, _]) dX1_sheet_142 rfl rfl rfl rfl ?_
        refine Z_goto 58 dX1_sheet_145 rfl ?_
        have e1 : ¬ shW (nI y) m o i = true := by rw [shW, decide_eq_true c73]; simp
        have e2 : shD D o (nI y) m f t (i + 1) = shD D o (nI y) m f t i := by rw [shD, if_neg e1]
        have ih2 := ih (by omega) _ (by rw [e2]; exact hX1) e7
        rw [show shS D o (nI y) m f t (i + 1) = shS D o (nI y) m f t i + nI 0 from by rw [shS, if_pos c73], nI_0, Int32.add_zero] at ih2
        exact Z_fgt ih2 (by repeat first | exact zwk_n | refine zwk_f ?_ | refine zwk_c rfl ?_)
  exact lp58 0 (by omega) I hX (fun _ _ _ => rfl)
set_option maxHeartbeats 4000000 in
theorem o_xsheet (hX : xR D R no n np ro oh ph I L P S) {o y m f t : Int32} (k : ∀ I2 L2 P2 S2, xR (fSheet D R no o y m f t).2.1 (fSheet D R no o y m f t).2.2 no n np ro oh ph I2 L2 P2 S2 → frX I L P S I2 L2 P2 S2 → Q (.inl (some (.int (fSheet D R no o y m f t).1))) I2 L2 P2 S2) : Zm G mX1_sheet 201 (C + 3) (Sl + 54) [.ref 100, .int o, .int y, .int m, .int f, .int t] I L P S Q := by
  obtain ⟨e, ⟨g, hro⟩, ⟨⟨h29, h50⟩, hrw⟩, ⟨htx, hpr, hkp⟩, htl, hoh, hph⟩ := hX
  have hX : xR D R no n np ro oh ph I L P S := ⟨e, ⟨g, hro⟩, ⟨⟨h29, h50⟩, hrw⟩, ⟨htx, hpr, hkp⟩, htl, hoh, hph⟩
  have hx := e.x
  have hO := e.wd
  have hR := e.wr
  have hT := e.st
  have hPc := e.pc
  have hw := e.hw
  have hf := e.hx
  have hb := e.b
  have hn := e.nn
  have n8 := hw.n8
  have h6 := hw.o6
  have hn8 := hw.n8
  have hno : noD D = no := by rw [noD, show D 0 3 = nI no from hw.o3, nI_clamp (by omega)]
  have hnn : nD D = n := by rw [nD, show D 0 16 = nI n from hw.n16, nI_clamp (by omega)]
  have hM := hR.1
  refine Z_entry (lv := [_, _, _, _, _, _, _, _, _]) (Nat.le_of_ble_eq_true rfl) rfl ?_
  refine Z_aload_n dX1_sheet_0 rfl ?_
  refine Z_iload_n dX1_sheet_1 rfl ?_
  refine Z_call0 (d' := 1) (zCal_V gX1_121 nX1_isOffice (by decide) dX1_sheet_2) pX1_isOffice hx.1 zkl0 [_] rfl rfl (Nat.le_of_ble_eq_true rfl) (by omega) (c_X1_isOffice hx hR.1.1 h6 (fun k2 hk2 e2 => ?_) (fun h2 => ?_))
  · subst e2
    have r2 : oB D (nI k2) = true := rB_t (by rw [z_ti (by omega)]; omega) (by rw [z_ti (by omega), hno]; omega)
    have v2 : (nI k2).toNatClampNeg = k2 := nI_clamp (by omega)
    refine Z_ifeq 23 dX1_sheet_5 rfl (fun h => absurd h (by decide)) (fun _ => ?_)
    refine Z_iload_n dX1_sheet_8 rfl ?_
    refine Z_iconst (nI 0) dX1_sheet_9 rfl ?_
    refine Z_iconst (nI 3) dX1_sheet_10 rfl ?_
    refine Z_callS0 (d' := 0) (zCal_S gX1_3 nX1_in (by decide) dX1_sheet_11) pX1_in [_, _, _] rfl rfl (Nat.le_of_ble_eq_true rfl) (by omega) (c_X1_in (fun h11a h11b => ?_) (fun h11 => ?_))
    · have r11 : rB y 0 3 = true := rB_t h11a h11b
      obtain ⟨k11, hk11, e11⟩ := z_rng (n := 3) h11a h11b (by omega)
      subst e11
      have v11 : (nI k11).toNatClampNeg = k11 := nI_clamp (by omega)
      refine Z_ifeq 23 dX1_sheet_14 rfl (fun h => absurd h (by decide)) (fun _ => ?_)
      refine Z_iload_n dX1_sheet_17 rfl ?_
      refine Z_bipush (nI 6) dX1_sheet_18 rfl ?_
      refine Z_icmple 25 dX1_sheet_20 rfl (fun c20 => ?_) (fun c20 => ?_)
      · refine Z_null dX1_sheet_25 ?_
        refine Z_astoreN (lv' := [_, _, _, _, _, _, _, _, _]) dX1_sheet_26 rfl rfl (Nat.le_of_ble_eq_true rfl) ?_
        refine Z_iload_n dX1_sheet_28 rfl ?_
        refine Z_iconst (nI 3) dX1_sheet_29 rfl ?_
        refine Z_icmpgeN 52 dX1_sheet_30 rfl (by omega) (by omega) (fun c30 => ?_) (fun c30 => ?_)
        · have hy3 : k11 = 3 := by omega
          refine Zj.less (C := C) (Sl := Sl) ?_ (Nat.le_refl _) (by omega) (by omega)
          exact s_xsheetN hX hk2 hy3 (fun I2 g1 g2 => xO_k (by rw [fSheet, if_pos (by rw [r2, r11, decide_eq_true c20]; rfl), if_neg (by rw [hy3]; simp), v2]) k g1 g2)
        · refine Z_iload_n dX1_sheet_33 rfl ?_
          refine Z_iload_n dX1_sheet_34 rfl ?_
          refine Z_iload dX1_sheet_35 rfl ?_
          refine Z_iload dX1_sheet_37 rfl ?_
          have hne : ¬ nI k11 = nI 3 := fun e => absurd ((nI_eq (by omega) (by decide)).mp e) (by omega)
          by_cases hm : m < 0
          · refine Z_callS (d' := 200) (C := C) (C' := 3) (Sl := Sl) (S' := 54) (zCal_S gX1_153 nX1_rowOf (by decide) dX1_sheet_39) pX1_rowOf [_, _, _, _] rfl rfl (Nat.le_of_ble_eq_true rfl) (by omega) (by omega) (by omega) (c_X1_rowX (by omega) hm ?_)
            refine Zx_catchN (x := ⟨33, 44, 47, 157⟩) (i := 7) rfl (by decide) (by decide) q411 rfl q459 dX1_sheet_47 (Nat.le_of_ble_eq_true rfl) rfl ?_
            refine Z_bipush (-2) dX1_sheet_49 rfl ?_
            refine Z_ireturn dX1_sheet_51 rfl rfl ?_
            exact xO_k (D2 := D) (R2 := R) (by rw [fSheet, if_pos (by rw [r2, r11, decide_eq_true c20]; rfl), if_pos (by rw [decide_eq_false hne, decide_eq_false (Int32.not_le.mpr hm)]; rfl)]) k hX frX.rf
          · obtain ⟨k0, hk0, em⟩ := pos_nI hm
            have hk6 : k0 ≤ 6 := by rw [em] at c20; exact (nI_leq hk0 (by decide)).mp c20
            have ef : fSheet D R no (nI k2) (nI k11) m f t = (shS D k2 (nI k11) m f t no, shD D k2 (nI k11) m f t no, R) := by rw [fSheet, if_pos (by rw [r2, r11, decide_eq_true c20]; rfl), if_neg (by rw [decide_eq_true (Int32.not_lt.mp hm)]; simp), v2]
            subst em
            obtain ⟨-, -, -, -, ⟨-, -, N1, hN1, hN2⟩, -⟩ := id hX
            refine Z_callS (d' := 200) (C := C) (C' := 3) (Sl := Sl) (S' := 54) (zCal_S gX1_153 nX1_rowOf (by decide) dX1_sheet_39) pX1_rowOf [_, _, _, _] rfl rfl (Nat.le_of_ble_eq_true rfl) (by omega) (by omega) (by omega) (c_X1_rowOf (a := N1) (by omega) (hN2 N1 (Nat.le_refl _)) hk6 (fun I4 hv gx => ?_))
            have e4 : I4 = zu I N1 (I4 N1) := by
              funext b
              by_cases eb : b = N1
              · subst eb; rw [zu_s]
              · rw [zu_n _ _ _ eb]; exact gx b eb
            have F4 := (fX.rf (I := I) (L := L) (P := P) (S := S) ⟨N1, hN1, hN2⟩).nw (f := I4 N1) (f2 := fun _ => 0) (f3 := fun _ => none) (x := .inr (kTy k11, k0)) hN1 (hN2 N1 (Nat.le_refl _))
            rw [← e4] at F4
            have hX4 := hX.go F4 (hrw.fX (by rw [gx 100 (by omega)]) (zu_n _ _ _ (by omega)))
            refine Z_astore (lv' := [_, _, _, _, _, _, _, _, _]) dX1_sheet_42 rfl rfl (Nat.le_of_ble_eq_true rfl) ?_
            refine Z_goto 52 dX1_sheet_44 rfl ?_
            exact s_xsheetA hX4 hk2 (by omega) rfl hk6 hN1 (zu_s _ _ _) hv (fun I2 g1 g2 => xO_k ef k g1 (fun b hb => ⟨⟨((g2 b hb).1.1).trans (F4.frX b hb).1.1, ((g2 b hb).1.2).trans (F4.frX b hb).1.2⟩, ((g2 b hb).2.1).trans (F4.frX b hb).2.1, ((g2 b hb).2.2).trans (F4.frX b hb).2.2⟩))
      · refine Z_iconst (-1) dX1_sheet_23 rfl ?_
        refine Z_ireturn dX1_sheet_24 rfl rfl ?_
        exact xO_k (D2 := D) (R2 := R) (by simp [fSheet, r2, v2, r11, v11, c20]) k hX frX.rf
    · have r11 : rB y 0 3 = false := rB_f h11
      refine Z_ifeq 23 dX1_sheet_14 rfl (fun _ => ?_) (fun h => absurd h (by decide))
      refine Z_iconst (-1) dX1_sheet_23 rfl ?_
      refine Z_ireturn dX1_sheet_24 rfl rfl ?_
      exact xO_k (D2 := D) (R2 := R) (by simp [fSheet, r2, v2, r11]) k hX frX.rf
  · have r2 : oB D o = false := rB_f (fun q => h2 ⟨q.1, by have := q.2; rw [hno] at this; omega⟩)
    refine Z_ifeq 23 dX1_sheet_5 rfl (fun _ => ?_) (fun h => absurd h (by decide))
    refine Z_iconst (-1) dX1_sheet_23 rfl ?_
    refine Z_ireturn dX1_sheet_24 rfl rfl ?_
    exact xO_k (D2 := D) (R2 := R) (by simp [fSheet, r2]) k hX frX.rf
end X30C
