set_option maxRecDepth 100000
/-! THE LAW, part 1: the object and the model are made -/
section INIT83
variable {G : zG} {d C Sl : Nat} {I D W : zI} {R : List Int64} {L : zL} {P : zR} {S : zT} {Q : zQ} {no n np : Nat} {s : zS} {oh ph : Nat → Nat} {ro : Option (List Nat)}
set_option maxHeartbeats 8000000 in
theorem c_X3_init2 {a : Nat} (hS : S a = some (.inl 2)) (hf : ∀ b, a < b → b ≤ a + 14 → S b = none) (k : ∀ I2 L2 P2 S2, stO S2 P2 a → I2 a = I a → (∀ k, 4 ≤ k → k ≤ 12 → I2 (a + k) = fun _ => 0) → (∀ b, ¬ (a ≤ b ∧ b ≤ a + 14) → (I2 b = I b ∧ L2 b = L b) ∧ P2 b = P b ∧ S2 b = S b) → Q (.inl none) I2 L2 P2 S2) : Zm G mX3_init 1 (C + 10) (Sl + 130) [.ref a, .ref 100] I L P S Q := by
  refine Z_entry (lv := [_, _]) (Nat.le_of_ble_eq_true rfl) rfl ?_
  refine Zj.less (C := C + 1 + 1 + 1 + 1 + 1 + 1 + 1 + 1 + 1 + 1) (Sl := Sl + 6 + 60 + 8 + 8 + 8 + 8 + 8 + 8 + 8 + 8) ?_ (Nat.le_refl _) (by omega) (by omega)
  refine Z_aload_n dX3_init_0 rfl ?_
  refine Z_aload_n dX3_init_1 rfl ?_
  refine Z_putFR (by (repeat rw [zu_n _ _ _ (by omega)]); exact hS) wX3_3_2 rfl dX3_init_2 rfl ?_
  refine Z_aload_n dX3_init_5 rfl ?_
  refine Z_objInit q171 dX3_init_6 (Nat.le_of_ble_eq_true rfl) ?_
  refine Z_aload_n dX3_init_9 rfl ?_
  refine Z_bipush (nI 8) dX3_init_10 rfl ?_
  refine Z_newa (N := 8) (a + 4) (by (repeat rw [zu_n _ _ _ (by omega)]); exact hf _ (by omega) (by omega)) .int (by simp [zTys, newarray.typeOf]) rfl q165 (by decide) (by decide) (by decide) dX3_init_12 ?_
  refine Z_putFR (by (repeat rw [zu_n _ _ _ (by omega)]); exact hS) wX3_15_2 rfl dX3_init_14 rfl ?_
  refine Z_aload_n dX3_init_17 rfl ?_
  refine Z_bipush (nI 8) dX3_init_18 rfl ?_
  refine Z_newa (N := 8) (a + 5) (by (repeat rw [zu_n _ _ _ (by omega)]); exact hf _ (by omega) (by omega)) .int (by simp [zTys, newarray.typeOf]) rfl q165 (by decide) (by decide) (by decide) dX3_init_20 ?_
  refine Z_putFR (by (repeat rw [zu_n _ _ _ (by omega)]); exact hS) wX3_19_2 rfl dX3_init_22 rfl ?_
  refine Z_aload_n dX3_init_25 rfl ?_
  refine Z_bipush (nI 8) dX3_init_26 rfl ?_
  refine Z_newa (N := 8) (a + 6) (by (repeat rw [zu_n _ _ _ (by omega)]); exact hf _ (by omega) (by omega)) .int (by simp [zTys, newarray.typeOf]) rfl q165 (by decide) (by decide) (by decide) dX3_init_28 ?_
  refine Z_putFR (by (repeat rw [zu_n _ _ _ (by omega)]); exact hS) wX3_22_2 rfl dX3_init_30 rfl ?_
  refine Z_aload_n dX3_init_33 rfl ?_
  refine Z_bipush (nI 8) dX3_init_34 rfl ?_
  refine Z_newa (N := 8) (a + 7) (by (repeat rw [zu_n _ _ _ (by omega)]); exact hf _ (by omega) (by omega)) .int (by simp [zTys, newarray.typeOf]) rfl q165 (by decide) (by decide) (by decide) dX3_init_36 ?_
  refine Z_putFR (by (repeat rw [zu_n _ _ _ (by omega)]); exact hS) wX3_25_2 rfl dX3_init_38 rfl ?_
  refine Z_aload_n dX3_init_41 rfl ?_
  refine Z_bipush (nI 8) dX3_init_42 rfl ?_
  refine Z_newa (N := 8) (a + 8) (by (repeat rw [zu_n _ _ _ (by omega)]); exact hf _ (by omega) (by omega)) .boolean (by simp [zTys, newarray.typeOf]) rfl q239 (by decide) (by decide) (by decide) dX3_init_44 ?_
  refine Z_putFR (by (repeat rw [zu_n _ _ _ (by omega)]); exact hS) wX3_28_2 rfl dX3_init_46 rfl ?_
  refine Z_aload_n dX3_init_49 rfl ?_
  refine Z_bipush (nI 8) dX3_init_50 rfl ?_
  refine Z_newa (N := 8) (a + 9) (by (repeat rw [zu_n _ _ _ (by omega)]); exact hf _ (by omega) (by omega)) .int (by simp [zTys, newarray.typeOf]) rfl q165 (by decide) (by decide) (by decide) dX3_init_52 ?_
  refine Z_putFR (by (repeat rw [zu_n _ _ _ (by omega)]); exact hS) wX3_32_2 rfl dX3_init_54 rfl ?_
  refine Z_aload_n dX3_init_57 rfl ?_
  refine Z_bipush (nI 8) dX3_init_58 rfl ?_
  refine Z_newa (N := 8) (a + 10) (by (repeat rw [zu_n _ _ _ (by omega)]); exact hf _ (by omega) (by omega)) .int (by simp [zTys, newarray.typeOf]) rfl q165 (by decide) (by decide) (by decide) dX3_init_60 ?_
  refine Z_putFR (by (repeat rw [zu_n _ _ _ (by omega)]); exact hS) wX3_35_2 rfl dX3_init_62 rfl ?_
  refine Z_aload_n dX3_init_65 rfl ?_
  refine Z_bipush (nI 8) dX3_init_66 rfl ?_
  refine Z_newa (N := 8) (a + 11) (by (repeat rw [zu_n _ _ _ (by omega)]); exact hf _ (by omega) (by omega)) .int (by simp [zTys, newarray.typeOf]) rfl q165 (by decide) (by decide) (by decide) dX3_init_68 ?_
  refine Z_putFR (by (repeat rw [zu_n _ _ _ (by omega)]); exact hS) wX3_38_2 rfl dX3_init_70 rfl ?_
  refine Z_aload_n dX3_init_73 rfl ?_
  refine Z_bipush (nI 60) dX3_init_74 rfl ?_
  refine Z_newa (N := 60) (a + 12) (by (repeat rw [zu_n _ _ _ (by omega)]); exact hf _ (by omega) (by omega)) .int (by simp [zTys, newarray.typeOf]) rfl q165 (by decide) (by decide) (by decide) dX3_init_76 ?_
  refine Z_putFR (by (repeat rw [zu_n _ _ _ (by omega)]); exact hS) wX3_41_2 rfl dX3_init_78 rfl ?_
  refine Z_aload_n dX3_init_81 rfl ?_
  refine Z_bipush (nI 6) dX3_init_82 rfl ?_
  refine Z_newa (N := 6) (a + 14) (by (repeat rw [zu_n _ _ _ (by omega)]); exact hf _ (by omega) (by omega)) .int (by simp [zTys, newarray.typeOf]) rfl q165 (by decide) (by decide) (by decide) dX3_init_84 ?_
  refine Z_putFR (by (repeat rw [zu_n _ _ _ (by omega)]); exact hS) wX3_44_2 rfl dX3_init_86 rfl ?_
  refine Z_return dX3_init_89 rfl ?_
  refine k _ _ _ _ ⟨(by (repeat rw [zu_n _ _ _ (by omega)]); exact hS), fun j q hq => ?_, by simp [zw, zu]⟩ (by repeat rw [zu_n _ _ _ (by omega)]) (fun j h4 h12 => ?_) (fun b hb => ⟨⟨?_, ?_⟩, ?_, ?_⟩)
  · unfold sAr at hq
    split at hq <;> first | (cases hq; exact ⟨by simp [zu, newarray.typeOf], by simp [zw, zu]⟩) | cases hq
  · obtain rfl | rfl | rfl | rfl | rfl | rfl | rfl | rfl | rfl : j = 4 ∨ j = 5 ∨ j = 6 ∨ j = 7 ∨ j = 8 ∨ j = 9 ∨ j = 10 ∨ j = 11 ∨ j = 12 := by omega
    all_goals simp [zu]
  · repeat first | rw [zw_n _ _ _ _ (by omega)] | rw [zu_n _ _ _ (by omega)]
  · repeat first | rw [zw_n _ _ _ _ (by omega)] | rw [zu_n _ _ _ (by omega)]
  · repeat first | rw [zw_n _ _ _ _ (by omega)] | rw [zu_n _ _ _ (by omega)]
  · repeat first | rw [zw_n _ _ _ _ (by omega)] | rw [zu_n _ _ _ (by omega)]
set_option maxHeartbeats 8000000 in
theorem c_X2_init {a : Nat} (hS : S a = some (.inl 1)) (hf : ∀ b, a < b → b ≤ a + 8 → S b = none) (k : ∀ I2 L2 P2 S2, wdO S2 P2 a → (I2 a 1 = I a 1 ∧ I2 a 2 = nI 4 ∧ I2 a 3 = nI 10) → P2 a 5 = P a 5 → P2 (a + 1) = (fun _ => none) → (∀ j, j < 6 → I2 (a + 3 + j) = fun _ => 0) → (∀ b, ¬ (a ≤ b ∧ b ≤ a + 8) → (I2 b = I b ∧ L2 b = L b) ∧ P2 b = P b ∧ S2 b = S b) → Q (.inl none) I2 L2 P2 S2) : Zm G mX2_init 1 (C + 8) (Sl + 48) [.ref a] I L P S Q := by
  refine Z_entry (lv := [_]) (Nat.le_of_ble_eq_true rfl) rfl ?_
  refine Zj.less (C := C + (1 + 6) + 1) (Sl := Sl + (6 + 6 * 6) + 6) ?_ (Nat.le_refl _) (by omega) (by omega)
  refine Z_aload_n dX2_init_0 rfl ?_
  refine Z_objInit q128 dX2_init_1 (Nat.le_of_ble_eq_true rfl) ?_
  refine Z_aload_n dX2_init_4 rfl ?_
  refine Z_bipush (nI 6) dX2_init_5 rfl ?_
  refine Z_anewa (N := 6) (a + 1) (by (repeat rw [zu_n _ _ _ (by omega)]); exact hf _ (by omega) (by omega)) (by simp [zTys]) q129 q130 (by decide) (by decide) (by decide) dX2_init_7 ?_
  refine Z_putFR (by first | (rw [mlS_o 6 (by omega) (by omega)]; (repeat rw [zu_n _ _ _ (by omega)]); exact hS) | ((repeat rw [zu_n _ _ _ (by omega)]); exact hS)) wX2_11_1 rfl dX2_init_10 rfl ?_
  refine Z_aload_n dX2_init_13 rfl ?_
  refine Z_iconst (nI 4) dX2_init_14 rfl ?_
  refine Z_putI (by first | (rw [mlS_o 6 (by omega) (by omega)]; (repeat rw [zu_n _ _ _ (by omega)]); exact hS) | ((repeat rw [zu_n _ _ _ (by omega)]); exact hS)) fX2_17_1 dX2_init_15 rfl rfl rfl ?_
  refine Z_aload_n dX2_init_18 rfl ?_
  refine Z_bipush (nI 10) dX2_init_19 rfl ?_
  refine Z_putI (by first | (rw [mlS_o 6 (by omega) (by omega)]; (repeat rw [zu_n _ _ _ (by omega)]); exact hS) | ((repeat rw [zu_n _ _ _ (by omega)]); exact hS)) fX2_21_1 dX2_init_21 rfl rfl rfl ?_
  refine Z_aload_n dX2_init_24 rfl ?_
  refine Z_bipush (nI 6) dX2_init_25 rfl ?_
  refine Z_bipush (nI 6) dX2_init_27 rfl ?_
  refine Z_multi (n := 6) (k := 6) (a + 2) (fun j hj => by (repeat rw [zu_n _ _ _ (by omega)]); exact hf _ (by omega) (by omega)) q131 q132 q165 (by decide) (by decide) dX2_init_29 ?_
  rw [show (a + 2 : Nat) = a + 2 from rfl]
  refine Z_putFR (by first | (rw [mlS_o 6 (by omega) (by omega)]; (repeat rw [zu_n _ _ _ (by omega)]); exact hS) | ((repeat rw [zu_n _ _ _ (by omega)]); exact hS)) wX2_26_1 rfl dX2_init_33 rfl ?_
  refine Z_return dX2_init_36 rfl ?_
  refine k _ _ _ _ ⟨?_, ⟨?_, ?_⟩, ⟨?_, ?_⟩, fun j hj => ⟨?_, ?_⟩⟩ ⟨?_, ?_, ?_⟩ ?_ ?_ (fun j hj => ?_) (fun b hb => ⟨⟨?_, ?_⟩, ?_, ?_⟩)
  · rw [mlS_o 6 (by omega) (by omega), zu_n _ _ _ (by omega)]; exact hS
  · rw [mlS_o 6 (by omega) (by omega), zu_s]
  · rw [zw_a, zu_n _ _ _ (by decide), mlP_o 6 (by omega) (by omega), zw_s]
  · exact mlS_a 6
  · exact zw_s _ _ _ _
  · rw [show a + 3 + j = a + 2 + 1 + j by omega]; exact mlS_i 6 hj
  · rw [zw_n _ _ _ _ (by omega), mlP_a, if_pos hj, show a + 2 + 1 + j = a + 3 + j by omega]
  · rw [mlF_o 6 (by omega) (by omega), zw_a, zu_n _ _ _ (by decide), zw_a, zu_n _ _ _ (by decide), zu_n _ _ _ (by omega)]
  · rw [mlF_o 6 (by omega) (by omega), zw_a, zu_n _ _ _ (by decide), zw_s]
  · rw [mlF_o 6 (by omega) (by omega), zw_s]
  · rw [zw_a, zu_n _ _ _ (by decide), mlP_o 6 (by omega) (by omega), zw_a, zu_n _ _ _ (by decide), zu_n _ _ _ (by omega)]
  · rw [zw_n _ _ _ _ (by omega), mlP_o 6 (by omega) (by omega), zw_n _ _ _ _ (by omega), zu_s]
  · exact mlF_i 6 (by omega)
  · rw [mlF_o 6 (by omega) (by omega), zw_n _ _ _ _ (by omega), zw_n _ _ _ _ (by omega), zu_n _ _ _ (by omega)]
  · rw [mlF_o 6 (by omega) (by omega), zu_n _ _ _ (by omega)]
  · rw [zw_n _ _ _ _ (by omega), mlP_o 6 (by omega) (by omega), zw_n _ _ _ _ (by omega), zu_n _ _ _ (by omega)]
  · rw [mlS_o 6 (by omega) (by omega), zu_n _ _ _ (by omega)]
set_option maxHeartbeats 4000000 in
theorem c_X4_init {a : Nat} (k : Q (.inl none) I L P S) : Zm G mX4_init 1 C Sl [.ref a] I L P S Q := by
  refine Z_entry (lv := [_]) (Nat.le_of_ble_eq_true rfl) rfl ?_
  refine Z_aload_n dX4_init_0 rfl ?_
  refine Z_objInit q245 dX4_init_1 (Nat.le_of_ble_eq_true rfl) ?_
  refine Z_return dX4_init_4 rfl ?_
  exact k
set_option maxHeartbeats 16000000 in
theorem c_X1_init (hS : S 100 = some (.inl 0)) (hf : ∀ b, 100 < b → b < 400 → S b = none) (hI : I 100 = fun _ => 0) (hI2 : I 200 1 = 0 ∨ True) (k : ∀ I2 L2 P2 S2, (xO S2 P2 ∧ I2 100 = (fun _ => 0)) ∧ ((I2 200 1 = 0 ∧ I2 200 2 = nI 4 ∧ I2 200 3 = nI 10) ∧ (∀ j, j < 6 → I2 (203 + j) = fun _ => 0)) ∧ (P2 200 5 = none ∧ P2 201 = (fun _ => none) ∧ P2 110 = (fun _ => none) ∧ P2 306 = (fun _ => none)) ∧ (I2 240 = (fun _ => 0) ∧ ∀ k, 4 ≤ k → k ≤ 12 → I2 (240 + k) = fun _ => 0) → (∀ b, (b < 100 ∨ 308 ≤ b) → (I2 b = I b ∧ L2 b = L b) ∧ P2 b = P b ∧ S2 b = S b) → Q (.inl none) I2 L2 P2 S2) : Zm G mX1_init 3 (C + 60) (Sl + 1000) [.ref 100] I L P S Q := by
  refine Z_entry (lv := [_]) (Nat.le_of_ble_eq_true rfl) rfl ?_
  refine Z_aload_n dX1_init_0 rfl ?_
  refine Z_objInit q118 dX1_init_1 (Nat.le_of_ble_eq_true rfl) ?_
  refine Z_aload_n dX1_init_4 rfl ?_
  refine Z_bipush (nI 8) dX1_init_5 rfl ?_
  refine Zj.less (C := C + 59 + 1) (Sl := Sl + 992 + 8) ?_ (Nat.le_refl _) (by omega) (by omega)
  refine Z_anewa (N := 8) 110 (hf _ (by omega) (by omega)) (by simp [zTys]) q121 q122 (by decide) (by decide) (by decide) dX1_init_7 ?_
  refine Z_putFR (by (repeat rw [zu_n _ _ _ (by omega)]); exact hS) wX1_47_0 rfl dX1_init_10 rfl ?_
  refine Z_aload_n dX1_init_13 rfl ?_
  refine Zj.less (C := C + 58 + 1) (Sl := Sl + 986 + 6) ?_ (Nat.le_refl _) (by omega) (by omega)
  refine Z_new 200 (by rw [zu_n _ _ _ (by omega)]; exact hf _ (by omega) (by omega)) wX1_14 dX1_init_14 ?_
  refine Z_dup dX1_init_17 rfl ?_
  refine Zj.less (C := C + 50 + (0 + 8)) (Sl := Sl + 938 + (0 + 48)) ?_ (Nat.le_refl _) (by omega) (by omega)
  refine Z_call (d' := 1) (C := (C + 50)) (C' := (0 + 8)) (Sl := (Sl + 938)) (S' := (0 + 48)) (zCal_IN q127 q84 q125 q126 rfl nX2_init (by decide) dX1_init_18) pX2_init (by simp [zu]) zkl1 [] rfl rfl (Nat.le_of_ble_eq_true rfl) (by omega) (by omega) (by omega) (c_X2_init (a := 200) (zu_s _ _ _) (fun b h1 h2 => by rw [zu_n _ _ _ (by omega), zu_n _ _ _ (by omega)]; exact hf b (by omega) (by omega)) (fun Ia La Pa Sa ua va xa ya za fa => ?_))
  have sa : Sa 100 = some (.inl 0) := by rw [(fa 100 (by omega)).2.2, zu_n _ _ _ (by omega), zu_n _ _ _ (by omega)]; exact hS
  have na : ∀ b, 208 < b → b < 400 → Sa b = none := fun b h1 h2 => by rw [(fa b (by omega)).2.2, zu_n _ _ _ (by omega), zu_n _ _ _ (by omega)]; exact hf b (by omega) (by omega)
  have pa : Pa 100 = (zu (P 100) 0 (some 110)) := by rw [(fa 100 (by omega)).2.1, zu_n _ _ _ (by omega), zw_a, zu_n _ _ _ (by omega)]
  have ia : Ia 100 = fun _ => 0 := by rw [(fa 100 (by omega)).1.1, zu_n _ _ _ (by omega), zu_n _ _ _ (by omega)]; exact hI
  have oa : ∀ b, (b < 100 ∨ 308 ≤ b) → (Ia b = I b ∧ La b = L b) ∧ Pa b = P b ∧ Sa b = S b := fun b hb => ⟨⟨by rw [(fa b (by omega)).1.1, zu_n _ _ _ (by omega), zu_n _ _ _ (by omega)], by rw [(fa b (by omega)).1.2, zu_n _ _ _ (by omega), zu_n _ _ _ (by omega)]⟩, by rw [(fa b (by omega)).2.1, zu_n _ _ _ (by omega), zw_n _ _ _ _ (by omega), zu_n _ _ _ (by omega)], by rw [(fa b (by omega)).2.2, zu_n _ _ _ (by omega), zu_n _ _ _ (by omega)]⟩
  have qa : Pa 110 = (fun _ => none) ∧ Sa 110 = some (.inr (.object "FollowTheSun$Piece", 8)) := ⟨by rw [(fa 110 (by omega)).2.1, zu_n _ _ _ (by omega), zw_n _ _ _ _ (by omega), zu_s], by rw [(fa 110 (by omega)).2.2, zu_n _ _ _ (by omega), zu_s]⟩
  refine Z_putFR (by (repeat rw [zu_n _ _ _ (by omega)]); exact sa) wX1_52_0 rfl dX1_init_21 rfl ?_
  refine Z_aload_n dX1_init_24 rfl ?_
  refine Zj.less (C := C + 49 + 1) (Sl := Sl + 932 + 6) ?_ (Nat.le_refl _) (by omega) (by omega)
  refine Z_new 220 (na _ (by omega) (by omega)) wX1_14 dX1_init_25 ?_
  refine Z_dup dX1_init_28 rfl ?_
  refine Zj.less (C := C + 41 + (0 + 8)) (Sl := Sl + 884 + (0 + 48)) ?_ (Nat.le_refl _) (by omega) (by omega)
  refine Z_call (d' := 1) (C := (C + 41)) (C' := (0 + 8)) (Sl := (Sl + 884)) (S' := (0 + 48)) (zCal_IN q127 q84 q125 q126 rfl nX2_init (by decide) dX1_init_29) pX2_init (by simp [zu]) zkl1 [] rfl rfl (Nat.le_of_ble_eq_true rfl) (by omega) (by omega) (by omega) (c_X2_init (a := 220) (zu_s _ _ _) (fun b h1 h2 => by rw [zu_n _ _ _ (by omega)]; exact na b (by omega) (by omega)) (fun Ib Lb Pb Sb ub vb xb yb zb fb => ?_))
  have sb : Sb 100 = some (.inl 0) := by rw [(fb 100 (by omega)).2.2, zu_n _ _ _ (by omega)]; exact sa
  have nb : ∀ b, 228 < b → b < 400 → Sb b = none := fun b h1 h2 => by rw [(fb b (by omega)).2.2, zu_n _ _ _ (by omega)]; exact na b (by omega) (by omega)
  have pb : Pb 100 = (zu (zu (P 100) 0 (some 110)) 2 (some 200)) := by rw [(fb 100 (by omega)).2.1, zu_n _ _ _ (by omega), zw_a, pa]
  have ib : Ib 100 = fun _ => 0 := by rw [(fb 100 (by omega)).1.1, zu_n _ _ _ (by omega)]; exact ia
  have ob : ∀ b, ¬ (220 ≤ b ∧ b ≤ 228) → b ≠ 100 → (Ib b = Ia b ∧ Lb b = La b) ∧ Pb b = Pa b ∧ Sb b = Sa b := fun b hb h100 => ⟨⟨by rw [(fb b (by omega)).1.1, zu_n _ _ _ (by omega)], by rw [(fb b (by omega)).1.2, zu_n _ _ _ (by omega)]⟩, by rw [(fb b (by omega)).2.1, zu_n _ _ _ (by omega), zw_n _ _ _ _ (by omega)], by rw [(fb b (by omega)).2.2, zu_n _ _ _ (by omega)]⟩
  refine Z_putFR (by (repeat rw [zu_n _ _ _ (by omega)]); exact sb) wX1_56_0 rfl dX1_init_32 rfl ?_
  refine Z_aload_n dX1_init_35 rfl ?_
  refine Zj.less (C := C + 40 + 1) (Sl := Sl + 868 + 16) ?_ (Nat.le_refl _) (by omega) (by omega)
  refine Z_new 240 (nb _ (by omega) (by omega)) wX1_8 dX1_init_36 ?_
  refine Z_dup dX1_init_39 rfl ?_
  refine Z_aload_n dX1_init_40 rfl ?_
  refine Zj.less (C := C + 30 + (0 + 10)) (Sl := Sl + 738 + (0 + 130)) ?_ (Nat.le_refl _) (by omega) (by omega)
  refine Z_call (d' := 1) (C := (C + 30)) (C' := (0 + 10)) (Sl := (Sl + 738)) (S' := (0 + 130)) (zCal_IN q170 q85 q168 q169 rfl nX3_init (by decide) dX1_init_41) pX3_init (by simp [zu]) zkl2 [_] rfl rfl (Nat.le_of_ble_eq_true rfl) (by omega) (by omega) (by omega) (c_X3_init2 (a := 240) (zu_s _ _ _) (fun b h1 h2 => by rw [zu_n _ _ _ (by omega)]; exact nb b (by omega) (by omega)) (fun Ic Lc Pc Sc uc vc xc fc => ?_))
  have sc : Sc 100 = some (.inl 0) := by rw [(fc 100 (by omega)).2.2, zu_n _ _ _ (by omega)]; exact sb
  have nc : ∀ b, 254 < b → b < 400 → Sc b = none := fun b h1 h2 => by rw [(fc b (by omega)).2.2, zu_n _ _ _ (by omega)]; exact nb b (by omega) (by omega)
  have pc : Pc 100 = (zu (zu (zu (P 100) 0 (some 110)) 2 (some 200)) 3 (some 220)) := by rw [(fc 100 (by omega)).2.1, zu_n _ _ _ (by omega), zw_a, pb]
  have ic : Ic 100 = fun _ => 0 := by rw [(fc 100 (by omega)).1.1, zu_n _ _ _ (by omega)]; exact ib
  have oc : ∀ b, ¬ (240 ≤ b ∧ b ≤ 254) → b ≠ 100 → (Ic b = Ib b ∧ Lc b = Lb b) ∧ Pc b = Pb b ∧ Sc b = Sb b := fun b hb h100 => ⟨⟨by rw [(fc b (by omega)).1.1, zu_n _ _ _ (by omega)], by rw [(fc b (by omega)).1.2, zu_n _ _ _ (by omega)]⟩, by rw [(fc b (by omega)).2.1, zu_n _ _ _ (by omega), zw_n _ _ _ _ (by omega)], by rw [(fc b (by omega)).2.2, zu_n _ _ _ (by omega)]⟩
  refine Z_putFR (by (repeat rw [zu_n _ _ _ (by omega)]); exact sc) wX1_62_0 rfl dX1_init_44 rfl ?_
  refine Z_aload_n dX1_init_47 rfl ?_
  refine Zj.less (C := C + 29 + 1) (Sl := Sl + 722 + 16) ?_ (Nat.le_refl _) (by omega) (by omega)
  refine Z_new 270 (nc _ (by omega) (by omega)) wX1_8 dX1_init_48 ?_
  refine Z_dup dX1_init_51 rfl ?_
  refine Z_aload_n dX1_init_52 rfl ?_
  refine Zj.less (C := C + 19 + (0 + 10)) (Sl := Sl + 592 + (0 + 130)) ?_ (Nat.le_refl _) (by omega) (by omega)
  refine Z_call (d' := 1) (C := (C + 19)) (C' := (0 + 10)) (Sl := (Sl + 592)) (S' := (0 + 130)) (zCal_IN q170 q85 q168 q169 rfl nX3_init (by decide) dX1_init_53) pX3_init (by simp [zu]) zkl2 [_] rfl rfl (Nat.le_of_ble_eq_true rfl) (by omega) (by omega) (by omega) (c_X3_init2 (a := 270) (zu_s _ _ _) (fun b h1 h2 => by rw [zu_n _ _ _ (by omega)]; exact nc b (by omega) (by omega)) (fun Id Ld Pd Sd ud vd xd fd => ?_))
  have sd : Sd 100 = some (.inl 0) := by rw [(fd 100 (by omega)).2.2, zu_n _ _ _ (by omega)]; exact sc
  have nd : ∀ b, 284 < b → b < 400 → Sd b = none := fun b h1 h2 => by rw [(fd b (by omega)).2.2, zu_n _ _ _ (by omega)]; exact nc b (by omega) (by omega)
  have pd : Pd 100 = (zu (zu (zu (zu (P 100) 0 (some 110)) 2 (some 200)) 3 (some 220)) 4 (some 240)) := by rw [(fd 100 (by omega)).2.1, zu_n _ _ _ (by omega), zw_a, pc]
  have i_d : Id 100 = fun _ => 0 := by rw [(fd 100 (by omega)).1.1, zu_n _ _ _ (by omega)]; exact ic
  have od : ∀ b, ¬ (270 ≤ b ∧ b ≤ 284) → b ≠ 100 → (Id b = Ic b ∧ Ld b = Lc b) ∧ Pd b = Pc b ∧ Sd b = Sc b := fun b hb h100 => ⟨⟨by rw [(fd b (by omega)).1.1, zu_n _ _ _ (by omega)], by rw [(fd b (by omega)).1.2, zu_n _ _ _ (by omega)]⟩, by rw [(fd b (by omega)).2.1, zu_n _ _ _ (by omega), zw_n _ _ _ _ (by omega)], by rw [(fd b (by omega)).2.2, zu_n _ _ _ (by omega)]⟩
  refine Z_putFR (by (repeat rw [zu_n _ _ _ (by omega)]); exact sd) wX1_66_0 rfl dX1_init_56 rfl ?_
  refine Z_aload_n dX1_init_59 rfl ?_
  refine Zj.less (C := C + 18 + 1) (Sl := Sl + 588 + 4) ?_ (Nat.le_refl _) (by omega) (by omega)
  refine Z_new 300 (nd _ (by omega) (by omega)) wX1_28 dX1_init_60 ?_
  refine Z_dup dX1_init_63 rfl ?_
  refine Z_call0 (d' := 1) (zCal_IN q244 q86 q242 q243 rfl nX4_init (by decide) dX1_init_64) pX4_init (by simp [zu]) zkl3 [] rfl rfl (Nat.le_of_ble_eq_true rfl) (by omega) (c_X4_init ?_)
  refine Z_putFR (by (repeat rw [zu_n _ _ _ (by omega)]); exact sd) wX1_23_0 rfl dX1_init_67 rfl ?_
  refine Z_aload_n dX1_init_70 rfl ?_
  refine Z_bipush (nI 60) dX1_init_71 rfl ?_
  refine Zj.less (C := C + 17 + 1) (Sl := Sl + 528 + 60) ?_ (Nat.le_refl _) (by omega) (by omega)
  refine Z_newa (N := 60) 301 (by (repeat rw [zu_n _ _ _ (by omega)]); exact nd _ (by omega) (by omega)) .byte (by simp [zTys, newarray.typeOf]) rfl q320 (by decide) (by decide) (by decide) dX1_init_73 ?_
  refine Z_putFR (by (repeat rw [zu_n _ _ _ (by omega)]); exact sd) wX1_70_0 rfl dX1_init_75 rfl ?_
  refine Z_aload_n dX1_init_78 rfl ?_
  refine Z_bipush (nI 32) dX1_init_79 rfl ?_
  refine Zj.less (C := C + 16 + 1) (Sl := Sl + 496 + 32) ?_ (Nat.le_refl _) (by omega) (by omega)
  refine Z_newa (N := 32) 302 (by (repeat rw [zu_n _ _ _ (by omega)]); exact nd _ (by omega) (by omega)) .long (by simp [zTys, newarray.typeOf]) rfl q321 (by decide) (by decide) (by decide) dX1_init_81 ?_
  refine Z_putFR (by (repeat rw [zu_n _ _ _ (by omega)]); exact sd) wX1_74_0 rfl dX1_init_83 rfl ?_
  refine Z_aload_n dX1_init_86 rfl ?_
  refine Z_bipush (nI 9) dX1_init_87 rfl ?_
  refine Zj.less (C := C + 15 + 1) (Sl := Sl + 487 + 9) ?_ (Nat.le_refl _) (by omega) (by omega)
  refine Z_newa (N := 9) 303 (by (repeat rw [zu_n _ _ _ (by omega)]); exact nd _ (by omega) (by omega)) .int (by simp [zTys, newarray.typeOf]) rfl q165 (by decide) (by decide) (by decide) dX1_init_89 ?_
  refine Z_putFR (by (repeat rw [zu_n _ _ _ (by omega)]); exact sd) wX1_78_0 rfl dX1_init_91 rfl ?_
  refine Z_aload_n dX1_init_94 rfl ?_
  refine Z_bipush (nI 9) dX1_init_95 rfl ?_
  refine Zj.less (C := C + 14 + 1) (Sl := Sl + 478 + 9) ?_ (Nat.le_refl _) (by omega) (by omega)
  refine Z_newa (N := 9) 304 (by (repeat rw [zu_n _ _ _ (by omega)]); exact nd _ (by omega) (by omega)) .int (by simp [zTys, newarray.typeOf]) rfl q165 (by decide) (by decide) (by decide) dX1_init_97 ?_
  refine Z_putFR (by (repeat rw [zu_n _ _ _ (by omega)]); exact sd) wX1_81_0 rfl dX1_init_99 rfl ?_
  refine Z_aload_n dX1_init_102 rfl ?_
  refine Z_bipush (nI 9) dX1_init_103 rfl ?_
  refine Zj.less (C := C + 13 + 1) (Sl := Sl + 469 + 9) ?_ (Nat.le_refl _) (by omega) (by omega)
  refine Z_newa (N := 9) 305 (by (repeat rw [zu_n _ _ _ (by omega)]); exact nd _ (by omega) (by omega)) .int (by simp [zTys, newarray.typeOf]) rfl q165 (by decide) (by decide) (by decide) dX1_init_105 ?_
  refine Z_putFR (by (repeat rw [zu_n _ _ _ (by omega)]); exact sd) wX1_84_0 rfl dX1_init_107 rfl ?_
  refine Z_aload_n dX1_init_110 rfl ?_
  refine Z_iconst (nI 3) dX1_init_111 rfl ?_
  refine Zj.less (C := C + 12 + 1) (Sl := Sl + 466 + 3) ?_ (Nat.le_refl _) (by omega) (by omega)
  refine Z_anewa (N := 3) 306 (by (repeat rw [zu_n _ _ _ (by omega)]); exact nd _ (by omega) (by omega)) (by simp [zTys]) q166 q259 (by decide) (by decide) (by decide) dX1_init_112 ?_
  refine Z_putFR (by (repeat rw [zu_n _ _ _ (by omega)]); exact sd) wX1_87_0 rfl dX1_init_115 rfl ?_
  refine Z_aload_n dX1_init_118 rfl ?_
  refine Z_iconst (nI 3) dX1_init_119 rfl ?_
  refine Zj.less (C := C + 11 + 1) (Sl := Sl + 463 + 3) ?_ (Nat.le_refl _) (by omega) (by omega)
  refine Z_newa (N := 3) 307 (by (repeat rw [zu_n _ _ _ (by omega)]); exact nd _ (by omega) (by omega)) .int (by simp [zTys, newarray.typeOf]) rfl q165 (by decide) (by decide) (by decide) dX1_init_120 ?_
  refine Z_putFR (by (repeat rw [zu_n _ _ _ (by omega)]); exact sd) wX1_91_0 rfl dX1_init_122 rfl ?_
  refine Z_return dX1_init_125 rfl ?_
  refine k _ _ _ _ ⟨⟨⟨?_, ?_, fun j q hq => ?_, ⟨?_, ?_, ?_, ?_, ?_⟩, ua.eq (fun b h1 h2 => ?_) ?_ ?_ ?_, ub.eq (fun b h1 h2 => ?_) ?_ ?_ ?_, uc.eq (fun b h1 h2 _ => ?_) ?_, ud.eq (fun b h1 h2 _ => ?_) ?_⟩, ?_⟩, ⟨⟨?_, ?_, ?_⟩, fun j hj => ?_⟩, ⟨?_, ?_, ?_, ?_⟩, ?_, fun j h1 h2 => ?_⟩ (fun b hb => ⟨⟨?_, ?_⟩, ?_, ?_⟩)
  · (repeat first | rw [zw_n _ _ _ _ (by omega)] | rw [zu_n _ _ _ (by omega)]); exact sd
  · simp [zu]
  · unfold xAr at hq
    split at hq
    · cases hq
      refine ⟨?_, by simp [zw, zu, pd]⟩
      dsimp only
      (repeat first | rw [zw_n _ _ _ _ (by omega)] | rw [zu_n _ _ _ (by omega)])
      rw [(od 110 (by omega) (by omega)).2.2, (oc 110 (by omega) (by omega)).2.2, (ob 110 (by omega) (by omega)).2.2]
      exact qa.2
    all_goals first | (cases hq; exact ⟨by simp [zu, newarray.typeOf], by simp [zw, zu, pd]⟩) | cases hq
  · simp [zw, zu, pd]
  · simp [zw, zu, pd]
  · simp [zw, zu, pd]
  · simp [zw, zu, pd]
  · simp [zw, zu, pd]
  · (repeat first | rw [zw_n _ _ _ _ (by omega)] | rw [zu_n _ _ _ (by omega)]); rw [(od b (by omega) (by omega)).2.2, (oc b (by omega) (by omega)).2.2, (ob b (by omega) (by omega)).2.2]
  · (repeat first | rw [zw_n _ _ _ _ (by omega)] | rw [zu_n _ _ _ (by omega)]); rw [(od 200 (by omega) (by omega)).2.1, (oc 200 (by omega) (by omega)).2.1, (ob 200 (by omega) (by omega)).2.1]
  · (repeat first | rw [zw_n _ _ _ _ (by omega)] | rw [zu_n _ _ _ (by omega)]); rw [(od 200 (by omega) (by omega)).2.1, (oc 200 (by omega) (by omega)).2.1, (ob 200 (by omega) (by omega)).2.1]
  · (repeat first | rw [zw_n _ _ _ _ (by omega)] | rw [zu_n _ _ _ (by omega)]); rw [(od (200 + 2) (by omega) (by omega)).2.1, (oc (200 + 2) (by omega) (by omega)).2.1, (ob (200 + 2) (by omega) (by omega)).2.1]
  · (repeat first | rw [zw_n _ _ _ _ (by omega)] | rw [zu_n _ _ _ (by omega)]); rw [(od b (by omega) (by omega)).2.2, (oc b (by omega) (by omega)).2.2]
  · (repeat first | rw [zw_n _ _ _ _ (by omega)] | rw [zu_n _ _ _ (by omega)]); rw [(od 220 (by omega) (by omega)).2.1, (oc 220 (by omega) (by omega)).2.1]
  · (repeat first | rw [zw_n _ _ _ _ (by omega)] | rw [zu_n _ _ _ (by omega)]); rw [(od 220 (by omega) (by omega)).2.1, (oc 220 (by omega) (by omega)).2.1]
  · (repeat first | rw [zw_n _ _ _ _ (by omega)] | rw [zu_n _ _ _ (by omega)]); rw [(od (220 + 2) (by omega) (by omega)).2.1, (oc (220 + 2) (by omega) (by omega)).2.1]
  · (repeat first | rw [zw_n _ _ _ _ (by omega)] | rw [zu_n _ _ _ (by omega)]); rw [(od b (by omega) (by omega)).2.2]
  · (repeat first | rw [zw_n _ _ _ _ (by omega)] | rw [zu_n _ _ _ (by omega)]); rw [(od 240 (by omega) (by omega)).2.1]
  · (repeat first | rw [zw_n _ _ _ _ (by omega)] | rw [zu_n _ _ _ (by omega)])
  · (repeat first | rw [zw_n _ _ _ _ (by omega)] | rw [zu_n _ _ _ (by omega)])
  · (repeat first | rw [zw_n _ _ _ _ (by omega)] | rw [zu_n _ _ _ (by omega)]); exact i_d
  · (repeat first | rw [zw_n _ _ _ _ (by omega)] | rw [zu_n _ _ _ (by omega)]); rw [(od 200 (by omega) (by omega)).1.1, (oc 200 (by omega) (by omega)).1.1, (ob 200 (by omega) (by omega)).1.1]; exact va.1.trans (congrFun (zu_s _ _ _) 1)
  · (repeat first | rw [zw_n _ _ _ _ (by omega)] | rw [zu_n _ _ _ (by omega)]); rw [(od 200 (by omega) (by omega)).1.1, (oc 200 (by omega) (by omega)).1.1, (ob 200 (by omega) (by omega)).1.1]; exact va.2.1
  · (repeat first | rw [zw_n _ _ _ _ (by omega)] | rw [zu_n _ _ _ (by omega)]); rw [(od 200 (by omega) (by omega)).1.1, (oc 200 (by omega) (by omega)).1.1, (ob 200 (by omega) (by omega)).1.1]; exact va.2.2
  · (repeat first | rw [zw_n _ _ _ _ (by omega)] | rw [zu_n _ _ _ (by omega)]); rw [(od _ (by omega) (by omega)).1.1, (oc _ (by omega) (by omega)).1.1, (ob _ (by omega) (by omega)).1.1]; exact za j hj
  · (repeat first | rw [zw_n _ _ _ _ (by omega)] | rw [zu_n _ _ _ (by omega)]); rw [(od 200 (by omega) (by omega)).2.1, (oc 200 (by omega) (by omega)).2.1, (ob 200 (by omega) (by omega)).2.1, xa, zu_s]
  · (repeat first | rw [zw_n _ _ _ _ (by omega)] | rw [zu_n _ _ _ (by omega)]); rw [(od 201 (by omega) (by omega)).2.1, (oc 201 (by omega) (by omega)).2.1, (ob 201 (by omega) (by omega)).2.1]; exact ya
  · (repeat first | rw [zw_n _ _ _ _ (by omega)] | rw [zu_n _ _ _ (by omega)]); rw [(od 110 (by omega) (by omega)).2.1, (oc 110 (by omega) (by omega)).2.1, (ob 110 (by omega) (by omega)).2.1]; exact qa.1
  · (repeat first | rw [zw_n _ _ _ _ (by omega)] | rw [zu_n _ _ _ (by omega)]); rw [zu_s]
  · (repeat first | rw [zw_n _ _ _ _ (by omega)] | rw [zu_n _ _ _ (by omega)]); rw [(od 240 (by omega) (by omega)).1.1, vc, zu_s]
  · (repeat first | rw [zw_n _ _ _ _ (by omega)] | rw [zu_n _ _ _ (by omega)]); rw [(od _ (by omega) (by omega)).1.1]; exact xc j h1 h2
  · (repeat first | rw [zw_n _ _ _ _ (by omega)] | rw [zu_n _ _ _ (by omega)]); rw [(od b (by omega) (by omega)).1.1, (oc b (by omega) (by omega)).1.1, (ob b (by omega) (by omega)).1.1, (oa b hb).1.1]
  · (repeat first | rw [zw_n _ _ _ _ (by omega)] | rw [zu_n _ _ _ (by omega)]); rw [(od b (by omega) (by omega)).1.2, (oc b (by omega) (by omega)).1.2, (ob b (by omega) (by omega)).1.2, (oa b hb).1.2]
  · (repeat first | rw [zw_n _ _ _ _ (by omega)] | rw [zu_n _ _ _ (by omega)]); rw [(od b (by omega) (by omega)).2.1, (oc b (by omega) (by omega)).2.1, (ob b (by omega) (by omega)).2.1, (oa b hb).2.1]
  · (repeat first | rw [zw_n _ _ _ _ (by omega)] | rw [zu_n _ _ _ (by omega)]); rw [(od b (by omega) (by omega)).2.2, (oc b (by omega) (by omega)).2.2, (ob b (by omega) (by omega)).2.2, (oa b hb).2.2]
end INIT83
