set_option maxRecDepth 100000
/-! THE COMPONENT, part 21: a state is made -/
section X21C
variable {G : zG} {d C Sl : Nat} {I D W : zI} {R : List Int64} {L : zL} {P : zR} {S : zT} {Q : zQ} {no n np : Nat} {s : zS} {oh ph : Nat → Nat} {ro : Option (List Nat)}
set_option maxHeartbeats 8000000 in
theorem c_X3_init {a : Nat} (hS : S a = some (.inl 2)) (hf : ∀ b, a < b → b ≤ a + 14 → S b = none) (k : ∀ I2 L2 P2 S2, stO S2 P2 a → (∀ b, ¬ (a ≤ b ∧ b ≤ a + 14) → (I2 b = I b ∧ L2 b = L b) ∧ P2 b = P b ∧ S2 b = S b) → Q (.inl none) I2 L2 P2 S2) : Zm G mX3_init 1 (C + 10) (Sl + 130) [.ref a, .ref 100] I L P S Q := by
  refine Z_entry (lv := [_, _]) (Nat.le_of_ble_eq_true rfl) rfl ?_
  refine Zj.less (C := C + 1 + 1 + 1 + 1 + 1 + 1 + 1 + 1 + 1 + 1) (Sl := Sl + 6 + 60 + 8 + 8 + 8 + 8 + 8 + 8 + 8 + 8) ?_ (Nat.le_refl _) (by omega) (by omega)
  refine Z_aload_n dX3_init_0 rfl ?_
  refine Z_aload_n dX3_init_1 rfl ?_
  refine Z_putFR (by (repeat rw [zu_n _ _ _ (by omega)]); exact hS) wX3_3_2 rfl dX3_init_2 rfl ?_
  refine Z_aload_n dX3_init_5 rfl ?_
  refine Z_objInit q171 dX3_init_6 (Nat.le_of_ble_eq_true rfl) ?_
  refine Z_aload_n dX3_init_9 rfl ?_
  refine Z_bipush (nI 8) dX3_init_10 rfl ?_
  refine Z_newa (N := 8) (a + 4) (by (repeat rw [zu_n _ _ _ (by omega)]); exact hf _ (by omega) (by omega)) .int (by simp [zTys, newarray.typeOf]) rfl q165 (by decide) (by decide) (by decide) dX3_init_12 ?_
  refine Z_putFR (by (repeat rw [zu_n _ _ _ (by omega)]); exact hS) wX3_15_2 rfl dX3_init_14 rfl ?_
  refine Z_aload_n dX3_init_17 rfl ?_
  refine Z_bipush (nI 8) dX3_init_18 rfl ?_
  refine Z_newa (N := 8) (a + 5) (by (repeat rw [zu_n _ _ _ (by omega)]); exact hf _ (by omega) (by omega)) .int (by simp [zTys, newarray.typeOf]) rfl q165 (by decide) (by decide) (by decide) dX3_init_20 ?_
  refine Z_putFR (by (repeat rw [zu_n _ _ _ (by omega)]); exact hS) wX3_19_2 rfl dX3_init_22 rfl ?_
  refine Z_aload_n dX3_init_25 rfl ?_
  refine Z_bipush (nI 8) dX3_init_26 rfl ?_
  refine Z_newa (N := 8) (a + 6) (by (repeat rw [zu_n _ _ _ (by omega)]); exact hf _ (by omega) (by omega)) .int (by simp [zTys, newarray.typeOf]) rfl q165 (by decide) (by decide) (by decide) dX3_init_28 ?_
  refine Z_putFR (by (repeat rw [zu_n _ _ _ (by omega)]); exact hS) wX3_22_2 rfl dX3_init_30 rfl ?_
  refine Z_aload_n dX3_init_33 rfl ?_
  refine Z_bipush (nI 8) dX3_init_34 rfl ?_
  refine Z_newa (N := 8) (a + 7) (by (repeat rw [zu_n _ _ _ (by omega)]); exact hf _ (by omega) (by omega)) .int (by simp [zTys, newarray.typeOf]) rfl q165 (by decide) (by decide) (by decide) dX3_init_36 ?_
  refine Z_putFR (by (repeat rw [zu_n _ _ _ (by omega)]); exact hS) wX3_25_2 rfl dX3_init_38 rfl ?_
  refine Z_aload_n dX3_init_41 rfl ?_
  refine Z_bipush (nI 8) dX3_init_42 rfl ?_
  refine Z_newa (N := 8) (a + 8) (by (repeat rw [zu_n _ _ _ (by omega)]); exact hf _ (by omega) (by omega)) .boolean (by simp [zTys, newarray.typeOf]) rfl q239 (by decide) (by decide) (by decide) dX3_init_44 ?_
  refine Z_putFR (by (repeat rw [zu_n _ _ _ (by omega)]); exact hS) wX3_28_2 rfl dX3_init_46 rfl ?_
  refine Z_aload_n dX3_init_49 rfl ?_
  refine Z_bipush (nI 8) dX3_init_50 rfl ?_
  refine Z_newa (N := 8) (a + 9) (by (repeat rw [zu_n _ _ _ (by omega)]); exact hf _ (by omega) (by omega)) .int (by simp [zTys, newarray.typeOf]) rfl q165 (by decide) (by decide) (by decide) dX3_init_52 ?_
  refine Z_putFR (by (repeat rw [zu_n _ _ _ (by omega)]); exact hS) wX3_32_2 rfl dX3_init_54 rfl ?_
  refine Z_aload_n dX3_init_57 rfl ?_
  refine Z_bipush (nI 8) dX3_init_58 rfl ?_
  refine Z_newa (N := 8) (a + 10) (by (repeat rw [zu_n _ _ _ (by omega)]); exact hf _ (by omega) (by omega)) .int (by simp [zTys, newarray.typeOf]) rfl q165 (by decide) (by decide) (by decide) dX3_init_60 ?_
  refine Z_putFR (by (repeat rw [zu_n _ _ _ (by omega)]); exact hS) wX3_35_2 rfl dX3_init_62 rfl ?_
  refine Z_aload_n dX3_init_65 rfl ?_
  refine Z_bipush (nI 8) dX3_init_66 rfl ?_
  refine Z_newa (N := 8) (a + 11) (by (repeat rw [zu_n _ _ _ (by omega)]); exact hf _ (by omega) (by omega)) .int (by simp [zTys, newarray.typeOf]) rfl q165 (by decide) (by decide) (by decide) dX3_init_68 ?_
  refine Z_putFR (by (repeat rw [zu_n _ _ _ (by omega)]); exact hS) wX3_38_2 rfl dX3_init_70 rfl ?_
  refine Z_aload_n dX3_init_73 rfl ?_
  refine Z_bipush (nI 60) dX3_init_74 rfl ?_
  refine Z_newa (N := 60) (a + 12) (by (repeat rw [zu_n _ _ _ (by omega)]); exact hf _ (by omega) (by omega)) .int (by simp [zTys, newarray.typeOf]) rfl q165 (by decide) (by decide) (by decide) dX3_init_76 ?_
  refine Z_putFR (by (repeat rw [zu_n _ _ _ (by omega)]); exact hS) wX3_41_2 rfl dX3_init_78 rfl ?_
  refine Z_aload_n dX3_init_81 rfl ?_
  refine Z_bipush (nI 6) dX3_init_82 rfl ?_
  refine Z_newa (N := 6) (a + 14) (by (repeat rw [zu_n _ _ _ (by omega)]); exact hf _ (by omega) (by omega)) .int (by simp [zTys, newarray.typeOf]) rfl q165 (by decide) (by decide) (by decide) dX3_init_84 ?_
  refine Z_putFR (by (repeat rw [zu_n _ _ _ (by omega)]); exact hS) wX3_44_2 rfl dX3_init_86 rfl ?_
  refine Z_return dX3_init_89 rfl ?_
  refine k _ _ _ _ ⟨(by (repeat rw [zu_n _ _ _ (by omega)]); exact hS), fun j q hq => ?_, by simp [zw, zu]⟩ (fun b hb => ⟨⟨?_, ?_⟩, ?_, ?_⟩)
  · unfold sAr at hq
    split at hq <;> first | (cases hq; exact ⟨by simp [zu, newarray.typeOf], by simp [zw, zu]⟩) | cases hq
  · repeat rw [zu_n _ _ _ (by omega)]
  · repeat rw [zu_n _ _ _ (by omega)]
  · repeat first | rw [zw_n _ _ _ _ (by omega)] | rw [zu_n _ _ _ (by omega)]
  · repeat rw [zu_n _ _ _ (by omega)]
end X21C
