set_option maxRecDepth 100000
/-! THE LAW, part 2: the model is made -/
section MINIT84
variable {G : zG} {d C Sl : Nat} {I D : zI} {R : List Int64} {L : zL} {P : zR} {S : zT} {Q : zQ} {no n np : Nat}
set_option maxHeartbeats 32000000 in
theorem c_X5_init (hS : S 0 = some (.inl 4)) (hf : ∀ b, 0 < b → b < 60 → S b = none) (hI : I 0 = fun _ => 0) (k : ∀ I2 L2 P2 S2, mOk P2 S2 → (((P2 0 38 = some 38 ∧ P2 0 39 = some 39) ∨ (P2 0 38 = some 39 ∧ P2 0 39 = some 38)) ∧ ((P2 0 43 = some 43 ∧ P2 0 44 = some 44) ∨ (P2 0 43 = some 44 ∧ P2 0 44 = some 43))) → (∀ k, I2 0 k = if k = 14 then nI 4 else if k = 15 then nI 10 else 0) → (∀ a, 0 < a → a < 60 → mAr a ≠ none → a ≠ 56 → I2 a = fun _ => 0) → (∀ k, I2 56 k = if k < 3 then -1 else 0) → (∀ b, 60 ≤ b → (I2 b = I b ∧ L2 b = L b) ∧ P2 b = P b ∧ S2 b = S b) → Q (.inl none) I2 L2 P2 S2) : Zm G mX5_init 1 (C + 45) (Sl + 30000) [.ref 0] I L P S Q := by
  refine Z_entry (lv := [_]) (Nat.le_of_ble_eq_true rfl) rfl ?_
  refine Z_aload_n dX5_init_0 rfl ?_
  refine Z_objInit q1720 dX5_init_1 (Nat.le_of_ble_eq_true rfl) ?_
  refine Z_aload_n dX5_init_4 rfl ?_
  refine Z_bipush (nI 24) dX5_init_5 rfl ?_
  refine Zj.less (C := C + 44 + 1) (Sl := Sl + 29976 + 24) ?_ (Nat.le_refl _) (by omega) (by omega)
  refine Z_newa (N := 24) 2 (by (repeat rw [zu_n _ _ _ (by omega)]); exact hf _ (by omega) (by omega)) .long (by simp [zTys, newarray.typeOf]) rfl q321 (by decide) (by decide) (by decide) dX5_init_7 ?_
  refine Z_putFR (by (repeat rw [zu_n _ _ _ (by omega)]); exact hS) wX5_7_4 rfl dX5_init_9 rfl ?_
  refine Z_aload_n dX5_init_12 rfl ?_
  refine Z_bipush (nI 6) dX5_init_13 rfl ?_
  refine Zj.less (C := C + 43 + 1) (Sl := Sl + 29970 + 6) ?_ (Nat.le_refl _) (by omega) (by omega)
  refine Z_newa (N := 6) 4 (by (repeat rw [zu_n _ _ _ (by omega)]); exact hf _ (by omega) (by omega)) .int (by simp [zTys, newarray.typeOf]) rfl q165 (by decide) (by decide) (by decide) dX5_init_15 ?_
  refine Z_putFR (by (repeat rw [zu_n _ _ _ (by omega)]); exact hS) wX5_31_4 rfl dX5_init_17 rfl ?_
  refine Z_aload_n dX5_init_20 rfl ?_
  refine Z_bipush (nI 6) dX5_init_21 rfl ?_
  refine Zj.less (C := C + 42 + 1) (Sl := Sl + 29964 + 6) ?_ (Nat.le_refl _) (by omega) (by omega)
  refine Z_newa (N := 6) 5 (by (repeat rw [zu_n _ _ _ (by omega)]); exact hf _ (by omega) (by omega)) .int (by simp [zTys, newarray.typeOf]) rfl q165 (by decide) (by decide) (by decide) dX5_init_23 ?_
  refine Z_putFR (by (repeat rw [zu_n _ _ _ (by omega)]); exact hS) wX5_35_4 rfl dX5_init_25 rfl ?_
  refine Z_aload_n dX5_init_28 rfl ?_
  refine Z_bipush (nI 6) dX5_init_29 rfl ?_
  refine Zj.less (C := C + 41 + 1) (Sl := Sl + 29958 + 6) ?_ (Nat.le_refl _) (by omega) (by omega)
  refine Z_newa (N := 6) 6 (by (repeat rw [zu_n _ _ _ (by omega)]); exact hf _ (by omega) (by omega)) .int (by simp [zTys, newarray.typeOf]) rfl q165 (by decide) (by decide) (by decide) dX5_init_31 ?_
  refine Z_putFR (by (repeat rw [zu_n _ _ _ (by omega)]); exact hS) wX5_38_4 rfl dX5_init_33 rfl ?_
  refine Z_aload_n dX5_init_36 rfl ?_
  refine Z_bipush (nI 6) dX5_init_37 rfl ?_
  refine Zj.less (C := C + 40 + 1) (Sl := Sl + 29952 + 6) ?_ (Nat.le_refl _) (by omega) (by omega)
  refine Z_newa (N := 6) 7 (by (repeat rw [zu_n _ _ _ (by omega)]); exact hf _ (by omega) (by omega)) .int (by simp [zTys, newarray.typeOf]) rfl q165 (by decide) (by decide) (by decide) dX5_init_39 ?_
  refine Z_putFR (by (repeat rw [zu_n _ _ _ (by omega)]); exact hS) wX5_41_4 rfl dX5_init_41 rfl ?_
  refine Z_aload_n dX5_init_44 rfl ?_
  refine Z_bipush (nI 6) dX5_init_45 rfl ?_
  refine Zj.less (C := C + 39 + 1) (Sl := Sl + 29946 + 6) ?_ (Nat.le_refl _) (by omega) (by omega)
  refine Z_newa (N := 6) 8 (by (repeat rw [zu_n _ _ _ (by omega)]); exact hf _ (by omega) (by omega)) .int (by simp [zTys, newarray.typeOf]) rfl q165 (by decide) (by decide) (by decide) dX5_init_47 ?_
  refine Z_putFR (by (repeat rw [zu_n _ _ _ (by omega)]); exact hS) wX5_44_4 rfl dX5_init_49 rfl ?_
  refine Z_aload_n dX5_init_52 rfl ?_
  refine Z_bipush (nI 6) dX5_init_53 rfl ?_
  refine Zj.less (C := C + 38 + 1) (Sl := Sl + 29940 + 6) ?_ (Nat.le_refl _) (by omega) (by omega)
  refine Z_newa (N := 6) 9 (by (repeat rw [zu_n _ _ _ (by omega)]); exact hf _ (by omega) (by omega)) .int (by simp [zTys, newarray.typeOf]) rfl q165 (by decide) (by decide) (by decide) dX5_init_55 ?_
  refine Z_putFR (by (repeat rw [zu_n _ _ _ (by omega)]); exact hS) wX5_47_4 rfl dX5_init_57 rfl ?_
  refine Z_aload_n dX5_init_60 rfl ?_
  refine Z_bipush (nI 6) dX5_init_61 rfl ?_
  refine Zj.less (C := C + 37 + 1) (Sl := Sl + 29934 + 6) ?_ (Nat.le_refl _) (by omega) (by omega)
  refine Z_newa (N := 6) 10 (by (repeat rw [zu_n _ _ _ (by omega)]); exact hf _ (by omega) (by omega)) .int (by simp [zTys, newarray.typeOf]) rfl q165 (by decide) (by decide) (by decide) dX5_init_63 ?_
  refine Z_putFR (by (repeat rw [zu_n _ _ _ (by omega)]); exact hS) wX5_50_4 rfl dX5_init_65 rfl ?_
  refine Z_aload_n dX5_init_68 rfl ?_
  refine Z_bipush (nI 6) dX5_init_69 rfl ?_
  refine Zj.less (C := C + 36 + 1) (Sl := Sl + 29928 + 6) ?_ (Nat.le_refl _) (by omega) (by omega)
  refine Z_newa (N := 6) 11 (by (repeat rw [zu_n _ _ _ (by omega)]); exact hf _ (by omega) (by omega)) .int (by simp [zTys, newarray.typeOf]) rfl q165 (by decide) (by decide) (by decide) dX5_init_71 ?_
  refine Z_putFR (by (repeat rw [zu_n _ _ _ (by omega)]); exact hS) wX5_53_4 rfl dX5_init_73 rfl ?_
  refine Z_aload_n dX5_init_76 rfl ?_
  refine Z_sipush (nI 600) dX5_init_77 rfl ?_
  refine Zj.less (C := C + 35 + 1) (Sl := Sl + 29328 + 600) ?_ (Nat.le_refl _) (by omega) (by omega)
  refine Z_newa (N := 600) 12 (by (repeat rw [zu_n _ _ _ (by omega)]); exact hf _ (by omega) (by omega)) .boolean (by simp [zTys, newarray.typeOf]) rfl q239 (by decide) (by decide) (by decide) dX5_init_80 ?_
  refine Z_putFR (by (repeat rw [zu_n _ _ _ (by omega)]); exact hS) wX5_56_4 rfl dX5_init_82 rfl ?_
  refine Z_aload_n dX5_init_85 rfl ?_
  refine Z_bipush (nI 36) dX5_init_86 rfl ?_
  refine Zj.less (C := C + 34 + 1) (Sl := Sl + 29292 + 36) ?_ (Nat.le_refl _) (by omega) (by omega)
  refine Z_newa (N := 36) 13 (by (repeat rw [zu_n _ _ _ (by omega)]); exact hf _ (by omega) (by omega)) .int (by simp [zTys, newarray.typeOf]) rfl q165 (by decide) (by decide) (by decide) dX5_init_88 ?_
  refine Z_putFR (by (repeat rw [zu_n _ _ _ (by omega)]); exact hS) wX5_60_4 rfl dX5_init_90 rfl ?_
  refine Z_aload_n dX5_init_93 rfl ?_
  refine Z_iconst (nI 4) dX5_init_94 rfl ?_
  refine Z_putI (by (repeat rw [zu_n _ _ _ (by omega)]); exact hS) fX5_108_4 dX5_init_95 rfl rfl rfl ?_
  refine Z_aload_n dX5_init_98 rfl ?_
  refine Z_bipush (nI 10) dX5_init_99 rfl ?_
  refine Z_putI (by (repeat rw [zu_n _ _ _ (by omega)]); exact hS) fX5_111_4 dX5_init_101 rfl rfl rfl ?_
  refine Z_aload_n dX5_init_104 rfl ?_
  refine Z_bipush (nI 8) dX5_init_105 rfl ?_
  refine Zj.less (C := C + 33 + 1) (Sl := Sl + 29284 + 8) ?_ (Nat.le_refl _) (by omega) (by omega)
  refine Z_newa (N := 8) 17 (by (repeat rw [zu_n _ _ _ (by omega)]); exact hf _ (by omega) (by omega)) .int (by simp [zTys, newarray.typeOf]) rfl q165 (by decide) (by decide) (by decide) dX5_init_107 ?_
  refine Z_putFR (by (repeat rw [zu_n _ _ _ (by omega)]); exact hS) wX5_154_4 rfl dX5_init_109 rfl ?_
  refine Z_aload_n dX5_init_112 rfl ?_
  refine Z_bipush (nI 8) dX5_init_113 rfl ?_
  refine Zj.less (C := C + 32 + 1) (Sl := Sl + 29276 + 8) ?_ (Nat.le_refl _) (by omega) (by omega)
  refine Z_newa (N := 8) 18 (by (repeat rw [zu_n _ _ _ (by omega)]); exact hf _ (by omega) (by omega)) .int (by simp [zTys, newarray.typeOf]) rfl q165 (by decide) (by decide) (by decide) dX5_init_115 ?_
  refine Z_putFR (by (repeat rw [zu_n _ _ _ (by omega)]); exact hS) wX5_146_4 rfl dX5_init_117 rfl ?_
  refine Z_aload_n dX5_init_120 rfl ?_
  refine Z_bipush (nI 8) dX5_init_121 rfl ?_
  refine Zj.less (C := C + 31 + 1) (Sl := Sl + 29268 + 8) ?_ (Nat.le_refl _) (by omega) (by omega)
  refine Z_newa (N := 8) 19 (by (repeat rw [zu_n _ _ _ (by omega)]); exact hf _ (by omega) (by omega)) .int (by simp [zTys, newarray.typeOf]) rfl q165 (by decide) (by decide) (by decide) dX5_init_123 ?_
  refine Z_putFR (by (repeat rw [zu_n _ _ _ (by omega)]); exact hS) wX5_160_4 rfl dX5_init_125 rfl ?_
  refine Z_aload_n dX5_init_128 rfl ?_
  refine Z_bipush (nI 8) dX5_init_129 rfl ?_
  refine Zj.less (C := C + 30 + 1) (Sl := Sl + 29260 + 8) ?_ (Nat.le_refl _) (by omega) (by omega)
  refine Z_newa (N := 8) 20 (by (repeat rw [zu_n _ _ _ (by omega)]); exact hf _ (by omega) (by omega)) .int (by simp [zTys, newarray.typeOf]) rfl q165 (by decide) (by decide) (by decide) dX5_init_131 ?_
  refine Z_putFR (by (repeat rw [zu_n _ _ _ (by omega)]); exact hS) wX5_143_4 rfl dX5_init_133 rfl ?_
  refine Z_aload_n dX5_init_136 rfl ?_
  refine Z_bipush (nI 8) dX5_init_137 rfl ?_
  refine Zj.less (C := C + 29 + 1) (Sl := Sl + 29252 + 8) ?_ (Nat.le_refl _) (by omega) (by omega)
  refine Z_newa (N := 8) 21 (by (repeat rw [zu_n _ _ _ (by omega)]); exact hf _ (by omega) (by omega)) .int (by simp [zTys, newarray.typeOf]) rfl q165 (by decide) (by decide) (by decide) dX5_init_139 ?_
  refine Z_putFR (by (repeat rw [zu_n _ _ _ (by omega)]); exact hS) wX5_163_4 rfl dX5_init_141 rfl ?_
  refine Z_aload_n dX5_init_144 rfl ?_
  refine Z_bipush (nI 8) dX5_init_145 rfl ?_
  refine Zj.less (C := C + 28 + 1) (Sl := Sl + 29244 + 8) ?_ (Nat.le_refl _) (by omega) (by omega)
  refine Z_newa (N := 8) 22 (by (repeat rw [zu_n _ _ _ (by omega)]); exact hf _ (by omega) (by omega)) .int (by simp [zTys, newarray.typeOf]) rfl q165 (by decide) (by decide) (by decide) dX5_init_147 ?_
  refine Z_putFR (by (repeat rw [zu_n _ _ _ (by omega)]); exact hS) wX5_157_4 rfl dX5_init_149 rfl ?_
  refine Z_aload_n dX5_init_152 rfl ?_
  refine Z_bipush (nI 127) dX5_init_153 rfl ?_
  refine Zj.less (C := C + 27 + 1) (Sl := Sl + 29117 + 127) ?_ (Nat.le_refl _) (by omega) (by omega)
  refine Z_newa (N := 127) 23 (by (repeat rw [zu_n _ _ _ (by omega)]); exact hf _ (by omega) (by omega)) .int (by simp [zTys, newarray.typeOf]) rfl q165 (by decide) (by decide) (by decide) dX5_init_155 ?_
  refine Z_putFR (by (repeat rw [zu_n _ _ _ (by omega)]); exact hS) wX5_140_4 rfl dX5_init_157 rfl ?_
  refine Z_aload_n dX5_init_160 rfl ?_
  refine Z_bipush (nI 127) dX5_init_161 rfl ?_
  refine Zj.less (C := C + 26 + 1) (Sl := Sl + 28990 + 127) ?_ (Nat.le_refl _) (by omega) (by omega)
  refine Z_newa (N := 127) 24 (by (repeat rw [zu_n _ _ _ (by omega)]); exact hf _ (by omega) (by omega)) .int (by simp [zTys, newarray.typeOf]) rfl q165 (by decide) (by decide) (by decide) dX5_init_163 ?_
  refine Z_putFR (by (repeat rw [zu_n _ _ _ (by omega)]); exact hS) wX5_322_4 rfl dX5_init_165 rfl ?_
  refine Z_aload_n dX5_init_168 rfl ?_
  refine Z_bipush (nI 96) dX5_init_169 rfl ?_
  refine Zj.less (C := C + 25 + 1) (Sl := Sl + 28894 + 96) ?_ (Nat.le_refl _) (by omega) (by omega)
  refine Z_newa (N := 96) 25 (by (repeat rw [zu_n _ _ _ (by omega)]); exact hf _ (by omega) (by omega)) .int (by simp [zTys, newarray.typeOf]) rfl q165 (by decide) (by decide) (by decide) dX5_init_171 ?_
  refine Z_putFR (by (repeat rw [zu_n _ _ _ (by omega)]); exact hS) wX5_196_4 rfl dX5_init_173 rfl ?_
  refine Z_aload_n dX5_init_176 rfl ?_
  refine Z_iconst (nI 2) dX5_init_177 rfl ?_
  refine Zj.less (C := C + 24 + 1) (Sl := Sl + 28892 + 2) ?_ (Nat.le_refl _) (by omega) (by omega)
  refine Z_newa (N := 2) 26 (by (repeat rw [zu_n _ _ _ (by omega)]); exact hf _ (by omega) (by omega)) .int (by simp [zTys, newarray.typeOf]) rfl q165 (by decide) (by decide) (by decide) dX5_init_178 ?_
  refine Z_putFR (by (repeat rw [zu_n _ _ _ (by omega)]); exact hS) wX5_199_4 rfl dX5_init_180 rfl ?_
  refine Z_aload_n dX5_init_183 rfl ?_
  refine Z_bipush (nI 48) dX5_init_184 rfl ?_
  refine Zj.less (C := C + 23 + 1) (Sl := Sl + 28844 + 48) ?_ (Nat.le_refl _) (by omega) (by omega)
  refine Z_newa (N := 48) 27 (by (repeat rw [zu_n _ _ _ (by omega)]); exact hf _ (by omega) (by omega)) .int (by simp [zTys, newarray.typeOf]) rfl q165 (by decide) (by decide) (by decide) dX5_init_186 ?_
  refine Z_putFR (by (repeat rw [zu_n _ _ _ (by omega)]); exact hS) wX5_246_4 rfl dX5_init_188 rfl ?_
  refine Z_aload_n dX5_init_191 rfl ?_
  refine Z_bipush (nI 60) dX5_init_192 rfl ?_
  refine Zj.less (C := C + 22 + 1) (Sl := Sl + 28784 + 60) ?_ (Nat.le_refl _) (by omega) (by omega)
  refine Z_newa (N := 60) 28 (by (repeat rw [zu_n _ _ _ (by omega)]); exact hf _ (by omega) (by omega)) .int (by simp [zTys, newarray.typeOf]) rfl q165 (by decide) (by decide) (by decide) dX5_init_194 ?_
  refine Z_putFR (by (repeat rw [zu_n _ _ _ (by omega)]); exact hS) wX5_173_4 rfl dX5_init_196 rfl ?_
  refine Z_aload_n dX5_init_199 rfl ?_
  refine Z_bipush (nI 6) dX5_init_200 rfl ?_
  refine Zj.less (C := C + 21 + 1) (Sl := Sl + 28778 + 6) ?_ (Nat.le_refl _) (by omega) (by omega)
  refine Z_newa (N := 6) 33 (by (repeat rw [zu_n _ _ _ (by omega)]); exact hf _ (by omega) (by omega)) .int (by simp [zTys, newarray.typeOf]) rfl q165 (by decide) (by decide) (by decide) dX5_init_202 ?_
  refine Z_putFR (by (repeat rw [zu_n _ _ _ (by omega)]); exact hS) wX5_287_4 rfl dX5_init_204 rfl ?_
  refine Z_aload_n dX5_init_207 rfl ?_
  refine Z_sipush (nI 3072) dX5_init_208 rfl ?_
  refine Zj.less (C := C + 20 + 1) (Sl := Sl + 25706 + 3072) ?_ (Nat.le_refl _) (by omega) (by omega)
  refine Z_newa (N := 3072) 38 (by (repeat rw [zu_n _ _ _ (by omega)]); exact hf _ (by omega) (by omega)) .int (by simp [zTys, newarray.typeOf]) rfl q165 (by decide) (by decide) (by decide) dX5_init_211 ?_
  refine Z_putR (by (repeat rw [zu_n _ _ _ (by omega)]); exact hS) fX5_338_4 dX5_init_213 rfl ?_
  refine Z_aload_n dX5_init_216 rfl ?_
  refine Z_sipush (nI 3072) dX5_init_217 rfl ?_
  refine Zj.less (C := C + 19 + 1) (Sl := Sl + 22634 + 3072) ?_ (Nat.le_refl _) (by omega) (by omega)
  refine Z_newa (N := 3072) 39 (by (repeat rw [zu_n _ _ _ (by omega)]); exact hf _ (by omega) (by omega)) .int (by simp [zTys, newarray.typeOf]) rfl q165 (by decide) (by decide) (by decide) dX5_init_220 ?_
  refine Z_putR (by (repeat rw [zu_n _ _ _ (by omega)]); exact hS) fX5_347_4 dX5_init_222 rfl ?_
  refine Z_aload_n dX5_init_225 rfl ?_
  refine Z_bipush (nI 36) dX5_init_226 rfl ?_
  refine Zj.less (C := C + 18 + 1) (Sl := Sl + 22598 + 36) ?_ (Nat.le_refl _) (by omega) (by omega)
  refine Z_newa (N := 36) 40 (by (repeat rw [zu_n _ _ _ (by omega)]); exact hf _ (by omega) (by omega)) .int (by simp [zTys, newarray.typeOf]) rfl q165 (by decide) (by decide) (by decide) dX5_init_228 ?_
  refine Z_putFR (by (repeat rw [zu_n _ _ _ (by omega)]); exact hS) wX5_335_4 rfl dX5_init_230 rfl ?_
  refine Z_aload_n dX5_init_233 rfl ?_
  refine Z_sipush (nI 3072) dX5_init_234 rfl ?_
  refine Zj.less (C := C + 17 + 1) (Sl := Sl + 19526 + 3072) ?_ (Nat.le_refl _) (by omega) (by omega)
  refine Z_newa (N := 3072) 43 (by (repeat rw [zu_n _ _ _ (by omega)]); exact hf _ (by omega) (by omega)) .long (by simp [zTys, newarray.typeOf]) rfl q321 (by decide) (by decide) (by decide) dX5_init_237 ?_
  refine Z_putR (by (repeat rw [zu_n _ _ _ (by omega)]); exact hS) fX5_394_4 dX5_init_239 rfl ?_
  refine Z_aload_n dX5_init_242 rfl ?_
  refine Z_sipush (nI 3072) dX5_init_243 rfl ?_
  refine Zj.less (C := C + 16 + 1) (Sl := Sl + 16454 + 3072) ?_ (Nat.le_refl _) (by omega) (by omega)
  refine Z_newa (N := 3072) 44 (by (repeat rw [zu_n _ _ _ (by omega)]); exact hf _ (by omega) (by omega)) .long (by simp [zTys, newarray.typeOf]) rfl q321 (by decide) (by decide) (by decide) dX5_init_246 ?_
  refine Z_putR (by (repeat rw [zu_n _ _ _ (by omega)]); exact hS) fX5_374_4 dX5_init_248 rfl ?_
  refine Z_aload_n dX5_init_251 rfl ?_
  refine Z_bipush (nI 8) dX5_init_252 rfl ?_
  refine Zj.less (C := C + 15 + 1) (Sl := Sl + 16446 + 8) ?_ (Nat.le_refl _) (by omega) (by omega)
  refine Z_newa (N := 8) 48 (by (repeat rw [zu_n _ _ _ (by omega)]); exact hf _ (by omega) (by omega)) .int (by simp [zTys, newarray.typeOf]) rfl q165 (by decide) (by decide) (by decide) dX5_init_254 ?_
  refine Z_putFR (by (repeat rw [zu_n _ _ _ (by omega)]); exact hS) wX5_411_4 rfl dX5_init_256 rfl ?_
  refine Z_aload_n dX5_init_259 rfl ?_
  refine Z_bipush (nI 8) dX5_init_260 rfl ?_
  refine Zj.less (C := C + 14 + 1) (Sl := Sl + 16438 + 8) ?_ (Nat.le_refl _) (by omega) (by omega)
  refine Z_newa (N := 8) 49 (by (repeat rw [zu_n _ _ _ (by omega)]); exact hf _ (by omega) (by omega)) .int (by simp [zTys, newarray.typeOf]) rfl q165 (by decide) (by decide) (by decide) dX5_init_262 ?_
  refine Z_putFR (by (repeat rw [zu_n _ _ _ (by omega)]); exact hS) wX5_425_4 rfl dX5_init_264 rfl ?_
  refine Z_aload_n dX5_init_267 rfl ?_
  refine Z_bipush (nI 9) dX5_init_268 rfl ?_
  refine Zj.less (C := C + 13 + 1) (Sl := Sl + 16429 + 9) ?_ (Nat.le_refl _) (by omega) (by omega)
  refine Z_newa (N := 9) 51 (by (repeat rw [zu_n _ _ _ (by omega)]); exact hf _ (by omega) (by omega)) .int (by simp [zTys, newarray.typeOf]) rfl q165 (by decide) (by decide) (by decide) dX5_init_270 ?_
  refine Z_putFR (by (repeat rw [zu_n _ _ _ (by omega)]); exact hS) wX5_437_4 rfl dX5_init_272 rfl ?_
  refine Z_aload_n dX5_init_275 rfl ?_
  refine Z_bipush (nI 9) dX5_init_276 rfl ?_
  refine Zj.less (C := C + 12 + 1) (Sl := Sl + 16420 + 9) ?_ (Nat.le_refl _) (by omega) (by omega)
  refine Z_newa (N := 9) 52 (by (repeat rw [zu_n _ _ _ (by omega)]); exact hf _ (by omega) (by omega)) .int (by simp [zTys, newarray.typeOf]) rfl q165 (by decide) (by decide) (by decide) dX5_init_278 ?_
  refine Z_putFR (by (repeat rw [zu_n _ _ _ (by omega)]); exact hS) wX5_440_4 rfl dX5_init_280 rfl ?_
  refine Z_aload_n dX5_init_283 rfl ?_
  refine Z_bipush (nI 9) dX5_init_284 rfl ?_
  refine Zj.less (C := C + 11 + 1) (Sl := Sl + 16411 + 9) ?_ (Nat.le_refl _) (by omega) (by omega)
  refine Z_newa (N := 9) 53 (by (repeat rw [zu_n _ _ _ (by omega)]); exact hf _ (by omega) (by omega)) .int (by simp [zTys, newarray.typeOf]) rfl q165 (by decide) (by decide) (by decide) dX5_init_286 ?_
  refine Z_putFR (by (repeat rw [zu_n _ _ _ (by omega)]); exact hS) wX5_443_4 rfl dX5_init_288 rfl ?_
  refine Z_aload_n dX5_init_291 rfl ?_
  refine Z_bipush (nI 36) dX5_init_292 rfl ?_
  refine Zj.less (C := C + 10 + 1) (Sl := Sl + 16375 + 36) ?_ (Nat.le_refl _) (by omega) (by omega)
  refine Z_newa (N := 36) 54 (by (repeat rw [zu_n _ _ _ (by omega)]); exact hf _ (by omega) (by omega)) .int (by simp [zTys, newarray.typeOf]) rfl q165 (by decide) (by decide) (by decide) dX5_init_294 ?_
  refine Z_putFR (by (repeat rw [zu_n _ _ _ (by omega)]); exact hS) wX5_446_4 rfl dX5_init_296 rfl ?_
  refine Z_aload_n dX5_init_299 rfl ?_
  refine Z_bipush (nI 9) dX5_init_300 rfl ?_
  refine Zj.less (C := C + 9 + 1) (Sl := Sl + 16366 + 9) ?_ (Nat.le_refl _) (by omega) (by omega)
  refine Z_newa (N := 9) 55 (by (repeat rw [zu_n _ _ _ (by omega)]); exact hf _ (by omega) (by omega)) .long (by simp [zTys, newarray.typeOf]) rfl q321 (by decide) (by decide) (by decide) dX5_init_302 ?_
  refine Z_putFR (by (repeat rw [zu_n _ _ _ (by omega)]); exact hS) wX5_456_4 rfl dX5_init_304 rfl ?_
  refine Z_aload_n dX5_init_307 rfl ?_
  refine Z_iconst (nI 3) dX5_init_308 rfl ?_
  refine Zj.less (C := C + 8 + 1) (Sl := Sl + 16363 + 3) ?_ (Nat.le_refl _) (by omega) (by omega)
  refine Z_newa (N := 3) 56 (by (repeat rw [zu_n _ _ _ (by omega)]); exact hf _ (by omega) (by omega)) .int (by simp [zTys, newarray.typeOf]) rfl q165 (by decide) (by decide) (by decide) dX5_init_309 ?_
  refine Z_dup dX5_init_311 rfl ?_
  refine Z_iconst (nI 0) dX5_init_312 rfl ?_
  refine Z_iconst (-1) dX5_init_313 rfl ?_
  refine Z_iast (zu_s _ _ _) (zix_nI (by omega) (by decide)) dX5_init_314 ?_
  refine Z_dup dX5_init_315 rfl ?_
  refine Z_iconst (nI 1) dX5_init_316 rfl ?_
  refine Z_iconst (-1) dX5_init_317 rfl ?_
  refine Z_iast (zu_s _ _ _) (zix_nI (by omega) (by decide)) dX5_init_318 ?_
  refine Z_dup dX5_init_319 rfl ?_
  refine Z_iconst (nI 2) dX5_init_320 rfl ?_
  refine Z_iconst (-1) dX5_init_321 rfl ?_
  refine Z_iast (zu_s _ _ _) (zix_nI (by omega) (by decide)) dX5_init_322 ?_
  refine Z_putFR (by (repeat rw [zu_n _ _ _ (by omega)]); exact hS) wX5_469_4 rfl dX5_init_323 rfl ?_
  refine Z_aload_n dX5_init_326 rfl ?_
  refine Z_sipush (nI 381) dX5_init_327 rfl ?_
  refine Zj.less (C := C + 7 + 1) (Sl := Sl + 15982 + 381) ?_ (Nat.le_refl _) (by omega) (by omega)
  refine Z_newa (N := 381) 57 (by (repeat rw [zu_n _ _ _ (by omega)]); exact hf _ (by omega) (by omega)) .int (by simp [zTys, newarray.typeOf]) rfl q165 (by decide) (by decide) (by decide) dX5_init_330 ?_
  refine Z_putFR (by (repeat rw [zu_n _ _ _ (by omega)]); exact hS) wX5_472_4 rfl dX5_init_332 rfl ?_
  refine Z_return dX5_init_335 rfl ?_
  refine k _ _ _ _ ⟨(by (repeat rw [zu_n _ _ _ (by omega)]); exact hS), fun j q hq => ?_, fun j q hq hw => ?_⟩ ⟨Or.inl ⟨by simp [zw, zu], by simp [zw, zu]⟩, Or.inl ⟨by simp [zw, zu], by simp [zw, zu]⟩⟩ (fun j => ?_) (fun a h0 h1 h2 h3 => ?_) (fun j => ?_) (fun b hb => ⟨⟨?_, ?_⟩, ?_, ?_⟩)
  · unfold mAr at hq
    split at hq <;> first | (cases hq; simp [zu, newarray.typeOf]; done) | cases hq
  · unfold mAr at hq
    split at hq <;> first | (cases hq; simp [zw, zu]; done) | cases hq
  · by_cases e : j = 15
    · subst e; simp [zw, zu]
    · by_cases e2 : j = 14
      · subst e2; simp [zw, zu]
      · simp [zw, zu, hI, e, e2]
  · obtain rfl | rfl | rfl | rfl | rfl | rfl | rfl | rfl | rfl | rfl | rfl | rfl | rfl | rfl | rfl | rfl | rfl | rfl | rfl | rfl | rfl | rfl | rfl | rfl | rfl | rfl | rfl | rfl | rfl | rfl | rfl | rfl | rfl | rfl | rfl | rfl | rfl | rfl : a = 2 ∨ a = 4 ∨ a = 5 ∨ a = 6 ∨ a = 7 ∨ a = 8 ∨ a = 9 ∨ a = 10 ∨ a = 11 ∨ a = 12 ∨ a = 13 ∨ a = 17 ∨ a = 18 ∨ a = 19 ∨ a = 20 ∨ a = 21 ∨ a = 22 ∨ a = 23 ∨ a = 24 ∨ a = 25 ∨ a = 26 ∨ a = 27 ∨ a = 28 ∨ a = 33 ∨ a = 38 ∨ a = 39 ∨ a = 40 ∨ a = 43 ∨ a = 44 ∨ a = 48 ∨ a = 49 ∨ a = 51 ∨ a = 52 ∨ a = 53 ∨ a = 54 ∨ a = 55 ∨ a = 56 ∨ a = 57 := by
      unfold mAr at h2
      split at h2 <;> first | omega | exact absurd rfl h2
    all_goals first | (simp [zw, zu]; done) | exact absurd rfl h3
  · (repeat first | rw [zw_n _ _ _ _ (by omega)] | rw [zu_n _ _ _ (by omega)])
    simp only [zw_a, zu_s]
    unfold zu
    by_cases e0 : j = 2
    · subst e0; rfl
    by_cases e1 : j = 1
    · subst e1; rfl
    by_cases e2 : j = 0
    · subst e2; rfl
    rw [if_neg e0, if_neg e1, if_neg e2, if_neg (by omega)]
  · (repeat first | rw [zw_n _ _ _ _ (by omega)] | rw [zu_n _ _ _ (by omega)])
  · (repeat first | rw [zw_n _ _ _ _ (by omega)] | rw [zu_n _ _ _ (by omega)])
  · (repeat first | rw [zw_n _ _ _ _ (by omega)] | rw [zu_n _ _ _ (by omega)])
  · (repeat first | rw [zw_n _ _ _ _ (by omega)] | rw [zu_n _ _ _ (by omega)])
end MINIT84
