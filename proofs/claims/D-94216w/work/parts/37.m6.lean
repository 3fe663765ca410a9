set_option maxRecDepth 100000
/-! THE MODEL, part 6: an hour of work -/
section M6
variable {G : zG} {d C Sl : Nat} {I I2 W : zI} {L : zL} {P : zR} {S : zT} {Q : zQ} {s : zS} {no n : Nat}
def tW : Nat → Nat → Bool := fun h k => h == 23 || (h == 33 || (h == 0 && (k == 34 || (k == 35 || k == 36))))
theorem tW_w {a k : Nat} (h : wAt a k = true) : tW a k = false := by
  unfold tW
  by_cases e : a = 23
  · subst e; exact absurd h (by simp [wAt])
  by_cases e2 : a = 33
  · subst e2; exact absurd h (by simp [wAt])
  by_cases e3 : a = 0
  · subst e3
    simp only [wAt, Bool.or_eq_true, beq_iff_eq] at h
    simp
    omega
  · simp [e, e2, e3]
/-- what an hour of work leaves -/
def wRel (no : Nat) (rd : Int32) (t : zK4) (I I2 : zI) : Prop := I2 23 = t.1 ∧ I2 0 34 = rd ∧ I2 0 35 = t.2.1 ∧ I2 0 36 = t.2.2.1 ∧ (∀ o, o < no → I2 33 o = t.2.2.2 o) ∧ fr tW I I2
set_option maxHeartbeats 40000000 in
theorem c_X5_works (hM : mOk P S) (hW : wld I = W) (hs : I 23 = s) (hw : wf W no n) (hsf : sf W no n s) {hr : Nat} (h0 : s 0 = nI hr) (hr9 : hr ≤ 2399) {rd : Int32} (hrd : rd = rdyB W s n) (k : ∀ I2, wRel no rd (wrkN W rd hr (s, nI 0, nI 0, fun _ => nI 0) n) I I2 → Q (.inl none) I2 L P S) : Zm G mX5_works 3 C Sl [.ref 0] I L P S Q := by
  have hn8 := hw.n8
  have ho6 := hw.o6
  have hW0 := hW
  refine Z_entry (lv := [_, _, _, _]) (Nat.le_of_ble_eq_true rfl) rfl ?_
  refine Z_aload_n dX5_works_0 rfl ?_
  refine Z_getR (r := 23) hM.1 fX5_140_4 dX5_works_1 rfl (hM.2.2 23 _ rfl rfl) ?_
  refine Z_iconst (nI 0) dX5_works_4 rfl ?_
  refine Z_iald (hM.2.1 23 _ rfl) (zix_nI (by omega) (by decide)) dX5_works_5 ?_
  refine Z_re (congrFun hs _) ?_
  refine Z_re (y := nI (hr)) h0 ?_
  refine Z_istore_n (lv' := [_, _, _, _]) dX5_works_6 rfl rfl (Nat.le_of_ble_eq_true rfl) ?_
  refine Z_aload_n dX5_works_7 rfl ?_
  refine Z_aload_n dX5_works_8 rfl ?_
  refine Z_call0 (d' := 2) (zCal_V gX5_275 nX5_readyBits (by decide) dX5_works_9) pX5_readyBits hM.1 zkl4 [] rfl rfl (Nat.le_of_ble_eq_true rfl) (by omega) (c_X5_readyBits hM (by first | exact hW | (simp only [wld_zw23, wld_zw33, wld_zw27, wld_zw34, wld_zw35, wld_zw36, wld_zw0, wld_zw1, wld_zu23]; exact hW)) hs hw ?_)
  rw [show orB (rdy W s) n = rd from hrd.symm]
  refine Z_putI hM.1 fX5_278_4 dX5_works_12 rfl rfl rfl ?_
  refine Z_aload_n dX5_works_15 rfl ?_
  refine Z_iconst (nI 0) dX5_works_16 rfl ?_
  refine Z_putI hM.1 fX5_281_4 dX5_works_17 rfl rfl rfl ?_
  refine Z_aload_n dX5_works_20 rfl ?_
  refine Z_iconst (nI 0) dX5_works_21 rfl ?_
  refine Z_putI hM.1 fX5_284_4 dX5_works_22 rfl rfl rfl ?_
  refine Z_iconst (nI 0) dX5_works_25 rfl ?_
  refine Z_istore_n (lv' := [_, _, _, _]) dX5_works_26 rfl rfl (Nat.le_of_ble_eq_true rfl) ?_
  have lp27 : ∀ i, i ≤ no → ∀ I2, (∀ o, o < i → I2 33 o = nI 0) → I2 23 = s → I2 0 34 = rd → I2 0 35 = nI 0 → I2 0 36 = nI 0 → fr tW I I2 → Zj G mX5_works 3 C Sl 27 [.ref 0, .int (nI hr), .int (nI i), .retAddr 0] [] I2 L P S Q := by
    refine zloop (no) (fun i => ∀ I2, (∀ o, o < i → I2 33 o = nI 0) → I2 23 = s → I2 0 34 = rd → I2 0 35 = nI 0 → I2 0 36 = nI 0 → fr tW I I2 → Zj G mX5_works 3 C Sl 27 [.ref 0, .int (nI hr), .int (nI i), .retAddr 0] [] I2 L P S Q) (fun i hi ih => ?_)
    intro I2 f5 g1 g2 g3 g4 g6
    show Zj _ _ _ _ _ _ _ _ _ _ _ _ _
    have hW : wld I2 = W := (wld_fr g6 fun _ _ => tW_w).trans hW
    refine Z_iload_n dX5_works_27 rfl ?_
    refine Z_aload_n dX5_works_28 rfl ?_
    refine Z_getI hM.1 fX5_22_4 dX5_works_29 rfl ?_
    refine Z_re ((wr (by first | exact hW | (simp only [wld_zw23, wld_zw33, wld_zw27, wld_zw34, wld_zw35, wld_zw36, wld_zw0, wld_zw1, wld_zu23]; exact hW)) rfl).trans hw.o3) ?_
    refine Z_icmpgeN 48 dX5_works_32 rfl (by omega) (by omega) (fun c32 => ?_) (fun c32 => ?_)
    · obtain rfl : no = i := by omega
      refine Z_iconst (nI 0) dX5_works_48 rfl ?_
      refine Z_istore_n (lv' := [_, _, _, _]) dX5_works_49 rfl rfl (Nat.le_of_ble_eq_true rfl) ?_
      have lp50 : ∀ i, i ≤ n → ∀ I2, wRel no rd (wrkN W rd hr (s, nI 0, nI 0, fun _ => nI 0) i) I I2 → Zj G mX5_works 3 C Sl 50 [.ref 0, .int (nI hr), .int (nI i), .retAddr 0] [] I2 L P S Q := by
        refine zloop (n) (fun i => ∀ I2, wRel no rd (wrkN W rd hr (s, nI 0, nI 0, fun _ => nI 0) i) I I2 → Zj G mX5_works 3 C Sl 50 [.ref 0, .int (nI hr), .int (nI i), .retAddr 0] [] I2 L P S Q) (fun i hi ih => ?_)
        intro I2 g
        show Zj _ _ _ _ _ _ _ _ _ _ _ _ _
        have n1 : ¬ 1 = 43 + i := by omega
        have n2 : ¬ 1 = 19 + i := by omega
        have n3 : ¬ 1 = 11 + i := by omega
        have n4 : ¬ 43 + i = 1 := by omega
        have n5 : ¬ 19 + i = 1 := by omega
        have n6 : ¬ 11 + i = 1 := by omega
        obtain ⟨t, ht⟩ : ∃ t, wrkN W rd hr (s, nI 0, nI 0, fun _ => nI 0) i = t := ⟨_, rfl⟩
        rw [ht] at g
        obtain ⟨g1, g2, g3, g4, g5, g6⟩ := g
        have hs : I2 23 = t.1 := g1
        have hsf : sf W no n t.1 := by rw [← ht]; exact sf_wrkN hsf hw (by omega) i hi
        have hW : wld I2 = W := (wld_fr g6 fun _ _ => tW_w).trans hW0
        refine Z_iload_n dX5_works_50 rfl ?_
        refine Z_aload_n dX5_works_51 rfl ?_
        refine Z_getI hM.1 fX5_151_4 dX5_works_52 rfl ?_
        refine Z_re ((wr (by first | exact hW | (simp only [wld_zw23, wld_zw33, wld_zw27, wld_zw34, wld_zw35, wld_zw36, wld_zw0, wld_zw1, wld_zu23]; exact hW)) rfl).trans hw.n16) ?_
        refine Z_icmpgeN 349 dX5_works_55 rfl (by omega) (by omega) (fun c55 => ?_) (fun c55 => ?_)
        · obtain rfl : n = i := by omega
          refine Z_return dX5_works_349 rfl ?_
          exact k I2 (by rw [ht]; exact ⟨g1, g2, g3, g4, g5, g6⟩)
        · have hin : i < n := c55
          obtain ⟨a, ha6, ha⟩ := hsf.pl hin
          have e1 : (t.1 (3 + i)).toNatClampNeg = a := by rw [ha, nI_clamp (by omega)]
          refine Z_aload_n dX5_works_58 rfl ?_
          refine Z_getI hM.1 fX5_278_4 dX5_works_59 rfl ?_
          refine Z_re g2 ?_
          refine Z_iload_n dX5_works_62 rfl ?_
          refine Z_callS0 (d' := 0) (zCal_S gX5_137 nX5_has (by decide) dX5_works_63) pX5_has [_, _] rfl rfl (Nat.le_of_ble_eq_true rfl) (by omega) (c_X5_has (fun h63 => ?_) (fun h63 => ?_))
          · refine Z_ifne 72 dX5_works_66 rfl (fun _ => ?_) (fun h => absurd h (by decide))
            refine Z_aload_n dX5_works_72 rfl ?_
            refine Z_getR (r := 23) hM.1 fX5_140_4 dX5_works_73 rfl (hM.2.2 23 _ rfl rfl) ?_
            refine Z_iconst (nI 3) dX5_works_76 rfl ?_
            refine Z_iload_n dX5_works_77 rfl ?_
            refine Z_iaddN dX5_works_78 ?_
            refine Z_iald (hM.2.1 23 _ rfl) (zix_nI (by omega) (by decide)) dX5_works_79 ?_
            refine Z_re (congrFun hs _) ?_
            refine Z_re (y := nI (a)) ha ?_
            refine Z_istore_n (lv' := [_, _, _, _]) dX5_works_80 rfl rfl (Nat.le_of_ble_eq_true rfl) ?_
            refine Z_aload_n dX5_works_81 rfl ?_
            refine Z_getR (r := 23) hM.1 fX5_140_4 dX5_works_82 rfl (hM.2.2 23 _ rfl rfl) ?_
            refine Z_bipush (nI 27) dX5_works_85 rfl ?_
            refine Z_iload_n dX5_works_87 rfl ?_
            refine Z_iaddN dX5_works_88 ?_
            refine Z_iald (hM.2.1 23 _ rfl) (zix_nI (by omega) (by decide)) dX5_works_89 ?_
            refine Z_re (congrFun hs _) ?_
            refine Z_iconst (nI 1) dX5_works_90 rfl ?_
            refine Z_icmpne 149 dX5_works_91 rfl (fun c91 => ?_) (fun c91 => ?_)
            · refine Z_aload_n dX5_works_149 rfl ?_
              refine Z_iload_n dX5_works_150 rfl ?_
              refine Z_iload_n dX5_works_151 rfl ?_
              refine Z_call0 (d' := 2) (zCal_V gX5_120 nX5_isOpen (by decide) dX5_works_152) pX5_isOpen hM.1 zkl4 [_, _] rfl rfl (Nat.le_of_ble_eq_true rfl) (by omega) (c_isOpenW hM (by first | exact hW | (simp only [wld_zw23, wld_zw33, wld_zw27, wld_zw34, wld_zw35, wld_zw36, wld_zw0, wld_zw1, wld_zu23]; exact hW)) (by omega) (fun h152 => ?_) (fun h152 => ?_))
              · refine Z_ifeq 343 dX5_works_155 rfl (fun h => absurd h (by decide)) (fun _ => ?_)
                refine Z_aload_n dX5_works_158 rfl ?_
                refine Z_getR (r := 9) hM.1 fX5_47_4 dX5_works_159 rfl (hM.2.2 9 _ rfl rfl) ?_
                refine Z_iload_n dX5_works_162 rfl ?_
                refine Z_iald (hM.2.1 9 _ rfl) (zix_nI (by omega) (by decide)) dX5_works_163 ?_
                refine Z_re (wr (by first | exact hW | (simp only [wld_zw23, wld_zw33, wld_zw27, wld_zw34, wld_zw35, wld_zw36, wld_zw0, wld_zw1, wld_zu23]; exact hW)) rfl) ?_
                refine Z_aload_n dX5_works_164 rfl ?_
                refine Z_getR (r := 17) hM.1 fX5_154_4 dX5_works_165 rfl (hM.2.2 17 _ rfl rfl) ?_
                refine Z_iload_n dX5_works_168 rfl ?_
                refine Z_iald (hM.2.1 17 _ rfl) (zix_nI (by omega) (by decide)) dX5_works_169 ?_
                refine Z_re (wr (by first | exact hW | (simp only [wld_zw23, wld_zw33, wld_zw27, wld_zw34, wld_zw35, wld_zw36, wld_zw0, wld_zw1, wld_zu23]; exact hW)) rfl) ?_
                refine Z_callS0 (d' := 0) (zCal_S gX5_137 nX5_has (by decide) dX5_works_170) pX5_has [_, _] rfl rfl (Nat.le_of_ble_eq_true rfl) (by omega) (c_X5_has (fun h170 => ?_) (fun h170 => ?_))
                · refine Z_ifeq 343 dX5_works_173 rfl (fun h => absurd h (by decide)) (fun _ => ?_)
                  refine Z_aload_n dX5_works_176 rfl ?_
                  refine Z_getR (r := 33) hM.1 fX5_287_4 dX5_works_177 rfl (hM.2.2 33 _ rfl rfl) ?_
                  refine Z_iload_n dX5_works_180 rfl ?_
                  refine Z_iald (hM.2.1 33 _ rfl) (zix_nI (by omega) (by decide)) dX5_works_181 ?_
                  refine Z_re (g5 a ha6) ?_
                  refine Z_aload_n dX5_works_182 rfl ?_
                  refine Z_getR (r := 8) hM.1 fX5_44_4 dX5_works_183 rfl (hM.2.2 8 _ rfl rfl) ?_
                  refine Z_iload_n dX5_works_186 rfl ?_
                  refine Z_iald (hM.2.1 8 _ rfl) (zix_nI (by omega) (by decide)) dX5_works_187 ?_
                  refine Z_re (wr (by first | exact hW | (simp only [wld_zw23, wld_zw33, wld_zw27, wld_zw34, wld_zw35, wld_zw36, wld_zw0, wld_zw1, wld_zu23]; exact hW)) rfl) ?_
                  refine Z_icmplt 194 dX5_works_188 rfl (fun c188 => ?_) (fun c188 => ?_)
                  · refine Z_aload_n dX5_works_194 rfl ?_
                    refine Z_getR (r := 33) hM.1 fX5_287_4 dX5_works_195 rfl (hM.2.2 33 _ rfl rfl) ?_
                    refine Z_iload_n dX5_works_198 rfl ?_
                    refine Z_dup2_11 dX5_works_199 rfl rfl ?_
                    refine Z_iald (hM.2.1 33 _ rfl) (zix_nI (by omega) (by decide)) dX5_works_200 ?_
                    refine Z_re (g5 a ha6) ?_
                    refine Z_iconst (nI 1) dX5_works_201 rfl ?_
                    refine Z_iadd dX5_works_202 ?_
                    refine Z_iast (hM.2.1 33 _ rfl) (zix_nI (by omega) (by decide)) dX5_works_203 ?_
                    refine Z_aload_n dX5_works_204 rfl ?_
                    refine Z_dup dX5_works_205 rfl ?_
                    refine Z_getI hM.1 fX5_284_4 dX5_works_206 rfl ?_
                    refine Z_iconst (nI 1) dX5_works_209 rfl ?_
                    refine Z_iload_n dX5_works_210 rfl ?_
                    refine Z_ishl dX5_works_211 ?_
                    refine Z_ior dX5_works_212 ?_
                    refine Z_putI hM.1 fX5_284_4 dX5_works_213 rfl rfl rfl ?_
                    refine Z_aload_n dX5_works_216 rfl ?_
                    refine Z_getR (r := 23) hM.1 fX5_140_4 dX5_works_217 rfl (hM.2.2 23 _ rfl rfl) ?_
                    refine Z_bipush (nI 11) dX5_works_220 rfl ?_
                    refine Z_iload_n dX5_works_222 rfl ?_
                    refine Z_iaddN dX5_works_223 ?_
                    refine Z_dup2_11 dX5_works_224 rfl rfl ?_
                    refine Z_iald (hM.2.1 23 _ rfl) (zix_nI (by omega) (by decide)) dX5_works_225 ?_
                    refine Z_re (y := t.1 (11 + i)) (by simp [zw, zu, g1, n1, n2, n3, n4, n5, n6]) ?_
                    refine Z_iconst (nI 1) dX5_works_226 rfl ?_
                    refine Z_isub dX5_works_227 ?_
                    refine Z_iast (hM.2.1 23 _ rfl) (zix_nI (by omega) (by decide)) dX5_works_228 ?_
                    refine Z_aload_n dX5_works_229 rfl ?_
                    refine Z_getR (r := 23) hM.1 fX5_140_4 dX5_works_230 rfl (hM.2.2 23 _ rfl rfl) ?_
                    refine Z_bipush (nI 19) dX5_works_233 rfl ?_
                    refine Z_iload_n dX5_works_235 rfl ?_
                    refine Z_iaddN dX5_works_236 ?_
                    refine Z_dup2_11 dX5_works_237 rfl rfl ?_
                    refine Z_iald (hM.2.1 23 _ rfl) (zix_nI (by omega) (by decide)) dX5_works_238 ?_
                    refine Z_re (y := t.1 (19 + i)) (by simp [zw, zu, g1, n1, n2, n3, n4, n5, n6]) ?_
                    refine Z_iconst (nI 1) dX5_works_239 rfl ?_
                    refine Z_iadd dX5_works_240 ?_
                    refine Z_iast (hM.2.1 23 _ rfl) (zix_nI (by omega) (by decide)) dX5_works_241 ?_
                    refine Z_aload_n dX5_works_242 rfl ?_
                    refine Z_getR (r := 23) hM.1 fX5_140_4 dX5_works_243 rfl (hM.2.2 23 _ rfl rfl) ?_
                    refine Z_bipush (nI 43) dX5_works_246 rfl ?_
                    refine Z_iload_n dX5_works_248 rfl ?_
                    refine Z_iaddN dX5_works_249 ?_
                    refine Z_dup2_11 dX5_works_250 rfl rfl ?_
                    refine Z_iald (hM.2.1 23 _ rfl) (zix_nI (by omega) (by decide)) dX5_works_251 ?_
                    refine Z_re (y := t.1 (43 + i)) (by simp [zw, zu, g1, n1, n2, n3, n4, n5, n6]) ?_
                    refine Z_iconst (nI 1) dX5_works_252 rfl ?_
                    refine Z_iadd dX5_works_253 ?_
                    refine Z_iast (hM.2.1 23 _ rfl) (zix_nI (by omega) (by decide)) dX5_works_254 ?_
                    refine Z_aload_n dX5_works_255 rfl ?_
                    refine Z_getR (r := 23) hM.1 fX5_140_4 dX5_works_256 rfl (hM.2.2 23 _ rfl rfl) ?_
                    refine Z_iconst (nI 1) dX5_works_259 rfl ?_
                    refine Z_dup2_11 dX5_works_260 rfl rfl ?_
                    refine Z_iald (hM.2.1 23 _ rfl) (zix_nI (by omega) (by decide)) dX5_works_261 ?_
                    refine Z_re (y := t.1 1) (by simp [zw, zu, g1, n1, n2, n3, n4, n5, n6]) ?_
                    refine Z_aload_n dX5_works_262 rfl ?_
                    refine Z_getR (r := 7) hM.1 fX5_41_4 dX5_works_263 rfl (hM.2.2 7 _ rfl rfl) ?_
                    refine Z_iload_n dX5_works_266 rfl ?_
                    refine Z_iald (hM.2.1 7 _ rfl) (zix_nI (by omega) (by decide)) dX5_works_267 ?_
                    refine Z_re (wr (by first | exact hW | (simp only [wld_zw23, wld_zw33, wld_zw27, wld_zw34, wld_zw35, wld_zw36, wld_zw0, wld_zw1, wld_zu23]; exact hW)) rfl) ?_
                    refine Z_iadd dX5_works_268 ?_
                    refine Z_iast (hM.2.1 23 _ rfl) (zix_nI (by omega) (by decide)) dX5_works_269 ?_
                    refine Z_aload_n dX5_works_270 rfl ?_
                    refine Z_getR (r := 23) hM.1 fX5_140_4 dX5_works_271 rfl (hM.2.2 23 _ rfl rfl) ?_
                    refine Z_bipush (nI 11) dX5_works_274 rfl ?_
                    refine Z_iload_n dX5_works_276 rfl ?_
                    refine Z_iaddN dX5_works_277 ?_
                    refine Z_iald (hM.2.1 23 _ rfl) (zix_nI (by omega) (by decide)) dX5_works_278 ?_
                    refine Z_re (y := t.1 (11 + i) - nI 1) (by simp [zw, zu, g1, n1, n2, n3, n4, n5, n6]) ?_
                    refine Z_ifne 297 dX5_works_279 rfl (fun c279 => ?_) (fun c279 => ?_)
                    · refine Z_aload_n dX5_works_297 rfl ?_
                      refine Z_iload_n dX5_works_298 rfl ?_
                      refine Z_call0 (d' := 0) (zCal_V gX5_290 nX5_asked (by decide) dX5_works_299) pX5_asked hM.1 zkl4 [_] rfl rfl (Nat.le_of_ble_eq_true rfl) (by omega) (c_X5_asked hM (by first | exact hW | (simp only [wld_zw23, wld_zw33, wld_zw27, wld_zw34, wld_zw35, wld_zw36, wld_zw0, wld_zw1, wld_zu23]; exact hW)) (by omega) ?_)
                      refine Z_iflt 343 dX5_works_302 rfl (fun c302 => ?_) (fun c302 => ?_)
                      · refine Z_iincN (a := _) (k := 1) (lv' := [_, _, _, _]) dX5_works_343 rfl rfl rfl rfl ?_
                        refine Z_goto 50 dX5_works_346 rfl ?_
                        refine Z_fgt (ih (by omega) _ (show wRel no rd (wrkS W rd hr i (wrkN W rd hr (s, nI 0, nI 0, fun _ => nI 0) i)) I _ from ?_)) (by simp [zwk])
                        rw [ht]
                        refine ⟨?_, ?_, ?_, ?_, fun z hz => ?_, ?_⟩
                        · simp [zw, zu, g1, g2, g3, g4, n1, n2, n3, n4, n5, n6, wrkS, wrk1, canW, bI, h63, c91, h152, h170, c188, c279, c302, e1]
                        · simp [zw, zu, g1, g2, g3, g4, n1, n2, n3, n4, n5, n6, wrkS, wrk1, canW, bI, h63, c91, h152, h170, c188, c279, c302, e1]
                        · simp [zw, zu, g1, g2, g3, g4, n1, n2, n3, n4, n5, n6, wrkS, wrk1, canW, bI, h63, c91, h152, h170, c188, c279, c302, e1]
                        · simp [zw, zu, g1, g2, g3, g4, n1, n2, n3, n4, n5, n6, wrkS, wrk1, canW, bI, h63, c91, h152, h170, c188, c279, c302, e1]
                        · have g5z := g5 z hz
                          try simp only [zw, zu]
                          simp [wrkS, wrk1, canW, h63, c91, h152, h170, c188, c279, c302, e1, g5z, g5 _ ha6, zu]
                        · repeat (first | exact g6 | refine fr.st ?_ rfl)
                      · refine Z_aload_n dX5_works_305 rfl ?_
                        refine Z_getR (r := 23) hM.1 fX5_140_4 dX5_works_306 rfl (hM.2.2 23 _ rfl rfl) ?_
                        refine Z_bipush (nI 19) dX5_works_309 rfl ?_
                        refine Z_iload_n dX5_works_311 rfl ?_
                        refine Z_iaddN dX5_works_312 ?_
                        refine Z_iald (hM.2.1 23 _ rfl) (zix_nI (by omega) (by decide)) dX5_works_313 ?_
                        refine Z_re (y := t.1 (19 + i) + nI 1) (by simp [zw, zu, g1, n1, n2, n3, n4, n5, n6]) ?_
                        refine Z_aload_n dX5_works_314 rfl ?_
                        refine Z_getR (r := 22) hM.1 fX5_157_4 dX5_works_315 rfl (hM.2.2 22 _ rfl rfl) ?_
                        refine Z_iload_n dX5_works_318 rfl ?_
                        refine Z_iald (hM.2.1 22 _ rfl) (zix_nI (by omega) (by decide)) dX5_works_319 ?_
                        refine Z_re (wr (by first | exact hW | (simp only [wld_zw23, wld_zw33, wld_zw27, wld_zw34, wld_zw35, wld_zw36, wld_zw0, wld_zw1, wld_zu23]; exact hW)) rfl) ?_
                        refine Z_icmpne 343 dX5_works_320 rfl (fun c320 => ?_) (fun c320 => ?_)
                        · refine Z_iincN (a := _) (k := 1) (lv' := [_, _, _, _]) dX5_works_343 rfl rfl rfl rfl ?_
                          refine Z_goto 50 dX5_works_346 rfl ?_
                          refine Z_fgt (ih (by omega) _ (show wRel no rd (wrkS W rd hr i (wrkN W rd hr (s, nI 0, nI 0, fun _ => nI 0) i)) I _ from ?_)) (by simp [zwk])
                          rw [ht]
                          refine ⟨?_, ?_, ?_, ?_, fun z hz => ?_, ?_⟩
                          · simp [zw, zu, g1, g2, g3, g4, n1, n2, n3, n4, n5, n6, wrkS, wrk1, canW, bI, h63, c91, h152, h170, c188, c279, c302, c320, e1]
                          · simp [zw, zu, g1, g2, g3, g4, n1, n2, n3, n4, n5, n6, wrkS, wrk1, canW, bI, h63, c91, h152, h170, c188, c279, c302, c320, e1]
                          · simp [zw, zu, g1, g2, g3, g4, n1, n2, n3, n4, n5, n6, wrkS, wrk1, canW, bI, h63, c91, h152, h170, c188, c279, c302, c320, e1]
                          · simp [zw, zu, g1, g2, g3, g4, n1, n2, n3, n4, n5, n6, wrkS, wrk1, canW, bI, h63, c91, h152, h170, c188, c279, c302, c320, e1]
                          · have g5z := g5 z hz
                            try simp only [zw, zu]
                            simp [wrkS, wrk1, canW, h63, c91, h152, h170, c188, c279, c302, c320, e1, g5z, g5 _ ha6, zu]
                          · repeat (first | exact g6 | refine fr.st ?_ rfl)
                        · refine Z_aload_n dX5_works_323 rfl ?_
                          refine Z_getR (r := 23) hM.1 fX5_140_4 dX5_works_324 rfl (hM.2.2 23 _ rfl rfl) ?_
                          refine Z_bipush (nI 27) dX5_works_327 rfl ?_
                          refine Z_iload_n dX5_works_329 rfl ?_
                          refine Z_iaddN dX5_works_330 ?_
                          refine Z_iconst (nI 1) dX5_works_331 rfl ?_
                          refine Z_iast (hM.2.1 23 _ rfl) (zix_nI (by omega) (by decide)) dX5_works_332 ?_
                          refine Z_aload_n dX5_works_333 rfl ?_
                          refine Z_getR (r := 23) hM.1 fX5_140_4 dX5_works_334 rfl (hM.2.2 23 _ rfl rfl) ?_
                          refine Z_bipush (nI 19) dX5_works_337 rfl ?_
                          refine Z_iload_n dX5_works_339 rfl ?_
                          refine Z_iaddN dX5_works_340 ?_
                          refine Z_iconst (nI 0) dX5_works_341 rfl ?_
                          refine Z_iast (hM.2.1 23 _ rfl) (zix_nI (by omega) (by decide)) dX5_works_342 ?_
                          refine Z_iincN (a := _) (k := 1) (lv' := [_, _, _, _]) dX5_works_343 rfl rfl rfl rfl ?_
                          refine Z_goto 50 dX5_works_346 rfl ?_
                          refine Z_fgt (ih (by omega) _ (show wRel no rd (wrkS W rd hr i (wrkN W rd hr (s, nI 0, nI 0, fun _ => nI 0) i)) I _ from ?_)) (by simp [zwk])
                          rw [ht]
                          refine ⟨?_, ?_, ?_, ?_, fun z hz => ?_, ?_⟩
                          · simp [zw, zu, g1, g2, g3, g4, n1, n2, n3, n4, n5, n6, wrkS, wrk1, canW, bI, h63, c91, h152, h170, c188, c279, c302, c320, e1]
                          · simp [zw, zu, g1, g2, g3, g4, n1, n2, n3, n4, n5, n6, wrkS, wrk1, canW, bI, h63, c91, h152, h170, c188, c279, c302, c320, e1]
                          · simp [zw, zu, g1, g2, g3, g4, n1, n2, n3, n4, n5, n6, wrkS, wrk1, canW, bI, h63, c91, h152, h170, c188, c279, c302, c320, e1]
                          · simp [zw, zu, g1, g2, g3, g4, n1, n2, n3, n4, n5, n6, wrkS, wrk1, canW, bI, h63, c91, h152, h170, c188, c279, c302, c320, e1]
                          · have g5z := g5 z hz
                            try simp only [zw, zu]
                            simp [wrkS, wrk1, canW, h63, c91, h152, h170, c188, c279, c302, c320, e1, g5z, g5 _ ha6, zu]
                          · repeat (first | exact g6 | refine fr.st ?_ rfl)
                    · refine Z_aload_n dX5_works_282 rfl ?_
                      refine Z_getR (r := 23) hM.1 fX5_140_4 dX5_works_283 rfl (hM.2.2 23 _ rfl rfl) ?_
                      refine Z_bipush (nI 35) dX5_works_286 rfl ?_
                      refine Z_iload_n dX5_works_288 rfl ?_
                      refine Z_iaddN dX5_works_289 ?_
                      refine Z_iload_n dX5_works_290 rfl ?_
                      refine Z_iconst (nI 1) dX5_works_291 rfl ?_
                      refine Z_iaddN dX5_works_292 ?_
                      refine Z_iast (hM.2.1 23 _ rfl) (zix_nI (by omega) (by decide)) dX5_works_293 ?_
                      refine Z_goto 343 dX5_works_294 rfl ?_
                      refine Z_iincN (a := _) (k := 1) (lv' := [_, _, _, _]) dX5_works_343 rfl rfl rfl rfl ?_
                      refine Z_goto 50 dX5_works_346 rfl ?_
                      refine Z_fgt (ih (by omega) _ (show wRel no rd (wrkS W rd hr i (wrkN W rd hr (s, nI 0, nI 0, fun _ => nI 0) i)) I _ from ?_)) (by simp [zwk])
                      rw [ht]
                      refine ⟨?_, ?_, ?_, ?_, fun z hz => ?_, ?_⟩
                      · simp [zw, zu, g1, g2, g3, g4, n1, n2, n3, n4, n5, n6, wrkS, wrk1, canW, bI, h63, c91, h152, h170, c188, c279, e1]
                      · simp [zw, zu, g1, g2, g3, g4, n1, n2, n3, n4, n5, n6, wrkS, wrk1, canW, bI, h63, c91, h152, h170, c188, c279, e1]
                      · simp [zw, zu, g1, g2, g3, g4, n1, n2, n3, n4, n5, n6, wrkS, wrk1, canW, bI, h63, c91, h152, h170, c188, c279, e1]
                      · simp [zw, zu, g1, g2, g3, g4, n1, n2, n3, n4, n5, n6, wrkS, wrk1, canW, bI, h63, c91, h152, h170, c188, c279, e1]
                      · have g5z := g5 z hz
                        try simp only [zw, zu]
                        simp [wrkS, wrk1, canW, h63, c91, h152, h170, c188, c279, e1, g5z, g5 _ ha6, zu]
                      · repeat (first | exact g6 | refine fr.st ?_ rfl)
                  · refine Z_goto 343 dX5_works_191 rfl ?_
                    refine Z_iincN (a := _) (k := 1) (lv' := [_, _, _, _]) dX5_works_343 rfl rfl rfl rfl ?_
                    refine Z_goto 50 dX5_works_346 rfl ?_
                    refine Z_fgt (ih (by omega) _ (show wRel no rd (wrkS W rd hr i (wrkN W rd hr (s, nI 0, nI 0, fun _ => nI 0) i)) I _ from ?_)) (by simp [zwk])
                    rw [ht]
                    refine ⟨?_, ?_, ?_, ?_, fun z hz => ?_, ?_⟩
                    · simp [zw, zu, g1, g2, g3, g4, n1, n2, n3, n4, n5, n6, wrkS, wrk1, canW, bI, h63, c91, h152, h170, c188, e1]
                    · simp [zw, zu, g1, g2, g3, g4, n1, n2, n3, n4, n5, n6, wrkS, wrk1, canW, bI, h63, c91, h152, h170, c188, e1]
                    · simp [zw, zu, g1, g2, g3, g4, n1, n2, n3, n4, n5, n6, wrkS, wrk1, canW, bI, h63, c91, h152, h170, c188, e1]
                    · simp [zw, zu, g1, g2, g3, g4, n1, n2, n3, n4, n5, n6, wrkS, wrk1, canW, bI, h63, c91, h152, h170, c188, e1]
                    · have g5z := g5 z hz
                      try simp only [zw, zu]
                      simp [wrkS, wrk1, canW, h63, c91, h152, h170, c188, e1, g5z, g5 _ ha6, zu]
                    · repeat (first | exact g6 | refine fr.st ?_ rfl)
                · refine Z_ifeq 343 dX5_works_173 rfl (fun _ => ?_) (fun h => absurd h (by decide))
                  refine Z_iincN (a := _) (k := 1) (lv' := [_, _, _, _]) dX5_works_343 rfl rfl rfl rfl ?_
                  refine Z_goto 50 dX5_works_346 rfl ?_
                  refine Z_fgt (ih (by omega) _ (show wRel no rd (wrkS W rd hr i (wrkN W rd hr (s, nI 0, nI 0, fun _ => nI 0) i)) I _ from ?_)) (by simp [zwk])
                  rw [ht]
                  refine ⟨?_, ?_, ?_, ?_, fun z hz => ?_, ?_⟩
                  · simp [zw, zu, g1, g2, g3, g4, n1, n2, n3, n4, n5, n6, wrkS, wrk1, canW, bI, h63, c91, h152, h170, e1]
                  · simp [zw, zu, g1, g2, g3, g4, n1, n2, n3, n4, n5, n6, wrkS, wrk1, canW, bI, h63, c91, h152, h170, e1]
                  · simp [zw, zu, g1, g2, g3, g4, n1, n2, n3, n4, n5, n6, wrkS, wrk1, canW, bI, h63, c91, h152, h170, e1]
                  · simp [zw, zu, g1, g2, g3, g4, n1, n2, n3, n4, n5, n6, wrkS, wrk1, canW, bI, h63, c91, h152, h170, e1]
                  · have g5z := g5 z hz
                    try simp only [zw, zu]
                    simp [wrkS, wrk1, canW, h63, c91, h152, h170, e1, g5z, g5 _ ha6, zu]
                  · repeat (first | exact g6 | refine fr.st ?_ rfl)
              · refine Z_ifeq 343 dX5_works_155 rfl (fun _ => ?_) (fun h => absurd h (by decide))
                refine Z_iincN (a := _) (k := 1) (lv' := [_, _, _, _]) dX5_works_343 rfl rfl rfl rfl ?_
                refine Z_goto 50 dX5_works_346 rfl ?_
                refine Z_fgt (ih (by omega) _ (show wRel no rd (wrkS W rd hr i (wrkN W rd hr (s, nI 0, nI 0, fun _ => nI 0) i)) I _ from ?_)) (by simp [zwk])
                rw [ht]
                refine ⟨?_, ?_, ?_, ?_, fun z hz => ?_, ?_⟩
                · simp [zw, zu, g1, g2, g3, g4, n1, n2, n3, n4, n5, n6, wrkS, wrk1, canW, bI, h63, c91, h152, e1]
                · simp [zw, zu, g1, g2, g3, g4, n1, n2, n3, n4, n5, n6, wrkS, wrk1, canW, bI, h63, c91, h152, e1]
                · simp [zw, zu, g1, g2, g3, g4, n1, n2, n3, n4, n5, n6, wrkS, wrk1, canW, bI, h63, c91, h152, e1]
                · simp [zw, zu, g1, g2, g3, g4, n1, n2, n3, n4, n5, n6, wrkS, wrk1, canW, bI, h63, c91, h152, e1]
                · have g5z := g5 z hz
                  try simp only [zw, zu]
                  simp [wrkS, wrk1, canW, h63, c91, h152, e1, g5z, g5 _ ha6, zu]
                · repeat (first | exact g6 | refine fr.st ?_ rfl)
            · obtain ⟨h37, k, hk6, hk⟩ : W 0 37 = 0 ∧ ∃ k, k < no ∧ W 21 i = nI k := by
                rcases hsf.wt hin with q | q
                · rw [q] at c91; exact absurd c91 (by decide)
                · exact q.2
              have e2 : (W 21 i).toNatClampNeg = k := by rw [hk, nI_clamp (by omega)]
              refine Z_aload_n dX5_works_94 rfl ?_
              refine Z_dup dX5_works_95 rfl ?_
              refine Z_getI hM.1 fX5_281_4 dX5_works_96 rfl ?_
              refine Z_iconst (nI 1) dX5_works_99 rfl ?_
              refine Z_iload_n dX5_works_100 rfl ?_
              refine Z_ishl dX5_works_101 ?_
              refine Z_ior dX5_works_102 ?_
              refine Z_putI hM.1 fX5_281_4 dX5_works_103 rfl rfl rfl ?_
              refine Z_aload_n dX5_works_106 rfl ?_
              refine Z_getR (r := 23) hM.1 fX5_140_4 dX5_works_107 rfl (hM.2.2 23 _ rfl rfl) ?_
              refine Z_bipush (nI 27) dX5_works_110 rfl ?_
              refine Z_iload_n dX5_works_112 rfl ?_
              refine Z_iaddN dX5_works_113 ?_
              refine Z_aload_n dX5_works_114 rfl ?_
              refine Z_iload_n dX5_works_115 rfl ?_
              refine Z_iload_n dX5_works_116 rfl ?_
              refine Z_call0 (d' := 2) (zCal_V gX5_120 nX5_isOpen (by decide) dX5_works_117) pX5_isOpen hM.1 zkl4 [_, _] rfl rfl (Nat.le_of_ble_eq_true rfl) (by omega) (c_isOpenW hM (by first | exact hW | (simp only [wld_zw23, wld_zw33, wld_zw27, wld_zw34, wld_zw35, wld_zw36, wld_zw0, wld_zw1, wld_zu23]; exact hW)) (by omega) (fun h117 => ?_) (fun h117 => ?_))
              · refine Z_ifeq 137 dX5_works_120 rfl (fun h => absurd h (by decide)) (fun _ => ?_)
                refine Z_aload_n dX5_works_123 rfl ?_
                refine Z_aload_n dX5_works_124 rfl ?_
                refine Z_getR (r := 21) hM.1 fX5_163_4 dX5_works_125 rfl (hM.2.2 21 _ rfl rfl) ?_
                refine Z_iload_n dX5_works_128 rfl ?_
                refine Z_iald (hM.2.1 21 _ rfl) (zix_nI (by omega) (by decide)) dX5_works_129 ?_
                refine Z_re (wr (by first | exact hW | (simp only [wld_zw23, wld_zw33, wld_zw27, wld_zw34, wld_zw35, wld_zw36, wld_zw0, wld_zw1, wld_zu23]; exact hW)) rfl) ?_
                refine Z_re (y := nI (k)) hk ?_
                refine Z_iload_n dX5_works_130 rfl ?_
                refine Z_call0 (d' := 2) (zCal_V gX5_120 nX5_isOpen (by decide) dX5_works_131) pX5_isOpen hM.1 zkl4 [_, _] rfl rfl (Nat.le_of_ble_eq_true rfl) (by omega) (c_isOpenW hM (by first | exact hW | (simp only [wld_zw23, wld_zw33, wld_zw27, wld_zw34, wld_zw35, wld_zw36, wld_zw0, wld_zw1, wld_zu23]; exact hW)) (by omega) (fun h131 => ?_) (fun h131 => ?_))
                · refine Z_ifne 141 dX5_works_134 rfl (fun _ => ?_) (fun h => absurd h (by decide))
                  refine Z_iconst (nI 0) dX5_works_141 rfl ?_
                  refine Z_callS0 (d' := 0) (zCal_S gX5_124 nX5_flag (by decide) dX5_works_142) pX5_flag [_] rfl rfl (Nat.le_of_ble_eq_true rfl) (by omega) (c_X5_flag (by first | decide | assumption) ?_)
                  refine Z_iast (hM.2.1 23 _ rfl) (zix_nI (by omega) (by decide)) dX5_works_145 ?_
                  refine Z_goto 343 dX5_works_146 rfl ?_
                  refine Z_iincN (a := _) (k := 1) (lv' := [_, _, _, _]) dX5_works_343 rfl rfl rfl rfl ?_
                  refine Z_goto 50 dX5_works_346 rfl ?_
                  refine Z_fgt (ih (by omega) _ (show wRel no rd (wrkS W rd hr i (wrkN W rd hr (s, nI 0, nI 0, fun _ => nI 0) i)) I _ from ?_)) (by simp [zwk])
                  rw [ht]
                  refine ⟨?_, ?_, ?_, ?_, fun z hz => ?_, ?_⟩
                  · simp [zw, zu, g1, g2, g3, g4, n1, n2, n3, n4, n5, n6, wrkS, wrk1, canW, bI, h63, c91, h117, h131, e1, e2]
                  · simp [zw, zu, g1, g2, g3, g4, n1, n2, n3, n4, n5, n6, wrkS, wrk1, canW, bI, h63, c91, h117, h131, e1, e2]
                  · simp [zw, zu, g1, g2, g3, g4, n1, n2, n3, n4, n5, n6, wrkS, wrk1, canW, bI, h63, c91, h117, h131, e1, e2]
                  · simp [zw, zu, g1, g2, g3, g4, n1, n2, n3, n4, n5, n6, wrkS, wrk1, canW, bI, h63, c91, h117, h131, e1, e2]
                  · have g5z := g5 z hz
                    try simp only [zw, zu]
                    simp [wrkS, wrk1, canW, h63, c91, h117, h131, e1, e2, g5z, g5 _ ha6, zu]
                  · repeat (first | exact g6 | refine fr.st ?_ rfl)
                · refine Z_ifne 141 dX5_works_134 rfl (fun h => absurd h (by decide)) (fun _ => ?_)
                  refine Z_iconst (nI 1) dX5_works_137 rfl ?_
                  refine Z_goto 142 dX5_works_138 rfl ?_
                  refine Z_callS0 (d' := 0) (zCal_S gX5_124 nX5_flag (by decide) dX5_works_142) pX5_flag [_] rfl rfl (Nat.le_of_ble_eq_true rfl) (by omega) (c_X5_flag (by first | decide | assumption) ?_)
                  refine Z_iast (hM.2.1 23 _ rfl) (zix_nI (by omega) (by decide)) dX5_works_145 ?_
                  refine Z_goto 343 dX5_works_146 rfl ?_
                  refine Z_iincN (a := _) (k := 1) (lv' := [_, _, _, _]) dX5_works_343 rfl rfl rfl rfl ?_
                  refine Z_goto 50 dX5_works_346 rfl ?_
                  refine Z_fgt (ih (by omega) _ (show wRel no rd (wrkS W rd hr i (wrkN W rd hr (s, nI 0, nI 0, fun _ => nI 0) i)) I _ from ?_)) (by simp [zwk])
                  rw [ht]
                  refine ⟨?_, ?_, ?_, ?_, fun z hz => ?_, ?_⟩
                  · simp [zw, zu, g1, g2, g3, g4, n1, n2, n3, n4, n5, n6, wrkS, wrk1, canW, bI, h63, c91, h117, h131, e1, e2]
                  · simp [zw, zu, g1, g2, g3, g4, n1, n2, n3, n4, n5, n6, wrkS, wrk1, canW, bI, h63, c91, h117, h131, e1, e2]
                  · simp [zw, zu, g1, g2, g3, g4, n1, n2, n3, n4, n5, n6, wrkS, wrk1, canW, bI, h63, c91, h117, h131, e1, e2]
                  · simp [zw, zu, g1, g2, g3, g4, n1, n2, n3, n4, n5, n6, wrkS, wrk1, canW, bI, h63, c91, h117, h131, e1, e2]
                  · have g5z := g5 z hz
                    try simp only [zw, zu]
                    simp [wrkS, wrk1, canW, h63, c91, h117, h131, e1, e2, g5z, g5 _ ha6, zu]
                  · repeat (first | exact g6 | refine fr.st ?_ rfl)
              · refine Z_ifeq 137 dX5_works_120 rfl (fun _ => ?_) (fun h => absurd h (by decide))
                refine Z_iconst (nI 1) dX5_works_137 rfl ?_
                refine Z_goto 142 dX5_works_138 rfl ?_
                refine Z_callS0 (d' := 0) (zCal_S gX5_124 nX5_flag (by decide) dX5_works_142) pX5_flag [_] rfl rfl (Nat.le_of_ble_eq_true rfl) (by omega) (c_X5_flag (by first | decide | assumption) ?_)
                refine Z_iast (hM.2.1 23 _ rfl) (zix_nI (by omega) (by decide)) dX5_works_145 ?_
                refine Z_goto 343 dX5_works_146 rfl ?_
                refine Z_iincN (a := _) (k := 1) (lv' := [_, _, _, _]) dX5_works_343 rfl rfl rfl rfl ?_
                refine Z_goto 50 dX5_works_346 rfl ?_
                refine Z_fgt (ih (by omega) _ (show wRel no rd (wrkS W rd hr i (wrkN W rd hr (s, nI 0, nI 0, fun _ => nI 0) i)) I _ from ?_)) (by simp [zwk])
                rw [ht]
                refine ⟨?_, ?_, ?_, ?_, fun z hz => ?_, ?_⟩
                · simp [zw, zu, g1, g2, g3, g4, n1, n2, n3, n4, n5, n6, wrkS, wrk1, canW, bI, h63, c91, h117, e1, e2]
                · simp [zw, zu, g1, g2, g3, g4, n1, n2, n3, n4, n5, n6, wrkS, wrk1, canW, bI, h63, c91, h117, e1, e2]
                · simp [zw, zu, g1, g2, g3, g4, n1, n2, n3, n4, n5, n6, wrkS, wrk1, canW, bI, h63, c91, h117, e1, e2]
                · simp [zw, zu, g1, g2, g3, g4, n1, n2, n3, n4, n5, n6, wrkS, wrk1, canW, bI, h63, c91, h117, e1, e2]
                · have g5z := g5 z hz
                  try simp only [zw, zu]
                  simp [wrkS, wrk1, canW, h63, c91, h117, e1, e2, g5z, g5 _ ha6, zu]
                · repeat (first | exact g6 | refine fr.st ?_ rfl)
          · refine Z_ifne 72 dX5_works_66 rfl (fun h => absurd h (by decide)) (fun _ => ?_)
            refine Z_goto 343 dX5_works_69 rfl ?_
            refine Z_iincN (a := _) (k := 1) (lv' := [_, _, _, _]) dX5_works_343 rfl rfl rfl rfl ?_
            refine Z_goto 50 dX5_works_346 rfl ?_
            refine Z_fgt (ih (by omega) _ (show wRel no rd (wrkS W rd hr i (wrkN W rd hr (s, nI 0, nI 0, fun _ => nI 0) i)) I _ from ?_)) (by simp [zwk])
            rw [ht]
            refine ⟨?_, ?_, ?_, ?_, fun z hz => ?_, ?_⟩
            · simp [zw, zu, g1, g2, g3, g4, n1, n2, n3, n4, n5, n6, wrkS, wrk1, canW, bI, h63, e1]
            · simp [zw, zu, g1, g2, g3, g4, n1, n2, n3, n4, n5, n6, wrkS, wrk1, canW, bI, h63, e1]
            · simp [zw, zu, g1, g2, g3, g4, n1, n2, n3, n4, n5, n6, wrkS, wrk1, canW, bI, h63, e1]
            · simp [zw, zu, g1, g2, g3, g4, n1, n2, n3, n4, n5, n6, wrkS, wrk1, canW, bI, h63, e1]
            · have g5z := g5 z hz
              try simp only [zw, zu]
              simp [wrkS, wrk1, canW, h63, e1, g5z, g5 _ ha6, zu]
            · repeat (first | exact g6 | refine fr.st ?_ rfl)
      exact lp50 0 (by omega) _ ⟨g1, g2, g3, g4, f5, g6⟩
    · refine Z_aload_n dX5_works_35 rfl ?_
      refine Z_getR (r := 33) hM.1 fX5_287_4 dX5_works_36 rfl (hM.2.2 33 _ rfl rfl) ?_
      refine Z_iload_n dX5_works_39 rfl ?_
      refine Z_iconst (nI 0) dX5_works_40 rfl ?_
      refine Z_iast (hM.2.1 33 _ rfl) (zix_nI (by omega) (by decide)) dX5_works_41 ?_
      refine Z_iincN (a := _) (k := 1) (lv' := [_, _, _, _]) dX5_works_42 rfl rfl rfl rfl ?_
      refine Z_goto 27 dX5_works_45 rfl ?_
      refine ih (by omega) _ (fun o ho => ?_) g1 g2 g3 g4 (g6.st rfl)
      rw [zw_a]
      by_cases e : o = i
      · subst e; rw [zu_s]
      · rw [zu_n _ _ _ e]; exact f5 o (by omega)
  exact lp27 0 (by omega) _ (fun o ho => absurd ho (by omega)) hs rfl rfl rfl (((fr.rf.st rfl).st rfl).st rfl)
end M6
