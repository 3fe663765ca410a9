set_option maxRecDepth 100000
/-! THE COMPONENT, part 3: what changes a state -/
section X3
variable {G : zG} {d C Sl : Nat} {I D W : zI} {R : List Int64} {L : zL} {P : zR} {S : zT} {Q : zQ} {no n np : Nat} {s : zS} {oh ph : Nat → Nat}
/-- what a state's methods leave alone -/
def frS (h : Nat) (I I2 : zI) : Prop := ∀ a, ¬ (h ≤ a ∧ a ≤ h + 14) → I2 a = I a
theorem frS.rf {h : Nat} : frS h I I := fun _ _ => rfl
theorem frS.tr {h : Nat} {I2 I3 : zI} (a : frS h I I2) (b : frS h I2 I3) : frS h I I3 := fun x hx => (b x hx).trans (a x hx)
theorem frS.st {h a k : Nat} {I2 : zI} {v : Int32} (g : frS h I I2) (ha : h ≤ a ∧ a ≤ h + 14) : frS h I (zw I2 a k v) := fun x hx => (zw_n _ _ _ _ (by rintro rfl; exact hx ha)).trans (g x hx)
theorem pcR.fr {I2 : zI} (g : pcR S P I W n ph) (he : ∀ p, p < n → I2 (ph p) = I (ph p)) : pcR S P I2 W n ph := fun p hp => by
  obtain ⟨a, b, c, e⟩ := g p hp
  rw [he p hp]
  exact ⟨a, b, c, e⟩
theorem pcR.frS {h : Nat} {I2 : zI} (g : pcR S P I W n ph) (hb : h ≤ 5000) (h6 : ∀ p, p < n → 6000 ≤ ph p) (hf : frS h I I2) : pcR S P I2 W n ph := g.fr fun p hp => hf _ (by have := h6 p hp; omega)
theorem askd_m {p : Nat} (hw : wf W no n) (hp : p < n) : askd W p = -1 ∨ ∃ k, k < no ∧ askd W p = nI k := by
  unfold askd
  split
  · exact hw.asks hp
  · exact Or.inl rfl
set_option maxHeartbeats 8000000 in
theorem c_X3_work (hx : xO S P) {h : Nat} (hT : stO S P h) (g : sRw n I h s) (hn : I 100 1 = nI n) (hn8 : n ≤ 8) (hPc : pcR S P I W n ph) (hw : wf W no n) (hb5 : 230 ≤ h ∧ h ≤ 5000) (h6 : ∀ p, p < n → 6000 ≤ ph p) {hd : zS} (hb : ∀ b, b < 6 → I (h + 14) b = hd b) {p a o t : Nat} (hp : p < n) (ha : s (3 + p) = nI a) (ha6 : a < 6) (h0 : s 0 = nI t) (ht : t ≤ 2399) {q : Nat} (hq : S q = some (.inl 5)) (hq6 : 6000 ≤ q) (hpay : I q 3 = W 7 o) (k : ∀ I2, sRw n I2 h (wrk1 W s t p o) → (∀ b, b < 6 → I2 (h + 14) b = zu hd a (hd a + nI 1) b) → frS h I I2 → I2 h 13 = I h 13 → Q (.inl none) I2 L P S) : Zm G mX3_work 0 C Sl [.ref h, .int (nI p), .ref q] I L P S Q := by
  refine Z_entry (lv := [_, _, _]) (Nat.le_of_ble_eq_true rfl) rfl ?_
  refine Z_aload_n dX3_work_0 rfl ?_
  refine Z_getR (r := (h + 14)) hT.1 fX3_44_2 dX3_work_1 rfl (hT.2.1 14 _ rfl).2 ?_
  refine Z_aload_n dX3_work_4 rfl ?_
  refine Z_getR (r := (h + 4)) hT.1 fX3_15_2 dX3_work_5 rfl (hT.2.1 4 _ rfl).2 ?_
  refine Z_iload_n dX3_work_8 rfl ?_
  refine Z_iald (hT.2.1 4 _ rfl).1 (zix_nI (by first | omega | (dsimp only; omega)) (by decide)) dX3_work_9 ?_
  refine Z_re (y := nI (a)) ((g.f (k := 4) (by decide) (by decide) (p := p) (by omega)).trans ha) ?_
  refine Z_dup2_11 dX3_work_10 rfl rfl ?_
  refine Z_iald (hT.2.1 14 _ rfl).1 (zix_nI (by first | omega | (dsimp only; omega)) (by decide)) dX3_work_11 ?_
  refine Z_re (hb a (by omega)) ?_
  refine Z_iconst (nI 1) dX3_work_12 rfl ?_
  refine Z_iadd dX3_work_13 ?_
  refine Z_iast (hT.2.1 14 _ rfl).1 (zix_nI (by first | omega | (dsimp only; omega)) (by decide)) dX3_work_14 ?_
  have g1 : sRw n (zw I (h + 14) a (hd a + nI 1)) h s := g.fr (fun k hk => zw_n _ _ _ _ (by omega))
  refine Z_aload_n dX3_work_15 rfl ?_
  refine Z_getR (r := (h + 5)) hT.1 fX3_19_2 dX3_work_16 rfl (hT.2.1 5 _ rfl).2 ?_
  refine Z_iload_n dX3_work_19 rfl ?_
  refine Z_dup2_11 dX3_work_20 rfl rfl ?_
  refine Z_iald (hT.2.1 5 _ rfl).1 (zix_nI (by first | omega | (dsimp only; omega)) (by decide)) dX3_work_21 ?_
  refine Z_re (g1.f (k := 5) (by decide) (by decide) hp) ?_
  refine Z_iconst (nI 1) dX3_work_22 rfl ?_
  refine Z_isub dX3_work_23 ?_
  refine Z_iast (hT.2.1 5 _ rfl).1 (zix_nI (by first | omega | (dsimp only; omega)) (by decide)) dX3_work_24 ?_
  have g2 := g1.put hn8 (k := 5) (p := p) (v := s (11 + p) - nI 1) (by decide) (by decide) hp
  refine Z_aload_n dX3_work_25 rfl ?_
  refine Z_getR (r := (h + 6)) hT.1 fX3_22_2 dX3_work_26 rfl (hT.2.1 6 _ rfl).2 ?_
  refine Z_iload_n dX3_work_29 rfl ?_
  refine Z_dup2_11 dX3_work_30 rfl rfl ?_
  refine Z_iald (hT.2.1 6 _ rfl).1 (zix_nI (by first | omega | (dsimp only; omega)) (by decide)) dX3_work_31 ?_
  refine Z_re (y := s (19 + p)) ((g2.f (k := 6) (by decide) (by decide) hp).trans (zu_n _ _ _ (by show 19 + p ≠ 11 + p; omega))) ?_
  refine Z_iconst (nI 1) dX3_work_32 rfl ?_
  refine Z_iadd dX3_work_33 ?_
  refine Z_iast (hT.2.1 6 _ rfl).1 (zix_nI (by first | omega | (dsimp only; omega)) (by decide)) dX3_work_34 ?_
  have g3 := g2.put hn8 (k := 6) (p := p) (v := s (19 + p) + nI 1) (by decide) (by decide) hp
  refine Z_aload_n dX3_work_35 rfl ?_
  refine Z_getR (r := (h + 9)) hT.1 fX3_32_2 dX3_work_36 rfl (hT.2.1 9 _ rfl).2 ?_
  refine Z_iload_n dX3_work_39 rfl ?_
  refine Z_dup2_11 dX3_work_40 rfl rfl ?_
  refine Z_iald (hT.2.1 9 _ rfl).1 (zix_nI (by first | omega | (dsimp only; omega)) (by decide)) dX3_work_41 ?_
  refine Z_re (y := s (43 + p)) ((g3.f (k := 9) (by decide) (by decide) hp).trans ((zu_n _ _ _ (by show 43 + p ≠ 19 + p; omega)).trans (zu_n _ _ _ (by show 43 + p ≠ 11 + p; omega)))) ?_
  refine Z_iconst (nI 1) dX3_work_42 rfl ?_
  refine Z_iadd dX3_work_43 ?_
  refine Z_iast (hT.2.1 9 _ rfl).1 (zix_nI (by first | omega | (dsimp only; omega)) (by decide)) dX3_work_44 ?_
  have g4 := g3.put hn8 (k := 9) (p := p) (v := s (43 + p) + nI 1) (by decide) (by decide) hp
  refine Z_aload_n dX3_work_45 rfl ?_
  refine Z_dup dX3_work_46 rfl ?_
  refine Z_getI hT.1 fX3_51_2 dX3_work_47 rfl ?_
  refine Z_re (y := s 1) (g4.1.2.1.trans ((zu_n _ _ _ (by show 1 ≠ 43 + p; omega)).trans ((zu_n _ _ _ (by show 1 ≠ 19 + p; omega)).trans (zu_n _ _ _ (by show 1 ≠ 11 + p; omega))))) ?_
  refine Z_aload_n dX3_work_50 rfl ?_
  refine Z_getI hq fX3_145_5 dX3_work_51 rfl ?_
  refine Z_re (y := W 7 o) ((by repeat rw [zw_n _ _ _ _ (by omega)] : _ = I q 3).trans hpay) ?_
  refine Z_iadd dX3_work_54 ?_
  refine Z_putI hT.1 fX3_51_2 dX3_work_55 rfl rfl rfl ?_
  have g5 := g4.pay hn8 (v := s 1 + W 7 o)
  have e0 : (zu (zu (zu (zu s (11 + p) (s (11 + p) - nI 1)) (19 + p) (s (19 + p) + nI 1)) (43 + p) (s (43 + p) + nI 1)) 1 (s 1 + W 7 o)) 0 = nI t := by rw [zu_n _ _ _ (by omega), zu_n _ _ _ (by omega), zu_n _ _ _ (by omega), zu_n _ _ _ (by omega)]; exact h0
  have hPc : pcR S P _ W n ph := hPc.frS (I2 := zw (zw (zw (zw (zw I (h + 14) a (hd a + nI 1)) (h + 5) p (s (11 + p) - nI 1)) (h + 6) p (s (19 + p) + nI 1)) (h + 9) p (s (43 + p) + nI 1)) h 1 (s 1 + W 7 o)) hb5.2 h6 (((((frS.rf.st (by omega)).st (by omega)).st (by omega)).st (by omega)).st (by omega))
  refine Z_aload_n dX3_work_58 rfl ?_
  refine Z_getR (r := (h + 5)) hT.1 fX3_19_2 dX3_work_59 rfl (hT.2.1 5 _ rfl).2 ?_
  refine Z_iload_n dX3_work_62 rfl ?_
  refine Z_iald (hT.2.1 5 _ rfl).1 (zix_nI (by first | omega | (dsimp only; omega)) (by decide)) dX3_work_63 ?_
  refine Z_re (y := s (11 + p) - nI 1) ((g5.f (k := 5) (by decide) (by decide) hp).trans ((zu_n _ _ _ (by show 11 + p ≠ 1; omega)).trans ((zu_n _ _ _ (by show 11 + p ≠ 43 + p; omega)).trans ((zu_n _ _ _ (by show 11 + p ≠ 19 + p; omega)).trans (zu_s _ _ _))))) ?_
  refine Z_ifne 82 dX3_work_64 rfl (fun c64 => ?_) (fun c64 => ?_)
  · refine Z_aload_n dX3_work_82 rfl ?_
    refine Z_getR (r := 100) hT.1 fX3_3_2 dX3_work_83 rfl hT.2.2 ?_
    refine Z_getRN (r := 110) hx.1 fX3_73_0 dX3_work_86 rfl (hx.2.2.1 0 _ rfl).2 ?_
    refine Z_iload_n dX3_work_89 rfl ?_
    refine Z_aald (r := (ph p)) (hx.2.2.1 0 _ rfl).1 (by simp [zTys]) rfl (zix_nI (by first | omega | (dsimp only; omega)) (by decide)) (hPc p (by omega)).1 dX3_work_90 ?_
    refine Z_getI (hPc p (by omega)).2.1 fX3_121_6 dX3_work_91 rfl ?_
    refine Z_re (hPc p hp).2.2.2.1 ?_
    refine Z_iconst (-1) dX3_work_94 rfl ?_
    refine Z_icmpeq 133 dX3_work_95 rfl (fun c95 => ?_) (fun c95 => ?_)
    · refine Z_return dX3_work_133 rfl ?_
      refine k _ ?_ (fun b hb6 => ?_) (((((frS.rf.st (by omega)).st (by omega)).st (by omega)).st (by omega)).st (by omega)) (by simp [zw, zu])
      · unfold wrk1
        dsimp only
        rw [if_neg c64, if_pos (show askd W p < 0 by rw [c95]; decide)]
        exact g5
      · show _ = zu hd a (hd a + nI 1) b
        repeat rw [zw_n _ _ _ _ (by omega)]
        rw [zw_a]
        unfold zu
        split
        · rfl
        · exact hb b hb6
    · have hnn : ¬ askd W p < 0 := by
        rcases askd_m hw hp with q | ⟨k2, hk2, q⟩
        · exact absurd q c95
        · rw [q]; exact nI_pos (by have := hw.o6; omega)
      refine Z_aload_n dX3_work_98 rfl ?_
      refine Z_getR (r := (h + 6)) hT.1 fX3_22_2 dX3_work_99 rfl (hT.2.1 6 _ rfl).2 ?_
      refine Z_iload_n dX3_work_102 rfl ?_
      refine Z_iald (hT.2.1 6 _ rfl).1 (zix_nI (by first | omega | (dsimp only; omega)) (by decide)) dX3_work_103 ?_
      refine Z_re (y := s (19 + p) + nI 1) ((g5.f (k := 6) (by decide) (by decide) hp).trans ((zu_n _ _ _ (by show 19 + p ≠ 1; omega)).trans ((zu_n _ _ _ (by show 19 + p ≠ 43 + p; omega)).trans (zu_s _ _ _)))) ?_
      refine Z_aload_n dX3_work_104 rfl ?_
      refine Z_getR (r := 100) hT.1 fX3_3_2 dX3_work_105 rfl hT.2.2 ?_
      refine Z_getRN (r := 110) hx.1 fX3_73_0 dX3_work_108 rfl (hx.2.2.1 0 _ rfl).2 ?_
      refine Z_iload_n dX3_work_111 rfl ?_
      refine Z_aald (r := (ph p)) (hx.2.2.1 0 _ rfl).1 (by simp [zTys]) rfl (zix_nI (by first | omega | (dsimp only; omega)) (by decide)) (hPc p (by omega)).1 dX3_work_112 ?_
      refine Z_getI (hPc p (by omega)).2.1 fX3_146_6 dX3_work_113 rfl ?_
      refine Z_re (hPc p hp).2.2.2.2.1 ?_
      refine Z_icmpne 133 dX3_work_116 rfl (fun c116 => ?_) (fun c116 => ?_)
      · refine Z_return dX3_work_133 rfl ?_
        refine k _ ?_ (fun b hb6 => ?_) (((((frS.rf.st (by omega)).st (by omega)).st (by omega)).st (by omega)).st (by omega)) (by simp [zw, zu])
        · unfold wrk1
          dsimp only
          rw [if_neg c64, if_neg hnn, if_neg c116]
          exact g5
        · show _ = zu hd a (hd a + nI 1) b
          repeat rw [zw_n _ _ _ _ (by omega)]
          rw [zw_a]
          unfold zu
          split
          · rfl
          · exact hb b hb6
      · refine Z_aload_n dX3_work_119 rfl ?_
        refine Z_getR (r := (h + 8)) hT.1 fX3_28_2 dX3_work_120 rfl (hT.2.1 8 _ rfl).2 ?_
        refine Z_iload_n dX3_work_123 rfl ?_
        refine Z_iconst (nI 1) dX3_work_124 rfl ?_
        refine Z_zast (hT.2.1 8 _ rfl).1 (zix_nI (by first | omega | (dsimp only; omega)) (by decide)) dX3_work_125 ?_
        have g6 := g5.put hn8 (k := 8) (p := p) (v := vp_nar .boolean (nI 1)) (by decide) (by decide) hp
        refine Z_aload_n dX3_work_126 rfl ?_
        refine Z_getR (r := (h + 6)) hT.1 fX3_22_2 dX3_work_127 rfl (hT.2.1 6 _ rfl).2 ?_
        refine Z_iload_n dX3_work_130 rfl ?_
        refine Z_iconst (nI 0) dX3_work_131 rfl ?_
        refine Z_iast (hT.2.1 6 _ rfl).1 (zix_nI (by first | omega | (dsimp only; omega)) (by decide)) dX3_work_132 ?_
        have g8 := g6.put hn8 (k := 6) (p := p) (v := nI 0) (by decide) (by decide) hp
        refine Z_return dX3_work_133 rfl ?_
        refine k _ ?_ (fun b hb6 => ?_) (((((((frS.rf.st (by omega)).st (by omega)).st (by omega)).st (by omega)).st (by omega)).st (by omega)).st (by omega)) (by simp [zw, zu])
        · unfold wrk1
          dsimp only
          rw [show vp_nar .boolean (nI 1) = nI 1 from by decide] at g8
          rw [if_neg c64, if_neg hnn, if_pos c116]
          exact g8
        · show _ = zu hd a (hd a + nI 1) b
          repeat rw [zw_n _ _ _ _ (by omega)]
          rw [zw_a]
          unfold zu
          split
          · rfl
          · exact hb b hb6
  · refine Z_aload_n dX3_work_67 rfl ?_
    refine Z_getR (r := (h + 7)) hT.1 fX3_25_2 dX3_work_68 rfl (hT.2.1 7 _ rfl).2 ?_
    refine Z_iload_n dX3_work_71 rfl ?_
    refine Z_aload_n dX3_work_72 rfl ?_
    refine Z_getI hT.1 fX3_47_2 dX3_work_73 rfl ?_
    refine Z_re (y := nI (t)) (g5.1.1.trans e0) ?_
    refine Z_iconst (nI 1) dX3_work_76 rfl ?_
    refine Z_iaddN dX3_work_77 ?_
    refine Z_iast (hT.2.1 7 _ rfl).1 (zix_nI (by first | omega | (dsimp only; omega)) (by decide)) dX3_work_78 ?_
    have g7 := g5.put hn8 (k := 7) (p := p) (v := nI (t + 1)) (by decide) (by decide) hp
    refine Z_goto 133 dX3_work_79 rfl ?_
    refine Z_return dX3_work_133 rfl ?_
    refine k _ ?_ (fun b hb6 => ?_) ((((((frS.rf.st (by omega)).st (by omega)).st (by omega)).st (by omega)).st (by omega)).st (by omega)) (by simp [zw, zu])
    · unfold wrk1
      dsimp only
      rw [if_pos c64]
      exact g7
    · show _ = zu hd a (hd a + nI 1) b
      repeat rw [zw_n _ _ _ _ (by omega)]
      rw [zw_a]
      unfold zu
      split
      · rfl
      · exact hb b hb6
theorem sRw.lost2 {h p : Nat} {v : Int32} (g : sRw n I h s) (hn : n ≤ 8) (hp : p < n) : sRw n (zw (zw I (h + 11) p (s (59 + p) + v)) h 3 (sumI (fun p => s (59 + p)) n + v)) h (zu s (59 + p) (s (59 + p) + v)) := by
  obtain ⟨⟨a0, a1, a2, a3⟩, b, c, e⟩ := g
  refine ⟨⟨?_, ?_, ?_, ?_⟩, fun k2 p2 h42 h112 hp2 => ?_, fun k2 p2 hk2 hp2 hp8 => ?_, fun j hj => ?_⟩
  · rw [zw_a, zu_n _ _ _ (by decide), zw_n _ _ _ _ (by omega), zu_n _ _ _ (by omega)]; exact a0
  · rw [zw_a, zu_n _ _ _ (by decide), zw_n _ _ _ _ (by omega), zu_n _ _ _ (by omega)]; exact a1
  · rw [zw_a, zu_n _ _ _ (by decide), zw_n _ _ _ _ (by omega), a2]; exact sumI_c n (fun q hq => (zu_n _ _ _ (by omega)).symm)
  · rw [zw_s]
    have e1 : (fun q => zu s (59 + p) (s (59 + p) + v) (59 + q)) = zu (fun q => s (59 + q)) p (s (59 + p) + v) := by
      funext q
      unfold zu
      by_cases h : q = p
      · subst h; simp
      · rw [if_neg (by omega), if_neg h]
    rw [e1, sumI_u n p hp]
    congr 1
    generalize s (59 + p) = x
    rw [Int32.sub_eq_add_neg, Int32.add_comm x, Int32.add_assoc, Int32.add_right_neg, Int32.add_zero]
  · rw [zw_n _ _ _ _ (by omega)]
    have hk3 := sBs_k k2 h42 h112
    by_cases ek : k2 = 11
    · subst ek
      rw [zw_a]
      by_cases ep : p2 = p
      · subst ep; rw [zu_s]; show _ = zu s (59 + p2) _ (59 + p2); rw [zu_s]
      · rw [zu_n _ _ _ ep]; show _ = zu s (59 + p) _ (59 + p2); rw [zu_n _ _ _ (by omega)]; exact b 11 p2 h42 h112 hp2
    · rw [zw_n _ _ _ _ (by omega), zu_n _ _ _ (by omega)]; exact b _ _ h42 h112 hp2
  · rw [zw_n _ _ _ _ (by omega)]
    by_cases ek : k2 = 11
    · subst ek; rw [zw_a, zu_n _ _ _ (by omega)]; exact c _ _ hk2 hp2 hp8
    · rw [zw_n _ _ _ _ (by omega)]; exact c _ _ hk2 hp2 hp8
  · rw [zu_n _ _ _ (by omega)] at hj
    rw [zw_n _ _ _ _ (by omega), zw_n _ _ _ _ (by omega), zu_n _ _ _ (by omega)]
    by_cases h67 : 67 + j = 59 + p
    · omega
    · exact e j hj
theorem sRw.hand2 {h p : Nat} {v : Int32} (g : sRw n I h s) (hn : n ≤ 8) (hp : p < n) : sRw n (zw (zw I (h + 10) p (s (51 + p) + v)) h 2 (sumI (fun p => s (51 + p)) n + v)) h (zu s (51 + p) (s (51 + p) + v)) := by
  obtain ⟨⟨a0, a1, a2, a3⟩, b, c, e⟩ := g
  refine ⟨⟨?_, ?_, ?_, ?_⟩, fun k2 p2 h42 h112 hp2 => ?_, fun k2 p2 hk2 hp2 hp8 => ?_, fun j hj => ?_⟩
  · rw [zw_a, zu_n _ _ _ (by decide), zw_n _ _ _ _ (by omega), zu_n _ _ _ (by omega)]; exact a0
  · rw [zw_a, zu_n _ _ _ (by decide), zw_n _ _ _ _ (by omega), zu_n _ _ _ (by omega)]; exact a1
  · rw [zw_s]
    have e1 : (fun q => zu s (51 + p) (s (51 + p) + v) (51 + q)) = zu (fun q => s (51 + q)) p (s (51 + p) + v) := by
      funext q
      unfold zu
      by_cases h : q = p
      · subst h; simp
      · rw [if_neg (by omega), if_neg h]
    rw [e1, sumI_u n p hp]
    congr 1
    generalize s (51 + p) = x
    rw [Int32.sub_eq_add_neg, Int32.add_comm x, Int32.add_assoc, Int32.add_right_neg, Int32.add_zero]
  · rw [zw_a, zu_n _ _ _ (by decide), zw_n _ _ _ _ (by omega), a3]; exact sumI_c n (fun q hq => (zu_n _ _ _ (by omega)).symm)
  · rw [zw_n _ _ _ _ (by omega)]
    have hk3 := sBs_k k2 h42 h112
    by_cases ek : k2 = 10
    · subst ek
      rw [zw_a]
      by_cases ep : p2 = p
      · subst ep; rw [zu_s]; show _ = zu s (51 + p2) _ (51 + p2); rw [zu_s]
      · rw [zu_n _ _ _ ep]; show _ = zu s (51 + p) _ (51 + p2); rw [zu_n _ _ _ (by omega)]; exact b 10 p2 h42 h112 hp2
    · rw [zw_n _ _ _ _ (by omega), zu_n _ _ _ (by omega)]; exact b _ _ h42 h112 hp2
  · rw [zw_n _ _ _ _ (by omega)]
    by_cases ek : k2 = 10
    · subst ek; rw [zw_a, zu_n _ _ _ (by omega)]; exact c _ _ hk2 hp2 hp8
    · rw [zw_n _ _ _ _ (by omega)]; exact c _ _ hk2 hp2 hp8
  · rw [zu_n _ _ _ (by omega)] at hj
    rw [zw_n _ _ _ _ (by omega), zw_n _ _ _ _ (by omega), zu_n _ _ _ (by omega)]
    exact e j hj
theorem sRw.book {h H : Nat} {v : Int32} (g : sRw n I h s) (hn : n ≤ 8) (h2 : s 2 = nI H) (hH : H < 60) (hv : I (h + 12) H = v) : sRw n I h (zu (zu s (67 + H) v) 2 (nI (H + 1))) := by
  obtain ⟨⟨a0, a1, a2, a3⟩, b, c, e⟩ := g
  refine ⟨⟨?_, ?_, ?_, ?_⟩, fun k2 p2 h42 h112 hp2 => ?_, c, fun j hj => ?_⟩
  · rw [zu_n _ _ _ (by decide), zu_n _ _ _ (by omega)]; exact a0
  · rw [zu_n _ _ _ (by decide), zu_n _ _ _ (by omega)]; exact a1
  · rw [a2]; exact sumI_c n (fun q hq => by rw [zu_n _ _ _ (by omega), zu_n _ _ _ (by omega)])
  · rw [a3]; exact sumI_c n (fun q hq => by rw [zu_n _ _ _ (by omega), zu_n _ _ _ (by omega)])
  · have hk3 := sBs_k k2 h42 h112
    rw [zu_n _ _ _ (by omega), zu_n _ _ _ (by omega)]; exact b _ _ h42 h112 hp2
  · rw [zu_s, nI_clamp (by omega)] at hj
    rw [zu_n _ _ _ (by omega)]
    by_cases ej : j = H
    · subst ej; rw [zu_s]; exact hv
    · rw [zu_n _ _ _ (by omega)]
      exact e j (by rw [h2, nI_clamp (by omega)]; omega)
theorem sRw.wr {h H : Nat} {v : Int32} (g : sRw n I h s) (hn8 : n ≤ 8) (h2 : (s 2).toNatClampNeg ≤ H) : sRw n (zw I (h + 12) H v) h s := by
  obtain ⟨⟨a0, a1, a2, a3⟩, b, c, e⟩ := g
  refine ⟨⟨?_, ?_, ?_, ?_⟩, fun k2 p2 h42 h112 hp2 => ?_, fun k2 p2 hk2 hp2 hp8 => ?_, fun j hj => ?_⟩
  · rw [zw_n _ _ _ _ (by omega)]; exact a0
  · rw [zw_n _ _ _ _ (by omega)]; exact a1
  · rw [zw_n _ _ _ _ (by omega)]; exact a2
  · rw [zw_n _ _ _ _ (by omega)]; exact a3
  · rw [zw_n _ _ _ _ (by omega)]; exact b _ _ h42 h112 hp2
  · rw [zw_n _ _ _ _ (by omega)]; exact c _ _ hk2 hp2 hp8
  · rw [zw_a, zu_n _ _ _ (by omega)]; exact e j hj
theorem hnd_eq {p a o t : Nat} (hp : p < 8) (ha : (s (3 + p)).toNatClampNeg = a) : hndS W s p o t = (if s 2 < nI 60 then (zu (zu (zu (zu (zu (zu s (3 + p) (nI o)) (11 + p) (s (11 + p) + lst W a o t)) (59 + p) (s (59 + p) + lst W a o t)) (51 + p) (s (51 + p) + nI 1)) (67 + (s 2).toNatClampNeg) (W 0 15 * (nI 10 - W 13 (6 * a + o)) / nI 10)) 2 (s 2 + nI 1)) else zu (zu (zu (zu s (3 + p) (nI o)) (11 + p) (s (11 + p) + lst W a o t)) (59 + p) (s (59 + p) + lst W a o t)) (51 + p) (s (51 + p) + nI 1)) := by
  unfold hndS
  dsimp only
  rw [ha]
  split
  · rw [zu_com (i := 2) (j := 3 + p) (by omega), zu_com (j := 3 + p) (by omega), zu_com (i := 51 + p) (j := 3 + p) (by omega), zu_com (i := 59 + p) (j := 3 + p) (by omega), zu_com (i := 11 + p) (j := 3 + p) (by omega)]
  · rw [zu_com (i := 51 + p) (j := 3 + p) (by omega), zu_com (i := 59 + p) (j := 3 + p) (by omega), zu_com (i := 11 + p) (j := 3 + p) (by omega)]
set_option maxHeartbeats 8000000 in
theorem c_X3_hand (hx : xO S P) {h : Nat} (hT : stO S P h) (g : sRw n I h s) (hn : I 100 1 = nI n) (hn8 : n ≤ 8) {w : Nat} (hO : wdO S P w) (hR : wRw S P I w W no oh) (h6 : no ≤ 6) (hb5 : 230 ≤ h ∧ h ≤ 5000) (hw5 : w + 8 < h) {p o t a H : Nat} (hp : p < n) (ho : o < no) (ha : s (3 + p) = nI a) (haN : a < no) (h2 : s 2 = nI (min 60 H)) (hs : sumI (fun p => s (51 + p)) n = nI H) (hH : H < 2 ^ 30) (ht : t < 2 ^ 30) (k : ∀ I2, sRw n I2 h (hndS W s p o t) → frS h I I2 → I2 h 13 = I h 13 → I2 (h + 14) = I (h + 14) → Q (.inl (some (.int (lst W a o t)))) I2 L P S) : Zm G mX3_hand 4 C Sl [.ref h, .ref w, .int (nI p), .int (nI o), .int (nI t)] I L P S Q := by
  refine Z_entry (lv := [_, _, _, _, _, _]) (Nat.le_of_ble_eq_true rfl) rfl ?_
  refine Z_aload_n dX3_hand_0 rfl ?_
  refine Z_aload_n dX3_hand_1 rfl ?_
  refine Z_getR (r := (h + 4)) hT.1 fX3_15_2 dX3_hand_2 rfl (hT.2.1 4 _ rfl).2 ?_
  refine Z_iload_n dX3_hand_5 rfl ?_
  refine Z_iald (hT.2.1 4 _ rfl).1 (zix_nI (by first | omega | (dsimp only; omega)) (by decide)) dX3_hand_6 ?_
  refine Z_re (y := nI (a)) ((g.f (k := 4) (by decide) (by decide) (p := p) (by omega)).trans ha) ?_
  refine Z_iload_n dX3_hand_7 rfl ?_
  refine Z_iload dX3_hand_8 rfl ?_
  refine Z_call0 (d' := 3) (zCal_V gX3_92 nX2_lost (by decide) dX3_hand_10) pX2_lost hO.1 zkl1 [_, _, _] rfl rfl (Nat.le_of_ble_eq_true rfl) (by omega) (c_X2_lost hO hR h6 (by omega) (by omega) (by omega) ?_)
  refine Z_istore (lv' := [_, _, _, _, _, _]) dX3_hand_13 rfl rfl (Nat.le_of_ble_eq_true rfl) ?_
  refine Z_aload_n dX3_hand_15 rfl ?_
  refine Z_getI hT.1 fX3_54_2 dX3_hand_16 rfl ?_
  refine Z_re (y := nI (H)) (g.1.2.2.1.trans hs) ?_
  refine Z_bipush (nI 60) dX3_hand_19 rfl ?_
  refine Z_icmpgeN 44 dX3_hand_21 rfl (by omega) (by omega) (fun c21 => ?_) (fun c21 => ?_)
  · have g0 := g
    refine Z_aload_n dX3_hand_44 rfl ?_
    refine Z_getR (r := (h + 4)) hT.1 fX3_15_2 dX3_hand_45 rfl (hT.2.1 4 _ rfl).2 ?_
    refine Z_iload_n dX3_hand_48 rfl ?_
    refine Z_iload_n dX3_hand_49 rfl ?_
    refine Z_iast (hT.2.1 4 _ rfl).1 (zix_nI (by first | omega | (dsimp only; omega)) (by decide)) dX3_hand_50 ?_
    have g1 := g0.put hn8 (k := 4) (p := p) (v := nI o) (by decide) (by decide) hp
    refine Z_aload_n dX3_hand_51 rfl ?_
    refine Z_getR (r := (h + 5)) hT.1 fX3_19_2 dX3_hand_52 rfl (hT.2.1 5 _ rfl).2 ?_
    refine Z_iload_n dX3_hand_55 rfl ?_
    refine Z_dup2_11 dX3_hand_56 rfl rfl ?_
    refine Z_iald (hT.2.1 5 _ rfl).1 (zix_nI (by first | omega | (dsimp only; omega)) (by decide)) dX3_hand_57 ?_
    refine Z_re (y := s (11 + p)) ((g1.f (k := 5) (by decide) (by decide) hp).trans (zu_n _ _ _ (by show 11 + p ≠ 3 + p; omega))) ?_
    refine Z_iload dX3_hand_58 rfl ?_
    refine Z_iadd dX3_hand_60 ?_
    refine Z_iast (hT.2.1 5 _ rfl).1 (zix_nI (by first | omega | (dsimp only; omega)) (by decide)) dX3_hand_61 ?_
    have g2 := g1.put hn8 (k := 5) (p := p) (v := s (11 + p) + lst W a o t) (by decide) (by decide) hp
    refine Z_aload_n dX3_hand_62 rfl ?_
    refine Z_getR (r := (h + 11)) hT.1 fX3_38_2 dX3_hand_63 rfl (hT.2.1 11 _ rfl).2 ?_
    refine Z_iload_n dX3_hand_66 rfl ?_
    refine Z_dup2_11 dX3_hand_67 rfl rfl ?_
    refine Z_iald (hT.2.1 11 _ rfl).1 (zix_nI (by first | omega | (dsimp only; omega)) (by decide)) dX3_hand_68 ?_
    refine Z_re (y := (zu (zu s (3 + p) (nI o)) (11 + p) (s (11 + p) + lst W a o t)) (59 + p)) (g2.f (k := 11) (by decide) (by decide) hp) ?_
    refine Z_iload dX3_hand_69 rfl ?_
    refine Z_iadd dX3_hand_71 ?_
    refine Z_iast (hT.2.1 11 _ rfl).1 (zix_nI (by first | omega | (dsimp only; omega)) (by decide)) dX3_hand_72 ?_
    refine Z_aload_n dX3_hand_73 rfl ?_
    refine Z_dup dX3_hand_74 rfl ?_
    refine Z_getI hT.1 fX3_57_2 dX3_hand_75 rfl ?_
    refine Z_re (y := sumI (fun q => (zu (zu s (3 + p) (nI o)) (11 + p) (s (11 + p) + lst W a o t)) (59 + q)) n) ((congrFun (zw_n _ _ _ _ (by omega)) 3).trans g2.1.2.2.2) ?_
    refine Z_iload dX3_hand_78 rfl ?_
    refine Z_iadd dX3_hand_80 ?_
    refine Z_putI hT.1 fX3_57_2 dX3_hand_81 rfl rfl rfl ?_
    have g3 := g2.lost2 (v := lst W a o t) hn8 hp
    refine Z_aload_n dX3_hand_84 rfl ?_
    refine Z_getR (r := (h + 10)) hT.1 fX3_35_2 dX3_hand_85 rfl (hT.2.1 10 _ rfl).2 ?_
    refine Z_iload_n dX3_hand_88 rfl ?_
    refine Z_dup2_11 dX3_hand_89 rfl rfl ?_
    refine Z_iald (hT.2.1 10 _ rfl).1 (zix_nI (by first | omega | (dsimp only; omega)) (by decide)) dX3_hand_90 ?_
    refine Z_re (y := (zu (zu (zu s (3 + p) (nI o)) (11 + p) (s (11 + p) + lst W a o t)) (59 + p) ((zu (zu s (3 + p) (nI o)) (11 + p) (s (11 + p) + lst W a o t)) (59 + p) + lst W a o t)) (51 + p)) (g3.f (k := 10) (by decide) (by decide) hp) ?_
    refine Z_iconst (nI 1) dX3_hand_91 rfl ?_
    refine Z_iadd dX3_hand_92 ?_
    refine Z_iast (hT.2.1 10 _ rfl).1 (zix_nI (by first | omega | (dsimp only; omega)) (by decide)) dX3_hand_93 ?_
    refine Z_aload_n dX3_hand_94 rfl ?_
    refine Z_dup dX3_hand_95 rfl ?_
    refine Z_getI hT.1 fX3_54_2 dX3_hand_96 rfl ?_
    refine Z_re (y := sumI (fun q => (zu (zu (zu s (3 + p) (nI o)) (11 + p) (s (11 + p) + lst W a o t)) (59 + p) ((zu (zu s (3 + p) (nI o)) (11 + p) (s (11 + p) + lst W a o t)) (59 + p) + lst W a o t)) (51 + q)) n) ((congrFun (zw_n _ _ _ _ (by omega)) 2).trans g3.1.2.2.1) ?_
    refine Z_iconst (nI 1) dX3_hand_99 rfl ?_
    refine Z_iadd dX3_hand_100 ?_
    refine Z_putI hT.1 fX3_54_2 dX3_hand_101 rfl rfl rfl ?_
    have g4 := g3.hand2 (v := nI 1) hn8 hp
    refine Z_iload dX3_hand_104 rfl ?_
    refine Z_ireturn dX3_hand_106 rfl rfl ?_
    have va : (s (3 + p)).toNatClampNeg = a := by rw [ha, nI_clamp (by omega)]
    refine k _ ?_ ((((((frS.rf.st (by omega)).st (by omega)).st (by omega)).st (by omega)).st (by omega)).st (by omega)) (by simp [zw, zu]) (by funext j; simp [zw, zu])
    rw [hnd_eq (by omega) va]
    have q59 : (zu (zu s (3 + p) (nI o)) (11 + p) (s (11 + p) + lst W a o t)) (59 + p) = s (59 + p) := by rw [zu_n _ _ _ (by omega), zu_n _ _ _ (by omega)]
    have q51 : (zu (zu (zu s (3 + p) (nI o)) (11 + p) (s (11 + p) + lst W a o t)) (59 + p) ((zu (zu s (3 + p) (nI o)) (11 + p) (s (11 + p) + lst W a o t)) (59 + p) + lst W a o t)) (51 + p) = s (51 + p) := by rw [zu_n _ _ _ (by omega), zu_n _ _ _ (by omega), zu_n _ _ _ (by omega)]
    rw [show sBs 4 = 3 from rfl, show sBs 5 = 11 from rfl, q51, q59] at g4
    rw [q51, q59]
    rw [if_neg (by rw [h2]; exact nI_nlt (by omega) (by omega))]
    exact g4
  · refine Z_aload_n dX3_hand_24 rfl ?_
    refine Z_getR (r := (h + 12)) hT.1 fX3_41_2 dX3_hand_25 rfl (hT.2.1 12 _ rfl).2 ?_
    refine Z_aload_n dX3_hand_28 rfl ?_
    refine Z_getI hT.1 fX3_54_2 dX3_hand_29 rfl ?_
    refine Z_re (y := nI (H)) (g.1.2.2.1.trans hs) ?_
    refine Z_aload_n dX3_hand_32 rfl ?_
    refine Z_aload_n dX3_hand_33 rfl ?_
    refine Z_getR (r := (h + 4)) hT.1 fX3_15_2 dX3_hand_34 rfl (hT.2.1 4 _ rfl).2 ?_
    refine Z_iload_n dX3_hand_37 rfl ?_
    refine Z_iald (hT.2.1 4 _ rfl).1 (zix_nI (by first | omega | (dsimp only; omega)) (by decide)) dX3_hand_38 ?_
    refine Z_re (y := nI (a)) ((g.f (k := 4) (by decide) (by decide) (p := p) (by omega)).trans ha) ?_
    refine Z_iload_n dX3_hand_39 rfl ?_
    refine Z_call0 (d' := 0) (zCal_V gX3_97 nX2_wrong (by decide) dX3_hand_40) pX2_wrong hO.1 zkl1 [_, _] rfl rfl (Nat.le_of_ble_eq_true rfl) (by omega) (c_X2_wrong hO hR h6 (by omega) (by omega) ?_)
    refine Z_iast (hT.2.1 12 _ rfl).1 (zix_nI (by first | omega | (dsimp only; omega)) (by decide)) dX3_hand_43 ?_
    have g0 : sRw n _ h s := g.wr hn8 (H := H) (v := (W 0 15 * (nI 10 - W 13 (6 * a + o)) / nI 10)) (by rw [h2, nI_clamp (by omega)]; omega)
    refine Z_aload_n dX3_hand_44 rfl ?_
    refine Z_getR (r := (h + 4)) hT.1 fX3_15_2 dX3_hand_45 rfl (hT.2.1 4 _ rfl).2 ?_
    refine Z_iload_n dX3_hand_48 rfl ?_
    refine Z_iload_n dX3_hand_49 rfl ?_
    refine Z_iast (hT.2.1 4 _ rfl).1 (zix_nI (by first | omega | (dsimp only; omega)) (by decide)) dX3_hand_50 ?_
    have g1 := g0.put hn8 (k := 4) (p := p) (v := nI o) (by decide) (by decide) hp
    refine Z_aload_n dX3_hand_51 rfl ?_
    refine Z_getR (r := (h + 5)) hT.1 fX3_19_2 dX3_hand_52 rfl (hT.2.1 5 _ rfl).2 ?_
    refine Z_iload_n dX3_hand_55 rfl ?_
    refine Z_dup2_11 dX3_hand_56 rfl rfl ?_
    refine Z_iald (hT.2.1 5 _ rfl).1 (zix_nI (by first | omega | (dsimp only; omega)) (by decide)) dX3_hand_57 ?_
    refine Z_re (y := s (11 + p)) ((g1.f (k := 5) (by decide) (by decide) hp).trans (zu_n _ _ _ (by show 11 + p ≠ 3 + p; omega))) ?_
    refine Z_iload dX3_hand_58 rfl ?_
    refine Z_iadd dX3_hand_60 ?_
    refine Z_iast (hT.2.1 5 _ rfl).1 (zix_nI (by first | omega | (dsimp only; omega)) (by decide)) dX3_hand_61 ?_
    have g2 := g1.put hn8 (k := 5) (p := p) (v := s (11 + p) + lst W a o t) (by decide) (by decide) hp
    refine Z_aload_n dX3_hand_62 rfl ?_
    refine Z_getR (r := (h + 11)) hT.1 fX3_38_2 dX3_hand_63 rfl (hT.2.1 11 _ rfl).2 ?_
    refine Z_iload_n dX3_hand_66 rfl ?_
    refine Z_dup2_11 dX3_hand_67 rfl rfl ?_
    refine Z_iald (hT.2.1 11 _ rfl).1 (zix_nI (by first | omega | (dsimp only; omega)) (by decide)) dX3_hand_68 ?_
    refine Z_re (y := (zu (zu s (3 + p) (nI o)) (11 + p) (s (11 + p) + lst W a o t)) (59 + p)) (g2.f (k := 11) (by decide) (by decide) hp) ?_
    refine Z_iload dX3_hand_69 rfl ?_
    refine Z_iadd dX3_hand_71 ?_
    refine Z_iast (hT.2.1 11 _ rfl).1 (zix_nI (by first | omega | (dsimp only; omega)) (by decide)) dX3_hand_72 ?_
    refine Z_aload_n dX3_hand_73 rfl ?_
    refine Z_dup dX3_hand_74 rfl ?_
    refine Z_getI hT.1 fX3_57_2 dX3_hand_75 rfl ?_
    refine Z_re (y := sumI (fun q => (zu (zu s (3 + p) (nI o)) (11 + p) (s (11 + p) + lst W a o t)) (59 + q)) n) ((congrFun (zw_n _ _ _ _ (by omega)) 3).trans g2.1.2.2.2) ?_
    refine Z_iload dX3_hand_78 rfl ?_
    refine Z_iadd dX3_hand_80 ?_
    refine Z_putI hT.1 fX3_57_2 dX3_hand_81 rfl rfl rfl ?_
    have g3 := g2.lost2 (v := lst W a o t) hn8 hp
    refine Z_aload_n dX3_hand_84 rfl ?_
    refine Z_getR (r := (h + 10)) hT.1 fX3_35_2 dX3_hand_85 rfl (hT.2.1 10 _ rfl).2 ?_
    refine Z_iload_n dX3_hand_88 rfl ?_
    refine Z_dup2_11 dX3_hand_89 rfl rfl ?_
    refine Z_iald (hT.2.1 10 _ rfl).1 (zix_nI (by first | omega | (dsimp only; omega)) (by decide)) dX3_hand_90 ?_
    refine Z_re (y := (zu (zu (zu s (3 + p) (nI o)) (11 + p) (s (11 + p) + lst W a o t)) (59 + p) ((zu (zu s (3 + p) (nI o)) (11 + p) (s (11 + p) + lst W a o t)) (59 + p) + lst W a o t)) (51 + p)) (g3.f (k := 10) (by decide) (by decide) hp) ?_
    refine Z_iconst (nI 1) dX3_hand_91 rfl ?_
    refine Z_iadd dX3_hand_92 ?_
    refine Z_iast (hT.2.1 10 _ rfl).1 (zix_nI (by first | omega | (dsimp only; omega)) (by decide)) dX3_hand_93 ?_
    refine Z_aload_n dX3_hand_94 rfl ?_
    refine Z_dup dX3_hand_95 rfl ?_
    refine Z_getI hT.1 fX3_54_2 dX3_hand_96 rfl ?_
    refine Z_re (y := sumI (fun q => (zu (zu (zu s (3 + p) (nI o)) (11 + p) (s (11 + p) + lst W a o t)) (59 + p) ((zu (zu s (3 + p) (nI o)) (11 + p) (s (11 + p) + lst W a o t)) (59 + p) + lst W a o t)) (51 + q)) n) ((congrFun (zw_n _ _ _ _ (by omega)) 2).trans g3.1.2.2.1) ?_
    refine Z_iconst (nI 1) dX3_hand_99 rfl ?_
    refine Z_iadd dX3_hand_100 ?_
    refine Z_putI hT.1 fX3_54_2 dX3_hand_101 rfl rfl rfl ?_
    have g4 := g3.hand2 (v := nI 1) hn8 hp
    refine Z_iload dX3_hand_104 rfl ?_
    refine Z_ireturn dX3_hand_106 rfl rfl ?_
    have va : (s (3 + p)).toNatClampNeg = a := by rw [ha, nI_clamp (by omega)]
    refine k _ ?_ (((((((frS.rf.st (a := h + 12) (k := H) (v := (W 0 15 * (nI 10 - W 13 (6 * a + o)) / nI 10)) (by omega)).st (by omega)).st (by omega)).st (by omega)).st (by omega)).st (by omega)).st (by omega)) (by simp [zw, zu]) (by funext j; simp [zw, zu])
    rw [hnd_eq (by omega) va]
    have q59 : (zu (zu s (3 + p) (nI o)) (11 + p) (s (11 + p) + lst W a o t)) (59 + p) = s (59 + p) := by rw [zu_n _ _ _ (by omega), zu_n _ _ _ (by omega)]
    have q51 : (zu (zu (zu s (3 + p) (nI o)) (11 + p) (s (11 + p) + lst W a o t)) (59 + p) ((zu (zu s (3 + p) (nI o)) (11 + p) (s (11 + p) + lst W a o t)) (59 + p) + lst W a o t)) (51 + p) = s (51 + p) := by rw [zu_n _ _ _ (by omega), zu_n _ _ _ (by omega), zu_n _ _ _ (by omega)]
    rw [show sBs 4 = 3 from rfl, show sBs 5 = 11 from rfl, q51, q59] at g4
    rw [q51, q59]
    have h2b : s 2 = nI H := by rw [h2, Nat.min_eq_right (by omega)]
    rw [if_pos (by rw [h2b]; exact nI_lt (by omega) (by omega)), h2b, nI_clamp (by omega), nI_add]
    refine g4.book hn8 (by rw [zu_n _ _ _ (by omega), zu_n _ _ _ (by omega), zu_n _ _ _ (by omega), zu_n _ _ _ (by omega)]; exact h2b) (by omega) ?_
    repeat rw [zw_n _ _ _ _ (by omega)]
    exact zw_s _ _ _ _
end X3
