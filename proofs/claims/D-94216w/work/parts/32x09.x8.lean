set_option maxRecDepth 100000
/-! THE COMPONENT, part 8: a state begins, is as another one is; a world is as another one is -/
section X8C
variable {G : zG} {d C Sl : Nat} {I D W : zI} {R : List Int64} {L : zL} {P : zR} {S : zT} {Q : zQ} {no n np : Nat} {s : zS} {oh ph : Nat → Nat}
theorem sumI_0 {f : Nat → Int32} {n : Nat} (h : ∀ p, p < n → f p = 0) : sumI f n = 0 := by
  rw [sumI_c (g := fun _ => 0) n h]
  clear h
  induction n with
  | zero => rfl
  | succ n ih => rw [sumI, ih]; rfl
theorem layN_o {j : Nat} (hj : j < 3 ∨ 67 ≤ j) : ∀ m, m ≤ 8 → layN W s m j = s j := by
  intro m
  induction m with
  | zero => exact fun _ => rfl
  | succ m ih =>
    intro hm
    rw [layN]
    unfold layS
    rw [zu_n _ _ _ (by omega), zu_n _ _ _ (by omega), zu_n _ _ _ (by omega), zu_n _ _ _ (by omega), zu_n _ _ _ (by omega), zu_n _ _ _ (by omega), zu_n _ _ _ (by omega), zu_n _ _ _ (by omega)]
    exact ih (by omega)
theorem layS_v {p : Nat} (hp : p < 8) : (layS W s p (3 + p) = W 20 p ∧ layS W s p (11 + p) = W 18 p ∧ layS W s p (19 + p) = nI 0 ∧ layS W s p (27 + p) = nI 0) ∧ layS W s p (35 + p) = -1 ∧ layS W s p (43 + p) = nI 0 ∧ layS W s p (51 + p) = nI 0 ∧ layS W s p (59 + p) = nI 0 := by
  unfold layS
  refine ⟨⟨?_, ?_, ?_, ?_⟩, ?_, ?_, ?_, ?_⟩ <;> · repeat (first | exact zu_s _ _ _ | rw [zu_n _ _ _ (by omega)])
theorem layS_n {p j : Nat} (hj : j ≠ 3 + p ∧ j ≠ 11 + p ∧ j ≠ 19 + p ∧ j ≠ 27 + p ∧ j ≠ 35 + p ∧ j ≠ 43 + p ∧ j ≠ 51 + p ∧ j ≠ 59 + p) : layS W s p j = s j := by
  unfold layS
  rw [zu_n _ _ _ (by omega), zu_n _ _ _ (by omega), zu_n _ _ _ (by omega), zu_n _ _ _ (by omega), zu_n _ _ _ (by omega), zu_n _ _ _ (by omega), zu_n _ _ _ (by omega), zu_n _ _ _ (by omega)]
theorem layN_v : ∀ m p, p < m → m ≤ 8 → (layN W s m (3 + p) = W 20 p ∧ layN W s m (11 + p) = W 18 p ∧ layN W s m (19 + p) = nI 0 ∧ layN W s m (27 + p) = nI 0) ∧ layN W s m (35 + p) = -1 ∧ layN W s m (43 + p) = nI 0 ∧ layN W s m (51 + p) = nI 0 ∧ layN W s m (59 + p) = nI 0 := by
  intro m
  induction m with
  | zero => exact fun p hp => absurd hp (by omega)
  | succ m ih =>
    intro p hp hm
    rw [layN]
    by_cases e : p = m
    · subst e; exact layS_v (by omega)
    · have q := ih p (by omega) (by omega)
      rw [layS_n (by omega), layS_n (by omega), layS_n (by omega), layS_n (by omega), layS_n (by omega), layS_n (by omega), layS_n (by omega), layS_n (by omega)]
      exact q
theorem nb0 : vp_nar .boolean (nI 0) = nI 0 := by decide
theorem nb1 : vp_nar .boolean (nI 1) = nI 1 := by decide
/-- how far a beginning is -/
def bgI (W : zI) (n h hr i : Nat) (I2 : zI) : Prop := (I2 h 0 = nI hr ∧ I2 h 1 = nI 0 ∧ I2 h 2 = nI 0 ∧ I2 h 3 = nI 0) ∧ (∀ k p, (k = 6 ∨ (8 ≤ k ∧ k ≤ 11)) → p < i → I2 (h + k) p = nI 0) ∧ ∀ p, p < i → p < n → I2 (h + 4) p = W 20 p ∧ I2 (h + 5) p = W 18 p ∧ I2 (h + 7) p = -1
def bgM (I : zI) (h i : Nat) : zI := zw (zw (zw (zw (zw I (h + 6) i (nI 0)) (h + 8) i (vp_nar .boolean (nI 0))) (h + 9) i (nI 0)) (h + 10) i (nI 0)) (h + 11) i (nI 0)
theorem bgI.s0 {h hr i : Nat} (g : bgI W n h hr i I) (hi : n ≤ i) : bgI W n h hr (i + 1) (bgM I h i) := by
  obtain ⟨⟨g1, g2, g3, g4⟩, g5, g6⟩ := g
  unfold bgM
  rw [nb0]
  refine ⟨⟨?_, ?_, ?_, ?_⟩, fun k p hk hp => ?_, fun p hp hn => by simp [zw, zu, g6 p (by omega) hn]⟩
  · repeat rw [zw_n _ _ _ _ (by omega)]
    exact g1
  · repeat rw [zw_n _ _ _ _ (by omega)]
    exact g2
  · repeat rw [zw_n _ _ _ _ (by omega)]
    exact g3
  · repeat rw [zw_n _ _ _ _ (by omega)]
    exact g4
  · obtain rfl | rfl | rfl | rfl | rfl : k = 6 ∨ k = 8 ∨ k = 9 ∨ k = 10 ∨ k = 11 := by omega
    all_goals
      by_cases e : p = i
      · subst e; simp [zw, zu]
      · have q := g5 _ p hk (by omega)
        simp [zw, zu, e, q]
theorem bgI.s1 {h hr i : Nat} (g : bgI W n h hr i I) (hi : i < n) : bgI W n h hr (i + 1) (zw (zw (zw (bgM I h i) (h + 4) i (W 20 i)) (h + 5) i (W 18 i)) (h + 7) i (-1)) := by
  obtain ⟨⟨g1, g2, g3, g4⟩, g5, g6⟩ := g
  unfold bgM
  rw [nb0]
  refine ⟨⟨?_, ?_, ?_, ?_⟩, fun k p hk hp => ?_, fun p hp hn => ?_⟩
  · repeat rw [zw_n _ _ _ _ (by omega)]
    exact g1
  · repeat rw [zw_n _ _ _ _ (by omega)]
    exact g2
  · repeat rw [zw_n _ _ _ _ (by omega)]
    exact g3
  · repeat rw [zw_n _ _ _ _ (by omega)]
    exact g4
  · obtain rfl | rfl | rfl | rfl | rfl : k = 6 ∨ k = 8 ∨ k = 9 ∨ k = 10 ∨ k = 11 := by omega
    all_goals
      by_cases e : p = i
      · subst e; simp [zw, zu]
      · have q := g5 _ p hk (by omega)
        simp [zw, zu, e, q]
  · by_cases e : p = i
    · subst e; simp [zw, zu]
    · have q := g6 p (by omega) hn
      simp [zw, zu, e, q]
theorem bgI.fin {h hr : Nat} (g : bgI W n h hr 8 I) (hn : n ≤ 8) : sRw n I h (begS W s n hr) := by
  obtain ⟨⟨g1, g2, g3, g4⟩, g5, g6⟩ := g
  unfold begS
  refine ⟨⟨?_, ?_, ?_, ?_⟩, fun k p h4 h11 hp => ?_, fun k p hk hp hp8 => g5 k p hk hp8, fun k hk => ?_⟩
  · rw [layN_o (by omega) n hn, zu_n _ _ _ (by omega), zu_n _ _ _ (by omega), zu_s]; exact g1
  · rw [layN_o (by omega) n hn, zu_n _ _ _ (by omega), zu_s]; exact g2
  · rw [sumI_0 (fun p hp => (layN_v n p hp hn).2.2.2.1)]; exact g3
  · rw [sumI_0 (fun p hp => (layN_v n p hp hn).2.2.2.2)]; exact g4
  · have v := layN_v (W := W) (s := zu (zu (zu s 0 (nI hr)) 1 (nI 0)) 2 (nI 0)) n p hp hn
    have w := g6 p (by omega) hp
    obtain ⟨e1, rfl⟩ | ⟨e1, rfl⟩ | ⟨e1, rfl⟩ | ⟨e1, rfl⟩ | ⟨e1, rfl⟩ | ⟨e1, rfl⟩ | ⟨e1, rfl⟩ | ⟨e1, rfl⟩ := sBs_k k h4 h11 <;> rw [e1]
    · rw [v.1.1]; exact w.1
    · rw [v.1.2.1]; exact w.2.1
    · rw [v.1.2.2.1]; exact g5 6 p (by omega) (by omega)
    · rw [v.2.1]; exact w.2.2
    · rw [v.1.2.2.2]; exact g5 8 p (by omega) (by omega)
    · rw [v.2.2.1]; exact g5 9 p (by omega) (by omega)
    · rw [v.2.2.2.1]; exact g5 10 p (by omega) (by omega)
    · rw [v.2.2.2.2]; exact g5 11 p (by omega) (by omega)
  · rw [layN_o (by omega) n hn, zu_s] at hk
    exact absurd hk (Nat.not_lt_zero _)
set_option maxHeartbeats 4000000 in
theorem c_X3_fresh (hx : xO S P) {h : Nat} (hT : stO S P h) {p q : Nat} (hp : p < 8) (hq : P 110 p = some q) (hS : S q = some (.inl 6)) (hqh : ¬ (h ≤ q ∧ q ≤ h + 14)) {b l : Int32} (hb : I q 5 = b) (hl : I q 1 = l) (k : Q (.inl none) (zw (zw (zw I (h + 4) p b) (h + 5) p l) (h + 7) p (-1)) L P S) : Zm G mX3_fresh 0 C Sl [.ref h, .int (nI p)] I L P S Q := by
  refine Z_entry (lv := [_, _]) (Nat.le_of_ble_eq_true rfl) rfl ?_
  refine Z_aload_n dX3_fresh_0 rfl ?_
  refine Z_getR (r := (h + 4)) hT.1 fX3_15_2 dX3_fresh_1 rfl (hT.2.1 4 _ rfl).2 ?_
  refine Z_iload_n dX3_fresh_4 rfl ?_
  refine Z_aload_n dX3_fresh_5 rfl ?_
  refine Z_getR (r := 100) hT.1 fX3_3_2 dX3_fresh_6 rfl hT.2.2 ?_
  refine Z_getRN (r := 110) hx.1 fX3_73_0 dX3_fresh_9 rfl (hx.2.2.1 0 _ rfl).2 ?_
  refine Z_iload_n dX3_fresh_12 rfl ?_
  refine Z_aald (r := q) (hx.2.2.1 0 _ rfl).1 (by simp [zTys]) rfl (zix_nI (by first | omega | (dsimp only; omega)) (by decide)) hq dX3_fresh_13 ?_
  refine Z_getI hS fX3_77_6 dX3_fresh_14 rfl ?_
  refine Z_re hb ?_
  refine Z_iast (hT.2.1 4 _ rfl).1 (zix_nI (by first | omega | (dsimp only; omega)) (by decide)) dX3_fresh_17 ?_
  refine Z_aload_n dX3_fresh_18 rfl ?_
  refine Z_getR (r := (h + 5)) hT.1 fX3_19_2 dX3_fresh_19 rfl (hT.2.1 5 _ rfl).2 ?_
  refine Z_iload_n dX3_fresh_22 rfl ?_
  refine Z_aload_n dX3_fresh_23 rfl ?_
  refine Z_getR (r := 100) hT.1 fX3_3_2 dX3_fresh_24 rfl hT.2.2 ?_
  refine Z_getRN (r := 110) hx.1 fX3_73_0 dX3_fresh_27 rfl (hx.2.2.1 0 _ rfl).2 ?_
  refine Z_iload_n dX3_fresh_30 rfl ?_
  refine Z_aald (r := q) (hx.2.2.1 0 _ rfl).1 (by simp [zTys]) rfl (zix_nI (by first | omega | (dsimp only; omega)) (by decide)) hq dX3_fresh_31 ?_
  refine Z_getI hS fX3_82_6 dX3_fresh_32 rfl ?_
  refine Z_re ((congrFun (zw_n _ _ _ _ (by omega)) 1).trans hl) ?_
  refine Z_iast (hT.2.1 5 _ rfl).1 (zix_nI (by first | omega | (dsimp only; omega)) (by decide)) dX3_fresh_35 ?_
  refine Z_aload_n dX3_fresh_36 rfl ?_
  refine Z_getR (r := (h + 7)) hT.1 fX3_25_2 dX3_fresh_37 rfl (hT.2.1 7 _ rfl).2 ?_
  refine Z_iload_n dX3_fresh_40 rfl ?_
  refine Z_iconst (-1) dX3_fresh_41 rfl ?_
  refine Z_iast (hT.2.1 7 _ rfl).1 (zix_nI (by first | omega | (dsimp only; omega)) (by decide)) dX3_fresh_42 ?_
  refine Z_return dX3_fresh_43 rfl ?_
  exact k
set_option maxHeartbeats 4000000 in
theorem c_X3_begin (hx : xO S P) {h : Nat} (hT : stO S P h) (hn : I 100 1 = nI n) (hn8 : n ≤ 8) (hPc : pcR S P I W n ph) (hb : 230 ≤ h ∧ h ≤ 5000) (h6 : ∀ p, p < n → 6000 ≤ ph p) {hr : Nat} (k : ∀ I2, (∀ s, sRw n I2 h (begS W s n hr)) → frS h I I2 → Q (.inl (some (.ref h))) I2 L P S) : Zm G mX3_begin 1 C Sl [.ref h, .int (nI hr)] I L P S Q := by
  refine Z_entry (lv := [_, _, _]) (Nat.le_of_ble_eq_true rfl) rfl ?_
  refine Z_aload_n dX3_begin_0 rfl ?_
  refine Z_iload_n dX3_begin_1 rfl ?_
  refine Z_putI hT.1 fX3_47_2 dX3_begin_2 rfl rfl rfl ?_
  refine Z_aload_n dX3_begin_5 rfl ?_
  refine Z_iconst (nI 0) dX3_begin_6 rfl ?_
  refine Z_putI hT.1 fX3_51_2 dX3_begin_7 rfl rfl rfl ?_
  refine Z_aload_n dX3_begin_10 rfl ?_
  refine Z_iconst (nI 0) dX3_begin_11 rfl ?_
  refine Z_putI hT.1 fX3_54_2 dX3_begin_12 rfl rfl rfl ?_
  refine Z_aload_n dX3_begin_15 rfl ?_
  refine Z_iconst (nI 0) dX3_begin_16 rfl ?_
  refine Z_putI hT.1 fX3_57_2 dX3_begin_17 rfl rfl rfl ?_
  refine Z_iconst (nI 0) dX3_begin_20 rfl ?_
  refine Z_istore_n (lv' := [_, _, _]) dX3_begin_21 rfl rfl (Nat.le_of_ble_eq_true rfl) ?_
  have lp22 : ∀ i, i ≤ 8 → ∀ I2, bgI W n h hr i I2 → frS h I I2 → Zj G mX3_begin 1 C Sl 22 [.ref h, .int (nI hr), .int (nI i)] [] I2 L P S Q := by
    refine zloop (8) (fun i => ∀ I2, bgI W n h hr i I2 → frS h I I2 → Zj G mX3_begin 1 C Sl 22 [.ref h, .int (nI hr), .int (nI i)] [] I2 L P S Q) (fun i hi ih => ?_)
    intro I2 gB fI
    show Zj _ _ _ _ _ _ _ _ _ _ _ _ _
    refine Z_iload_n dX3_begin_22 rfl ?_
    refine Z_bipush (nI 8) dX3_begin_23 rfl ?_
    refine Z_icmpgeN 85 dX3_begin_25 rfl (by omega) (by omega) (fun c25 => ?_) (fun c25 => ?_)
    · have ei : i = 8 := by omega
      rw [ei] at gB
      refine Z_aload_n dX3_begin_85 rfl ?_
      refine Z_areturn dX3_begin_86 rfl (by first | exact Or.inl ⟨_, rfl⟩ | exact Or.inr ⟨_, rfl⟩) ?_
      exact k _ (fun s => gB.fin hn8) fI
    · refine Z_aload_n dX3_begin_28 rfl ?_
      refine Z_getR (r := (h + 6)) hT.1 fX3_22_2 dX3_begin_29 rfl (hT.2.1 6 _ rfl).2 ?_
      refine Z_iload_n dX3_begin_32 rfl ?_
      refine Z_iconst (nI 0) dX3_begin_33 rfl ?_
      refine Z_iast (hT.2.1 6 _ rfl).1 (zix_nI (by first | omega | (dsimp only; omega)) (by decide)) dX3_begin_34 ?_
      refine Z_aload_n dX3_begin_35 rfl ?_
      refine Z_getR (r := (h + 8)) hT.1 fX3_28_2 dX3_begin_36 rfl (hT.2.1 8 _ rfl).2 ?_
      refine Z_iload_n dX3_begin_39 rfl ?_
      refine Z_iconst (nI 0) dX3_begin_40 rfl ?_
      refine Z_zast (hT.2.1 8 _ rfl).1 (zix_nI (by first | omega | (dsimp only; omega)) (by decide)) dX3_begin_41 ?_
      refine Z_aload_n dX3_begin_42 rfl ?_
      refine Z_getR (r := (h + 9)) hT.1 fX3_32_2 dX3_begin_43 rfl (hT.2.1 9 _ rfl).2 ?_
      refine Z_iload_n dX3_begin_46 rfl ?_
      refine Z_iconst (nI 0) dX3_begin_47 rfl ?_
      refine Z_iast (hT.2.1 9 _ rfl).1 (zix_nI (by first | omega | (dsimp only; omega)) (by decide)) dX3_begin_48 ?_
      refine Z_aload_n dX3_begin_49 rfl ?_
      refine Z_getR (r := (h + 10)) hT.1 fX3_35_2 dX3_begin_50 rfl (hT.2.1 10 _ rfl).2 ?_
      refine Z_iload_n dX3_begin_53 rfl ?_
      refine Z_iconst (nI 0) dX3_begin_54 rfl ?_
      refine Z_iast (hT.2.1 10 _ rfl).1 (zix_nI (by first | omega | (dsimp only; omega)) (by decide)) dX3_begin_55 ?_
      refine Z_aload_n dX3_begin_56 rfl ?_
      refine Z_getR (r := (h + 11)) hT.1 fX3_38_2 dX3_begin_57 rfl (hT.2.1 11 _ rfl).2 ?_
      refine Z_iload_n dX3_begin_60 rfl ?_
      refine Z_iconst (nI 0) dX3_begin_61 rfl ?_
      refine Z_iast (hT.2.1 11 _ rfl).1 (zix_nI (by first | omega | (dsimp only; omega)) (by decide)) dX3_begin_62 ?_
      show Zj _ _ _ _ _ _ _ _ (bgM I2 h i) _ _ _ _
      refine Z_iload_n dX3_begin_63 rfl ?_
      refine Z_aload_n dX3_begin_64 rfl ?_
      refine Z_getR (r := 100) hT.1 fX3_3_2 dX3_begin_65 rfl hT.2.2 ?_
      refine Z_getIN hx.1 fX3_60_0 dX3_begin_68 rfl ?_
      refine Z_re (y := nI (n)) (by rw [show (bgM I2 h i) 100 = I2 100 from by (unfold bgM; repeat rw [zw_n _ _ _ _ (by omega)])]; rw [fI 100 (by omega)]; exact hn) ?_
      refine Z_icmpgeN 79 dX3_begin_71 rfl (by omega) (by omega) (fun c71 => ?_) (fun c71 => ?_)
      · refine Z_iincN (a := _) (k := 1) (lv' := [_, _, _]) dX3_begin_79 rfl rfl rfl rfl ?_
        refine Z_goto 22 dX3_begin_82 rfl ?_
        exact ih (by omega) _ (gB.s0 (by omega)) ((((((fI.st (by omega)).st (by omega)).st (by omega)).st (by omega)).st (by omega)))
      · refine Z_aload_n dX3_begin_74 rfl ?_
        refine Z_iload_n dX3_begin_75 rfl ?_
        refine Z_call0 (d' := 0) (zCal_V gX3_63 nX3_fresh (by decide) dX3_begin_76) pX3_fresh hT.1 zkl2 [_] rfl rfl (Nat.le_of_ble_eq_true rfl) (by omega) (c_X3_fresh hx hT (p := i) (q := ph i) (by omega) (hPc i (by omega)).1 (hPc i (by omega)).2.1 (by have := h6 i (by omega); omega) (b := W 20 i) (l := W 18 i) (by have h6i := h6 i (by omega); rw [show (bgM I2 h i) (ph i) = I2 (ph i) from by (unfold bgM; repeat rw [zw_n _ _ _ _ (by omega)])]; rw [fI _ (by omega)]; exact (hPc i (by omega)).2.2.2.2.2) (by have h6i := h6 i (by omega); rw [show (bgM I2 h i) (ph i) = I2 (ph i) from by (unfold bgM; repeat rw [zw_n _ _ _ _ (by omega)])]; rw [fI _ (by omega)]; exact (hPc i (by omega)).2.2.1.2.1) ?_)
        refine Z_iincN (a := _) (k := 1) (lv' := [_, _, _]) dX3_begin_79 rfl rfl rfl rfl ?_
        refine Z_goto 22 dX3_begin_82 rfl ?_
        exact ih (by omega) _ (gB.s1 (by omega)) (((((((((fI.st (by omega)).st (by omega)).st (by omega)).st (by omega)).st (by omega)).st (by omega)).st (by omega)).st (by omega)))
  exact lp22 0 (by omega) _ ⟨by simp [zw, zu], fun k p hk hp => absurd hp (by omega), fun p hp => absurd hp (by omega)⟩ ((((frS.rf.st (by omega)).st (by omega)).st (by omega)).st (by omega))
/-- how far a copy of a state is -/
def asI (I : zI) (o h i : Nat) (I2 : zI) : Prop := (I2 h 0 = I o 0 ∧ I2 h 1 = I o 1 ∧ I2 h 2 = I o 2 ∧ I2 h 3 = I o 3) ∧ ∀ k p, 4 ≤ k → k ≤ 11 → p < i → I2 (h + k) p = I (o + k) p
theorem asI.st {I2 : zI} {o h i : Nat} (g : asI I o h i I2) (hb : vp_nar .boolean (I (o + 8) i) = I (o + 8) i) : asI I o h (i + 1) (zw (zw (zw (zw (zw (zw (zw (zw I2 (h + 4) i (I (o + 4) i)) (h + 5) i (I (o + 5) i)) (h + 6) i (I (o + 6) i)) (h + 7) i (I (o + 7) i)) (h + 8) i (vp_nar .boolean (I (o + 8) i))) (h + 9) i (I (o + 9) i)) (h + 10) i (I (o + 10) i)) (h + 11) i (I (o + 11) i)) := by
  obtain ⟨⟨g1, g2, g3, g4⟩, g5⟩ := g
  rw [hb]
  refine ⟨⟨?_, ?_, ?_, ?_⟩, fun k p h4 h11 hp => ?_⟩
  · repeat rw [zw_n _ _ _ _ (by omega)]
    exact g1
  · repeat rw [zw_n _ _ _ _ (by omega)]
    exact g2
  · repeat rw [zw_n _ _ _ _ (by omega)]
    exact g3
  · repeat rw [zw_n _ _ _ _ (by omega)]
    exact g4
  · obtain rfl | rfl | rfl | rfl | rfl | rfl | rfl | rfl : k = 4 ∨ k = 5 ∨ k = 6 ∨ k = 7 ∨ k = 8 ∨ k = 9 ∨ k = 10 ∨ k = 11 := by omega
    all_goals
      by_cases e : p = i
      · subst e; simp [zw, zu]
      · have q := g5 _ p h4 h11 (by omega)
        simp [zw, zu, e, q]
theorem va_cpy0 {α : Type} {f g : Nat → α} {m k : Nat} (h : k < m) : va_cpy f g 0 0 m k = f k := by
  unfold va_cpy
  rw [if_pos ⟨by omega, by omega⟩]
  simp
theorem asI.fin {I2 : zI} {o h : Nat} (g : asI I o h 8 I2) (gs : sRw n I o s) (hn : n ≤ 8) (h60 : (s 2).toNatClampNeg ≤ 60) (e12 : I2 (o + 12) = I (o + 12)) : sRw n (zu I2 (h + 12) (va_cpy (I2 (o + 12)) (I2 (h + 12)) 0 0 60)) h s := by
  obtain ⟨⟨g1, g2, g3, g4⟩, g5⟩ := g
  obtain ⟨⟨a0, a1, a2, a3⟩, b, c, e⟩ := gs
  refine ⟨⟨?_, ?_, ?_, ?_⟩, fun k p h4 h11 hp => ?_, fun k p hk hp hp8 => ?_, fun k hk => ?_⟩
  · rw [zu_n _ _ _ (by omega)]; exact g1.trans a0
  · rw [zu_n _ _ _ (by omega)]; exact g2.trans a1
  · rw [zu_n _ _ _ (by omega)]; exact g3.trans a2
  · rw [zu_n _ _ _ (by omega)]; exact g4.trans a3
  · rw [zu_n _ _ _ (by omega), g5 k p h4 h11 (by omega)]; exact b k p h4 h11 hp
  · rw [zu_n _ _ _ (by omega), g5 k p (by omega) (by omega) hp8]; exact c k p hk hp hp8
  · rw [zu_s, va_cpy0 (by omega), e12]; exact e k hk
theorem sRw.b01 {o p : Nat} (g : sRw n I o s) (hw : ∀ p, p < n → s (27 + p) = nI 0 ∨ s (27 + p) = nI 1) (hp : p < 8) : vp_nar .boolean (I (o + 8) p) = I (o + 8) p := by
  by_cases h : p < n
  · rw [g.f (k := 8) (by decide) (by decide) h]
    show vp_nar .boolean (s (27 + p)) = s (27 + p)
    rcases hw p h with q | q <;> rw [q] <;> decide
  · rw [g.2.2.1 8 p (by omega) (by omega) hp]; decide
set_option maxHeartbeats 4000000 in
theorem c_X3_as {o h : Nat} (hT : stO S P h) (hU : stO S P o) (gs : sRw n I o s) (hw : ∀ p, p < n → s (27 + p) = nI 0 ∨ s (27 + p) = nI 1) (h60 : (s 2).toNatClampNeg ≤ 60) (hn8 : n ≤ 8) (hd : o + 14 < h ∨ h + 14 < o) (k : ∀ I2, sRw n I2 h s → frS h I I2 → Q (.inl (some (.ref h))) I2 L P S) : Zm G mX3_as 1 C Sl [.ref h, .ref o] I L P S Q := by
  refine Z_entry (lv := [_, _, _]) (Nat.le_of_ble_eq_true rfl) rfl ?_
  refine Z_aload_n dX3_as_0 rfl ?_
  refine Z_aload_n dX3_as_1 rfl ?_
  refine Z_getI hU.1 fX3_47_2 dX3_as_2 rfl ?_
  refine Z_putI hT.1 fX3_47_2 dX3_as_5 rfl rfl rfl ?_
  refine Z_aload_n dX3_as_8 rfl ?_
  refine Z_aload_n dX3_as_9 rfl ?_
  refine Z_getI hU.1 fX3_51_2 dX3_as_10 rfl ?_
  refine Z_re (y := I o 1) (by repeat rw [zw_n _ _ _ _ (by omega)]) ?_
  refine Z_putI hT.1 fX3_51_2 dX3_as_13 rfl rfl rfl ?_
  refine Z_aload_n dX3_as_16 rfl ?_
  refine Z_aload_n dX3_as_17 rfl ?_
  refine Z_getI hU.1 fX3_54_2 dX3_as_18 rfl ?_
  refine Z_re (y := I o 2) (by repeat rw [zw_n _ _ _ _ (by omega)]) ?_
  refine Z_putI hT.1 fX3_54_2 dX3_as_21 rfl rfl rfl ?_
  refine Z_aload_n dX3_as_24 rfl ?_
  refine Z_aload_n dX3_as_25 rfl ?_
  refine Z_getI hU.1 fX3_57_2 dX3_as_26 rfl ?_
  refine Z_re (y := I o 3) (by repeat rw [zw_n _ _ _ _ (by omega)]) ?_
  refine Z_putI hT.1 fX3_57_2 dX3_as_29 rfl rfl rfl ?_
  refine Z_iconst (nI 0) dX3_as_32 rfl ?_
  refine Z_istore_n (lv' := [_, _, _]) dX3_as_33 rfl rfl (Nat.le_of_ble_eq_true rfl) ?_
  have lp34 : ∀ i, i ≤ 8 → ∀ I2, asI I o h i I2 → frS h I I2 → Zj G mX3_as 1 C Sl 34 [.ref h, .ref o, .int (nI i)] [] I2 L P S Q := by
    refine zloop (8) (fun i => ∀ I2, asI I o h i I2 → frS h I I2 → Zj G mX3_as 1 C Sl 34 [.ref h, .ref o, .int (nI i)] [] I2 L P S Q) (fun i hi ih => ?_)
    intro I2 gB fI
    show Zj _ _ _ _ _ _ _ _ _ _ _ _ _
    refine Z_iload_n dX3_as_34 rfl ?_
    refine Z_bipush (nI 8) dX3_as_35 rfl ?_
    refine Z_icmpgeN 142 dX3_as_37 rfl (by omega) (by omega) (fun c37 => ?_) (fun c37 => ?_)
    · have ei : i = 8 := by omega
      rw [ei] at gB
      refine Z_aload_n dX3_as_142 rfl ?_
      refine Z_getR (r := (o + 12)) hU.1 fX3_41_2 dX3_as_143 rfl (hU.2.1 12 _ rfl).2 ?_
      refine Z_iconst (nI 0) dX3_as_146 rfl ?_
      refine Z_aload_n dX3_as_147 rfl ?_
      refine Z_getR (r := (h + 12)) hT.1 fX3_41_2 dX3_as_148 rfl (hT.2.1 12 _ rfl).2 ?_
      refine Z_iconst (nI 0) dX3_as_151 rfl ?_
      refine Z_bipush (nI 60) dX3_as_152 rfl ?_
      refine Z_copyI (sp := 0) (dp := 0) (n := 60) (hU.2.1 12 _ rfl).1 (hT.2.1 12 _ rfl).1 (by simp [zTys]) rfl q887 q889 q888 q107 (by omega) (by omega) (by omega) (fun _ _ => rfl) (by decide) dX3_as_154 ?_
      refine Z_aload_n dX3_as_157 rfl ?_
      refine Z_areturn dX3_as_158 rfl (by first | exact Or.inl ⟨_, rfl⟩ | exact Or.inr ⟨_, rfl⟩) ?_
      exact k _ (gB.fin gs hn8 h60 (fI _ (by omega))) (fun a ha => (zu_n _ _ _ (by omega)).trans (fI a ha))
    · refine Z_aload_n dX3_as_40 rfl ?_
      refine Z_getR (r := (h + 4)) hT.1 fX3_15_2 dX3_as_41 rfl (hT.2.1 4 _ rfl).2 ?_
      refine Z_iload_n dX3_as_44 rfl ?_
      refine Z_aload_n dX3_as_45 rfl ?_
      refine Z_getR (r := (o + 4)) hU.1 fX3_15_2 dX3_as_46 rfl (hU.2.1 4 _ rfl).2 ?_
      refine Z_iload_n dX3_as_49 rfl ?_
      refine Z_iald (hU.2.1 4 _ rfl).1 (zix_nI (by first | omega | (dsimp only; omega)) (by decide)) dX3_as_50 ?_
      refine Z_re (y := I (o + 4) i) ((congrFun (by first | rfl | (repeat rw [zw_n _ _ _ _ (by omega)]) : _ = I2 (o + 4)) i).trans (congrFun (fI _ (by omega)) i)) ?_
      refine Z_iast (hT.2.1 4 _ rfl).1 (zix_nI (by first | omega | (dsimp only; omega)) (by decide)) dX3_as_51 ?_
      refine Z_aload_n dX3_as_52 rfl ?_
      refine Z_getR (r := (h + 5)) hT.1 fX3_19_2 dX3_as_53 rfl (hT.2.1 5 _ rfl).2 ?_
      refine Z_iload_n dX3_as_56 rfl ?_
      refine Z_aload_n dX3_as_57 rfl ?_
      refine Z_getR (r := (o + 5)) hU.1 fX3_19_2 dX3_as_58 rfl (hU.2.1 5 _ rfl).2 ?_
      refine Z_iload_n dX3_as_61 rfl ?_
      refine Z_iald (hU.2.1 5 _ rfl).1 (zix_nI (by first | omega | (dsimp only; omega)) (by decide)) dX3_as_62 ?_
      refine Z_re (y := I (o + 5) i) ((congrFun (by first | rfl | (repeat rw [zw_n _ _ _ _ (by omega)]) : _ = I2 (o + 5)) i).trans (congrFun (fI _ (by omega)) i)) ?_
      refine Z_iast (hT.2.1 5 _ rfl).1 (zix_nI (by first | omega | (dsimp only; omega)) (by decide)) dX3_as_63 ?_
      refine Z_aload_n dX3_as_64 rfl ?_
      refine Z_getR (r := (h + 6)) hT.1 fX3_22_2 dX3_as_65 rfl (hT.2.1 6 _ rfl).2 ?_
      refine Z_iload_n dX3_as_68 rfl ?_
      refine Z_aload_n dX3_as_69 rfl ?_
      refine Z_getR (r := (o + 6)) hU.1 fX3_22_2 dX3_as_70 rfl (hU.2.1 6 _ rfl).2 ?_
      refine Z_iload_n dX3_as_73 rfl ?_
      refine Z_iald (hU.2.1 6 _ rfl).1 (zix_nI (by first | omega | (dsimp only; omega)) (by decide)) dX3_as_74 ?_
      refine Z_re (y := I (o + 6) i) ((congrFun (by first | rfl | (repeat rw [zw_n _ _ _ _ (by omega)]) : _ = I2 (o + 6)) i).trans (congrFun (fI _ (by omega)) i)) ?_
      refine Z_iast (hT.2.1 6 _ rfl).1 (zix_nI (by first | omega | (dsimp only; omega)) (by decide)) dX3_as_75 ?_
      refine Z_aload_n dX3_as_76 rfl ?_
      refine Z_getR (r := (h + 7)) hT.1 fX3_25_2 dX3_as_77 rfl (hT.2.1 7 _ rfl).2 ?_
      refine Z_iload_n dX3_as_80 rfl ?_
      refine Z_aload_n dX3_as_81 rfl ?_
      refine Z_getR (r := (o + 7)) hU.1 fX3_25_2 dX3_as_82 rfl (hU.2.1 7 _ rfl).2 ?_
      refine Z_iload_n dX3_as_85 rfl ?_
      refine Z_iald (hU.2.1 7 _ rfl).1 (zix_nI (by first | omega | (dsimp only; omega)) (by decide)) dX3_as_86 ?_
      refine Z_re (y := I (o + 7) i) ((congrFun (by first | rfl | (repeat rw [zw_n _ _ _ _ (by omega)]) : _ = I2 (o + 7)) i).trans (congrFun (fI _ (by omega)) i)) ?_
      refine Z_iast (hT.2.1 7 _ rfl).1 (zix_nI (by first | omega | (dsimp only; omega)) (by decide)) dX3_as_87 ?_
      refine Z_aload_n dX3_as_88 rfl ?_
      refine Z_getR (r := (h + 8)) hT.1 fX3_28_2 dX3_as_89 rfl (hT.2.1 8 _ rfl).2 ?_
      refine Z_iload_n dX3_as_92 rfl ?_
      refine Z_aload_n dX3_as_93 rfl ?_
      refine Z_getR (r := (o + 8)) hU.1 fX3_28_2 dX3_as_94 rfl (hU.2.1 8 _ rfl).2 ?_
      refine Z_iload_n dX3_as_97 rfl ?_
      refine Z_zald (hU.2.1 8 _ rfl).1 (zix_nI (by first | omega | (dsimp only; omega)) (by decide)) dX3_as_98 ?_
      refine Z_re (y := I (o + 8) i) ((congrFun (by first | rfl | (repeat rw [zw_n _ _ _ _ (by omega)]) : _ = I2 (o + 8)) i).trans (congrFun (fI _ (by omega)) i)) ?_
      refine Z_zast (hT.2.1 8 _ rfl).1 (zix_nI (by first | omega | (dsimp only; omega)) (by decide)) dX3_as_99 ?_
      refine Z_aload_n dX3_as_100 rfl ?_
      refine Z_getR (r := (h + 9)) hT.1 fX3_32_2 dX3_as_101 rfl (hT.2.1 9 _ rfl).2 ?_
      refine Z_iload_n dX3_as_104 rfl ?_
      refine Z_aload_n dX3_as_105 rfl ?_
      refine Z_getR (r := (o + 9)) hU.1 fX3_32_2 dX3_as_106 rfl (hU.2.1 9 _ rfl).2 ?_
      refine Z_iload_n dX3_as_109 rfl ?_
      refine Z_iald (hU.2.1 9 _ rfl).1 (zix_nI (by first | omega | (dsimp only; omega)) (by decide)) dX3_as_110 ?_
      refine Z_re (y := I (o + 9) i) ((congrFun (by first | rfl | (repeat rw [zw_n _ _ _ _ (by omega)]) : _ = I2 (o + 9)) i).trans (congrFun (fI _ (by omega)) i)) ?_
      refine Z_iast (hT.2.1 9 _ rfl).1 (zix_nI (by first | omega | (dsimp only; omega)) (by decide)) dX3_as_111 ?_
      refine Z_aload_n dX3_as_112 rfl ?_
      refine Z_getR (r := (h + 10)) hT.1 fX3_35_2 dX3_as_113 rfl (hT.2.1 10 _ rfl).2 ?_
      refine Z_iload_n dX3_as_116 rfl ?_
      refine Z_aload_n dX3_as_117 rfl ?_
      refine Z_getR (r := (o + 10)) hU.1 fX3_35_2 dX3_as_118 rfl (hU.2.1 10 _ rfl).2 ?_
      refine Z_iload_n dX3_as_121 rfl ?_
      refine Z_iald (hU.2.1 10 _ rfl).1 (zix_nI (by first | omega | (dsimp only; omega)) (by decide)) dX3_as_122 ?_
      refine Z_re (y := I (o + 10) i) ((congrFun (by first | rfl | (repeat rw [zw_n _ _ _ _ (by omega)]) : _ = I2 (o + 10)) i).trans (congrFun (fI _ (by omega)) i)) ?_
      refine Z_iast (hT.2.1 10 _ rfl).1 (zix_nI (by first | omega | (dsimp only; omega)) (by decide)) dX3_as_123 ?_
      refine Z_aload_n dX3_as_124 rfl ?_
      refine Z_getR (r := (h + 11)) hT.1 fX3_38_2 dX3_as_125 rfl (hT.2.1 11 _ rfl).2 ?_
      refine Z_iload_n dX3_as_128 rfl ?_
      refine Z_aload_n dX3_as_129 rfl ?_
      refine Z_getR (r := (o + 11)) hU.1 fX3_38_2 dX3_as_130 rfl (hU.2.1 11 _ rfl).2 ?_
      refine Z_iload_n dX3_as_133 rfl ?_
      refine Z_iald (hU.2.1 11 _ rfl).1 (zix_nI (by first | omega | (dsimp only; omega)) (by decide)) dX3_as_134 ?_
      refine Z_re (y := I (o + 11) i) ((congrFun (by first | rfl | (repeat rw [zw_n _ _ _ _ (by omega)]) : _ = I2 (o + 11)) i).trans (congrFun (fI _ (by omega)) i)) ?_
      refine Z_iast (hT.2.1 11 _ rfl).1 (zix_nI (by first | omega | (dsimp only; omega)) (by decide)) dX3_as_135 ?_
      refine Z_iincN (a := _) (k := 1) (lv' := [_, _, _]) dX3_as_136 rfl rfl rfl rfl ?_
      refine Z_goto 34 dX3_as_139 rfl ?_
      exact ih (by omega) _ (gB.st (gs.b01 hw (by omega))) (((((((((fI.st (by omega)).st (by omega)).st (by omega)).st (by omega)).st (by omega)).st (by omega)).st (by omega)).st (by omega)))
  exact lp34 0 (by omega) _ ⟨by simp [zw, zu], fun k p _ _ hp => absurd hp (by omega)⟩ ((((frS.rf.st (by omega)).st (by omega)).st (by omega)).st (by omega))
/-- a world may have changed -/
def fW {α : Type} (h : Nat) (f g : Nat → α) : Prop := ∀ a, ¬ (h ≤ a ∧ a ≤ h + 8) → g a = f a
theorem fW.rf {α : Type} {h : Nat} {f : Nat → α} : fW h f f := fun _ _ => rfl
theorem fW.tr {α : Type} {h : Nat} {f g k : Nat → α} (a : fW h f g) (b : fW h g k) : fW h f k := fun x hx => (b x hx).trans (a x hx)
theorem fW.st {α : Type} {h a k : Nat} {f g : Nat → Nat → α} {v : α} (b : fW h f g) (ha : h ≤ a ∧ a ≤ h + 8) : fW h f (zw g a k v) := fun x hx => (zw_n _ _ _ _ (by rintro rfl; exact hx ha)).trans (b x hx)
theorem fW.su {α : Type} {h a : Nat} {f g : Nat → Nat → α} {v : Nat → α} (b : fW h f g) (ha : h ≤ a ∧ a ≤ h + 8) : fW h f (zu g a v) := fun x hx => (zu_n _ _ _ (by rintro rfl; exact hx ha)).trans (b x hx)
theorem wdO.w {P2 : zR} {h : Nat} (g : wdO S P h) (e0 : P2 h 0 = P h 0) (e4 : P2 h 4 = P h 4) (e2 : P2 (h + 2) = P (h + 2)) : wdO S P2 h := ⟨g.1, ⟨g.2.1.1, by rw [e0]; exact g.2.1.2⟩, ⟨g.2.2.1.1, by rw [e4]; exact g.2.2.1.2⟩, fun a ha => ⟨(g.2.2.2 a ha).1, by rw [e2]; exact (g.2.2.2 a ha).2⟩⟩
/-- how far a copy of a world is -/
def waI (I : zI) (P : zR) (w h i : Nat) (I2 : zI) (P2 : zR) : Prop := (I2 h 1 = I w 1 ∧ I2 h 2 = I w 2 ∧ I2 h 3 = I w 3) ∧ (P2 h 5 = P w 5 ∧ P2 (h + 2) = P (h + 2) ∧ ∀ k, k ≠ 5 → P2 h k = P h k) ∧ (∀ a, a < i → P2 (h + 1) a = P (w + 1) a ∧ ∀ b, b < 6 → I2 (h + 3 + a) b = I (w + 3 + a) b) ∧ fW h I I2 ∧ fW h P P2
theorem waI.z {w h : Nat} {v : Option Nat} (e : P w 5 = v) : waI I P w h 0 (zw (zw (zw I h 1 (I w 1)) h 2 (I w 2)) h 3 (I w 3)) (zw P h 5 v) := by
  refine ⟨by simp [zw, zu], ⟨by rw [zw_s]; exact e.symm, zw_n _ _ _ _ (by omega), fun k hk => by rw [zw_a, zu_n _ _ _ hk]⟩, fun a ha => absurd ha (by omega), ((fW.rf.st (by omega)).st (by omega)).st (by omega), fW.rf.st (by omega)⟩
theorem waI.st {I2 : zI} {P2 : zR} {w h i : Nat} {v : Option Nat} (g : waI I P w h i I2 P2) (e : P (w + 1) i = v) (hi : i < 6) (hd : w + 8 < h) : waI I P w h (i + 1) (zu I2 (h + 3 + i) (va_cpy (I2 (w + 3 + i)) (I2 (h + 3 + i)) 0 0 6)) (zw P2 (h + 1) i v) := by
  obtain ⟨⟨g1, g2, g3⟩, ⟨g4, g5, g6⟩, g7, g8, g9⟩ := g
  refine ⟨?_, ⟨?_, ?_, fun k hk => ?_⟩, fun a ha => ⟨?_, fun b hb => ?_⟩, g8.su (by omega), g9.st (by omega)⟩
  · rw [zu_n _ _ _ (by omega)]; exact ⟨g1, g2, g3⟩
  · rw [zw_n _ _ _ _ (by omega)]; exact g4
  · rw [zw_n _ _ _ _ (by omega)]; exact g5
  · rw [zw_n _ _ _ _ (by omega)]; exact g6 k hk
  · rw [zw_a]
    by_cases ea : a = i
    · subst ea; rw [zu_s]; exact e.symm
    · rw [zu_n _ _ _ ea]; exact (g7 a (by omega)).1
  · by_cases ea : a = i
    · subst ea
      rw [zu_s, va_cpy0 hb, g8 _ (by omega)]
    · rw [zu_n _ _ _ (by omega)]; exact (g7 a (by omega)).2 b hb
theorem waI.fin {I2 : zI} {P2 : zR} {w h : Nat} (g : waI I P w h 6 I2 P2) (hR : wRw S P I w W no oh) (h6 : no ≤ 6) (ho : ∀ o, o < no → 6000 ≤ oh o) (hb : h + 8 < 5000) : wRw S P2 I2 h W no oh := by
  obtain ⟨⟨g1, g2, g3⟩, ⟨g4, g5, g6⟩, g7, g8, g9⟩ := g
  obtain ⟨⟨r1, r2, r3⟩, r4, r5⟩ := hR
  refine ⟨⟨g1.trans r1, g2.trans r2, g3.trans r3⟩, fun a b ha hb => ((g7 a ha).2 b hb).trans (r4 a b ha hb), fun o hoo => ?_⟩
  obtain ⟨q1, q2, q3⟩ := r5 o hoo
  have h6o := ho o hoo
  refine ⟨((g7 o (by omega)).1).trans q1, ⟨q2.1, q2.2.1, by rw [g9 _ (by omega)]; exact q2.2.2⟩, ?_⟩
  unfold oRw
  rw [g8 (oh o) (by omega), g8 (oh o + 8) (by omega)]
  exact q3
set_option maxHeartbeats 4000000 in
theorem c_X2_as {w h : Nat} (hO : wdO S P w) (hH : wdO S P h) (hR : wRw S P I w W no oh) (hz : ∀ a, no ≤ a → a < 6 → P (w + 1) a = none) (h6 : no ≤ 6) (ho : ∀ o, o < no → 6000 ≤ oh o) (hd : w + 8 < h) (hb : h + 8 < 5000) (k : ∀ I2 P2, wdO S P2 h → wRw S P2 I2 h W no oh → (∀ a, no ≤ a → a < 6 → P2 (h + 1) a = none) → P2 h 5 = P w 5 → fW h I I2 → fW h P P2 → Q (.inl (some (.ref h))) I2 L P2 S) : Zm G mX2_as 1 C Sl [.ref h, .ref w] I L P S Q := by
  refine Z_entry (lv := [_, _, _]) (Nat.le_of_ble_eq_true rfl) rfl ?_
  refine Z_aload_n dX2_as_0 rfl ?_
  refine Z_aload_n dX2_as_1 rfl ?_
  refine Z_getI hO.1 fX2_29_1 dX2_as_2 rfl ?_
  refine Z_putI hH.1 fX2_29_1 dX2_as_5 rfl rfl rfl ?_
  refine Z_aload_n dX2_as_8 rfl ?_
  refine Z_aload_n dX2_as_9 rfl ?_
  refine Z_getI hO.1 fX2_17_1 dX2_as_10 rfl ?_
  refine Z_re (y := I w 2) (by repeat rw [zw_n _ _ _ _ (by omega)]) ?_
  refine Z_putI hH.1 fX2_17_1 dX2_as_13 rfl rfl rfl ?_
  refine Z_aload_n dX2_as_16 rfl ?_
  refine Z_aload_n dX2_as_17 rfl ?_
  refine Z_getI hO.1 fX2_21_1 dX2_as_18 rfl ?_
  refine Z_re (y := I w 3) (by repeat rw [zw_n _ _ _ _ (by omega)]) ?_
  refine Z_putI hH.1 fX2_21_1 dX2_as_21 rfl rfl rfl ?_
  obtain ⟨r5, hr5⟩ : ∃ x, P w 5 = x := ⟨_, rfl⟩
  rcases r5 with _ | r5
  · refine Z_aload_n dX2_as_24 rfl ?_
    refine Z_aload_n dX2_as_25 rfl ?_
    refine Z_getN hO.1 fX2_32_1 dX2_as_26 rfl hr5 ?_
    refine Z_putN hH.1 fX2_32_1 dX2_as_29 rfl ?_
    refine Z_iconst (nI 0) dX2_as_32 rfl ?_
    refine Z_istore_n (lv' := [_, _, _]) dX2_as_33 rfl rfl (Nat.le_of_ble_eq_true rfl) ?_
    have lp34 : ∀ i, i ≤ 6 → ∀ I2 P2, waI I P w h i I2 P2 → Zj G mX2_as 1 C Sl 34 [.ref h, .ref w, .int (nI i)] [] I2 L P2 S Q := by
      refine zloop (6) (fun i => ∀ I2 P2, waI I P w h i I2 P2 → Zj G mX2_as 1 C Sl 34 [.ref h, .ref w, .int (nI i)] [] I2 L P2 S Q) (fun i hi ih => ?_)
      intro I2 P2 gB
      show Zj _ _ _ _ _ _ _ _ _ _ _ _ _
      have hO := hO.w (P2 := P2) (congrFun (gB.2.2.2.2 w (by omega)) 0) (congrFun (gB.2.2.2.2 w (by omega)) 4) (gB.2.2.2.2 (w + 2) (by omega))
      have hH := hH.w (P2 := P2) (gB.2.1.2.2 0 (by decide)) (gB.2.1.2.2 4 (by decide)) gB.2.1.2.1
      refine Z_iload_n dX2_as_34 rfl ?_
      refine Z_bipush (nI 6) dX2_as_35 rfl ?_
      refine Z_icmpgeN 77 dX2_as_37 rfl (by omega) (by omega) (fun c37 => ?_) (fun c37 => ?_)
      · have ei : i = 6 := by omega
        rw [ei] at gB
        refine Z_aload_n dX2_as_77 rfl ?_
        refine Z_areturn dX2_as_78 rfl (by first | exact Or.inl ⟨_, rfl⟩ | exact Or.inr ⟨_, rfl⟩) ?_
        exact k _ _ hH (gB.fin hR h6 ho hb) (fun a h1 h2 => ((gB.2.2.1 a h2).1).trans (hz a h1 h2)) gB.2.1.1 gB.2.2.2.1 gB.2.2.2.2
      · refine Z_aload_n dX2_as_40 rfl ?_
        refine Z_getR (r := (h + 1)) hH.1 fX2_11_1 dX2_as_41 rfl hH.2.1.2 ?_
        refine Z_iload_n dX2_as_44 rfl ?_
        refine Z_aload_n dX2_as_45 rfl ?_
        by_cases eno : i < no
        · refine Z_getR (r := (w + 1)) hO.1 fX2_11_1 dX2_as_46 rfl hO.2.1.2 ?_
          refine Z_iload_n dX2_as_49 rfl ?_
          refine Z_aald (r := (oh i)) hO.2.1.1 (by simp [zTys]) rfl (zix_nI (by first | omega | (dsimp only; omega)) (by decide)) ((congrFun (gB.2.2.2.2 (w + 1) (by omega)) i).trans (hR.2.2 i eno).1) dX2_as_50 ?_
          refine Z_aast hH.2.1.1 (by simp [zTys]) (hR.2.2 i (by omega)).2.1.1 zkl5 (zix_nI (by first | omega | (dsimp only; omega)) (by decide)) dX2_as_51 ?_
          have hO := hO.w (P2 := zw P2 (h + 1) i (some (oh i))) (congrFun (zw_n _ _ _ _ (by omega)) 0) (congrFun (zw_n _ _ _ _ (by omega)) 4) (zw_n _ _ _ _ (by omega))
          have hH := hH.w (P2 := zw P2 (h + 1) i (some (oh i))) (congrFun (zw_n _ _ _ _ (by omega)) 0) (congrFun (zw_n _ _ _ _ (by omega)) 4) (zw_n _ _ _ _ (by omega))
          refine Z_aload_n dX2_as_52 rfl ?_
          refine Z_getR (r := (w + 2)) hO.1 fX2_26_1 dX2_as_53 rfl hO.2.2.1.2 ?_
          refine Z_iload_n dX2_as_56 rfl ?_
          refine Z_aald (r := (w + 3 + i)) hO.2.2.1.1 (by simp [zTys]) rfl (zix_nI (by first | omega | (dsimp only; omega)) (by decide)) (hO.2.2.2 i (by omega)).2 dX2_as_57 ?_
          refine Z_iconst (nI 0) dX2_as_58 rfl ?_
          refine Z_aload_n dX2_as_59 rfl ?_
          refine Z_getR (r := (h + 2)) hH.1 fX2_26_1 dX2_as_60 rfl hH.2.2.1.2 ?_
          refine Z_iload_n dX2_as_63 rfl ?_
          refine Z_aald (r := (h + 3 + i)) hH.2.2.1.1 (by simp [zTys]) rfl (zix_nI (by first | omega | (dsimp only; omega)) (by decide)) (hH.2.2.2 i (by omega)).2 dX2_as_64 ?_
          refine Z_iconst (nI 0) dX2_as_65 rfl ?_
          refine Z_bipush (nI 6) dX2_as_66 rfl ?_
          refine Z_copyI (sp := 0) (dp := 0) (n := 6) (hO.2.2.2 i (by omega)).1 (hH.2.2.2 i (by omega)).1 (by simp [zTys]) rfl q1084 q889 q888 q107 (by omega) (by omega) (by omega) (fun _ _ => rfl) (by decide) dX2_as_68 ?_
          refine Z_iincN (a := _) (k := 1) (lv' := [_, _, _]) dX2_as_71 rfl rfl rfl rfl ?_
          refine Z_goto 34 dX2_as_74 rfl ?_
          exact ih (by omega) _ _ (gB.st (hR.2.2 i eno).1 (by omega) hd)
        · refine Z_getR (r := (w + 1)) hO.1 fX2_11_1 dX2_as_46 rfl hO.2.1.2 ?_
          refine Z_iload_n dX2_as_49 rfl ?_
          refine Z_aaldN hO.2.1.1 (by simp [zTys]) rfl (zix_nI (by first | omega | (dsimp only; omega)) (by decide)) ((congrFun (gB.2.2.2.2 (w + 1) (by omega)) i).trans (hz i (by omega) (by omega))) dX2_as_50 ?_
          refine Z_aastN hH.2.1.1 (by simp [zTys]) (zix_nI (by first | omega | (dsimp only; omega)) (by decide)) dX2_as_51 ?_
          have hO := hO.w (P2 := zw P2 (h + 1) i none) (congrFun (zw_n _ _ _ _ (by omega)) 0) (congrFun (zw_n _ _ _ _ (by omega)) 4) (zw_n _ _ _ _ (by omega))
          have hH := hH.w (P2 := zw P2 (h + 1) i none) (congrFun (zw_n _ _ _ _ (by omega)) 0) (congrFun (zw_n _ _ _ _ (by omega)) 4) (zw_n _ _ _ _ (by omega))
          refine Z_aload_n dX2_as_52 rfl ?_
          refine Z_getR (r := (w + 2)) hO.1 fX2_26_1 dX2_as_53 rfl hO.2.2.1.2 ?_
          refine Z_iload_n dX2_as_56 rfl ?_
          refine Z_aald (r := (w + 3 + i)) hO.2.2.1.1 (by simp [zTys]) rfl (zix_nI (by first | omega | (dsimp only; omega)) (by decide)) (hO.2.2.2 i (by omega)).2 dX2_as_57 ?_
          refine Z_iconst (nI 0) dX2_as_58 rfl ?_
          refine Z_aload_n dX2_as_59 rfl ?_
          refine Z_getR (r := (h + 2)) hH.1 fX2_26_1 dX2_as_60 rfl hH.2.2.1.2 ?_
          refine Z_iload_n dX2_as_63 rfl ?_
          refine Z_aald (r := (h + 3 + i)) hH.2.2.1.1 (by simp [zTys]) rfl (zix_nI (by first | omega | (dsimp only; omega)) (by decide)) (hH.2.2.2 i (by omega)).2 dX2_as_64 ?_
          refine Z_iconst (nI 0) dX2_as_65 rfl ?_
          refine Z_bipush (nI 6) dX2_as_66 rfl ?_
          refine Z_copyI (sp := 0) (dp := 0) (n := 6) (hO.2.2.2 i (by omega)).1 (hH.2.2.2 i (by omega)).1 (by simp [zTys]) rfl q1084 q889 q888 q107 (by omega) (by omega) (by omega) (fun _ _ => rfl) (by decide) dX2_as_68 ?_
          refine Z_iincN (a := _) (k := 1) (lv' := [_, _, _]) dX2_as_71 rfl rfl rfl rfl ?_
          refine Z_goto 34 dX2_as_74 rfl ?_
          exact ih (by omega) _ _ (gB.st (hz i (by omega) (by omega)) (by omega) hd)
    exact lp34 0 (by omega) _ _ (waI.z hr5)
  · refine Z_aload_n dX2_as_24 rfl ?_
    refine Z_aload_n dX2_as_25 rfl ?_
    refine Z_getR (r := r5) hO.1 fX2_32_1 dX2_as_26 rfl hr5 ?_
    refine Z_putR hH.1 fX2_32_1 dX2_as_29 rfl ?_
    refine Z_iconst (nI 0) dX2_as_32 rfl ?_
    refine Z_istore_n (lv' := [_, _, _]) dX2_as_33 rfl rfl (Nat.le_of_ble_eq_true rfl) ?_
    have lp34 : ∀ i, i ≤ 6 → ∀ I2 P2, waI I P w h i I2 P2 → Zj G mX2_as 1 C Sl 34 [.ref h, .ref w, .int (nI i)] [] I2 L P2 S Q := by
      refine zloop (6) (fun i => ∀ I2 P2, waI I P w h i I2 P2 → Zj G mX2_as 1 C Sl 34 [.ref h, .ref w, .int (nI i)] [] I2 L P2 S Q) (fun i hi ih => ?_)
      intro I2 P2 gB
      show Zj _ _ _ _ _ _ _ _ _ _ _ _ _
      have hO := hO.w (P2 := P2) (congrFun (gB.2.2.2.2 w (by omega)) 0) (congrFun (gB.2.2.2.2 w (by omega)) 4) (gB.2.2.2.2 (w + 2) (by omega))
      have hH := hH.w (P2 := P2) (gB.2.1.2.2 0 (by decide)) (gB.2.1.2.2 4 (by decide)) gB.2.1.2.1
      refine Z_iload_n dX2_as_34 rfl ?_
      refine Z_bipush (nI 6) dX2_as_35 rfl ?_
      refine Z_icmpgeN 77 dX2_as_37 rfl (by omega) (by omega) (fun c37 => ?_) (fun c37 => ?_)
      · have ei : i = 6 := by omega
        rw [ei] at gB
        refine Z_aload_n dX2_as_77 rfl ?_
        refine Z_areturn dX2_as_78 rfl (by first | exact Or.inl ⟨_, rfl⟩ | exact Or.inr ⟨_, rfl⟩) ?_
        exact k _ _ hH (gB.fin hR h6 ho hb) (fun a h1 h2 => ((gB.2.2.1 a h2).1).trans (hz a h1 h2)) gB.2.1.1 gB.2.2.2.1 gB.2.2.2.2
      · refine Z_aload_n dX2_as_40 rfl ?_
        refine Z_getR (r := (h + 1)) hH.1 fX2_11_1 dX2_as_41 rfl hH.2.1.2 ?_
        refine Z_iload_n dX2_as_44 rfl ?_
        refine Z_aload_n dX2_as_45 rfl ?_
        by_cases eno : i < no
        · refine Z_getR (r := (w + 1)) hO.1 fX2_11_1 dX2_as_46 rfl hO.2.1.2 ?_
          refine Z_iload_n dX2_as_49 rfl ?_
          refine Z_aald (r := (oh i)) hO.2.1.1 (by simp [zTys]) rfl (zix_nI (by first | omega | (dsimp only; omega)) (by decide)) ((congrFun (gB.2.2.2.2 (w + 1) (by omega)) i).trans (hR.2.2 i eno).1) dX2_as_50 ?_
          refine Z_aast hH.2.1.1 (by simp [zTys]) (hR.2.2 i (by omega)).2.1.1 zkl5 (zix_nI (by first | omega | (dsimp only; omega)) (by decide)) dX2_as_51 ?_
          have hO := hO.w (P2 := zw P2 (h + 1) i (some (oh i))) (congrFun (zw_n _ _ _ _ (by omega)) 0) (congrFun (zw_n _ _ _ _ (by omega)) 4) (zw_n _ _ _ _ (by omega))
          have hH := hH.w (P2 := zw P2 (h + 1) i (some (oh i))) (congrFun (zw_n _ _ _ _ (by omega)) 0) (congrFun (zw_n _ _ _ _ (by omega)) 4) (zw_n _ _ _ _ (by omega))
          refine Z_aload_n dX2_as_52 rfl ?_
          refine Z_getR (r := (w + 2)) hO.1 fX2_26_1 dX2_as_53 rfl hO.2.2.1.2 ?_
          refine Z_iload_n dX2_as_56 rfl ?_
          refine Z_aald (r := (w + 3 + i)) hO.2.2.1.1 (by simp [zTys]) rfl (zix_nI (by first | omega | (dsimp only; omega)) (by decide)) (hO.2.2.2 i (by omega)).2 dX2_as_57 ?_
          refine Z_iconst (nI 0) dX2_as_58 rfl ?_
          refine Z_aload_n dX2_as_59 rfl ?_
          refine Z_getR (r := (h + 2)) hH.1 fX2_26_1 dX2_as_60 rfl hH.2.2.1.2 ?_
          refine Z_iload_n dX2_as_63 rfl ?_
          refine Z_aald (r := (h + 3 + i)) hH.2.2.1.1 (by simp [zTys]) rfl (zix_nI (by first | omega | (dsimp only; omega)) (by decide)) (hH.2.2.2 i (by omega)).2 dX2_as_64 ?_
          refine Z_iconst (nI 0) dX2_as_65 rfl ?_
          refine Z_bipush (nI 6) dX2_as_66 rfl ?_
          refine Z_copyI (sp := 0) (dp := 0) (n := 6) (hO.2.2.2 i (by omega)).1 (hH.2.2.2 i (by omega)).1 (by simp [zTys]) rfl q1084 q889 q888 q107 (by omega) (by omega) (by omega) (fun _ _ => rfl) (by decide) dX2_as_68 ?_
          refine Z_iincN (a := _) (k := 1) (lv' := [_, _, _]) dX2_as_71 rfl rfl rfl rfl ?_
          refine Z_goto 34 dX2_as_74 rfl ?_
          exact ih (by omega) _ _ (gB.st (hR.2.2 i eno).1 (by omega) hd)
        · refine Z_getR (r := (w + 1)) hO.1 fX2_11_1 dX2_as_46 rfl hO.2.1.2 ?_
          refine Z_iload_n dX2_as_49 rfl ?_
          refine Z_aaldN hO.2.1.1 (by simp [zTys]) rfl (zix_nI (by first | omega | (dsimp only; omega)) (by decide)) ((congrFun (gB.2.2.2.2 (w + 1) (by omega)) i).trans (hz i (by omega) (by omega))) dX2_as_50 ?_
          refine Z_aastN hH.2.1.1 (by simp [zTys]) (zix_nI (by first | omega | (dsimp only; omega)) (by decide)) dX2_as_51 ?_
          have hO := hO.w (P2 := zw P2 (h + 1) i none) (congrFun (zw_n _ _ _ _ (by omega)) 0) (congrFun (zw_n _ _ _ _ (by omega)) 4) (zw_n _ _ _ _ (by omega))
          have hH := hH.w (P2 := zw P2 (h + 1) i none) (congrFun (zw_n _ _ _ _ (by omega)) 0) (congrFun (zw_n _ _ _ _ (by omega)) 4) (zw_n _ _ _ _ (by omega))
          refine Z_aload_n dX2_as_52 rfl ?_
          refine Z_getR (r := (w + 2)) hO.1 fX2_26_1 dX2_as_53 rfl hO.2.2.1.2 ?_
          refine Z_iload_n dX2_as_56 rfl ?_
          refine Z_aald (r := (w + 3 + i)) hO.2.2.1.1 (by simp [zTys]) rfl (zix_nI (by first | omega | (dsimp only; omega)) (by decide)) (hO.2.2.2 i (by omega)).2 dX2_as_57 ?_
          refine Z_iconst (nI 0) dX2_as_58 rfl ?_
          refine Z_aload_n dX2_as_59 rfl ?_
          refine Z_getR (r := (h + 2)) hH.1 fX2_26_1 dX2_as_60 rfl hH.2.2.1.2 ?_
          refine Z_iload_n dX2_as_63 rfl ?_
          refine Z_aald (r := (h + 3 + i)) hH.2.2.1.1 (by simp [zTys]) rfl (zix_nI (by first | omega | (dsimp only; omega)) (by decide)) (hH.2.2.2 i (by omega)).2 dX2_as_64 ?_
          refine Z_iconst (nI 0) dX2_as_65 rfl ?_
          refine Z_bipush (nI 6) dX2_as_66 rfl ?_
          refine Z_copyI (sp := 0) (dp := 0) (n := 6) (hO.2.2.2 i (by omega)).1 (hH.2.2.2 i (by omega)).1 (by simp [zTys]) rfl q1084 q889 q888 q107 (by omega) (by omega) (by omega) (fun _ _ => rfl) (by decide) dX2_as_68 ?_
          refine Z_iincN (a := _) (k := 1) (lv' := [_, _, _]) dX2_as_71 rfl rfl rfl rfl ?_
          refine Z_goto 34 dX2_as_74 rfl ?_
          exact ih (by omega) _ _ (gB.st (hz i (by omega) (by omega)) (by omega) hd)
    exact lp34 0 (by omega) _ _ (waI.z hr5)
set_option maxHeartbeats 4000000 in
theorem c_X2_know {h a b : Nat} {v : Int32} (hO : wdO S P h) (ha : a < 6) (hb : b < 6) (k : Q (.inl none) (zw (zw I (h + 3 + a) b v) (h + 3 + b) a v) L P S) : Zm G mX2_know 0 C Sl [.ref h, .int (nI a), .int (nI b), .int v] I L P S Q := by
  refine Z_entry (lv := [_, _, _, _]) (Nat.le_of_ble_eq_true rfl) rfl ?_
  refine Z_aload_n dX2_know_0 rfl ?_
  refine Z_getR (r := (h + 2)) hO.1 fX2_26_1 dX2_know_1 rfl hO.2.2.1.2 ?_
  refine Z_iload_n dX2_know_4 rfl ?_
  refine Z_aald (r := (h + 3 + a)) hO.2.2.1.1 (by simp [zTys]) rfl (zix_nI (by first | omega | (dsimp only; omega)) (by decide)) (hO.2.2.2 a ha).2 dX2_know_5 ?_
  refine Z_iload_n dX2_know_6 rfl ?_
  refine Z_iload_n dX2_know_7 rfl ?_
  refine Z_iast (hO.2.2.2 a (by omega)).1 (zix_nI (by first | omega | (dsimp only; omega)) (by decide)) dX2_know_8 ?_
  refine Z_aload_n dX2_know_9 rfl ?_
  refine Z_getR (r := (h + 2)) hO.1 fX2_26_1 dX2_know_10 rfl hO.2.2.1.2 ?_
  refine Z_iload_n dX2_know_13 rfl ?_
  refine Z_aald (r := (h + 3 + b)) hO.2.2.1.1 (by simp [zTys]) rfl (zix_nI (by first | omega | (dsimp only; omega)) (by decide)) (hO.2.2.2 b hb).2 dX2_know_14 ?_
  refine Z_iload_n dX2_know_15 rfl ?_
  refine Z_iload_n dX2_know_16 rfl ?_
  refine Z_iast (hO.2.2.2 b (by omega)).1 (zix_nI (by first | omega | (dsimp only; omega)) (by decide)) dX2_know_17 ?_
  refine Z_return dX2_know_18 rfl ?_
  exact k
end X8C
