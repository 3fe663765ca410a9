set_option maxRecDepth 100000
/-! THE COMPONENT, part 16: an office is made, is like another one -/
section X16C
variable {G : zG} {d C Sl : Nat} {I D W : zI} {R : List Int64} {L : zL} {P : zR} {S : zT} {Q : zQ} {no n np : Nat} {s : zS} {oh ph : Nat → Nat} {ro : Option (List Nat)}
/-- but a and a + 8 all is as it was -/
def frO (a : Nat) (I : zI) (L : zL) (P : zR) (S : zT) (I2 : zI) (L2 : zL) (P2 : zR) (S2 : zT) : Prop := ∀ b, b ≠ a → b ≠ a + 8 → (I2 b = I b ∧ L2 b = L b) ∧ P2 b = P b ∧ S2 b = S b
theorem frO.tr {a : Nat} {I2 I3 : zI} {L2 L3 : zL} {P2 P3 : zR} {S2 S3 : zT} (f : frO a I L P S I2 L2 P2 S2) (g : frO a I2 L2 P2 S2 I3 L3 P3 S3) : frO a I L P S I3 L3 P3 S3 := fun b h1 h2 => ⟨⟨(g b h1 h2).1.1.trans (f b h1 h2).1.1, (g b h1 h2).1.2.trans (f b h1 h2).1.2⟩, (g b h1 h2).2.1.trans (f b h1 h2).2.1, (g b h1 h2).2.2.trans (f b h1 h2).2.2⟩
theorem frO.nw {a : Nat} {f : Nat → Int32} {f2 : Nat → Int64} {f3 : Nat → Option Nat} {x : Option (Nat ⊕ (FieldType × Nat))} : frO a I L P S (zu I a f) (zu L a f2) (zu P a f3) (zu S a x) := fun b h1 _ => ⟨⟨zu_n _ _ _ h1, zu_n _ _ _ h1⟩, zu_n _ _ _ h1, zu_n _ _ _ h1⟩
theorem frO.i {a : Nat} {I2 I3 : zI} {L2 : zL} {P2 : zR} {S2 : zT} (f : frO a I L P S I2 L2 P2 S2) (h : ∀ b, b ≠ a → b ≠ a + 8 → I3 b = I2 b) : frO a I L P S I3 L2 P2 S2 := fun b h1 h2 => ⟨⟨(h b h1 h2).trans (f b h1 h2).1.1, (f b h1 h2).1.2⟩, (f b h1 h2).2⟩
def oNw (I : zI) (a : Nat) (z f l y m c pf pb : Int32) (ft : Nat → Int32) : Prop := (I a 0 = z ∧ I a 1 = f ∧ I a 2 = l ∧ I a 3 = y) ∧ (I a 4 = m ∧ I a 5 = c ∧ I a 6 = pf ∧ I a 7 = pb) ∧ ∀ d, d < 100 → I (a + 8) d = ft d
theorem oOk.o {o : Nat} {P2 : zR} {S2 : zT} (h : oOk S P o) (h1 : S2 o = S o) (h2 : S2 (o + 8) = S (o + 8)) (h3 : P2 o = P o) : oOk S2 P2 o := ⟨h1.trans h.1, h2.trans h.2.1, by rw [h3]; exact h.2.2⟩
theorem oOk.fr {a o : Nat} {I2 : zI} {L2 : zL} {P2 : zR} {S2 : zT} (h : oOk S P o) (f : frO a I L P S I2 L2 P2 S2) (n1 : o ≠ a) (n2 : o ≠ a + 8) (n3 : o + 8 ≠ a) : oOk S2 P2 o := h.o (f o n1 n2).2.2 (f (o + 8) n3 (by omega)).2.2 (f o n1 n2).2.1
theorem fit01 {x : Int32} (h : x = 0 ∨ x = 1) : fits .boolean (.int x) = true := by rcases h with rfl | rfl <;> decide
set_option maxHeartbeats 4000000 in
theorem c_X6_init {a : Nat} (hS : S a = some (.inl 5)) (h8 : S (a + 8) = none) (z0 : I a 6 = nI 0 ∧ I a 7 = nI 0) {z f l y m c : Int32} (k : ∀ I2 L2 P2 S2, oOk S2 P2 a → oNw I2 a z f l y m c (nI 0) (nI 0) (fun _ => nI 0) → frO a I L P S I2 L2 P2 S2 → Q (.inl none) I2 L2 P2 S2) : Zm G mX6_init 1 (C + 1) (Sl + 100) [.ref a, .int z, .int f, .int l, .int y, .int m, .int c] I L P S Q := by
  refine Z_entry (lv := [_, _, _, _, _, _, _]) (Nat.le_of_ble_eq_true rfl) rfl ?_
  refine Z_aload_n dX6_init_0 rfl ?_
  refine Z_objInit q337 dX6_init_1 (Nat.le_of_ble_eq_true rfl) ?_
  refine Z_aload_n dX6_init_4 rfl ?_
  refine Z_bipush (nI 100) dX6_init_5 rfl ?_
  refine Z_newa (N := 100) (a + 8) h8 .boolean (by simp [zTys, newarray.typeOf]) rfl q239 (by decide) (by decide) (by decide) dX6_init_7 ?_
  have hS : (zu S (a + 8) (some (.inr (.boolean, 100)))) a = some (.inl 5) := by rw [zu_n _ _ _ (by omega)]; exact hS
  show Zj _ _ _ _ _ _ _ _ _ _ _ (zu S (a + 8) (some (.inr (.boolean, 100)))) _
  refine Z_putFR hS wX6_9_5 rfl dX6_init_9 rfl ?_
  refine Z_aload_n dX6_init_12 rfl ?_
  refine Z_iload_n dX6_init_13 rfl ?_
  refine Z_putFI hS wX6_15_5 rfl dX6_init_14 rfl rfl rfl ?_
  refine Z_aload_n dX6_init_17 rfl ?_
  refine Z_iload_n dX6_init_18 rfl ?_
  refine Z_putFI hS wX6_19_5 rfl dX6_init_19 rfl rfl rfl ?_
  refine Z_aload_n dX6_init_22 rfl ?_
  refine Z_iload_n dX6_init_23 rfl ?_
  refine Z_putFI hS wX6_22_5 rfl dX6_init_24 rfl rfl rfl ?_
  refine Z_aload_n dX6_init_27 rfl ?_
  refine Z_iload dX6_init_28 rfl ?_
  refine Z_putFI hS wX6_25_5 rfl dX6_init_30 rfl rfl rfl ?_
  refine Z_aload_n dX6_init_33 rfl ?_
  refine Z_iload dX6_init_34 rfl ?_
  refine Z_putFI hS wX6_28_5 rfl dX6_init_36 rfl rfl rfl ?_
  refine Z_aload_n dX6_init_39 rfl ?_
  refine Z_iload dX6_init_40 rfl ?_
  refine Z_putFI hS wX6_31_5 rfl dX6_init_42 rfl rfl rfl ?_
  refine Z_return dX6_init_45 rfl ?_
  have z1 := z0.1
  have z2 := z0.2
  refine k _ _ _ _ ⟨hS, zu_s _ _ _, zw_s _ _ _ _⟩ ⟨⟨?_, ?_, ?_, ?_⟩, ⟨?_, ?_, ?_, ?_⟩, fun dd hd => ?_⟩ (fun b h1 h2 => ⟨⟨by simp [zw, zu, h1, h2], zu_n _ _ _ h2⟩, by simp [zw, zu, h1, h2], zu_n _ _ _ h2⟩)
  · simp [zw, zu, z1, z2]
  · simp [zw, zu, z1, z2]
  · simp [zw, zu, z1, z2]
  · simp [zw, zu, z1, z2]
  · simp [zw, zu, z1, z2]
  · simp [zw, zu, z1, z2]
  · simp [zw, zu, z1, z2]
  · simp [zw, zu, z1, z2]
  · simp [zw, zu]; rfl
set_option maxHeartbeats 4000000 in
theorem c_X1_like {o a : Nat} (hO : oOk S P o) (ha : S a = none) (h8 : S (a + 8) = none) (h01 : ∀ d, d < 100 → I (o + 8) d = 0 ∨ I (o + 8) d = 1) {m c : Int32} (k : ∀ I2 L2 P2 S2, oOk S2 P2 a → oNw I2 a (I o 0) (I o 1) (I o 2) (I o 3) m c (I o 6) (I o 7) (I (o + 8)) → frO a I L P S I2 L2 P2 S2 → Q (.inl (some (.ref a))) I2 L2 P2 S2) : Zm G mX1_like 2 (C + 2) (Sl + 109) [.ref o, .int m, .int c] I L P S Q := by
  have n1 : o ≠ a := fun e => by have := hO.1; rw [e, ha] at this; cases this
  have n2 : o ≠ a + 8 := fun e => by have := hO.1; rw [e, h8] at this; cases this
  have n3 : o + 8 ≠ a := fun e => by have := hO.2.1; rw [e, ha] at this; cases this
  refine Z_entry (lv := [_, _, _, _]) (Nat.le_of_ble_eq_true rfl) rfl ?_
  refine Zj.less (C := C + 1 + 1) (Sl := Sl + 100 + 9) ?_ (Nat.le_refl _) (by omega) (by omega)
  refine Z_new a ha wX1_112 dX1_like_0 ?_
  have hOs := hO
  have hO : oOk (zu S a (some (.inl 5))) (zu P a (fun _ => none)) o := hO.o (zu_n _ _ _ n1) (zu_n _ _ _ n3) (zu_n _ _ _ n1)
  refine Z_dup dX1_like_3 rfl ?_
  refine Z_aload_n dX1_like_4 rfl ?_
  refine Z_getI hO.1 fX1_399_5 dX1_like_5 rfl ?_
  refine Z_re (y := I o 0) (congrFun (zu_n _ _ _ n1) 0) ?_
  refine Z_aload_n dX1_like_8 rfl ?_
  refine Z_getI hO.1 fX1_402_5 dX1_like_9 rfl ?_
  refine Z_re (y := I o 1) (congrFun (zu_n _ _ _ n1) 1) ?_
  refine Z_aload_n dX1_like_12 rfl ?_
  refine Z_getI hO.1 fX1_405_5 dX1_like_13 rfl ?_
  refine Z_re (y := I o 2) (congrFun (zu_n _ _ _ n1) 2) ?_
  refine Z_aload_n dX1_like_16 rfl ?_
  refine Z_getI hO.1 fX1_406_5 dX1_like_17 rfl ?_
  refine Z_re (y := I o 3) (congrFun (zu_n _ _ _ n1) 3) ?_
  refine Z_iload_n dX1_like_20 rfl ?_
  refine Z_iload_n dX1_like_21 rfl ?_
  refine Z_call (d' := 1) (C := C) (C' := 1) (Sl := Sl) (S' := 100) (zCal_I q336 q88 q334 q335 rfl nX6_init (by decide) dX1_like_22) pX6_init (by simp [zu]) zkl5 [_, _, _, _, _, _] rfl rfl (Nat.le_of_ble_eq_true rfl) (by omega) (by omega) (by omega) (c_X6_init (zu_s _ _ _) (by rw [zu_n _ _ _ (by omega)]; exact h8) ⟨by rw [zu_s]; rfl, by rw [zu_s]; rfl⟩ (fun I2 L2 P2 S2 hA gA fA => ?_))
  have f9 := (frO.nw (I := I) (L := L) (P := P) (S := S) (f := fun _ => 0) (f2 := fun _ => 0) (f3 := fun _ => none) (x := some (.inl 5))).tr fA
  have hO : oOk S2 P2 o := hOs.fr f9 n1 n2 n3
  refine Z_astore_n (lv' := [_, _, _, _]) dX1_like_25 rfl rfl (Nat.le_of_ble_eq_true rfl) ?_
  refine Z_aload_n dX1_like_26 rfl ?_
  refine Z_aload_n dX1_like_27 rfl ?_
  refine Z_getI hO.1 fX1_131_5 dX1_like_28 rfl ?_
  refine Z_re (y := I o 6) (congrFun (f9 o n1 n2).1.1 6) ?_
  refine Z_putI hA.1 fX1_131_5 dX1_like_31 rfl rfl rfl ?_
  refine Z_aload_n dX1_like_34 rfl ?_
  refine Z_aload_n dX1_like_35 rfl ?_
  refine Z_getI hO.1 fX1_134_5 dX1_like_36 rfl ?_
  refine Z_re (y := I o 7) ((congrFun (zw_n _ _ _ _ n1) 7).trans (congrFun (f9 o n1 n2).1.1 7)) ?_
  refine Z_putI hA.1 fX1_134_5 dX1_like_39 rfl rfl rfl ?_
  refine Z_aload_n dX1_like_42 rfl ?_
  refine Z_getR (r := (o + 8)) hO.1 fX1_137_5 dX1_like_43 rfl hO.2.2 ?_
  refine Z_iconst (nI 0) dX1_like_46 rfl ?_
  refine Z_aload_n dX1_like_47 rfl ?_
  refine Z_getR (r := (a + 8)) hA.1 fX1_137_5 dX1_like_48 rfl hA.2.2 ?_
  refine Z_iconst (nI 0) dX1_like_51 rfl ?_
  refine Z_bipush (nI 100) dX1_like_52 rfl ?_
  refine Z_copyI (sp := 0) (dp := 0) (n := 100) hO.2.1 hA.2.1 (by simp [zTys]) rfl q1149 q889 q888 q107 (by omega) (by omega) (by omega) (fun i hi => fit01 (by rw [Nat.zero_add, zw_n _ _ _ _ n3, zw_n _ _ _ _ n3, (f9 (o + 8) n3 (by omega)).1.1]; exact h01 i hi)) (by decide) dX1_like_54 ?_
  refine Z_aload_n dX1_like_57 rfl ?_
  refine Z_areturn dX1_like_58 rfl (by first | exact Or.inl ⟨_, rfl⟩ | exact Or.inr ⟨_, rfl⟩) ?_
  obtain ⟨⟨q0, q1, q2, q3⟩, ⟨q4, q5, q6, q7⟩, q8⟩ := gA
  refine k _ _ _ _ hA ⟨⟨?_, ?_, ?_, ?_⟩, ⟨?_, ?_, ?_, ?_⟩, fun dd hd => ?_⟩ (f9.i fun b h1 h2 => ?_)
  · rw [zu_n _ _ _ (by omega)]; simp [zw, zu, q0]
  · rw [zu_n _ _ _ (by omega)]; simp [zw, zu, q1]
  · rw [zu_n _ _ _ (by omega)]; simp [zw, zu, q2]
  · rw [zu_n _ _ _ (by omega)]; simp [zw, zu, q3]
  · rw [zu_n _ _ _ (by omega)]; simp [zw, zu, q4]
  · rw [zu_n _ _ _ (by omega)]; simp [zw, zu, q5]
  · rw [zu_n _ _ _ (by omega)]; simp [zw, zu]
  · rw [zu_n _ _ _ (by omega)]; simp [zw, zu]
  · rw [zu_s, va_cpy0 hd, zw_n _ _ _ _ n3, zw_n _ _ _ _ n3, (f9 (o + 8) n3 (by omega)).1.1]
  · rw [zu_n _ _ _ h2, zw_n _ _ _ _ h1, zw_n _ _ _ _ h1]
set_option maxHeartbeats 4000000 in
theorem c_X1_sleeping (e : hE W no n oh ph 200 240 I P S) (h01 : ∀ j, W 12 j = 0 ∨ W 12 j = 1) {a k d : Nat} (hk : k < no) (hd : d < 100) (ha : S a = none) (h8 : S (a + 8) = none) (kk : ∀ I2 L2 P2 S2, oOk S2 P2 a → oRw I2 a (zw W 12 (100 * k + d) (nI 1)) k → frO a I L P S I2 L2 P2 S2 → Q (.inl (some (.ref a))) I2 L2 P2 S2) : Zm G mX1_sleeping 3 (C + 2) (Sl + 109) [.ref 100, .int (nI k), .int (nI d)] I L P S Q := by
  have hx := e.x
  have hO := e.wd
  have hR := e.wr
  have hT := e.st
  have hPc := e.pc
  have hw := e.hw
  have hf := e.hx
  have hb := e.b
  have hn := e.nn
  have n8 := hw.n8
  have h6 := hw.o6
  have hn8 := hw.n8
  refine Z_entry (lv := [_, _, _, _]) (Nat.le_of_ble_eq_true rfl) rfl ?_
  refine Z_aload_n dX1_sleeping_0 rfl ?_
  refine Z_getR (r := 200) hx.1 fX1_52_0 dX1_sleeping_1 rfl hx.2.2.2.1.1 ?_
  refine Z_getR (r := (200 + 1)) hO.1 fX1_127_1 dX1_sleeping_4 rfl hO.2.1.2 ?_
  refine Z_iload_n dX1_sleeping_7 rfl ?_
  refine Z_aald (r := (oh k)) hO.2.1.1 (by simp [zTys]) rfl (zix_nI (by first | omega | (dsimp only; omega)) (by decide)) (hR.2.2 k (by omega)).1 dX1_sleeping_8 ?_
  refine Z_aload_n dX1_sleeping_9 rfl ?_
  refine Z_getR (r := 200) hx.1 fX1_52_0 dX1_sleeping_10 rfl hx.2.2.2.1.1 ?_
  refine Z_getR (r := (200 + 1)) hO.1 fX1_127_1 dX1_sleeping_13 rfl hO.2.1.2 ?_
  refine Z_iload_n dX1_sleeping_16 rfl ?_
  refine Z_aald (r := (oh k)) hO.2.1.1 (by simp [zTys]) rfl (zix_nI (by first | omega | (dsimp only; omega)) (by decide)) (hR.2.2 k (by omega)).1 dX1_sleeping_17 ?_
  refine Z_getI (hR.2.2 k (by omega)).2.1.1 fX1_296_5 dX1_sleeping_18 rfl ?_
  refine Z_aload_n dX1_sleeping_21 rfl ?_
  refine Z_getR (r := 200) hx.1 fX1_52_0 dX1_sleeping_22 rfl hx.2.2.2.1.1 ?_
  refine Z_getR (r := (200 + 1)) hO.1 fX1_127_1 dX1_sleeping_25 rfl hO.2.1.2 ?_
  refine Z_iload_n dX1_sleeping_28 rfl ?_
  refine Z_aald (r := (oh k)) hO.2.1.1 (by simp [zTys]) rfl (zix_nI (by first | omega | (dsimp only; omega)) (by decide)) (hR.2.2 k (by omega)).1 dX1_sleeping_29 ?_
  refine Z_getI (hR.2.2 k (by omega)).2.1.1 fX1_407_5 dX1_sleeping_30 rfl ?_
  refine Z_callS (d' := 2) (C := C) (C' := 2) (Sl := Sl) (S' := 109) (zCal_S gX1_381 nX1_like (by decide) dX1_sleeping_33) pX1_like [_, _, _] rfl rfl (Nat.le_of_ble_eq_true rfl) (by omega) (by omega) (by omega) (c_X1_like (hR.2.2 k hk).2.1 ha h8 (fun j hj => by rw [(hR.2.2 k hk).2.2.2.2 j hj]; exact h01 _) (fun I2 L2 P2 S2 hA gA fA => ?_))
  refine Z_astore_n (lv' := [_, _, _, _]) dX1_sleeping_36 rfl rfl (Nat.le_of_ble_eq_true rfl) ?_
  refine Z_aload_n dX1_sleeping_37 rfl ?_
  refine Z_getR (r := (a + 8)) hA.1 fX1_137_5 dX1_sleeping_38 rfl hA.2.2 ?_
  refine Z_iload_n dX1_sleeping_41 rfl ?_
  refine Z_iconst (nI 1) dX1_sleeping_42 rfl ?_
  refine Z_zast hA.2.1 (zix_nI (by first | omega | (dsimp only; omega)) (by decide)) dX1_sleeping_43 ?_
  refine Z_aload_n dX1_sleeping_44 rfl ?_
  refine Z_areturn dX1_sleeping_45 rfl (by first | exact Or.inl ⟨_, rfl⟩ | exact Or.inr ⟨_, rfl⟩) ?_
  obtain ⟨⟨q0, q1, q2, q3⟩, ⟨q4, q5, q6, q7⟩, q8⟩ := gA
  obtain ⟨⟨p0, p1, p2, p3⟩, ⟨p4, p5, p6, p7⟩, p8⟩ := (hR.2.2 k hk).2.2
  refine kk _ _ _ _ hA ⟨⟨?_, ?_, ?_, ?_⟩, ⟨?_, ?_, ?_, ?_⟩, fun dd hd2 => ?_⟩ (fA.i fun b h1 h2 => zw_n _ _ _ _ h2)
  · rw [zw_n _ _ _ _ (by omega), zw_n _ _ _ _ (by decide)]; exact q0.trans p0
  · rw [zw_n _ _ _ _ (by omega), zw_n _ _ _ _ (by decide)]; exact q1.trans p1
  · rw [zw_n _ _ _ _ (by omega), zw_n _ _ _ _ (by decide)]; exact q2.trans p2
  · rw [zw_n _ _ _ _ (by omega), zw_n _ _ _ _ (by decide)]; exact q3.trans p3
  · rw [zw_n _ _ _ _ (by omega), zw_n _ _ _ _ (by decide)]; exact q4.trans p4
  · rw [zw_n _ _ _ _ (by omega), zw_n _ _ _ _ (by decide)]; exact q5.trans p5
  · rw [zw_n _ _ _ _ (by omega), zw_n _ _ _ _ (by decide)]; exact q6.trans p6
  · rw [zw_n _ _ _ _ (by omega), zw_n _ _ _ _ (by decide)]; exact q7.trans p7
  · rw [zw_a, zw_a, nb1]
    by_cases e9 : dd = d
    · subst e9; rw [zu_s, zu_s]
    · rw [zu_n _ _ _ e9, zu_n _ _ _ (by omega), q8 dd hd2]; exact p8 dd hd2
set_option maxHeartbeats 4000000 in
theorem c_X2_asB {w h : Nat} (hO : wdO S P w) (hH : wdO S P h) (hR : wRw S P I w W no oh) (hz : ∀ a, no ≤ a → a < 6 → P (w + 1) a = none) (h6 : no ≤ 6) (ho : ∀ o, o < no → 6000 ≤ oh o) (hd : w + 8 < h) (hb : h + 8 < 5000) (k : ∀ I2 P2, wdO S P2 h → wRw S P2 I2 h W no oh → (∀ a, no ≤ a → a < 6 → P2 (h + 1) a = none) → P2 h 5 = P w 5 → fW h I I2 → fW h P P2 → (∀ j, j ≠ 5 → P2 h j = P h j) → P2 (h + 2) = P (h + 2) → Q (.inl (some (.ref h))) I2 L P2 S) : Zm G mX2_as 1 C Sl [.ref h, .ref w] I L P S Q := by
  refine Z_entry (lv := [_, _, _]) (Nat.le_of_ble_eq_true rfl) rfl ?_
  refine Z_aload_n dX2_as_0 rfl ?_
  refine Z_aload_n dX2_as_1 rfl ?_
  refine Z_getI hO.1 fX2_29_1 dX2_as_2 rfl ?_
  refine Z_putI hH.1 fX2_29_1 dX2_as_5 rfl rfl rfl ?_
  refine Z_aload_n dX2_as_8 rfl ?_
  refine Z_aload_n dX2_as_9 rfl ?_
  refine Z_getI hO.1 fX2_17_1 dX2_as_10 rfl ?_
  refine Z_re (y := I w 2) (by repeat rw [zw_n _ _ _ _ (by omega)]) ?_
  refine Z_putI hH.1 fX2_17_1 dX2_as_13 rfl rfl rfl ?_
  refine Z_aload_n dX2_as_16 rfl ?_
  refine Z_aload_n dX2_as_17 rfl ?_
  refine Z_getI hO.1 fX2_21_1 dX2_as_18 rfl ?_
  refine Z_re (y := I w 3) (by repeat rw [zw_n _ _ _ _ (by omega)]) ?_
  refine Z_putI hH.1 fX2_21_1 dX2_as_21 rfl rfl rfl ?_
  obtain ⟨r5, hr5⟩ : ∃ x, P w 5 = x := ⟨_, rfl⟩
  rcases r5 with _ | r5
  · refine Z_aload_n dX2_as_24 rfl ?_
    refine Z_aload_n dX2_as_25 rfl ?_
    refine Z_getN hO.1 fX2_32_1 dX2_as_26 rfl hr5 ?_
    refine Z_putN hH.1 fX2_32_1 dX2_as_29 rfl ?_
    refine Z_iconst (nI 0) dX2_as_32 rfl ?_
    refine Z_istore_n (lv' := [_, _, _]) dX2_as_33 rfl rfl (Nat.le_of_ble_eq_true rfl) ?_
    have lp34 : ∀ i, i ≤ 6 → ∀ I2 P2, waI I P w h i I2 P2 → Zj G mX2_as 1 C Sl 34 [.ref h, .ref w, .int (nI i)] [] I2 L P2 S Q := by
      refine zloop (6) (fun i => ∀ I2 P2, waI I P w h i I2 P2 → Zj G mX2_as 1 C Sl 34 [.ref h, .ref w, .int (nI i)] [] I2 L P2 S Q) (fun i hi ih => ?_)
      intro I2 P2 gB
      show Zj _ _ _ _ _ _ _ _ _ _ _ _ _
      have hO := hO.w (P2 := P2) (congrFun (gB.2.2.2.2 w (by omega)) 0) (congrFun (gB.2.2.2.2 w (by omega)) 4) (gB.2.2.2.2 (w + 2) (by omega))
      have hH := hH.w (P2 := P2) (gB.2.1.2.2 0 (by decide)) (gB.2.1.2.2 4 (by decide)) gB.2.1.2.1
      refine Z_iload_n dX2_as_34 rfl ?_
      refine Z_bipush (nI 6) dX2_as_35 rfl ?_
      refine Z_icmpgeN 77 dX2_as_37 rfl (by omega) (by omega) (fun c37 => ?_) (fun c37 => ?_)
      · have ei : i = 6 := by omega
        rw [ei] at gB
        refine Z_aload_n dX2_as_77 rfl ?_
        refine Z_areturn dX2_as_78 rfl (by first | exact Or.inl ⟨_, rfl⟩ | exact Or.inr ⟨_, rfl⟩) ?_
        exact k _ _ hH (gB.fin hR h6 ho hb) (fun a h1 h2 => ((gB.2.2.1 a h2).1).trans (hz a h1 h2)) gB.2.1.1 gB.2.2.2.1 gB.2.2.2.2 gB.2.1.2.2 gB.2.1.2.1
      · refine Z_aload_n dX2_as_40 rfl ?_
        refine Z_getR (r := (h + 1)) hH.1 fX2_11_1 dX2_as_41 rfl hH.2.1.2 ?_
        refine Z_iload_n dX2_as_44 rfl ?_
        refine Z_aload_n dX2_as_45 rfl ?_
        by_cases eno : i < no
        · refine Z_getR (r := (w + 1)) hO.1 fX2_11_1 dX2_as_46 rfl hO.2.1.2 ?_
          refine Z_iload_n dX2_as_49 rfl ?_
          refine Z_aald (r := (oh i)) hO.2.1.1 (by simp [zTys]) rfl (zix_nI (by first | omega | (dsimp only; omega)) (by decide)) ((congrFun (gB.2.2.2.2 (w + 1) (by omega)) i).trans (hR.2.2 i eno).1) dX2_as_50 ?_
          refine Z_aast hH.2.1.1 (by simp [zTys]) (hR.2.2 i (by omega)).2.1.1 zkl5 (zix_nI (by first | omega | (dsimp only; omega)) (by decide)) dX2_as_51 ?_
          have hO := hO.w (P2 := zw P2 (h + 1) i (some (oh i))) (congrFun (zw_n _ _ _ _ (by omega)) 0) (congrFun (zw_n _ _ _ _ (by omega)) 4) (zw_n _ _ _ _ (by omega))
          have hH := hH.w (P2 := zw P2 (h + 1) i (some (oh i))) (congrFun (zw_n _ _ _ _ (by omega)) 0) (congrFun (zw_n _ _ _ _ (by omega)) 4) (zw_n _ _ _ _ (by omega))
          refine Z_aload_n dX2_as_52 rfl ?_
          refine Z_getR (r := (w + 2)) hO.1 fX2_26_1 dX2_as_53 rfl hO.2.2.1.2 ?_
          refine Z_iload_n dX2_as_56 rfl ?_
          refine Z_aald (r := (w + 3 + i)) hO.2.2.1.1 (by simp [zTys]) rfl (zix_nI (by first | omega | (dsimp only; omega)) (by decide)) (hO.2.2.2 i (by omega)).2 dX2_as_57 ?_
          refine Z_iconst (nI 0) dX2_as_58 rfl ?_
          refine Z_aload_n dX2_as_59 rfl ?_
          refine Z_getR (r := (h + 2)) hH.1 fX2_26_1 dX2_as_60 rfl hH.2.2.1.2 ?_
          refine Z_iload_n dX2_as_63 rfl ?_
          refine Z_aald (r := (h + 3 + i)) hH.2.2.1.1 (by simp [zTys]) rfl (zix_nI (by first | omega | (dsimp only; omega)) (by decide)) (hH.2.2.2 i (by omega)).2 dX2_as_64 ?_
          refine Z_iconst (nI 0) dX2_as_65 rfl ?_
          refine Z_bipush (nI 6) dX2_as_66 rfl ?_
          refine Z_copyI (sp := 0) (dp := 0) (n := 6) (hO.2.2.2 i (by omega)).1 (hH.2.2.2 i (by omega)).1 (by simp [zTys]) rfl q1084 q889 q888 q107 (by omega) (by omega) (by omega) (fun _ _ => rfl) (by decide) dX2_as_68 ?_
          refine Z_iincN (a := _) (k := 1) (lv' := [_, _, _]) dX2_as_71 rfl rfl rfl rfl ?_
          refine Z_goto 34 dX2_as_74 rfl ?_
          exact ih (by omega) _ _ (gB.st (hR.2.2 i eno).1 (by omega) hd)
        · refine Z_getR (r := (w + 1)) hO.1 fX2_11_1 dX2_as_46 rfl hO.2.1.2 ?_
          refine Z_iload_n dX2_as_49 rfl ?_
          refine Z_aaldN hO.2.1.1 (by simp [zTys]) rfl (zix_nI (by first | omega | (dsimp only; omega)) (by decide)) ((congrFun (gB.2.2.2.2 (w + 1) (by omega)) i).trans (hz i (by omega) (by omega))) dX2_as_50 ?_
          refine Z_aastN hH.2.1.1 (by simp [zTys]) (zix_nI (by first | omega | (dsimp only; omega)) (by decide)) dX2_as_51 ?_
          have hO := hO.w (P2 := zw P2 (h + 1) i none) (congrFun (zw_n _ _ _ _ (by omega)) 0) (congrFun (zw_n _ _ _ _ (by omega)) 4) (zw_n _ _ _ _ (by omega))
          have hH := hH.w (P2 := zw P2 (h + 1) i none) (congrFun (zw_n _ _ _ _ (by omega)) 0) (congrFun (zw_n _ _ _ _ (by omega)) 4) (zw_n _ _ _ _ (by omega))
          refine Z_aload_n dX2_as_52 rfl ?_
          refine Z_getR (r := (w + 2)) hO.1 fX2_26_1 dX2_as_53 rfl hO.2.2.1.2 ?_
          refine Z_iload_n dX2_as_56 rfl ?_
          refine Z_aald (r := (w + 3 + i)) hO.2.2.1.1 (by simp [zTys]) rfl (zix_nI (by first | omega | (dsimp only; omega)) (by decide)) (hO.2.2.2 i (by omega)).2 dX2_as_57 ?_
          refine Z_iconst (nI 0) dX2_as_58 rfl ?_
          refine Z_aload_n dX2_as_59 rfl ?_
          refine Z_getR (r := (h + 2)) hH.1 fX2_26_1 dX2_as_60 rfl hH.2.2.1.2 ?_
          refine Z_iload_n dX2_as_63 rfl ?_
          refine Z_aald (r := (h + 3 + i)) hH.2.2.1.1 (by simp [zTys]) rfl (zix_nI (by first | omega | (dsimp only; omega)) (by decide)) (hH.2.2.2 i (by omega)).2 dX2_as_64 ?_
          refine Z_iconst (nI 0) dX2_as_65 rfl ?_
          refine Z_bipush (nI 6) dX2_as_66 rfl ?_
          refine Z_copyI (sp := 0) (dp := 0) (n := 6) (hO.2.2.2 i (by omega)).1 (hH.2.2.2 i (by omega)).1 (by simp [zTys]) rfl q1084 q889 q888 q107 (by omega) (by omega) (by omega) (fun _ _ => rfl) (by decide) dX2_as_68 ?_
          refine Z_iincN (a := _) (k := 1) (lv' := [_, _, _]) dX2_as_71 rfl rfl rfl rfl ?_
          refine Z_goto 34 dX2_as_74 rfl ?_
          exact ih (by omega) _ _ (gB.st (hz i (by omega) (by omega)) (by omega) hd)
    exact lp34 0 (by omega) _ _ (waI.z hr5)
  · refine Z_aload_n dX2_as_24 rfl ?_
    refine Z_aload_n dX2_as_25 rfl ?_
    refine Z_getR (r := r5) hO.1 fX2_32_1 dX2_as_26 rfl hr5 ?_
    refine Z_putR hH.1 fX2_32_1 dX2_as_29 rfl ?_
    refine Z_iconst (nI 0) dX2_as_32 rfl ?_
    refine Z_istore_n (lv' := [_, _, _]) dX2_as_33 rfl rfl (Nat.le_of_ble_eq_true rfl) ?_
    have lp34 : ∀ i, i ≤ 6 → ∀ I2 P2, waI I P w h i I2 P2 → Zj G mX2_as 1 C Sl 34 [.ref h, .ref w, .int (nI i)] [] I2 L P2 S Q := by
      refine zloop (6) (fun i => ∀ I2 P2, waI I P w h i I2 P2 → Zj G mX2_as 1 C Sl 34 [.ref h, .ref w, .int (nI i)] [] I2 L P2 S Q) (fun i hi ih => ?_)
      intro I2 P2 gB
      show Zj _ _ _ _ _ _ _ _ _ _ _ _ _
      have hO := hO.w (P2 := P2) (congrFun (gB.2.2.2.2 w (by omega)) 0) (congrFun (gB.2.2.2.2 w (by omega)) 4) (gB.2.2.2.2 (w + 2) (by omega))
      have hH := hH.w (P2 := P2) (gB.2.1.2.2 0 (by decide)) (gB.2.1.2.2 4 (by decide)) gB.2.1.2.1
      refine Z_iload_n dX2_as_34 rfl ?_
      refine Z_bipush (nI 6) dX2_as_35 rfl ?_
      refine Z_icmpgeN 77 dX2_as_37 rfl (by omega) (by omega) (fun c37 => ?_) (fun c37 => ?_)
      · have ei : i = 6 := by omega
        rw [ei] at gB
        refine Z_aload_n dX2_as_77 rfl ?_
        refine Z_areturn dX2_as_78 rfl (by first | exact Or.inl ⟨_, rfl⟩ | exact Or.inr ⟨_, rfl⟩) ?_
        exact k _ _ hH (gB.fin hR h6 ho hb) (fun a h1 h2 => ((gB.2.2.1 a h2).1).trans (hz a h1 h2)) gB.2.1.1 gB.2.2.2.1 gB.2.2.2.2 gB.2.1.2.2 gB.2.1.2.1
      · refine Z_aload_n dX2_as_40 rfl ?_
        refine Z_getR (r := (h + 1)) hH.1 fX2_11_1 dX2_as_41 rfl hH.2.1.2 ?_
        refine Z_iload_n dX2_as_44 rfl ?_
        refine Z_aload_n dX2_as_45 rfl ?_
        by_cases eno : i < no
        · refine Z_getR (r := (w + 1)) hO.1 fX2_11_1 dX2_as_46 rfl hO.2.1.2 ?_
          refine Z_iload_n dX2_as_49 rfl ?_
          refine Z_aald (r := (oh i)) hO.2.1.1 (by simp [zTys]) rfl (zix_nI (by first | omega | (dsimp only; omega)) (by decide)) ((congrFun (gB.2.2.2.2 (w + 1) (by omega)) i).trans (hR.2.2 i eno).1) dX2_as_50 ?_
          refine Z_aast hH.2.1.1 (by simp [zTys]) (hR.2.2 i (by omega)).2.1.1 zkl5 (zix_nI (by first | omega | (dsimp only; omega)) (by decide)) dX2_as_51 ?_
          have hO := hO.w (P2 := zw P2 (h + 1) i (some (oh i))) (congrFun (zw_n _ _ _ _ (by omega)) 0) (congrFun (zw_n _ _ _ _ (by omega)) 4) (zw_n _ _ _ _ (by omega))
          have hH := hH.w (P2 := zw P2 (h + 1) i (some (oh i))) (congrFun (zw_n _ _ _ _ (by omega)) 0) (congrFun (zw_n _ _ _ _ (by omega)) 4) (zw_n _ _ _ _ (by omega))
          refine Z_aload_n dX2_as_52 rfl ?_
          refine Z_getR (r := (w + 2)) hO.1 fX2_26_1 dX2_as_53 rfl hO.2.2.1.2 ?_
          refine Z_iload_n dX2_as_56 rfl ?_
          refine Z_aald (r := (w + 3 + i)) hO.2.2.1.1 (by simp [zTys]) rfl (zix_nI (by first | omega | (dsimp only; omega)) (by decide)) (hO.2.2.2 i (by omega)).2 dX2_as_57 ?_
          refine Z_iconst (nI 0) dX2_as_58 rfl ?_
          refine Z_aload_n dX2_as_59 rfl ?_
          refine Z_getR (r := (h + 2)) hH.1 fX2_26_1 dX2_as_60 rfl hH.2.2.1.2 ?_
          refine Z_iload_n dX2_as_63 rfl ?_
          refine Z_aald (r := (h + 3 + i)) hH.2.2.1.1 (by simp [zTys]) rfl (zix_nI (by first | omega | (dsimp only; omega)) (by decide)) (hH.2.2.2 i (by omega)).2 dX2_as_64 ?_
          refine Z_iconst (nI 0) dX2_as_65 rfl ?_
          refine Z_bipush (nI 6) dX2_as_66 rfl ?_
          refine Z_copyI (sp := 0) (dp := 0) (n := 6) (hO.2.2.2 i (by omega)).1 (hH.2.2.2 i (by omega)).1 (by simp [zTys]) rfl q1084 q889 q888 q107 (by omega) (by omega) (by omega) (fun _ _ => rfl) (by decide) dX2_as_68 ?_
          refine Z_iincN (a := _) (k := 1) (lv' := [_, _, _]) dX2_as_71 rfl rfl rfl rfl ?_
          refine Z_goto 34 dX2_as_74 rfl ?_
          exact ih (by omega) _ _ (gB.st (hR.2.2 i eno).1 (by omega) hd)
        · refine Z_getR (r := (w + 1)) hO.1 fX2_11_1 dX2_as_46 rfl hO.2.1.2 ?_
          refine Z_iload_n dX2_as_49 rfl ?_
          refine Z_aaldN hO.2.1.1 (by simp [zTys]) rfl (zix_nI (by first | omega | (dsimp only; omega)) (by decide)) ((congrFun (gB.2.2.2.2 (w + 1) (by omega)) i).trans (hz i (by omega) (by omega))) dX2_as_50 ?_
          refine Z_aastN hH.2.1.1 (by simp [zTys]) (zix_nI (by first | omega | (dsimp only; omega)) (by decide)) dX2_as_51 ?_
          have hO := hO.w (P2 := zw P2 (h + 1) i none) (congrFun (zw_n _ _ _ _ (by omega)) 0) (congrFun (zw_n _ _ _ _ (by omega)) 4) (zw_n _ _ _ _ (by omega))
          have hH := hH.w (P2 := zw P2 (h + 1) i none) (congrFun (zw_n _ _ _ _ (by omega)) 0) (congrFun (zw_n _ _ _ _ (by omega)) 4) (zw_n _ _ _ _ (by omega))
          refine Z_aload_n dX2_as_52 rfl ?_
          refine Z_getR (r := (w + 2)) hO.1 fX2_26_1 dX2_as_53 rfl hO.2.2.1.2 ?_
          refine Z_iload_n dX2_as_56 rfl ?_
          refine Z_aald (r := (w + 3 + i)) hO.2.2.1.1 (by simp [zTys]) rfl (zix_nI (by first | omega | (dsimp only; omega)) (by decide)) (hO.2.2.2 i (by omega)).2 dX2_as_57 ?_
          refine Z_iconst (nI 0) dX2_as_58 rfl ?_
          refine Z_aload_n dX2_as_59 rfl ?_
          refine Z_getR (r := (h + 2)) hH.1 fX2_26_1 dX2_as_60 rfl hH.2.2.1.2 ?_
          refine Z_iload_n dX2_as_63 rfl ?_
          refine Z_aald (r := (h + 3 + i)) hH.2.2.1.1 (by simp [zTys]) rfl (zix_nI (by first | omega | (dsimp only; omega)) (by decide)) (hH.2.2.2 i (by omega)).2 dX2_as_64 ?_
          refine Z_iconst (nI 0) dX2_as_65 rfl ?_
          refine Z_bipush (nI 6) dX2_as_66 rfl ?_
          refine Z_copyI (sp := 0) (dp := 0) (n := 6) (hO.2.2.2 i (by omega)).1 (hH.2.2.2 i (by omega)).1 (by simp [zTys]) rfl q1084 q889 q888 q107 (by omega) (by omega) (by omega) (fun _ _ => rfl) (by decide) dX2_as_68 ?_
          refine Z_iincN (a := _) (k := 1) (lv' := [_, _, _]) dX2_as_71 rfl rfl rfl rfl ?_
          refine Z_goto 34 dX2_as_74 rfl ?_
          exact ih (by omega) _ _ (gB.st (hz i (by omega) (by omega)) (by omega) hd)
    exact lp34 0 (by omega) _ _ (waI.z hr5)
end X16C
