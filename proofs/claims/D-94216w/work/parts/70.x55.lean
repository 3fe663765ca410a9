set_option maxRecDepth 100000
/-! THE COMPONENT, part 55: the soonest way of a piece -/
section X55C
variable {G : zG} {d C Sl : Nat} {I D W : zI} {R : List Int64} {L : zL} {P : zR} {S : zT} {Q : zQ} {no n np : Nat} {s : zS} {oh ph : Nat → Nat} {ro : Option (List Nat)} {I0 : zI} {L0 : zL} {P0 : zR} {S0 : zT} {a p h0 m en NN born len b bK bc : Nat} {bv : Nat → Int32}
theorem xO.eqA {j : Nat} {v : Option Nat} (g : xO S P) (ha : 7000 ≤ a) : xO S (zw P a j v) := by
  obtain ⟨x1, x2, x3, x4, x5, x6, x7, x8⟩ := g
  have hP : ∀ b, b < 7000 → zw P a j v b = P b := fun b hb => zw_n _ _ _ _ (by omega)
  exact ⟨x1, x2, fun k q hq => ⟨(x3 k q hq).1, by rw [hP 100 (by decide)]; exact (x3 k q hq).2⟩, by rw [hP 100 (by decide)]; exact x4, x5.eq (fun _ _ _ => rfl) (by rw [hP 200 (by decide)]) (by rw [hP 200 (by decide)]) (hP _ (by decide)), x6.eq (fun _ _ _ => rfl) (by rw [hP 220 (by decide)]) (by rw [hP 220 (by decide)]) (hP _ (by decide)), x7.eq (fun _ _ _ _ => rfl) (hP _ (by decide)), x8.eq (fun _ _ _ _ => rfl) (hP _ (by decide))⟩
theorem pcR.eqA {j : Nat} {v : Option Nat} (g : pcR S P I W n ph) (ha : 110 < a) : pcR S (zw P a j v) I W n ph := fun x hx => ⟨by rw [zw_n _ _ _ _ (by omega)]; exact (g x hx).1, (g x hx).2⟩
/-- the state of a search as it begins -/
theorem gS.mk {ci : Nat} {I2 : zI} {L2 : zL} {P2 : zR} {S2 : zT} (h9 : ∃ N, 7000 ≤ N ∧ ∀ x, N ≤ x → S0 x = none) (ha7 : 7000 ≤ a) (hs : S0 a = none) (hs1 : S0 (a + 1) = none) (f : ∀ y, y ≠ a → y ≠ a + 1 → (I2 y = I0 y ∧ L2 y = L0 y) ∧ P2 y = P0 y ∧ S2 y = S0 y) (s : S2 a = some (.inl ci) ∧ S2 (a + 1) = some (.inr (.int, m + 1))) (q : P2 a 0 = some (ph p) ∧ P2 a 2 = some (a + 1) ∧ P2 a 5 = some 100) (i1 : I2 a 1 = nI h0 ∧ I2 a 3 = bv NN) (i6 : ci = 15 → I2 a 6 = nI en ∧ P2 a 7 = some 100) : gS ci ph I0 L0 P0 S0 a p h0 m en bv NN born I2 L2 P2 S2 NN 0 0 := by
  have ne : ∀ x, (x < 7000 ∨ S0 x ≠ none) → x ≠ a ∧ x ≠ a + 1 := fun x hx => ⟨fun q => by rw [q] at hx; exact hx.elim (fun h => by omega) (fun h => h hs), fun q => by rw [q] at hx; exact hx.elim (fun h => by omega) (fun h => h hs1)⟩
  obtain ⟨N, n1, n2⟩ := h9
  refine ⟨⟨⟨fun x hx => ?_, ⟨fun k _ => by rw [(f 100 (by omega) (by omega)).1.1], fun k _ => by rw [(f 220 (by omega) (by omega)).2.1], (f 222 (by omega) (by omega)).2.1, (f 270 (by omega) (by omega)).2.1⟩, max N (a + 2), by omega, fun x hx => by rw [(f x (by omega) (by omega)).2.2]; exact n2 x (by omega)⟩, (f 100 (by omega) (by omega)).1.1, (f 302 (by omega) (by omega)).1.2⟩, ⟨⟨ha7, hs, hs1⟩, s⟩, ⟨q, i1.1, i6⟩, i1.2, fun q => absurd q (Nat.lt_irrefl _)⟩
  obtain ⟨n3, n4⟩ := ne x hx
  obtain ⟨⟨f1, f2⟩, f3, f4⟩ := f x n3 n4
  exact ⟨f4, fun _ => ⟨f3, fun _ => f1, fun _ => f2⟩⟩
theorem lsN_b (hk : knf W no) : ∀ a b h, a < no → b < no → lsN W a b h ≤ 22 := fun a b h ha hb => (lst_b hk ha hb).2
/-- what the search says -/
noncomputable def sonF (W : zI) (p h0 most no : Nat) : Option (Nat × Nat × Nat) := @dite _ (∃ x : Nat × Nat × Nat, x.1 < 2399 - h0 ∧ soon W p h0 most no x.1 x.2.1 x.2.2) (Classical.propDecidable _) (fun h => some h.choose) (fun _ => none)
theorem sonF_s {most i n c : Nat} (h : soon W p h0 most no i n c) (hi : i < 2399 - h0) : sonF W p h0 most no = some (i, n, c) := by
  have e : ∃ x : Nat × Nat × Nat, x.1 < 2399 - h0 ∧ soon W p h0 most no x.1 x.2.1 x.2.2 := ⟨(i, n, c), hi, h⟩
  unfold sonF
  rw [dif_pos e]
  obtain ⟨a1, a2⟩ := e.choose_spec
  obtain ⟨e1, e2, e3⟩ := soon_u a2 h
  rw [show e.choose = (i, n, c) from Prod.ext e1 (Prod.ext e2 e3)]
theorem sonF_n {most : Nat} (h : ∀ i, i < 2399 - h0 → ∀ n c, ¬ fin W p h0 most no i n c) : sonF W p h0 most no = none := by
  unfold sonF
  rw [dif_neg (fun ⟨x, h1, h2⟩ => h _ h1 _ _ h2.1)]
def sonV (h0 : Nat) (x : Option (Nat × Nat × Nat)) : Int32 := match x with
  | none => -1
  | some y => nI (h0 + y.1 + 1)
/-- the best of all rows, as the search says it -/
theorem bsI_F (h : bsI no born NN (wvS W p h0 len born NN) (m + 1) 0 b bK bc) (hNN : NN = 2399 - h0) (h6 : no ≤ 6) (hb : W 20 p = nI born) (hm : m ≤ 3) (hbn : born < no) (hl : W 18 p = nI len) (hl0 : 0 < len) (hl6 : len ≤ 60) (hkn : knf W no) : (b = NN ∧ sonF W p h0 m no = none) ∨ (b < NN ∧ bK ≤ 3 ∧ sonF W p h0 m no = some (b, bK, bc)) := by
  rcases bsI_soon h h6 (by rw [hb, nI_clamp (by omega)]) hm hbn (by rw [hl, nI_clamp (by omega)]) hl0 hl6 (lsN_b hkn) with ⟨a1, a2⟩ | ⟨a1, ⟨a2, a3⟩, a4⟩
  · exact Or.inl ⟨a1, sonF_n (fun i hi => a2 i (by omega))⟩
  · exact Or.inr ⟨a1, by omega, sonF_s a4 (by omega)⟩
theorem bvS_V (hNN : NN = 2399 - h0) {x : Option (Nat × Nat × Nat)} (hx : (b = NN ∧ x = none) ∨ (b < NN ∧ bK ≤ 3 ∧ x = some (b, bK, bc))) : bvS h0 NN b = sonV h0 x := by
  rcases hx with ⟨rfl, rfl⟩ | ⟨q, -, rfl⟩
  · exact if_pos rfl
  · exact if_neg (by omega)
set_option maxHeartbeats 4000000 in
theorem c_X15_init14 (hx : xO S P) (hPc : pcR S P I W n ph) (hp : p < n) (hn8 : n ≤ 8) (hb : W 20 p = nI born) (hph : ph p < 7000) (hS : S a = some (.inl 14)) (ha : S (a + 1) = none) (ha7 : 7000 ≤ a) (hm : m ≤ 3) (k : ∀ I2 L2 P2 S2, (∀ y, y ≠ a → y ≠ a + 1 → (I2 y = I y ∧ L2 y = L y) ∧ P2 y = P y ∧ S2 y = S y) → (S2 a = some (.inl 14) ∧ S2 (a + 1) = some (.inr (.int, m + 1))) → (P2 a 0 = some (ph p) ∧ P2 a 2 = some (a + 1) ∧ P2 a 5 = some 100) → (I2 a 1 = nI h0 ∧ I2 a 3 = -1 ∧ I2 (a + 1) 0 = nI born) → (∀ j, 5 < j → I2 a j = I a j ∧ P2 a j = P a j) → Q (.inl none) I2 L2 P2 S2) : Zm G mX15_init 1 (C + 1) (Sl + 4) [.ref a, .ref 100, .int (nI p), .int (nI h0), .int (nI m)] I L P S Q := by
  refine Z_entry (lv := [_, _, _, _, _]) (Nat.le_of_ble_eq_true rfl) rfl ?_
  refine Z_aload_n dX15_init_0 rfl ?_
  refine Z_aload_n dX15_init_1 rfl ?_
  refine Z_putFR hS wX15_3_14 rfl dX15_init_2 rfl ?_
  refine Z_aload_n dX15_init_5 rfl ?_
  refine Z_objInit q929 dX15_init_6 (Nat.le_of_ble_eq_true rfl) ?_
  refine Z_aload_n dX15_init_9 rfl ?_
  refine Z_iconst (-1) dX15_init_10 rfl ?_
  refine Z_putI hS fX15_15_14 dX15_init_11 rfl rfl rfl ?_
  refine Z_aload_n dX15_init_14 rfl ?_
  refine Z_aload_n dX15_init_15 rfl ?_
  refine Z_getRN (r := 110) hx.1 fX15_19_0 dX15_init_16 rfl ((congrFun (zw_n _ _ _ _ (by omega)) _).trans (hx.2.2.1 0 _ rfl).2) ?_
  refine Z_iload_n dX15_init_19 rfl ?_
  refine Z_aald (r := (ph p)) (hx.2.2.1 0 _ rfl).1 (by simp [zTys]) rfl (zix_nI (by dsimp only; omega) (by decide)) ((congrFun (zw_n _ _ _ _ (by omega)) _).trans (hPc p hp).1) dX15_init_20 ?_
  refine Z_putFR hS wX15_23_14 rfl dX15_init_21 rfl ?_
  refine Z_aload_n dX15_init_24 rfl ?_
  refine Z_iload_n dX15_init_25 rfl ?_
  refine Z_putFI hS wX15_27_14 rfl dX15_init_26 rfl rfl rfl ?_
  refine Z_aload_n dX15_init_29 rfl ?_
  refine Z_iload dX15_init_30 rfl ?_
  refine Z_iconst (nI 1) dX15_init_32 rfl ?_
  refine Z_iaddN dX15_init_33 ?_
  refine Zj.less (C := C + 1) (Sl := Sl + (m + 1)) ?_ (Nat.le_refl _) (by omega) (by omega)
  refine Z_newa (N := m + 1) (a + 1) ha .int (by simp [zTys, newarray.typeOf]) rfl q165 (nI_pos (by omega)) (nI_clamp (by omega)) (by show (m + 1) * 4 ≤ 536870912; omega) dX15_init_34 ?_
  have hS2 : (zu S (a + 1) (some (.inr (newarray.typeOf .int, m + 1)))) a = some (.inl 14) := (zu_n _ _ _ (by omega)).trans hS
  have hSp : (zu S (a + 1) (some (.inr (newarray.typeOf .int, m + 1)))) (ph p) = some (.inl 6) := (zu_n _ _ _ (by omega)).trans (hPc p hp).2.1
  refine Z_putFR hS2 wX15_30_14 rfl dX15_init_36 rfl ?_
  refine Z_aload_n dX15_init_39 rfl ?_
  refine Z_getR (r := (a + 1)) hS2 fX15_30_14 dX15_init_40 rfl (by simp [zw, zu]) ?_
  refine Z_iconst (nI 0) dX15_init_43 rfl ?_
  refine Z_aload_n dX15_init_44 rfl ?_
  refine Z_getR (r := (ph p)) hS2 fX15_23_14 dX15_init_45 rfl (by simp [zw, zu]) ?_
  refine Z_getI hSp fX15_34_6 dX15_init_48 rfl ?_
  refine Z_re (y := nI (born)) ((congrFun ((zu_n _ _ _ (by omega)).trans ((zw_n _ _ _ _ (by omega)).trans (zw_n _ _ _ _ (by omega)))) 5).trans ((hPc p hp).2.2.2.2.2.trans hb)) ?_
  refine Z_iast (zu_s _ _ _) (zix_nI (by omega) (by omega)) dX15_init_51 ?_
  refine Z_return dX15_init_52 rfl ?_
  exact k _ _ _ _ (fun y h1 h2 => ⟨⟨by simp [zw, zu, h1, h2], zu_n _ _ _ h2⟩, by simp [zw, zu, h1, h2], zu_n _ _ _ h2⟩) ⟨hS2, zu_s _ _ _⟩ ⟨by simp [zw, zu], by simp [zw, zu], by simp [zw, zu]⟩ ⟨by simp [zw, zu], by simp [zw, zu], by simp [zw, zu]⟩ (fun j hj => ⟨by simp [zw, zu, show ¬ j = 3 by omega, show ¬ j = 1 by omega], by simp [zw, zu, show ¬ j = 0 by omega, show ¬ j = 2 by omega, show ¬ j = 5 by omega]⟩)
set_option maxHeartbeats 4000000 in
theorem c_X16_init (hx : xO S P) (hPc : pcR S P I W n ph) (hp : p < n) (hn8 : n ≤ 8) (hb : W 20 p = nI born) (hph : ph p < 7000) (hS : S a = some (.inl 14)) (ha : S (a + 1) = none) (ha7 : 7000 ≤ a) (hm : m ≤ 3) (k : ∀ I2 L2 P2 S2, (∀ y, y ≠ a → y ≠ a + 1 → (I2 y = I y ∧ L2 y = L y) ∧ P2 y = P y ∧ S2 y = S y) → (S2 a = some (.inl 14) ∧ S2 (a + 1) = some (.inr (.int, m + 1))) → (P2 a 0 = some (ph p) ∧ P2 a 2 = some (a + 1) ∧ P2 a 5 = some 100) → (I2 a 1 = nI h0 ∧ I2 a 3 = -1 ∧ I2 (a + 1) 0 = nI born) → (∀ j, 5 < j → I2 a j = I a j) → Q (.inl none) I2 L2 P2 S2) : Zm G mX16_init 2 (C + 1) (Sl + 4) [.ref a, .ref 100, .int (nI p), .int (nI h0), .int (nI m)] I L P S Q := by
  refine Z_entry (lv := [_, _, _, _, _]) (Nat.le_of_ble_eq_true rfl) rfl ?_
  refine Z_aload_n dX16_init_0 rfl ?_
  refine Z_aload_n dX16_init_1 rfl ?_
  refine Z_putFR hS wX16_3_14 rfl dX16_init_2 rfl ?_
  refine Z_aload_n dX16_init_5 rfl ?_
  refine Z_aload_n dX16_init_6 rfl ?_
  refine Z_iload_n dX16_init_7 rfl ?_
  refine Z_iload_n dX16_init_8 rfl ?_
  refine Z_iload dX16_init_9 rfl ?_
  refine Z_call (d' := 1) (C := C) (C' := (0 + 1)) (Sl := Sl) (S' := (0 + 4)) (zCal_I q928 q108 q926 q927 rfl nX15_init (by decide) dX16_init_11) pX15_init hS zkl14 [_, _, _, _] rfl rfl (Nat.le_of_ble_eq_true rfl) (by omega) (by omega) (by omega) (c_X15_init14 (hx.eqA (a := a) (v := some 100) ha7) (hPc.eqA (v := some 100) (by omega)) hp hn8 hb hph hS ha ha7 hm (fun I2 L2 P2 S2 f s q i1 i2 => ?_))
  refine Z_return dX16_init_14 rfl ?_
  exact k _ _ _ _ (fun y h1 h2 => ⟨(f y h1 h2).1, (f y h1 h2).2.1.trans (zw_n _ _ _ _ h1), (f y h1 h2).2.2⟩) s q i1 (fun j hj => (i2 j hj).1)
theorem xO.nwA {f3 : Nat → Option Nat} {x : Option (Nat ⊕ (FieldType × Nat))} (g : xO S P) (ha : 7000 ≤ a) (hs : S a = none) : xO (zu S a x) (zu P a f3) := by
  obtain ⟨x1, x2, x3, x4, x5, x6, x7, x8⟩ := g
  have hP : ∀ b, b < 7000 → zu P a f3 b = P b := fun b hb => zu_n _ _ _ (by omega)
  have hS : ∀ b, b < 7000 → zu S a x b = S b := fun b hb => zu_n _ _ _ (by omega)
  exact ⟨(hS _ (by decide)).trans x1, (hS _ (by decide)).trans x2, fun k q hq => ⟨(hS _ (by have := xAr_lt hq; omega)).trans (x3 k q hq).1, by rw [hP 100 (by decide)]; exact (x3 k q hq).2⟩, by rw [hP 100 (by decide)]; exact x4, x5.eq (fun b _ _ => hS b (by omega)) (by rw [hP 200 (by decide)]) (by rw [hP 200 (by decide)]) (hP _ (by decide)), x6.eq (fun b _ _ => hS b (by omega)) (by rw [hP 220 (by decide)]) (by rw [hP 220 (by decide)]) (hP _ (by decide)), x7.eq (fun b _ _ _ => hS b (by omega)) (hP _ (by decide)), x8.eq (fun b _ _ _ => hS b (by omega)) (hP _ (by decide))⟩
theorem pcR.nwA {f : Nat → Int32} {f3 : Nat → Option Nat} {x : Option (Nat ⊕ (FieldType × Nat))} (g : pcR S P I W n ph) (h : 110 < a) (ha : ∀ y, y < n → ph y ≠ a) : pcR (zu S a x) (zu P a f3) (zu I a f) W n ph := fun y hy => by
  have := ha y hy
  obtain ⟨g1, g2, g3⟩ := g y hy
  exact ⟨by rw [zu_n _ _ _ (by omega)]; exact g1, (zu_n _ _ _ this).trans g2, by rw [zu_n _ _ _ this]; exact g3⟩
set_option maxHeartbeats 4000000 in
theorem c_X1_soonest (hX0 : xR D R no n np ro oh ph I0 L0 P0 S0) (hkn : knf (wld D) no) (hp : p < n) (hm : m ≤ 3) (hh : h0 ≤ 2399) (k : ∀ I2 L2 P2 S2, fX I0 L0 P0 S0 I2 L2 P2 S2 → I2 100 = I0 100 → L2 302 = L0 302 → Q (.inl (some (.int (sonV h0 (sonF (wld D) p h0 m no))))) I2 L2 P2 S2) : Zm G mX1_soonest 12 (C + 520) (Sl + 2090) [.ref 100, .int (nI p), .int (nI h0), .int (nI m)] I0 L0 P0 S0 Q := by
  obtain ⟨N0, hN0, hN0b⟩ := hX0.2.2.2.2.1.2.2
  have e0 := hX0.1
  have hx := e0.x
  have hw0 := e0.hw
  have h60 := hw0.o6
  have hn80 := hw0.n8
  obtain ⟨born, hbn, hb20⟩ := hw0.2.2.1 p hp
  obtain ⟨-, ⟨len, hl0, hl6, hl⟩, -⟩ := e0.hx p hp
  obtain ⟨NN, hNN⟩ : ∃ NN, NN = 2399 - h0 := ⟨_, rfl⟩
  have hph7 : ph p < 7000 := by rw [hX0.2.2.2.2.2.2 p]; omega
  have s65 : s6 (m + 1) ≤ 259 := s6_le (show m + 1 ≤ 4 by omega)
  refine Z_entry (lv := [_, _, _, _, _]) (Nat.le_of_ble_eq_true rfl) rfl ?_
  refine Zj.less (C := C + 2 * s6 (m + 1) + (0 + 1) + 1) (Sl := Sl + 8 * s6 (m + 1) + (0 + 4) + 7) ?_ (Nat.le_refl _) (by omega) (by omega)
  refine Z_new N0 (hN0b _ (Nat.le_refl _)) wX1_303 dX1_soonest_0 ?_
  refine Z_dup dX1_soonest_3 rfl ?_
  refine Z_aload_n dX1_soonest_4 rfl ?_
  refine Z_iload_n dX1_soonest_5 rfl ?_
  refine Z_iload_n dX1_soonest_6 rfl ?_
  refine Z_iload_n dX1_soonest_7 rfl ?_
  refine Z_call (d' := 2) (C := (C + 2 * s6 (m + 1))) (C' := (0 + 1)) (Sl := (Sl + 8 * s6 (m + 1))) (S' := (0 + 4)) (zCal_I q925 q109 q923 q924 rfl nX16_init (by decide) dX1_soonest_8) pX16_init (by simp [zu]) zkl14 [_, _, _, _] rfl rfl (Nat.le_of_ble_eq_true rfl) (by omega) (by omega) (by omega) (c_X16_init (a := N0) (hx.nwA hN0 (hN0b _ (Nat.le_refl _))) (e0.pc.nwA (by omega) (fun y hy => by rw [hX0.2.2.2.2.2.2 y]; omega)) hp hn80 hb20 hph7 (zu_s _ _ _) ((zu_n _ _ _ (by omega)).trans (hN0b _ (by omega))) hN0 hm (fun I2 L2 P2 S2 f s q i1 i2 => ?_))
  have hG1 : gS 14 ph I0 L0 P0 S0 N0 p h0 m 0 (bvS h0 NN) NN born I2 L2 P2 S2 NN 0 0 := gS.mk ⟨N0, hN0, hN0b⟩ hN0 (hN0b _ (Nat.le_refl _)) (hN0b _ (by omega)) (fun y h1 h2 => ⟨⟨(f y h1 h2).1.1.trans (zu_n _ _ _ h1), (f y h1 h2).1.2.trans (zu_n _ _ _ h1)⟩, (f y h1 h2).2.1.trans (zu_n _ _ _ h1), (f y h1 h2).2.2.trans (zu_n _ _ _ h1)⟩) s q ⟨i1.1, by rw [i1.2.1]; exact (if_pos rfl).symm⟩ (fun q => absurd q (by decide))
  refine Z_astore (lv' := [_, _, _, _, _]) dX1_soonest_11 rfl rfl (Nat.le_of_ble_eq_true rfl) ?_
  refine Z_aload dX1_soonest_13 rfl ?_
  refine Z_call (d' := 11) (C := C) (C' := (0 + 2 * s6 (m + 1))) (Sl := Sl) (S' := (0 + 8 * s6 (m + 1))) (zCal_U uX1_308_14 rfl nX15_all (by decide) dX1_soonest_15) pX15_all s.1 zkl14 [] rfl rfl (Nat.le_of_ble_eq_true rfl) (by omega) (by omega) (by omega) (c_X15_all14 hX0 hp hm hbn hkn hl hl0 hl6 hh hNN hG1 i1.2.2 (fun I3 L3 P3 S3 b bK bc hG3 hB => ?_))
  have hY := bsI_F hB hNN h60 hb20 hm hbn hl hl0 hl6 hkn
  refine Z_aload dX1_soonest_18 rfl ?_
  refine Z_getI hG3.2.1.2.1 fX1_313_14 dX1_soonest_20 rfl ?_
  refine Z_re (hG3.2.2.2.1.trans (bvS_V hNN hY)) ?_
  refine Z_ireturn dX1_soonest_23 rfl rfl ?_
  exact k _ _ _ _ hG3.1.1 hG3.1.2.1 hG3.1.2.2
noncomputable def fOne (D : zI) (R : List Int64) (p h k : Int32) : zO := if (pB D p && rB h 0 2399 && rB k 0 3) = true then (match sonF (wld D) p.toNatClampNeg h.toNatClampNeg k.toNatClampNeg (noD D) with
    | none => (-2, D, R)
    | some x => (nI (h.toNatClampNeg + x.1 + 1), D, rowT x.2.1 x.2.2 x.2.1))
  else (-1, D, R)
/-- how little may be lost: from f on downward -/
def edL (g : Nat → Bool) : Nat → Nat
  | 0 => 0
  | f + 1 => if g f = true then edL g f else f + 1
def edV (f : Nat) : Int32 := if 20 < f then -2 else nI f
noncomputable def edG (D : zI) (p h0 m no : Nat) (w : Int32) (u : Nat) : Bool := decide (w ≤ sonV h0 (sonF (wld (zw D 0 14 (nI u))) p h0 m no))
noncomputable def fEdge (D : zI) (R : List Int64) (p h k : Int32) : zO := if (pB D p && rB h 0 2399 && rB k 1 3) = true then (match sonF (wld D) p.toNatClampNeg h.toNatClampNeg 0 (noD D) with
    | none => (-1, D, R)
    | some x => (edV (edL (edG D p.toNatClampNeg h.toNatClampNeg k.toNatClampNeg (noD D) (nI (h.toNatClampNeg + x.1 + 1))) 21), D, [(nI (h.toNatClampNeg + x.1 + 1)).toInt64]))
  else (-1, D, R)
theorem sonF_b {most : Nat} {x : Nat × Nat × Nat} (h : sonF W p h0 most no = some x) : x.1 < 2399 - h0 := by
  unfold sonF at h
  by_cases e : ∃ x : Nat × Nat × Nat, x.1 < 2399 - h0 ∧ soon W p h0 most no x.1 x.2.1 x.2.2
  · rw [dif_pos e] at h
    cases h
    exact e.choose_spec.1
  · rw [dif_neg e] at h
    cases h
theorem zw_self {A : zI} {x k : Nat} : zw A x k (A x k) = A := by
  funext y j
  by_cases e : y = x
  · subst e
    rw [zw_a]
    by_cases q : j = k
    · subst q; rw [zu_s]
    · rw [zu_n _ _ _ q]
  · rw [zw_n _ _ _ _ e]
theorem knf_z {u : Nat} (h : knf (wld D) no) (hu : u ≤ 20) : knf (wld (zw D 0 14 (nI u))) no := ⟨⟨u, hu, by rw [wld_is rfl]; exact zw_s _ _ _ _⟩, fun a b ha hb => by rw [wld_at (D := D) (by rw [zw_n _ _ _ _ (by decide)])]; exact h.2 a b ha hb⟩
theorem nI_ne1 {k : Nat} (h : k < 2 ^ 31) : nI k ≠ -1 := fun e => by
  have := congrArg Int32.toInt e
  rw [z_ti h, show (-1 : Int32).toInt = -1 from by decide] at this
  omega
set_option maxHeartbeats 4000000 in
theorem c_X1_canAsk (hX : xR D R no n np ro oh ph I L P S) {q h k : Int32} {X9 : Nat} (hX9 : X9 ≤ 9) (kt : ∀ p2 h2 m2 : Nat, p2 < n → h2 ≤ 2399 → m2 ≤ X9 → q = nI p2 → h = nI h2 → k = nI m2 → pB D (nI p2) = true → rB (nI h2) 0 2399 = true → rB (nI m2) 0 (X9 : Int) = true → Q (.inl (some (.int (nI 1)))) I L P S) (kf : (pB D q && rB h 0 2399 && rB k 0 (X9 : Int)) = false → Q (.inl (some (.int (nI 0)))) I L P S) : Zm G mX1_canAsk 2 C Sl [.ref 100, .int q, .int h, .int k, .int (nI X9)] I L P S Q := by
  obtain ⟨e, ⟨g, hro⟩, ⟨⟨h29, h50⟩, hrw⟩, ⟨htx, hpr, hkp⟩, htl, hoh, hph⟩ := hX
  have hX : xR D R no n np ro oh ph I L P S := ⟨e, ⟨g, hro⟩, ⟨⟨h29, h50⟩, hrw⟩, ⟨htx, hpr, hkp⟩, htl, hoh, hph⟩
  have hx := e.x
  have hO := e.wd
  have hR := e.wr
  have hT := e.st
  have hPc := e.pc
  have hw := e.hw
  have hf := e.hx
  have hb := e.b
  have hn := e.nn
  have n8 := hw.n8
  have h6 := hw.o6
  have hn8 := hw.n8
  have hno : noD D = no := by rw [noD, show D 0 3 = nI no from hw.o3, nI_clamp (by omega)]
  have hnn : nD D = n := by rw [nD, show D 0 16 = nI n from hw.n16, nI_clamp (by omega)]
  have hM := hR.1
  refine Z_entry (lv := [_, _, _, _, _]) (Nat.le_of_ble_eq_true rfl) rfl ?_
  refine Z_aload_n dX1_canAsk_0 rfl ?_
  refine Z_iload_n dX1_canAsk_1 rfl ?_
  refine Z_call0 (d' := 1) (zCal_V gX1_212 nX1_isPiece (by decide) dX1_canAsk_2) pX1_isPiece hx.1 zkl0 [_] rfl rfl (Nat.le_of_ble_eq_true rfl) (by omega) (c_X1_isPiece hx hn hn8 (fun k2 hk2 e2 => ?_) (fun h2 => ?_))
  · subst e2
    have r2 : pB D (nI k2) = true := rB_t (by rw [z_ti (by omega)]; omega) (by rw [z_ti (by omega), hnn]; omega)
    have v2 : (nI k2).toNatClampNeg = k2 := nI_clamp (by omega)
    refine Z_ifeq 29 dX1_canAsk_5 rfl (fun h => absurd h (by decide)) (fun _ => ?_)
    refine Z_iload_n dX1_canAsk_8 rfl ?_
    refine Z_callS0 (d' := 1) (zCal_S gX1_124 nX1_isHour (by decide) dX1_canAsk_9) pX1_isHour [_] rfl rfl (Nat.le_of_ble_eq_true rfl) (by omega) (c_X1_isHour (fun h9a h9b => ?_) (fun h9 => ?_))
    · have r9 : rB h 0 2399 = true := rB_t h9a h9b
      obtain ⟨k9, hk9, e9⟩ := z_rng (n := 2399) h9a h9b (by omega)
      subst e9
      have v9 : (nI k9).toNatClampNeg = k9 := nI_clamp (by omega)
      refine Z_ifeq 29 dX1_canAsk_12 rfl (fun h => absurd h (by decide)) (fun _ => ?_)
      refine Z_iload_n dX1_canAsk_15 rfl ?_
      refine Z_iconst (nI 0) dX1_canAsk_16 rfl ?_
      refine Z_iload dX1_canAsk_17 rfl ?_
      refine Z_callS0 (d' := 0) (zCal_S gX1_3 nX1_in (by decide) dX1_canAsk_19) pX1_in [_, _, _] rfl rfl (Nat.le_of_ble_eq_true rfl) (by omega) (c_X1_in (fun h19a h19b => ?_) (fun h19 => ?_))
      · rw [z_ti (by omega)] at h19b
        have r19 : rB k 0 (X9 : Int) = true := rB_t h19a h19b
        obtain ⟨k19, hk19, e19⟩ := z_rng (n := X9) h19a h19b (by omega)
        subst e19
        refine Z_ifeq 29 dX1_canAsk_22 rfl (fun h => absurd h (by decide)) (fun _ => ?_)
        refine Z_iconst (nI 1) dX1_canAsk_25 rfl ?_
        refine Z_goto 30 dX1_canAsk_26 rfl ?_
        refine Z_ireturn dX1_canAsk_30 rfl rfl ?_
        exact kt _ _ _ hk2 (by omega) hk19 rfl rfl rfl r2 r9 r19
      · rw [z_ti (k := X9) (by omega)] at h19
        have r19 : rB k 0 (X9 : Int) = false := rB_f h19
        refine Z_ifeq 29 dX1_canAsk_22 rfl (fun _ => ?_) (fun h => absurd h (by decide))
        refine Z_iconst (nI 0) dX1_canAsk_29 rfl ?_
        refine Z_ireturn dX1_canAsk_30 rfl rfl ?_
        exact kf (by simp [r2, r9, r19])
    · have r9 : rB h 0 2399 = false := rB_f h9
      refine Z_ifeq 29 dX1_canAsk_12 rfl (fun _ => ?_) (fun h => absurd h (by decide))
      refine Z_iconst (nI 0) dX1_canAsk_29 rfl ?_
      refine Z_ireturn dX1_canAsk_30 rfl rfl ?_
      exact kf (by simp [r2, r9])
  · have r2 : pB D q = false := rB_f (fun q => h2 ⟨q.1, by have := q.2; rw [hnn] at this; omega⟩)
    refine Z_ifeq 29 dX1_canAsk_5 rfl (fun _ => ?_) (fun h => absurd h (by decide))
    refine Z_iconst (nI 0) dX1_canAsk_29 rfl ?_
    refine Z_ireturn dX1_canAsk_30 rfl rfl ?_
    exact kf (by simp [r2])
set_option maxHeartbeats 4000000 in
theorem o_xone (hX0 : xR D R no n np ro oh ph I0 L0 P0 S0) (hkn : knf (wld D) no) {q h k : Int32} (kk : ∀ I2 L2 P2 S2, xR (fOne D R q h k).2.1 (fOne D R q h k).2.2 no n np ro oh ph I2 L2 P2 S2 → frX I0 L0 P0 S0 I2 L2 P2 S2 → Q (.inl (some (.int (fOne D R q h k).1))) I2 L2 P2 S2) : Zm G mX1_one 13 (C + 520) (Sl + 2090) [.ref 100, .int q, .int h, .int k] I0 L0 P0 S0 Q := by
  have hx := hX0.1.x
  refine Z_entry (lv := [_, _, _, _, _]) (Nat.le_of_ble_eq_true rfl) rfl ?_
  refine Z_aload_n dX1_one_0 rfl ?_
  refine Z_iload_n dX1_one_1 rfl ?_
  refine Z_iload_n dX1_one_2 rfl ?_
  refine Z_iload_n dX1_one_3 rfl ?_
  refine Z_iconst (nI 3) dX1_one_4 rfl ?_
  refine Z_call0 (d' := 2) (zCal_V gX1_299 nX1_canAsk (by decide) dX1_one_5) pX1_canAsk hx.1 zkl0 [_, _, _, _] rfl rfl (Nat.le_of_ble_eq_true rfl) (by omega) (c_X1_canAsk hX0 (X9 := 3) (by decide) (fun p h0 m hp hh hm e1 e2 e3 r1 r2 r3 => ?_) (fun r0 => ?_))
  · subst e1 e2 e3
    obtain ⟨N0, hN0, hN0b⟩ := hX0.2.2.2.2.1.2.2
    have e0 := hX0.1
    have hx := e0.x
    have hw0 := e0.hw
    have h60 := hw0.o6
    have hn80 := hw0.n8
    obtain ⟨born, hbn, hb20⟩ := hw0.2.2.1 p hp
    obtain ⟨-, ⟨len, hl0, hl6, hl⟩, -⟩ := e0.hx p hp
    obtain ⟨NN, hNN⟩ : ∃ NN, NN = 2399 - h0 := ⟨_, rfl⟩
    have hph7 : ph p < 7000 := by rw [hX0.2.2.2.2.2.2 p]; omega
    have s65 : s6 (m + 1) ≤ 259 := s6_le (show m + 1 ≤ 4 by omega)
    have hno : noD D = no := by rw [noD, show D 0 3 = nI no from hw0.o3, nI_clamp (by omega)]
    refine Z_ifne 13 dX1_one_8 rfl (fun _ => ?_) (fun h => absurd h (by decide))
    refine Zj.less (C := C + 2 * s6 (m + 1) + (0 + 1) + 1) (Sl := Sl + 8 * s6 (m + 1) + (0 + 4) + 7) ?_ (Nat.le_refl _) (by omega) (by omega)
    refine Z_new N0 (hN0b _ (Nat.le_refl _)) wX1_303 dX1_one_13 ?_
    refine Z_dup dX1_one_16 rfl ?_
    refine Z_aload_n dX1_one_17 rfl ?_
    refine Z_iload_n dX1_one_18 rfl ?_
    refine Z_iload_n dX1_one_19 rfl ?_
    refine Z_iload_n dX1_one_20 rfl ?_
    refine Z_call (d' := 2) (C := (C + 2 * s6 (m + 1))) (C' := (0 + 1)) (Sl := (Sl + 8 * s6 (m + 1))) (S' := (0 + 4)) (zCal_I q925 q109 q923 q924 rfl nX16_init (by decide) dX1_one_21) pX16_init (by simp [zu]) zkl14 [_, _, _, _] rfl rfl (Nat.le_of_ble_eq_true rfl) (by omega) (by omega) (by omega) (c_X16_init (a := N0) (hx.nwA hN0 (hN0b _ (Nat.le_refl _))) (e0.pc.nwA (by omega) (fun y hy => by rw [hX0.2.2.2.2.2.2 y]; omega)) hp hn80 hb20 hph7 (zu_s _ _ _) ((zu_n _ _ _ (by omega)).trans (hN0b _ (by omega))) hN0 hm (fun I2 L2 P2 S2 f s q i1 i2 => ?_))
    have hG1 : gS 14 ph I0 L0 P0 S0 N0 p h0 m 0 (bvS h0 NN) NN born I2 L2 P2 S2 NN 0 0 := gS.mk ⟨N0, hN0, hN0b⟩ hN0 (hN0b _ (Nat.le_refl _)) (hN0b _ (by omega)) (fun y h1 h2 => ⟨⟨(f y h1 h2).1.1.trans (zu_n _ _ _ h1), (f y h1 h2).1.2.trans (zu_n _ _ _ h1)⟩, (f y h1 h2).2.1.trans (zu_n _ _ _ h1), (f y h1 h2).2.2.trans (zu_n _ _ _ h1)⟩) s q ⟨i1.1, by rw [i1.2.1]; exact (if_pos rfl).symm⟩ (fun q => absurd q (by decide))
    refine Z_astore (lv' := [_, _, _, _, _]) dX1_one_24 rfl rfl (Nat.le_of_ble_eq_true rfl) ?_
    refine Z_aload dX1_one_26 rfl ?_
    refine Z_call (d' := 11) (C := C) (C' := (0 + 2 * s6 (m + 1))) (Sl := Sl) (S' := (0 + 8 * s6 (m + 1))) (zCal_U uX1_308_14 rfl nX15_all (by decide) dX1_one_28) pX15_all s.1 zkl14 [] rfl rfl (Nat.le_of_ble_eq_true rfl) (by omega) (by omega) (by omega) (c_X15_all14 hX0 hp hm hbn hkn hl hl0 hl6 hh hNN hG1 i1.2.2 (fun I3 L3 P3 S3 b bK bc hG3 hB => ?_))
    have hY := bsI_F hB hNN h60 hb20 hm hbn hl hl0 hl6 hkn
    rcases hY with ⟨hb0, hF⟩ | ⟨hb0, hK3, hF⟩
    · have hz9 : True := trivial
      refine Z_aload dX1_one_31 rfl ?_
      refine Z_getI hG3.2.1.2.1 fX1_313_14 dX1_one_33 rfl ?_
      refine Z_re (y := -1) (hG3.2.2.2.1.trans (if_pos hb0)) ?_
      refine Z_iconst (-1) dX1_one_36 rfl ?_
      refine Z_icmpne 43 dX1_one_37 rfl (fun c37 => ?_) (fun c37 => ?_)
      · exact absurd rfl c37
      · refine Z_bipush (-2) dX1_one_40 rfl ?_
        refine Z_ireturn dX1_one_42 rfl rfl ?_
        have r3b : rB (nI m) 0 3 = true := r3
        exact xO_k (D2 := D) (R2 := R) (by unfold fOne; rw [if_pos (by rw [r1, r2, r3b]; rfl), nI_clamp (by omega), nI_clamp (by omega), nI_clamp (by omega), hno, hF]) kk (hX0.go hG3.1.1 (hX0.2.2.1.2.fX (by rw [hG3.1.2.1]) hG3.1.2.2)) hG3.1.1.frX
    · have hz9 : True := trivial
      refine Z_aload dX1_one_31 rfl ?_
      refine Z_getI hG3.2.1.2.1 fX1_313_14 dX1_one_33 rfl ?_
      refine Z_re (y := nI (h0 + b + 1)) (hG3.2.2.2.1.trans (if_neg (by omega))) ?_
      refine Z_iconst (-1) dX1_one_36 rfl ?_
      refine Z_icmpne 43 dX1_one_37 rfl (fun c37 => ?_) (fun c37 => ?_)
      · refine Z_aload dX1_one_43 rfl ?_
        refine Z_call0 (d' := 2) (zCal_U uX1_316_14 rfl nX15_tellRow (by decide) dX1_one_45) pX15_tellRow hG3.2.1.2.1 zkl14 [] rfl rfl (Nat.le_of_ble_eq_true rfl) (by omega) (c_X15_tellRow14 hX0 hG3 hb0 hK3 (fun J4 M4 u4 v4 => ?_))
        refine Z_aload dX1_one_48 rfl ?_
        refine Z_getI hG3.2.1.2.1 fX1_313_14 dX1_one_50 rfl ?_
        refine Z_re (y := nI (h0 + b + 1)) ((congrFun (v4.1 N0 (by omega)) 3).trans (hG3.2.2.2.1.trans (if_neg (by omega)))) ?_
        refine Z_ireturn dX1_one_53 rfl rfl ?_
        have r3b : rB (nI m) 0 3 = true := r3
        exact xO_k (D2 := D) (R2 := rowT bK bc bK) (by unfold fOne; rw [if_pos (by rw [r1, r2, r3b]; rfl), nI_clamp (by omega), nI_clamp (by omega), nI_clamp (by omega), hno, hF]) kk (hX0.go (hG3.1.1.fR v4) u4) (hG3.1.1.fR v4).frX
      · exact absurd c37 (nI_ne1 (by omega))
  · refine Z_ifne 13 dX1_one_8 rfl (fun h => absurd h (by decide)) (fun _ => ?_)
    refine Z_iconst (-1) dX1_one_11 rfl ?_
    refine Z_ireturn dX1_one_12 rfl rfl ?_
    exact xO_k (D2 := D) (R2 := R) (by unfold fOne; rw [if_neg (by rw [show (pB D q && rB h 0 2399 && rB k 0 3) = false from r0]; decide)]) kk hX0 frX.rf
theorem frX.tr {I1 I2 : zI} {L1 L2 : zL} {P1 P2 : zR} {S1 S2 : zT} (f : frX I L P S I1 L1 P1 S1) (g : frX I1 L1 P1 S1 I2 L2 P2 S2) : frX I L P S I2 L2 P2 S2 := fun a ha => ⟨⟨(g a ha).1.1.trans (f a ha).1.1, (g a ha).1.2.trans (f a ha).1.2⟩, (g a ha).2.1.trans (f a ha).2.1, (g a ha).2.2.trans (f a ha).2.2⟩
set_option maxHeartbeats 8000000 in
theorem o_xedge (hX0 : xR D R no n np ro oh ph I0 L0 P0 S0) (hkn : knf (wld D) no) {q h k : Int32} (kk : ∀ I2 L2 P2 S2, xR (fEdge D R q h k).2.1 (fEdge D R q h k).2.2 no n np ro oh ph I2 L2 P2 S2 → frX I0 L0 P0 S0 I2 L2 P2 S2 → Q (.inl (some (.int (fEdge D R q h k).1))) I2 L2 P2 S2) : Zm G mX1_edge 13 (C + 11440) (Sl + 45980) [.ref 100, .int q, .int h, .int k] I0 L0 P0 S0 Q := by
  have hx := hX0.1.x
  refine Z_entry (lv := [_, _, _, _, _, _, _]) (Nat.le_of_ble_eq_true rfl) rfl ?_
  refine Z_aload_n dX1_edge_0 rfl ?_
  refine Z_iload_n dX1_edge_1 rfl ?_
  refine Z_iload_n dX1_edge_2 rfl ?_
  refine Z_iload_n dX1_edge_3 rfl ?_
  refine Z_iconst (nI 3) dX1_edge_4 rfl ?_
  refine Z_call0 (d' := 2) (zCal_V gX1_299 nX1_canAsk (by decide) dX1_edge_5) pX1_canAsk hx.1 zkl0 [_, _, _, _] rfl rfl (Nat.le_of_ble_eq_true rfl) (by omega) (c_X1_canAsk hX0 (X9 := 3) (by decide) (fun p h0 m hp hh hm e1 e2 e3 r1 r2 r3 => ?_) (fun r0 => ?_))
  · subst e1 e2 e3
    obtain ⟨N0, hN0, hN0b⟩ := hX0.2.2.2.2.1.2.2
    have e0 := hX0.1
    have hx := e0.x
    have hw0 := e0.hw
    have h60 := hw0.o6
    have hn80 := hw0.n8
    obtain ⟨born, hbn, hb20⟩ := hw0.2.2.1 p hp
    obtain ⟨-, ⟨len, hl0, hl6, hl⟩, -⟩ := e0.hx p hp
    obtain ⟨NN, hNN⟩ : ∃ NN, NN = 2399 - h0 := ⟨_, rfl⟩
    have hph7 : ph p < 7000 := by rw [hX0.2.2.2.2.2.2 p]; omega
    have s65 : s6 (m + 1) ≤ 259 := s6_le (show m + 1 ≤ 4 by omega)
    have hno : noD D = no := by rw [noD, show D 0 3 = nI no from hw0.o3, nI_clamp (by omega)]
    refine Z_ifeq 15 dX1_edge_8 rfl (fun h => absurd h (by decide)) (fun _ => ?_)
    refine Z_iload_n dX1_edge_11 rfl ?_
    refine Z_ifneN 17 dX1_edge_12 rfl (by omega) (fun c12 => ?_) (fun c12 => ?_)
    · refine Z_aload_n dX1_edge_17 rfl ?_
      refine Z_iload_n dX1_edge_18 rfl ?_
      refine Z_iload_n dX1_edge_19 rfl ?_
      refine Z_iconst (nI 0) dX1_edge_20 rfl ?_
      refine Z_call (d' := 12) (C := (C + 10920)) (C' := (0 + 520)) (Sl := (Sl + 43890)) (S' := (0 + 2090)) (zCal_V gX1_324 nX1_soonest (by decide) dX1_edge_21) pX1_soonest hx.1 zkl0 [_, _, _] rfl rfl (Nat.le_of_ble_eq_true rfl) (by omega) (by omega) (by omega) (c_X1_soonest hX0 hkn hp (m := 0) (by omega) hh (fun I2 L2 P2 S2 f2 i2 l2 => ?_))
      have hX2 := hX0.go f2 (hX0.2.2.1.2.fX (by rw [i2]) l2)
      obtain ⟨x0, hF⟩ : ∃ x0, sonF (wld D) p h0 0 no = x0 := ⟨_, rfl⟩
      rw [hF]
      rcases x0 with _ | x
      · dsimp only [sonV]
        refine Z_istore (lv' := [_, _, _, _, _, _, _]) dX1_edge_24 rfl rfl (Nat.le_of_ble_eq_true rfl) ?_
        refine Z_iload dX1_edge_26 rfl ?_
        refine Z_iconst (-1) dX1_edge_28 rfl ?_
        refine Z_icmpne 34 dX1_edge_29 rfl (fun c29 => ?_) (fun c29 => ?_)
        · exact absurd rfl c29
        · refine Z_iconst (-1) dX1_edge_32 rfl ?_
          refine Z_ireturn dX1_edge_33 rfl rfl ?_
          have r3c : rB (nI m) 1 3 = true := rB_t (by rw [z_ti (by omega)]; omega) (by rw [z_ti (by omega)]; omega)
          exact xO_k (D2 := D) (R2 := R) (by unfold fEdge; rw [if_pos (by rw [r1, r2, r3c]; rfl), nI_clamp (by omega), nI_clamp (by omega), nI_clamp (by omega), hno, hF]) kk hX2 f2.frX
      · dsimp only [sonV]
        have hxb := sonF_b hF
        refine Z_istore (lv' := [_, _, _, _, _, _, _]) dX1_edge_24 rfl rfl (Nat.le_of_ble_eq_true rfl) ?_
        refine Z_iload dX1_edge_26 rfl ?_
        refine Z_iconst (-1) dX1_edge_28 rfl ?_
        refine Z_icmpne 34 dX1_edge_29 rfl (fun c29 => ?_) (fun c29 => ?_)
        · have hx := hX2.1.x
          have hO := hX2.1.wd
          refine Z_aload_n dX1_edge_34 rfl ?_
          refine Z_getR (r := 200) hx.1 fX1_52_0 dX1_edge_35 rfl hx.2.2.2.1.1 ?_
          refine Z_getI hO.1 fX1_172_1 dX1_edge_38 rfl ?_
          refine Z_re (y := D 0 14) (hX2.1.wr.1.2.1) ?_
          refine Z_istore (lv' := [_, _, _, _, _, _, _]) dX1_edge_41 rfl rfl (Nat.le_of_ble_eq_true rfl) ?_
          refine Z_bipush (nI 21) dX1_edge_43 rfl ?_
          refine Z_istore (lv' := [_, _, _, _, _, _, _]) dX1_edge_45 rfl rfl (Nat.le_of_ble_eq_true rfl) ?_
          have lp47 : ∀ i, i ≤ 21 → ∀ I3 L3 P3 S3 l3, xR (zw D 0 14 l3) R no n np ro oh ph I3 L3 P3 S3 → frX I0 L0 P0 S0 I3 L3 P3 S3 → edL (edG D p h0 m no (nI (h0 + x.1 + 1))) 21 = edL (edG D p h0 m no (nI (h0 + x.1 + 1))) (21 - i) → Zj G mX1_edge 13 (C + 520 * (21 - i)) (Sl + 2090 * (21 - i)) 47 [.ref 100, .int (nI p), .int (nI h0), .int (nI m), .int (nI (h0 + x.1 + 1)), .int (D 0 14), .int (nI (21 - i))] [] I3 L3 P3 S3 Q := by
            refine zloop (21) (fun i => ∀ I3 L3 P3 S3 l3, xR (zw D 0 14 l3) R no n np ro oh ph I3 L3 P3 S3 → frX I0 L0 P0 S0 I3 L3 P3 S3 → edL (edG D p h0 m no (nI (h0 + x.1 + 1))) 21 = edL (edG D p h0 m no (nI (h0 + x.1 + 1))) (21 - i) → Zj G mX1_edge 13 (C + 520 * (21 - i)) (Sl + 2090 * (21 - i)) 47 [.ref 100, .int (nI p), .int (nI h0), .int (nI m), .int (nI (h0 + x.1 + 1)), .int (D 0 14), .int (nI (21 - i))] [] I3 L3 P3 S3 Q) (fun i hi ih => ?_)
            intro I3 L3 P3 S3 l3 hX3 hfr hE8
            show Zj _ _ _ _ _ _ _ _ _ _ _ _ _
            refine Z_iload dX1_edge_47 rfl ?_
            refine Z_ifleN 84 dX1_edge_49 rfl (by omega) (fun c49 => ?_) (fun c49 => ?_)
            · have ei : i = 21 := by omega
              have hE9 : edL (edG D p h0 m no (nI (h0 + x.1 + 1))) 21 = 21 - i := by rw [hE8, ei]; rfl
              have hx := hX3.1.x
              have hO := hX3.1.wd
              refine Z_aload_n dX1_edge_84 rfl ?_
              refine Z_getR (r := 200) hx.1 fX1_52_0 dX1_edge_85 rfl hx.2.2.2.1.1 ?_
              refine Z_iload dX1_edge_88 rfl ?_
              refine Z_putI hO.1 fX1_172_1 dX1_edge_90 rfl rfl rfl ?_
              obtain ⟨v9, hv9, e9v⟩ := hkn.1
              have hX5 := xR.los (j := 14) (v := D 0 14) hX3 (Or.inl rfl)
              rw [zw_zw, zw_self] at hX5
              have hfr5 := hfr.st (a := 200) (k := 2) (v := D 0 14) (by decide)
              have hx := hX5.1.x
              have hN5 := hX5.2.2.2.2.1.2.2
              refine Z_aload_n dX1_edge_93 rfl ?_
              refine Z_iconst (nI 0) dX1_edge_94 rfl ?_
              refine Z_putI hx.1 fX1_94_0 dX1_edge_95 rfl rfl rfl ?_
              refine Z_aload_n dX1_edge_98 rfl ?_
              refine Z_iload dX1_edge_99 rfl ?_
              refine Z_i2l dX1_edge_101 ?_
              refine Z_call0 (d' := 0) (zCal_V gX1_101 nX1_tell (by decide) dX1_edge_102) pX1_tell hx.1 zkl0 [_] rfl rfl (Nat.le_of_ble_eq_true rfl) (by omega) (c_X1_tell hx (rwX.z (I := _) (L := _)) (by decide) (fun J8 M8 u8 v8 => ?_))
              refine Z_iload dX1_edge_105 rfl ?_
              refine Z_bipush (nI 20) dX1_edge_107 rfl ?_
              refine Z_icmpleN 117 dX1_edge_109 rfl (by omega) (by omega) (fun c109 => ?_) (fun c109 => ?_)
              · refine Z_iload dX1_edge_117 rfl ?_
                refine Z_ireturn dX1_edge_119 rfl rfl ?_
                have r3c : rB (nI m) 1 3 = true := rB_t (by rw [z_ti (by omega)]; omega) (by rw [z_ti (by omega)]; omega)
                exact xO_k (D2 := D) (R2 := [(nI (h0 + x.1 + 1)).toInt64]) (by unfold fEdge; rw [if_pos (by rw [r1, r2, r3c]; rfl), nI_clamp (by omega), nI_clamp (by omega), nI_clamp (by omega), hno, hF]; dsimp only; rw [hE9]; unfold edV; rw [if_neg (by omega)]) kk (hX5.go ((fX.rf hN5).fR (fR.rf.z.tr v8)) u8) (hfr5.tr ((fX.rf hN5).fR (fR.rf.z.tr v8)).frX)
              · refine Z_bipush (-2) dX1_edge_112 rfl ?_
                refine Z_goto 119 dX1_edge_114 rfl ?_
                refine Z_ireturn dX1_edge_119 rfl rfl ?_
                have r3c : rB (nI m) 1 3 = true := rB_t (by rw [z_ti (by omega)]; omega) (by rw [z_ti (by omega)]; omega)
                exact xO_k (D2 := D) (R2 := [(nI (h0 + x.1 + 1)).toInt64]) (by unfold fEdge; rw [if_pos (by rw [r1, r2, r3c]; rfl), nI_clamp (by omega), nI_clamp (by omega), nI_clamp (by omega), hno, hF]; dsimp only; rw [hE9]; unfold edV; rw [if_pos (by omega)]) kk (hX5.go ((fX.rf hN5).fR (fR.rf.z.tr v8)) u8) (hfr5.tr ((fX.rf hN5).fR (fR.rf.z.tr v8)).frX)
            · obtain ⟨u, hu⟩ : ∃ u, 21 - i = u + 1 := ⟨20 - i, by omega⟩
              rw [hu] at hE8
              rw [hu]
              have hx := hX3.1.x
              have hO := hX3.1.wd
              refine Z_aload_n dX1_edge_52 rfl ?_
              refine Z_getR (r := 200) hx.1 fX1_52_0 dX1_edge_53 rfl hx.2.2.2.1.1 ?_
              refine Z_iload dX1_edge_56 rfl ?_
              refine Z_iconst (nI 1) dX1_edge_58 rfl ?_
              refine Z_isubN dX1_edge_59 (by omega) ?_
              refine Z_putI hO.1 fX1_172_1 dX1_edge_60 rfl rfl rfl ?_
              have hX4 := xR.los (j := 14) (v := nI u) hX3 (Or.inl rfl)
              rw [zw_zw] at hX4
              have hfr4 := hfr.st (a := 200) (k := 2) (v := nI u) (by decide)
              show Zj _ _ _ _ _ _ _ _ (zw I3 200 2 (nI u)) _ _ _ _
              refine Z_aload_n dX1_edge_63 rfl ?_
              refine Z_iload_n dX1_edge_64 rfl ?_
              refine Z_iload_n dX1_edge_65 rfl ?_
              refine Z_iload_n dX1_edge_66 rfl ?_
              refine Z_call (d' := 12) (C := (C + 520 * (20 - i))) (C' := (0 + 520)) (Sl := (Sl + 2090 * (20 - i))) (S' := (0 + 2090)) (zCal_V gX1_324 nX1_soonest (by decide) dX1_edge_67) pX1_soonest hx.1 zkl0 [_, _, _] rfl rfl (Nat.le_of_ble_eq_true rfl) (by omega) (by omega) (by omega) (c_X1_soonest hX4 (knf_z hkn (by omega)) hp hm hh (fun I6 L6 P6 S6 f6 i6 l6 => ?_))
              have hX6 := hX4.go f6 (hX4.2.2.1.2.fX (by rw [i6]) l6)
              have hfr6 := hfr4.tr f6.frX
              refine Z_iload dX1_edge_70 rfl ?_
              refine Z_icmpge 78 dX1_edge_72 rfl (fun c72 => ?_) (fun c72 => ?_)
              · have hE7 : edL (edG D p h0 m no (nI (h0 + x.1 + 1))) (u + 1) = edL (edG D p h0 m no (nI (h0 + x.1 + 1))) u := by rw [edL, if_pos (show (edG D p h0 m no (nI (h0 + x.1 + 1))) u = true from decide_eq_true c72)]
                refine Z_iincM (lv' := [_, _, _, _, _, _, _]) dX1_edge_78 rfl (by omega) rfl rfl ?_
                refine Z_goto 47 dX1_edge_81 rfl ?_
                have eu : 21 - (i + 1) = u := by omega
                have ih2 := ih (by omega) _ _ _ _ _ hX6 hfr6 (by rw [eu]; exact hE8.trans hE7)
                rw [eu] at ih2
                exact Zj.less ih2 (Nat.le_refl _) (by omega) (by omega)
              · have hE9 : edL (edG D p h0 m no (nI (h0 + x.1 + 1))) 21 = u + 1 := by rw [hE8, edL, if_neg (fun (q : (edG D p h0 m no (nI (h0 + x.1 + 1))) u = true) => c72 (of_decide_eq_true q))]
                have hX3 := hX6
                have hfr := hfr6
                refine Z_goto 84 dX1_edge_75 rfl ?_
                have hx := hX3.1.x
                have hO := hX3.1.wd
                refine Z_aload_n dX1_edge_84 rfl ?_
                refine Z_getR (r := 200) hx.1 fX1_52_0 dX1_edge_85 rfl hx.2.2.2.1.1 ?_
                refine Z_iload dX1_edge_88 rfl ?_
                refine Z_putI hO.1 fX1_172_1 dX1_edge_90 rfl rfl rfl ?_
                obtain ⟨v9, hv9, e9v⟩ := hkn.1
                have hX5 := xR.los (j := 14) (v := D 0 14) hX3 (Or.inl rfl)
                rw [zw_zw, zw_self] at hX5
                have hfr5 := hfr.st (a := 200) (k := 2) (v := D 0 14) (by decide)
                have hx := hX5.1.x
                have hN5 := hX5.2.2.2.2.1.2.2
                refine Z_aload_n dX1_edge_93 rfl ?_
                refine Z_iconst (nI 0) dX1_edge_94 rfl ?_
                refine Z_putI hx.1 fX1_94_0 dX1_edge_95 rfl rfl rfl ?_
                refine Z_aload_n dX1_edge_98 rfl ?_
                refine Z_iload dX1_edge_99 rfl ?_
                refine Z_i2l dX1_edge_101 ?_
                refine Z_call0 (d' := 0) (zCal_V gX1_101 nX1_tell (by decide) dX1_edge_102) pX1_tell hx.1 zkl0 [_] rfl rfl (Nat.le_of_ble_eq_true rfl) (by omega) (c_X1_tell hx (rwX.z (I := _) (L := _)) (by decide) (fun J8 M8 u8 v8 => ?_))
                refine Z_iload dX1_edge_105 rfl ?_
                refine Z_bipush (nI 20) dX1_edge_107 rfl ?_
                refine Z_icmpleN 117 dX1_edge_109 rfl (by omega) (by omega) (fun c109 => ?_) (fun c109 => ?_)
                · refine Z_iload dX1_edge_117 rfl ?_
                  refine Z_ireturn dX1_edge_119 rfl rfl ?_
                  have r3c : rB (nI m) 1 3 = true := rB_t (by rw [z_ti (by omega)]; omega) (by rw [z_ti (by omega)]; omega)
                  exact xO_k (D2 := D) (R2 := [(nI (h0 + x.1 + 1)).toInt64]) (by unfold fEdge; rw [if_pos (by rw [r1, r2, r3c]; rfl), nI_clamp (by omega), nI_clamp (by omega), nI_clamp (by omega), hno, hF]; dsimp only; rw [hE9]; unfold edV; rw [if_neg (by omega)]) kk (hX5.go ((fX.rf hN5).fR (fR.rf.z.tr v8)) u8) (hfr5.tr ((fX.rf hN5).fR (fR.rf.z.tr v8)).frX)
                · refine Z_bipush (-2) dX1_edge_112 rfl ?_
                  refine Z_goto 119 dX1_edge_114 rfl ?_
                  refine Z_ireturn dX1_edge_119 rfl rfl ?_
                  have r3c : rB (nI m) 1 3 = true := rB_t (by rw [z_ti (by omega)]; omega) (by rw [z_ti (by omega)]; omega)
                  exact xO_k (D2 := D) (R2 := [(nI (h0 + x.1 + 1)).toInt64]) (by unfold fEdge; rw [if_pos (by rw [r1, r2, r3c]; rfl), nI_clamp (by omega), nI_clamp (by omega), nI_clamp (by omega), hno, hF]; dsimp only; rw [hE9]; unfold edV; rw [if_pos (by omega)]) kk (hX5.go ((fX.rf hN5).fR (fR.rf.z.tr v8)) u8) (hfr5.tr ((fX.rf hN5).fR (fR.rf.z.tr v8)).frX)
          exact lp47 0 (by omega) _ _ _ _ (D 0 14) (by rw [zw_self]; exact hX2) f2.frX rfl
        · exact absurd c29 (nI_ne1 (by omega))
    · refine Z_iconst (-1) dX1_edge_15 rfl ?_
      refine Z_ireturn dX1_edge_16 rfl rfl ?_
      have r3c : rB (nI m) 1 3 = false := rB_f (by rw [z_ti (by omega)]; omega)
      exact xO_k (D2 := D) (R2 := R) (by unfold fEdge; rw [if_neg (by rw [r3c, Bool.and_false]; decide)]) kk hX0 frX.rf
  · refine Z_ifeq 15 dX1_edge_8 rfl (fun _ => ?_) (fun h => absurd h (by decide))
    refine Z_iconst (-1) dX1_edge_15 rfl ?_
    refine Z_ireturn dX1_edge_16 rfl rfl ?_
    have r0b : (pB D q && rB h 0 2399 && rB k 1 3) = false := by
      by_cases e : rB k 1 3 = true
      · have e2 := of_decide_eq_true e
        have e3 : rB k 0 3 = true := rB_t (by omega) e2.2
        have r0c : (pB D q && rB h 0 2399 && rB k 0 3) = false := r0
        rw [e3] at r0c
        rw [e]; exact r0c
      · rw [Bool.eq_false_iff.mpr e, Bool.and_false]
    exact xO_k (D2 := D) (R2 := R) (by unfold fEdge; rw [if_neg (by rw [r0b]; decide)]) kk hX0 frX.rf
end X55C
