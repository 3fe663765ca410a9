set_option maxRecDepth 100000
/-! THE COMPONENT, part 53: the soonest by a row of offices -/
section X53C
variable {G : zG} {d C Sl : Nat} {I D W : zI} {R : List Int64} {L : zL} {P : zR} {S : zT} {Q : zQ} {no n np : Nat} {s : zS} {oh ph : Nat → Nat} {ro : Option (List Nat)} {I0 : zI} {L0 : zL} {P0 : zR} {S0 : zT} {a p h0 m en NN born len b bK bc : Nat} {bv : Nat → Int32}
/-- Rows' object at a (its offices at a + 1), of class ci: what it holds; all that was there before is as it was -/
def gS (ci : Nat) (ph : Nat → Nat) (I0 : zI) (L0 : zL) (P0 : zR) (S0 : zT) (a p h0 m en : Nat) (bv : Nat → Int32) (NN born : Nat) (I : zI) (L : zL) (P : zR) (S : zT) (b bK bc : Nat) : Prop :=
  (fX I0 L0 P0 S0 I L P S ∧ I 100 = I0 100 ∧ L 302 = L0 302) ∧ ((7000 ≤ a ∧ S0 a = none ∧ S0 (a + 1) = none) ∧ S a = some (.inl ci) ∧ S (a + 1) = some (.inr (.int, m + 1))) ∧ ((P a 0 = some (ph p) ∧ P a 2 = some (a + 1) ∧ P a 5 = some 100) ∧ I a 1 = nI h0 ∧ (ci = 15 → I a 6 = nI en ∧ P a 7 = some 100)) ∧ I a 3 = bv b ∧ (b < NN → ∃ r, (P a 4 = some r ∧ 7000 ≤ r ∧ r ≠ a + 1) ∧ S r = some (.inr (.int, bK + 1)) ∧ ∀ j, j ≤ bK → I r j = nI (dgR born bK bc j))
/-- new things, at N1 -/
theorem gS.nwI {ci N1 : Nat} {I2 : zI} {f2 : Nat → Int64} {f3 : Nat → Option Nat} {x : Nat ⊕ (FieldType × Nat)} (h : gS ci ph I0 L0 P0 S0 a p h0 m en bv NN born I L P S b bK bc) (hN : 7000 ≤ N1) (hs : S N1 = none) (hI : ∀ y, y ≠ N1 → I2 y = I y) : gS ci ph I0 L0 P0 S0 a p h0 m en bv NN born I2 (zu L N1 f2) (zu P N1 f3) (zu S N1 (some x)) b bK bc := by
  obtain ⟨⟨a1, a2, a3⟩, ⟨b1, b2, b3⟩, ⟨c1, c2, c3⟩, d1, d2⟩ := h
  have e : I2 = zu I N1 (I2 N1) := by
    funext y
    by_cases q : y = N1
    · subst q; rw [zu_s]
    · rw [zu_n _ _ _ q]; exact hI y q
  have na : a ≠ N1 := fun q => by rw [q, hs] at b2; cases b2
  have na1 : a + 1 ≠ N1 := fun q => by rw [q, hs] at b3; cases b3
  refine ⟨⟨by rw [e]; exact a1.nw hN hs, (hI 100 (by omega)).trans a2, (zu_n _ _ _ (by omega)).trans a3⟩, ⟨b1, (zu_n _ _ _ na).trans b2, (zu_n _ _ _ na1).trans b3⟩, ⟨by rw [zu_n _ _ _ na]; exact c1, by rw [hI a na]; exact c2, fun q => ⟨by rw [hI a na]; exact (c3 q).1, by rw [zu_n _ _ _ na]; exact (c3 q).2⟩⟩, by rw [hI a na]; exact d1, fun q => ?_⟩
  obtain ⟨r, ⟨r1, r2, r3⟩, r4, r5⟩ := d2 q
  have nr : r ≠ N1 := fun q => by rw [q, hs] at r4; cases r4
  exact ⟨r, ⟨by rw [zu_n _ _ _ na]; exact r1, r2, r3⟩, (zu_n _ _ _ nr).trans r4, by rw [hI r nr]; exact r5⟩
theorem gS.N {ci : Nat} (h : gS ci ph I0 L0 P0 S0 a p h0 m en bv NN born I L P S b bK bc) : ∃ N, 7000 ≤ N ∧ ∀ x, N ≤ x → S x = none := h.1.1.2.2
/-- an office written down -/
theorem gS.of {ci k : Nat} {v : Int32} (h : gS ci ph I0 L0 P0 S0 a p h0 m en bv NN born I L P S b bK bc) : gS ci ph I0 L0 P0 S0 a p h0 m en bv NN born (zw I (a + 1) k v) L P S b bK bc := by
  obtain ⟨⟨a1, a2, a3⟩, ⟨b1, b2, b3⟩, ⟨c1, c2, c3⟩, d1, d2⟩ := h
  have na : a ≠ a + 1 := by omega
  refine ⟨⟨a1.i (fun x ht h1 h2 => zw_n _ _ _ _ (fun q => by rw [q] at h2; exact h2.elim (fun h => by omega) (fun h => h b1.2.2))) (fun j hj => by rw [zw_n _ _ _ _ (by omega)]), (zw_n _ _ _ _ (by omega)).trans a2, a3⟩, ⟨b1, b2, b3⟩, ⟨c1, by rw [zw_n _ _ _ _ na]; exact c2, fun q => ⟨by rw [zw_n _ _ _ _ na]; exact (c3 q).1, (c3 q).2⟩⟩, by rw [zw_n _ _ _ _ na]; exact d1, fun q => ?_⟩
  obtain ⟨r, ⟨r1, r2, r3⟩, r4, r5⟩ := d2 q
  exact ⟨r, ⟨r1, r2, r3⟩, r4, by rw [zw_n _ _ _ _ r3]; exact r5⟩
theorem mn_n {x y : Nat} (hx : x < 2 ^ 30) (hy : y < 2 ^ 30) : mn (nI x) (nI y) = nI (min x y) := by
  unfold mn
  by_cases e : y < x
  · rw [if_pos (nI_lt e (by omega)), Nat.min_eq_right (by omega)]
  · rw [if_neg (fun q => by have := Int32.lt_iff_toInt_lt.mp q; rw [z_ti (by omega), z_ti (by omega)] at this; omega), Nat.min_eq_left (by omega)]
theorem hoS_s {W : zI} {p h : Nat} {r L : Nat → Nat} {k : Nat} : hoS W p h r L (k + 1) = if awS W p h r L k < 9999 ∧ 0 < awS W p h r L k then min (awS W p h r L (k + 1)) (awS W p h r L k + lsN W (r k) (r (k + 1)) (h + 1)) else awS W p h r L (k + 1) := rfl
theorem aw_le {W : zI} {p h : Nat} {r L : Nat → Nat} {k : Nat} (h1 : L k ≤ 9999) : awS W p h r L k ≤ 9999 := by
  unfold awS
  split <;> omega
theorem lf_le {W : zI} {p h0 len : Nat} {r : Nat → Nat} (hl : len ≤ 60) : ∀ i k, lfR W p h0 len r i k ≤ 9999 := by
  intro i
  induction i with
  | zero => intro k; show (if k = 0 then len else 9999) ≤ 9999; split <;> omega
  | succ i ih =>
    intro k
    show hoS W p (h0 + i) r (lfR W p h0 len r i) k ≤ 9999
    cases k with
    | zero => exact aw_le (ih 0)
    | succ k =>
      have := aw_le (W := W) (p := p) (h := h0 + i) (r := r) (ih (k + 1))
      rw [hoS_s]
      split <;> omega
theorem up_st {A B f : Nat → Nat} {J : Nat → Int32} {K k v : Nat} (h : ∀ j, j ≤ K → J j = nI (if j < k then A j else B j)) (hv : v = A k) : ∀ j, j ≤ K → zu J k (nI v) j = nI (if j < k + 1 then A j else B j) := fun j hj => by
  by_cases e : j = k
  · subst e; rw [zu_s, if_pos (Nat.lt_succ_self _), hv]
  · rw [zu_n _ _ _ e, h j hj]
    by_cases q : j < k
    · rw [if_pos q, if_pos (by omega)]
    · rw [if_neg q, if_neg (by omega)]
theorem up_no {A B : Nat → Nat} {J : Nat → Int32} {K k : Nat} (h : ∀ j, j ≤ K → J j = nI (if j < k then A j else B j)) (hv : B k = A k) : ∀ j, j ≤ K → J j = nI (if j < k + 1 then A j else B j) := fun j hj => by
  rw [h j hj]
  by_cases e : j = k
  · subst e; rw [if_neg (Nat.lt_irrefl _), if_pos (Nat.lt_succ_self _), hv]
  · by_cases q : j < k
    · rw [if_pos q, if_pos (by omega)]
    · rw [if_neg q, if_neg (by omega)]
theorem dw_st {A B : Nat → Nat} {J : Nat → Int32} {K u v : Nat} (h : ∀ j, j ≤ K → J j = nI (if u + 1 < j then A j else B j)) (hv : v = A (u + 1)) : ∀ j, j ≤ K → zu J (u + 1) (nI v) j = nI (if u < j then A j else B j) := fun j hj => by
  by_cases e : j = u + 1
  · subst e; rw [zu_s, if_pos (Nat.lt_succ_self _), hv]
  · rw [zu_n _ _ _ e, h j hj]
    by_cases q : u + 1 < j
    · rw [if_pos q, if_pos (by omega)]
    · rw [if_neg q, if_neg (by omega)]
theorem dw_no {A B : Nat → Nat} {J : Nat → Int32} {K u : Nat} (h : ∀ j, j ≤ K → J j = nI (if u + 1 < j then A j else B j)) (hv : B (u + 1) = A (u + 1)) : ∀ j, j ≤ K → J j = nI (if u < j then A j else B j) := fun j hj => by
  rw [h j hj]
  by_cases e : j = u + 1
  · subst e; rw [if_neg (Nat.lt_irrefl _), if_pos (Nat.lt_succ_self _), hv]
  · by_cases q : u + 1 < j
    · rw [if_pos q, if_pos (by omega)]
    · rw [if_neg q, if_neg (by omega)]
/-- the hour that is told -/
def bvS (h0 NN : Nat) : Nat → Int32 := fun i => if i = NN then -1 else nI (h0 + i + 1)
set_option maxHeartbeats 4000000 in
theorem c_X15_works14 (hX0 : xR D R no n np ro oh ph I0 L0 P0 S0) (hG : gS 14 ph I0 L0 P0 S0 a p h0 m en bv NN born I L P S b bK bc) (hp : p < n) (hm : m ≤ 3) {k o h : Nat} (hk : k ≤ m) (ho : I (a + 1) k = nI o) (ho2 : o < no) (kt : wkO (wld D) p o h = true → Q (.inl (some (.int (nI 1)))) I L P S) (kf : wkO (wld D) p o h = false → Q (.inl (some (.int (nI 0)))) I L P S) : Zm G mX15_works 2 C Sl [.ref a, .int (nI k), .int (nI h)] I L P S Q := by
  have r1 : rwX I L R := hX0.2.2.1.2.fX (by rw [hG.1.2.1]) hG.1.2.2
  have hX := hX0.go hG.1.1 r1
  have hx := hX.1.x
  have hO := hX.1.wd
  have hR := hX.1.wr
  have hPc := hX.1.pc
  have hw := hX.1.hw
  have h6 := hw.o6
  have hn8 := hw.n8
  have A0 : I (ph p) 0 = wld D 17 p := (hPc p hp).2.2.1.1
  refine Z_entry (lv := [_, _, _]) (Nat.le_of_ble_eq_true rfl) rfl ?_
  refine Z_aload_n dX15_works_0 rfl ?_
  refine Z_getR (r := 100) hG.2.1.2.1 fX15_3_14 dX15_works_1 rfl hG.2.2.1.1.2.2 ?_
  refine Z_getRN (r := 200) hx.1 fX15_39_0 dX15_works_4 rfl hx.2.2.2.1.1 ?_
  refine Z_getR (r := (200 + 1)) hO.1 fX15_72_1 dX15_works_7 rfl hO.2.1.2 ?_
  refine Z_aload_n dX15_works_10 rfl ?_
  refine Z_getR (r := (a + 1)) hG.2.1.2.1 fX15_30_14 dX15_works_11 rfl hG.2.2.1.1.2.1 ?_
  refine Z_iload_n dX15_works_14 rfl ?_
  refine Z_iald hG.2.1.2.2 (zix_nI (by omega) (by omega)) dX15_works_15 ?_
  refine Z_re (y := nI (o)) ho ?_
  refine Z_aald (r := (oh o)) hO.2.1.1 (by simp [zTys]) rfl (zix_nI (by omega) (by omega)) (hR.2.2 o (by omega)).1 dX15_works_16 ?_
  refine Z_iload_n dX15_works_17 rfl ?_
  refine Z_call0 (d' := 1) (zCal_V gX15_75 nX6_isOpen (by decide) dX15_works_18) pX6_isOpen (hR.2.2 o (by omega)).2.1.1 zkl5 [_] rfl rfl (Nat.le_of_ble_eq_true rfl) (by omega) (c_X6_isOpen (hR.2.2 o ho2).2.1 (hR.2.2 o ho2).2.2 (fun h18 => ?_) (fun h18 => ?_))
  · refine Z_ifeq 54 dX15_works_21 rfl (fun h => absurd h (by decide)) (fun _ => ?_)
    refine Z_aload_n dX15_works_24 rfl ?_
    refine Z_getR (r := 100) hG.2.1.2.1 fX15_3_14 dX15_works_25 rfl hG.2.2.1.1.2.2 ?_
    refine Z_getRN (r := 200) hx.1 fX15_39_0 dX15_works_28 rfl hx.2.2.2.1.1 ?_
    refine Z_aload_n dX15_works_31 rfl ?_
    refine Z_getR (r := (a + 1)) hG.2.1.2.1 fX15_30_14 dX15_works_32 rfl hG.2.2.1.1.2.1 ?_
    refine Z_iload_n dX15_works_35 rfl ?_
    refine Z_iald hG.2.1.2.2 (zix_nI (by omega) (by omega)) dX15_works_36 ?_
    refine Z_re (y := nI (o)) ho ?_
    refine Z_aload_n dX15_works_37 rfl ?_
    refine Z_getR (r := (ph p)) hG.2.1.2.1 fX15_23_14 dX15_works_38 rfl hG.2.2.1.1.1 ?_
    refine Z_getI (hPc p (by omega)).2.1 fX15_43_6 dX15_works_41 rfl ?_
    refine Z_call0 (d' := 1) (zCal_V gX15_46 nX2_hasCraft (by decide) dX15_works_44) pX2_hasCraft hO.1 zkl1 [_, _] rfl rfl (Nat.le_of_ble_eq_true rfl) (by omega) (c_X2_hasCraft hO hR h6 ho2 (fun h44 => ?_) (fun h44 => ?_))
    · refine Z_ifeq 54 dX15_works_47 rfl (fun h => absurd h (by decide)) (fun _ => ?_)
      refine Z_iconst (nI 1) dX15_works_50 rfl ?_
      refine Z_goto 55 dX15_works_51 rfl ?_
      refine Z_ireturn dX15_works_55 rfl rfl ?_
      exact kt (by unfold wkO; rw [h18, ← A0, h44]; rfl)
    · refine Z_ifeq 54 dX15_works_47 rfl (fun _ => ?_) (fun h => absurd h (by decide))
      refine Z_iconst (nI 0) dX15_works_54 rfl ?_
      refine Z_ireturn dX15_works_55 rfl rfl ?_
      exact kf (by unfold wkO; rw [← A0, h44, Bool.and_false])
  · refine Z_ifeq 54 dX15_works_21 rfl (fun _ => ?_) (fun h => absurd h (by decide))
    refine Z_iconst (nI 0) dX15_works_54 rfl ?_
    refine Z_ireturn dX15_works_55 rfl rfl ?_
    exact kf (by unfold wkO; rw [h18]; rfl)
set_option maxHeartbeats 4000000 in
theorem c_X15_lost14 (hX0 : xR D R no n np ro oh ph I0 L0 P0 S0) (hG : gS 14 ph I0 L0 P0 S0 a p h0 m en bv NN born I L P S b bK bc) (hp : p < n) (hm : m ≤ 3) (hkn : knf (wld D) no) {k o o2 h : Nat} (hk : k + 1 ≤ m) (ho : I (a + 1) k = nI o) (ho2 : o < no) (hq : I (a + 1) (k + 1) = nI o2) (hq2 : o2 < no) (hh : h < 2 ^ 30) (kk : Q (.inl (some (.int (nI (lsN (wld D) o o2 h))))) I L P S) : Zm G mX15_lost 4 C Sl [.ref a, .int (nI k), .int (nI h)] I L P S Q := by
  have r1 : rwX I L R := hX0.2.2.1.2.fX (by rw [hG.1.2.1]) hG.1.2.2
  have hX := hX0.go hG.1.1 r1
  have hx := hX.1.x
  have hO := hX.1.wd
  have hR := hX.1.wr
  have hPc := hX.1.pc
  have hw := hX.1.hw
  have h6 := hw.o6
  have hn8 := hw.n8
  refine Z_entry (lv := [_, _, _]) (Nat.le_of_ble_eq_true rfl) rfl ?_
  refine Z_aload_n dX15_lost_0 rfl ?_
  refine Z_getR (r := 100) hG.2.1.2.1 fX15_3_14 dX15_lost_1 rfl hG.2.2.1.1.2.2 ?_
  refine Z_getRN (r := 200) hx.1 fX15_39_0 dX15_lost_4 rfl hx.2.2.2.1.1 ?_
  refine Z_aload_n dX15_lost_7 rfl ?_
  refine Z_getR (r := (a + 1)) hG.2.1.2.1 fX15_30_14 dX15_lost_8 rfl hG.2.2.1.1.2.1 ?_
  refine Z_iload_n dX15_lost_11 rfl ?_
  refine Z_iald hG.2.1.2.2 (zix_nI (by omega) (by omega)) dX15_lost_12 ?_
  refine Z_re (y := nI (o)) ho ?_
  refine Z_aload_n dX15_lost_13 rfl ?_
  refine Z_getR (r := (a + 1)) hG.2.1.2.1 fX15_30_14 dX15_lost_14 rfl hG.2.2.1.1.2.1 ?_
  refine Z_iload_n dX15_lost_17 rfl ?_
  refine Z_iconst (nI 1) dX15_lost_18 rfl ?_
  refine Z_iaddN dX15_lost_19 ?_
  refine Z_iald hG.2.1.2.2 (zix_nI (by omega) (by omega)) dX15_lost_20 ?_
  refine Z_re (y := nI (o2)) hq ?_
  refine Z_iload_n dX15_lost_21 rfl ?_
  refine Z_call0 (d' := 3) (zCal_V gX15_81 nX2_lost (by decide) dX15_lost_22) pX2_lost hO.1 zkl1 [_, _, _] rfl rfl (Nat.le_of_ble_eq_true rfl) (by omega) (c_X2_lost hO hR h6 ho2 hq2 hh ?_)
  refine Z_ireturn dX15_lost_25 rfl rfl ?_
  rw [(lst_b hkn ho2 hq2).1]
  exact kk
set_option maxHeartbeats 4000000 in
theorem c_X15_works15 (hX0 : xR D R no n np ro oh ph I0 L0 P0 S0) (hG : gS 15 ph I0 L0 P0 S0 a p h0 m en bv NN born I L P S b bK bc) (hp : p < n) (hm : m ≤ 3) {k o h : Nat} (hk : k ≤ m) (ho : I (a + 1) k = nI o) (ho2 : o < no) (kt : wkO (wld D) p o h = true → Q (.inl (some (.int (nI 1)))) I L P S) (kf : wkO (wld D) p o h = false → Q (.inl (some (.int (nI 0)))) I L P S) : Zm G mX15_works 2 C Sl [.ref a, .int (nI k), .int (nI h)] I L P S Q := by
  have r1 : rwX I L R := hX0.2.2.1.2.fX (by rw [hG.1.2.1]) hG.1.2.2
  have hX := hX0.go hG.1.1 r1
  have hx := hX.1.x
  have hO := hX.1.wd
  have hR := hX.1.wr
  have hPc := hX.1.pc
  have hw := hX.1.hw
  have h6 := hw.o6
  have hn8 := hw.n8
  have A0 : I (ph p) 0 = wld D 17 p := (hPc p hp).2.2.1.1
  refine Z_entry (lv := [_, _, _]) (Nat.le_of_ble_eq_true rfl) rfl ?_
  refine Z_aload_n dX15_works_0 rfl ?_
  refine Z_getR (r := 100) hG.2.1.2.1 fX15_3_15 dX15_works_1 rfl hG.2.2.1.1.2.2 ?_
  refine Z_getRN (r := 200) hx.1 fX15_39_0 dX15_works_4 rfl hx.2.2.2.1.1 ?_
  refine Z_getR (r := (200 + 1)) hO.1 fX15_72_1 dX15_works_7 rfl hO.2.1.2 ?_
  refine Z_aload_n dX15_works_10 rfl ?_
  refine Z_getR (r := (a + 1)) hG.2.1.2.1 fX15_30_15 dX15_works_11 rfl hG.2.2.1.1.2.1 ?_
  refine Z_iload_n dX15_works_14 rfl ?_
  refine Z_iald hG.2.1.2.2 (zix_nI (by omega) (by omega)) dX15_works_15 ?_
  refine Z_re (y := nI (o)) ho ?_
  refine Z_aald (r := (oh o)) hO.2.1.1 (by simp [zTys]) rfl (zix_nI (by omega) (by omega)) (hR.2.2 o (by omega)).1 dX15_works_16 ?_
  refine Z_iload_n dX15_works_17 rfl ?_
  refine Z_call0 (d' := 1) (zCal_V gX15_75 nX6_isOpen (by decide) dX15_works_18) pX6_isOpen (hR.2.2 o (by omega)).2.1.1 zkl5 [_] rfl rfl (Nat.le_of_ble_eq_true rfl) (by omega) (c_X6_isOpen (hR.2.2 o ho2).2.1 (hR.2.2 o ho2).2.2 (fun h18 => ?_) (fun h18 => ?_))
  · refine Z_ifeq 54 dX15_works_21 rfl (fun h => absurd h (by decide)) (fun _ => ?_)
    refine Z_aload_n dX15_works_24 rfl ?_
    refine Z_getR (r := 100) hG.2.1.2.1 fX15_3_15 dX15_works_25 rfl hG.2.2.1.1.2.2 ?_
    refine Z_getRN (r := 200) hx.1 fX15_39_0 dX15_works_28 rfl hx.2.2.2.1.1 ?_
    refine Z_aload_n dX15_works_31 rfl ?_
    refine Z_getR (r := (a + 1)) hG.2.1.2.1 fX15_30_15 dX15_works_32 rfl hG.2.2.1.1.2.1 ?_
    refine Z_iload_n dX15_works_35 rfl ?_
    refine Z_iald hG.2.1.2.2 (zix_nI (by omega) (by omega)) dX15_works_36 ?_
    refine Z_re (y := nI (o)) ho ?_
    refine Z_aload_n dX15_works_37 rfl ?_
    refine Z_getR (r := (ph p)) hG.2.1.2.1 fX15_23_15 dX15_works_38 rfl hG.2.2.1.1.1 ?_
    refine Z_getI (hPc p (by omega)).2.1 fX15_43_6 dX15_works_41 rfl ?_
    refine Z_call0 (d' := 1) (zCal_V gX15_46 nX2_hasCraft (by decide) dX15_works_44) pX2_hasCraft hO.1 zkl1 [_, _] rfl rfl (Nat.le_of_ble_eq_true rfl) (by omega) (c_X2_hasCraft hO hR h6 ho2 (fun h44 => ?_) (fun h44 => ?_))
    · refine Z_ifeq 54 dX15_works_47 rfl (fun h => absurd h (by decide)) (fun _ => ?_)
      refine Z_iconst (nI 1) dX15_works_50 rfl ?_
      refine Z_goto 55 dX15_works_51 rfl ?_
      refine Z_ireturn dX15_works_55 rfl rfl ?_
      exact kt (by unfold wkO; rw [h18, ← A0, h44]; rfl)
    · refine Z_ifeq 54 dX15_works_47 rfl (fun _ => ?_) (fun h => absurd h (by decide))
      refine Z_iconst (nI 0) dX15_works_54 rfl ?_
      refine Z_ireturn dX15_works_55 rfl rfl ?_
      exact kf (by unfold wkO; rw [← A0, h44, Bool.and_false])
  · refine Z_ifeq 54 dX15_works_21 rfl (fun _ => ?_) (fun h => absurd h (by decide))
    refine Z_iconst (nI 0) dX15_works_54 rfl ?_
    refine Z_ireturn dX15_works_55 rfl rfl ?_
    exact kf (by unfold wkO; rw [h18]; rfl)
set_option maxHeartbeats 4000000 in
theorem c_X15_lost15 (hX0 : xR D R no n np ro oh ph I0 L0 P0 S0) (hG : gS 15 ph I0 L0 P0 S0 a p h0 m en bv NN born I L P S b bK bc) (hp : p < n) (hm : m ≤ 3) (hkn : knf (wld D) no) {k o o2 h : Nat} (hk : k + 1 ≤ m) (ho : I (a + 1) k = nI o) (ho2 : o < no) (hq : I (a + 1) (k + 1) = nI o2) (hq2 : o2 < no) (hh : h < 2 ^ 30) (kk : Q (.inl (some (.int (nI (lsN (wld D) o o2 h))))) I L P S) : Zm G mX15_lost 4 C Sl [.ref a, .int (nI k), .int (nI h)] I L P S Q := by
  have r1 : rwX I L R := hX0.2.2.1.2.fX (by rw [hG.1.2.1]) hG.1.2.2
  have hX := hX0.go hG.1.1 r1
  have hx := hX.1.x
  have hO := hX.1.wd
  have hR := hX.1.wr
  have hPc := hX.1.pc
  have hw := hX.1.hw
  have h6 := hw.o6
  have hn8 := hw.n8
  refine Z_entry (lv := [_, _, _]) (Nat.le_of_ble_eq_true rfl) rfl ?_
  refine Z_aload_n dX15_lost_0 rfl ?_
  refine Z_getR (r := 100) hG.2.1.2.1 fX15_3_15 dX15_lost_1 rfl hG.2.2.1.1.2.2 ?_
  refine Z_getRN (r := 200) hx.1 fX15_39_0 dX15_lost_4 rfl hx.2.2.2.1.1 ?_
  refine Z_aload_n dX15_lost_7 rfl ?_
  refine Z_getR (r := (a + 1)) hG.2.1.2.1 fX15_30_15 dX15_lost_8 rfl hG.2.2.1.1.2.1 ?_
  refine Z_iload_n dX15_lost_11 rfl ?_
  refine Z_iald hG.2.1.2.2 (zix_nI (by omega) (by omega)) dX15_lost_12 ?_
  refine Z_re (y := nI (o)) ho ?_
  refine Z_aload_n dX15_lost_13 rfl ?_
  refine Z_getR (r := (a + 1)) hG.2.1.2.1 fX15_30_15 dX15_lost_14 rfl hG.2.2.1.1.2.1 ?_
  refine Z_iload_n dX15_lost_17 rfl ?_
  refine Z_iconst (nI 1) dX15_lost_18 rfl ?_
  refine Z_iaddN dX15_lost_19 ?_
  refine Z_iald hG.2.1.2.2 (zix_nI (by omega) (by omega)) dX15_lost_20 ?_
  refine Z_re (y := nI (o2)) hq ?_
  refine Z_iload_n dX15_lost_21 rfl ?_
  refine Z_call0 (d' := 3) (zCal_V gX15_81 nX2_lost (by decide) dX15_lost_22) pX2_lost hO.1 zkl1 [_, _, _] rfl rfl (Nat.le_of_ble_eq_true rfl) (by omega) (c_X2_lost hO hR h6 ho2 hq2 hh ?_)
  refine Z_ireturn dX15_lost_25 rfl rfl ?_
  rw [(lst_b hkn ho2 hq2).1]
  exact kk
set_option maxHeartbeats 16000000 in
theorem c_X16_worth (hX0 : xR D R no n np ro oh ph I0 L0 P0 S0) (hG : gS 14 ph I0 L0 P0 S0 a p h0 m en bv NN born I L P S b bK bc) (hp : p < n) (hm : m ≤ 3) {K c : Nat} (hK : K ≤ m) (hv : vr no born K c) (hoff : ∀ j, j ≤ K → I (a + 1) j = nI (dgR born K c j)) (hbn : born < no) (hkn : knf (wld D) no) (hl : wld D 18 p = nI len) (hl0 : 0 < len) (hl6 : len ≤ 60) (hh : h0 ≤ 2399) (hNN : NN = 2399 - h0) (kk : ∀ I2 L2 P2 S2, gS 14 ph I0 L0 P0 S0 a p h0 m en bv NN born I2 L2 P2 S2 b bK bc → I2 (a + 1) = I (a + 1) → Q (.inl (some (.int (bvS h0 NN (wvS (wld D) p h0 len born NN K c))))) I2 L2 P2 S2) : Zm G mX16_worth 5 (C + 1) (Sl + 4) [.ref a, .int (nI K)] I L P S Q := by
  obtain ⟨N1, hN1, hN2⟩ := hG.N
  have hNs := hN2 N1 (Nat.le_refl _)
  have na : a ≠ N1 := fun q => by have := hG.2.1.2.1; rw [q, hNs] at this; cases this
  have na1 : a + 1 ≠ N1 := fun q => by have := hG.2.1.2.2; rw [q, hNs] at this; cases this
  have hrn : ∀ j, j ≤ K → (dgR born K c) j < no := fun j hj => by
    cases j with
    | zero => exact hbn
    | succ j => exact (hv.2.2 j (by omega)).1
  refine Z_entry (lv := [_, _, _, _, _]) (Nat.le_of_ble_eq_true rfl) rfl ?_
  refine Z_iload_n dX16_worth_0 rfl ?_
  refine Z_iconst (nI 1) dX16_worth_1 rfl ?_
  refine Z_iaddN dX16_worth_2 ?_
  refine Zj.less (C := C + 1) (Sl := Sl + (K + 1)) ?_ (Nat.le_refl _) (by omega) (by omega)
  refine Z_newa (N := K + 1) N1 hNs .int (by simp [zTys, newarray.typeOf]) rfl q165 (nI_pos (by omega)) (nI_clamp (by omega)) (by show (K + 1) * 4 ≤ 536870912; omega) dX16_worth_3 ?_
  refine Z_astore_n (lv' := [_, _, _, _, _]) dX16_worth_5 rfl rfl (Nat.le_of_ble_eq_true rfl) ?_
  refine Z_iconst (nI 1) dX16_worth_6 rfl ?_
  refine Z_istore_n (lv' := [_, _, _, _, _]) dX16_worth_7 rfl rfl (Nat.le_of_ble_eq_true rfl) ?_
  have lp8 : ∀ i, i ≤ K → ∀ I2, (∀ x, x ≠ N1 → I2 x = I x) → (∀ j, 1 ≤ j → j ≤ i → I2 N1 j = nI 9999) → Zj G mX16_worth 5 C Sl 8 [.ref a, .int (nI K), .ref N1, .int (nI (i + 1)), .retAddr 0] [] I2 (zu L N1 fun _ => 0) (zu P N1 fun _ => none) (zu S N1 (some (.inr (.int, K + 1)))) Q := by
    refine zloop (K) (fun i => ∀ I2, (∀ x, x ≠ N1 → I2 x = I x) → (∀ j, 1 ≤ j → j ≤ i → I2 N1 j = nI 9999) → Zj G mX16_worth 5 C Sl 8 [.ref a, .int (nI K), .ref N1, .int (nI (i + 1)), .retAddr 0] [] I2 (zu L N1 fun _ => 0) (zu P N1 fun _ => none) (zu S N1 (some (.inr (.int, K + 1)))) Q) (fun i hi ih => ?_)
    intro I2 g1 g2
    show Zj _ _ _ _ _ _ _ _ _ _ _ _ _
    have hG2 := hG.nwI (f2 := fun _ => 0) (f3 := fun _ => none) (x := .inr (.int, K + 1)) hN1 hNs g1
    have r1 : rwX I2 (zu L N1 fun _ => 0) R := hX0.2.2.1.2.fX (by rw [hG2.1.2.1]) hG2.1.2.2
    have hX := hX0.go hG2.1.1 r1
    have hx := hX.1.x
    have hO := hX.1.wd
    have hR := hX.1.wr
    have hPc := hX.1.pc
    have hw := hX.1.hw
    have h6 := hw.o6
    have hn8 := hw.n8
    have hOf : ∀ j, j ≤ K → I2 (a + 1) j = nI ((dgR born K c) j) := fun j hj => by rw [g1 _ na1]; exact hoff j hj
    refine Z_iload_n dX16_worth_8 rfl ?_
    refine Z_iload_n dX16_worth_9 rfl ?_
    refine Z_icmpgtN 25 dX16_worth_10 rfl (by omega) (by omega) (fun c10 => ?_) (fun c10 => ?_)
    · have ei : i = K := by omega
      refine Z_aload_n dX16_worth_25 rfl ?_
      refine Z_iconst (nI 0) dX16_worth_26 rfl ?_
      refine Z_aload_n dX16_worth_27 rfl ?_
      refine Z_getR (r := (ph p)) hG2.2.1.2.1 fX16_15_14 dX16_worth_28 rfl hG2.2.2.1.1.1 ?_
      refine Z_getI (hPc p (by omega)).2.1 fX16_19_6 dX16_worth_31 rfl ?_
      refine Z_re (y := nI (len)) ((hPc p hp).2.2.1.2.1.trans hl) ?_
      refine Z_iast (zu_s _ _ _) (zix_nI (by omega) (by omega)) dX16_worth_34 ?_
      refine Z_aload_n dX16_worth_35 rfl ?_
      refine Z_getI hG2.2.1.2.1 fX16_25_14 dX16_worth_36 rfl ?_
      refine Z_re (y := nI (h0)) (((congrFun (zw_n _ _ _ _ na) 1).trans hG2.2.2.1.2.1)) ?_
      refine Z_istore_n (lv' := [_, _, _, _, _]) dX16_worth_39 rfl rfl (Nat.le_of_ble_eq_true rfl) ?_
      have lp40 : ∀ i, i ≤ NN → ∀ I3, (∀ x, x ≠ N1 → I3 x = I x) → (∀ j, j ≤ K → I3 N1 j = nI ((lfR (wld D) p h0 len (dgR born K c) i) j)) → (∀ j, j < i → decide (awS (wld D) p (h0 + j) (dgR born K c) (lfR (wld D) p h0 len (dgR born K c) j) K = 0) = false) → Zj G mX16_worth 5 C Sl 40 [.ref a, .int (nI K), .ref N1, .int (nI (h0 + i)), .retAddr 0] [] I3 (zu L N1 fun _ => 0) (zu P N1 fun _ => none) (zu S N1 (some (.inr (.int, K + 1)))) Q := by
        refine zloop (NN) (fun i => ∀ I3, (∀ x, x ≠ N1 → I3 x = I x) → (∀ j, j ≤ K → I3 N1 j = nI ((lfR (wld D) p h0 len (dgR born K c) i) j)) → (∀ j, j < i → decide (awS (wld D) p (h0 + j) (dgR born K c) (lfR (wld D) p h0 len (dgR born K c) j) K = 0) = false) → Zj G mX16_worth 5 C Sl 40 [.ref a, .int (nI K), .ref N1, .int (nI (h0 + i)), .retAddr 0] [] I3 (zu L N1 fun _ => 0) (zu P N1 fun _ => none) (zu S N1 (some (.inr (.int, K + 1)))) Q) (fun i hi ih => ?_)
        intro I3 g1 g3 g4
        show Zj _ _ _ _ _ _ _ _ _ _ _ _ _
        have hG2 := hG.nwI (f2 := fun _ => 0) (f3 := fun _ => none) (x := .inr (.int, K + 1)) hN1 hNs g1
        have r1 : rwX I3 (zu L N1 fun _ => 0) R := hX0.2.2.1.2.fX (by rw [hG2.1.2.1]) hG2.1.2.2
        have hX := hX0.go hG2.1.1 r1
        have hx := hX.1.x
        have hO := hX.1.wd
        have hR := hX.1.wr
        have hPc := hX.1.pc
        have hw := hX.1.hw
        have h6 := hw.o6
        have hn8 := hw.n8
        have hOf : ∀ j, j ≤ K → I3 (a + 1) j = nI ((dgR born K c) j) := fun j hj => by rw [g1 _ na1]; exact hoff j hj
        refine Z_iload_n dX16_worth_40 rfl ?_
        refine Z_sipush (nI 2399) dX16_worth_41 rfl ?_
        refine Z_icmpgeN 177 dX16_worth_44 rfl (by omega) (by omega) (fun c44 => ?_) (fun c44 => ?_)
        · have ei : i = NN := by omega
          refine Z_iconst (-1) dX16_worth_177 rfl ?_
          refine Z_ireturn dX16_worth_178 rfl rfl ?_
          have e9 : (wvS (wld D) p h0 len born NN K c) = NN := frH_all (fun j hj => g4 j (by omega))
          exact zQe (by rw [e9]; unfold bvS; rw [if_pos rfl]) (kk _ _ _ _ hG2 (g1 _ na1))
        · refine Z_iconst (nI 0) dX16_worth_47 rfl ?_
          refine Z_istore (lv' := [_, _, _, _, _]) dX16_worth_48 rfl rfl (Nat.le_of_ble_eq_true rfl) ?_
          have lp50 : ∀ k, k ≤ K + 1 → ∀ I4, (∀ x, x ≠ N1 → I4 x = I x) → (∀ j, j ≤ K → I4 N1 j = nI (if j < k then (awS (wld D) p (h0 + i) (dgR born K c) (lfR (wld D) p h0 len (dgR born K c) i)) j else (lfR (wld D) p h0 len (dgR born K c) i) j)) → Zj G mX16_worth 5 C Sl 50 [.ref a, .int (nI K), .ref N1, .int (nI (h0 + i)), .int (nI k)] [] I4 (zu L N1 fun _ => 0) (zu P N1 fun _ => none) (zu S N1 (some (.inr (.int, K + 1)))) Q := by
            refine zloop (K + 1) (fun k => ∀ I4, (∀ x, x ≠ N1 → I4 x = I x) → (∀ j, j ≤ K → I4 N1 j = nI (if j < k then (awS (wld D) p (h0 + i) (dgR born K c) (lfR (wld D) p h0 len (dgR born K c) i)) j else (lfR (wld D) p h0 len (dgR born K c) i) j)) → Zj G mX16_worth 5 C Sl 50 [.ref a, .int (nI K), .ref N1, .int (nI (h0 + i)), .int (nI k)] [] I4 (zu L N1 fun _ => 0) (zu P N1 fun _ => none) (zu S N1 (some (.inr (.int, K + 1)))) Q) (fun k hk ihk => ?_)
            intro I4 g1 g2
            show Zj _ _ _ _ _ _ _ _ _ _ _ _ _
            have hG2 := hG.nwI (f2 := fun _ => 0) (f3 := fun _ => none) (x := .inr (.int, K + 1)) hN1 hNs g1
            have r1 : rwX I4 (zu L N1 fun _ => 0) R := hX0.2.2.1.2.fX (by rw [hG2.1.2.1]) hG2.1.2.2
            have hX := hX0.go hG2.1.1 r1
            have hx := hX.1.x
            have hO := hX.1.wd
            have hR := hX.1.wr
            have hPc := hX.1.pc
            have hw := hX.1.hw
            have h6 := hw.o6
            have hn8 := hw.n8
            have hOf : ∀ j, j ≤ K → I4 (a + 1) j = nI ((dgR born K c) j) := fun j hj => by rw [g1 _ na1]; exact hoff j hj
            have v1 := lf_le (W := wld D) (p := p) (h0 := h0) (r := (dgR born K c)) hl6 i k
            have v2 := aw_le (W := wld D) (p := p) (h := h0 + i) (r := (dgR born K c)) (lf_le (W := wld D) (p := p) (h0 := h0) (r := (dgR born K c)) hl6 i K)
            refine Z_iload dX16_worth_50 rfl ?_
            refine Z_iload_n dX16_worth_52 rfl ?_
            refine Z_icmpgtN 97 dX16_worth_53 rfl (by omega) (by omega) (fun c53 => ?_) (fun c53 => ?_)
            · have ek : k = K + 1 := by omega
              refine Z_aload_n dX16_worth_97 rfl ?_
              refine Z_iload_n dX16_worth_98 rfl ?_
              refine Z_iald (zu_s _ _ _) (zix_nI (by omega) (by omega)) dX16_worth_99 ?_
              refine Z_re (y := nI ((awS (wld D) p (h0 + i) (dgR born K c) (lfR (wld D) p h0 len (dgR born K c) i)) K)) ((g2 K (Nat.le_refl _)).trans (by rw [if_pos (by omega)])) ?_
              refine Z_ifneN 107 dX16_worth_100 rfl (by omega) (fun c100 => ?_) (fun c100 => ?_)
              · refine Z_iload_n dX16_worth_107 rfl ?_
                refine Z_istore (lv' := [_, _, _, _, _]) dX16_worth_108 rfl rfl (Nat.le_of_ble_eq_true rfl) ?_
                have lp110 : ∀ t, t ≤ K → ∀ I5, (∀ x, x ≠ N1 → I5 x = I x) → (∀ j, j ≤ K → I5 N1 j = nI (if K - t < j then (hoS (wld D) p (h0 + i) (dgR born K c) (lfR (wld D) p h0 len (dgR born K c) i)) j else (awS (wld D) p (h0 + i) (dgR born K c) (lfR (wld D) p h0 len (dgR born K c) i)) j)) → Zj G mX16_worth 5 C Sl 110 [.ref a, .int (nI K), .ref N1, .int (nI (h0 + i)), .int (nI (K - t))] [] I5 (zu L N1 fun _ => 0) (zu P N1 fun _ => none) (zu S N1 (some (.inr (.int, K + 1)))) Q := by
                  refine zloop (K) (fun t => ∀ I5, (∀ x, x ≠ N1 → I5 x = I x) → (∀ j, j ≤ K → I5 N1 j = nI (if K - t < j then (hoS (wld D) p (h0 + i) (dgR born K c) (lfR (wld D) p h0 len (dgR born K c) i)) j else (awS (wld D) p (h0 + i) (dgR born K c) (lfR (wld D) p h0 len (dgR born K c) i)) j)) → Zj G mX16_worth 5 C Sl 110 [.ref a, .int (nI K), .ref N1, .int (nI (h0 + i)), .int (nI (K - t))] [] I5 (zu L N1 fun _ => 0) (zu P N1 fun _ => none) (zu S N1 (some (.inr (.int, K + 1)))) Q) (fun t ht iht => ?_)
                  intro I5 g1 g2
                  show Zj _ _ _ _ _ _ _ _ _ _ _ _ _
                  have hG2 := hG.nwI (f2 := fun _ => 0) (f3 := fun _ => none) (x := .inr (.int, K + 1)) hN1 hNs g1
                  have r1 : rwX I5 (zu L N1 fun _ => 0) R := hX0.2.2.1.2.fX (by rw [hG2.1.2.1]) hG2.1.2.2
                  have hX := hX0.go hG2.1.1 r1
                  have hx := hX.1.x
                  have hO := hX.1.wd
                  have hR := hX.1.wr
                  have hPc := hX.1.pc
                  have hw := hX.1.hw
                  have h6 := hw.o6
                  have hn8 := hw.n8
                  have hOf : ∀ j, j ≤ K → I5 (a + 1) j = nI ((dgR born K c) j) := fun j hj => by rw [g1 _ na1]; exact hoff j hj
                  refine Z_iload dX16_worth_110 rfl ?_
                  refine Z_ifleN 171 dX16_worth_112 rfl (by omega) (fun c112 => ?_) (fun c112 => ?_)
                  · refine Z_iincN (a := _) (k := 1) (lv' := [_, _, _, _, _]) dX16_worth_171 rfl rfl rfl rfl ?_
                    refine Z_goto 40 dX16_worth_174 rfl ?_
                    exact Z_fgt (ih (by omega) _ g1 (fun j hj => by
                      rw [g2 j hj, show K - t = 0 by omega]
                      show _ = nI ((hoS (wld D) p (h0 + i) (dgR born K c) (lfR (wld D) p h0 len (dgR born K c) i)) j)
                      cases j with
                      | zero => rw [if_neg (Nat.lt_irrefl _)]; rfl
                      | succ j => rw [if_pos (by omega)]) (fun j hj => by
                      by_cases e9 : j = i
                      · subst e9; exact decide_eq_false c100
                      · exact g4 j (by omega))) (by repeat first | exact zwk_n | refine zwk_f ?_ | refine zwk_c rfl ?_)
                  · obtain ⟨u, hu⟩ : ∃ u, K - t = u + 1 := ⟨K - t - 1, by omega⟩
                    rw [hu] at g2
                    rw [hu]
                    have v1 := aw_le (W := wld D) (p := p) (h := h0 + i) (r := (dgR born K c)) (lf_le (W := wld D) (p := p) (h0 := h0) (r := (dgR born K c)) hl6 i u)
                    have v2 := aw_le (W := wld D) (p := p) (h := h0 + i) (r := (dgR born K c)) (lf_le (W := wld D) (p := p) (h0 := h0) (r := (dgR born K c)) hl6 i (u + 1))
                    refine Z_aload_n dX16_worth_115 rfl ?_
                    refine Z_iload dX16_worth_116 rfl ?_
                    refine Z_iconst (nI 1) dX16_worth_118 rfl ?_
                    refine Z_isubN dX16_worth_119 (by omega) ?_
                    refine Z_iald (zu_s _ _ _) (zix_nI (by omega) (by omega)) dX16_worth_120 ?_
                    refine Z_re (y := nI ((awS (wld D) p (h0 + i) (dgR born K c) (lfR (wld D) p h0 len (dgR born K c) i)) u)) ((g2 u (by omega)).trans (by rw [if_neg (by omega)])) ?_
                    refine Z_sipush (nI 9999) dX16_worth_121 rfl ?_
                    refine Z_icmpgeN 165 dX16_worth_124 rfl (by omega) (by omega) (fun c124 => ?_) (fun c124 => ?_)
                    · refine Z_iincM (lv' := [_, _, _, _, _]) dX16_worth_165 rfl (by omega) rfl rfl ?_
                      refine Z_goto 110 dX16_worth_168 rfl ?_
                      have eu : K - (t + 1) = u := by omega
                      have ih2 := iht (by omega) _ g1 (by rw [eu]; exact dw_no g2 (by rw [hoS_s, if_neg (fun q => by omega)]))
                      rw [eu] at ih2
                      exact ih2
                    · refine Z_aload_n dX16_worth_127 rfl ?_
                      refine Z_iload dX16_worth_128 rfl ?_
                      refine Z_iconst (nI 1) dX16_worth_130 rfl ?_
                      refine Z_isubN dX16_worth_131 (by omega) ?_
                      refine Z_iald (zu_s _ _ _) (zix_nI (by omega) (by omega)) dX16_worth_132 ?_
                      refine Z_re (y := nI ((awS (wld D) p (h0 + i) (dgR born K c) (lfR (wld D) p h0 len (dgR born K c) i)) u)) ((g2 u (by omega)).trans (by rw [if_neg (by omega)])) ?_
                      refine Z_ifleN 165 dX16_worth_133 rfl (by omega) (fun c133 => ?_) (fun c133 => ?_)
                      · refine Z_iincM (lv' := [_, _, _, _, _]) dX16_worth_165 rfl (by omega) rfl rfl ?_
                        refine Z_goto 110 dX16_worth_168 rfl ?_
                        have eu : K - (t + 1) = u := by omega
                        have ih2 := iht (by omega) _ g1 (by rw [eu]; exact dw_no g2 (by rw [hoS_s, if_neg (fun q => by omega)]))
                        rw [eu] at ih2
                        exact ih2
                      · refine Z_aload_n dX16_worth_136 rfl ?_
                        refine Z_iload dX16_worth_137 rfl ?_
                        refine Z_aload_n dX16_worth_139 rfl ?_
                        refine Z_iload dX16_worth_140 rfl ?_
                        refine Z_iald (zu_s _ _ _) (zix_nI (by omega) (by omega)) dX16_worth_142 ?_
                        refine Z_re (y := nI ((awS (wld D) p (h0 + i) (dgR born K c) (lfR (wld D) p h0 len (dgR born K c) i)) (u + 1))) ((g2 (u + 1) (by omega)).trans (by rw [if_neg (by omega)])) ?_
                        refine Z_aload_n dX16_worth_143 rfl ?_
                        refine Z_iload dX16_worth_144 rfl ?_
                        refine Z_iconst (nI 1) dX16_worth_146 rfl ?_
                        refine Z_isubN dX16_worth_147 (by omega) ?_
                        refine Z_iald (zu_s _ _ _) (zix_nI (by omega) (by omega)) dX16_worth_148 ?_
                        refine Z_re (y := nI ((awS (wld D) p (h0 + i) (dgR born K c) (lfR (wld D) p h0 len (dgR born K c) i)) u)) ((g2 u (by omega)).trans (by rw [if_neg (by omega)])) ?_
                        refine Z_aload_n dX16_worth_149 rfl ?_
                        refine Z_iload dX16_worth_150 rfl ?_
                        refine Z_iconst (nI 1) dX16_worth_152 rfl ?_
                        refine Z_isubN dX16_worth_153 (by omega) ?_
                        refine Z_iload_n dX16_worth_154 rfl ?_
                        refine Z_iconst (nI 1) dX16_worth_155 rfl ?_
                        refine Z_iaddN dX16_worth_156 ?_
                        refine Z_call0 (d' := 4) (zCal_U uX16_32_14 rfl nX15_lost (by decide) dX16_worth_157) pX15_lost hG2.2.1.2.1 zkl14 [_, _] rfl rfl (Nat.le_of_ble_eq_true rfl) (by omega) (c_X15_lost14 hX0 hG2 hp hm hkn (k := u) (by omega) (hOf u (by omega)) (hrn u (by omega)) (hOf (u + 1) (by omega)) (hrn (u + 1) (by omega)) (by omega) ?_)
                        have w1 := (lst_b (h := h0 + i + 1) hkn (hrn u (by omega)) (hrn (u + 1) (by omega))).2
                        refine Z_iaddN dX16_worth_160 ?_
                        refine Z_callS0 (d' := 0) (zCal_S gX16_36 nJ5_min (by decide) dX16_worth_161) pJ5_min [_, _] rfl rfl (Nat.le_of_ble_eq_true rfl) (by omega) (c_J5_min ?_)
                        rw [mn_n (by omega) (by omega)]
                        refine Z_iast (zu_s _ _ _) (zix_nI (by omega) (by omega)) dX16_worth_164 ?_
                        refine Z_iincM (lv' := [_, _, _, _, _]) dX16_worth_165 rfl (by omega) rfl rfl ?_
                        refine Z_goto 110 dX16_worth_168 rfl ?_
                        have eu : K - (t + 1) = u := by omega
                        have ih2 := iht (by omega) (zw I5 N1 (u + 1) (nI (min ((awS (wld D) p (h0 + i) (dgR born K c) (lfR (wld D) p h0 len (dgR born K c) i)) (u + 1)) ((awS (wld D) p (h0 + i) (dgR born K c) (lfR (wld D) p h0 len (dgR born K c) i)) u + lsN (wld D) ((dgR born K c) u) ((dgR born K c) (u + 1)) (h0 + i + 1))))) (fun x hx => (zw_n _ _ _ _ hx).trans (g1 x hx)) (by rw [zw_a, eu]; exact dw_st g2 (by rw [hoS_s, if_pos ⟨by omega, by omega⟩]))
                        rw [eu] at ih2
                        exact ih2
                exact lp110 0 (by omega) _ g1 (fun j hj => by rw [if_neg (by omega), g2 j hj, if_pos (by omega)])
              · refine Z_iload_n dX16_worth_103 rfl ?_
                refine Z_iconst (nI 1) dX16_worth_104 rfl ?_
                refine Z_iaddN dX16_worth_105 ?_
                refine Z_ireturn dX16_worth_106 rfl rfl ?_
                have e9 : (wvS (wld D) p h0 len born NN K c) = i := frH_eq (by omega) (decide_eq_true c100) g4
                exact zQe (by rw [e9]; unfold bvS; rw [if_neg (by omega)]) (kk _ _ _ _ hG2 (g1 _ na1))
            · refine Z_aload_n dX16_worth_56 rfl ?_
              refine Z_iload dX16_worth_57 rfl ?_
              refine Z_iald (zu_s _ _ _) (zix_nI (by omega) (by omega)) dX16_worth_59 ?_
              refine Z_re (y := nI ((lfR (wld D) p h0 len (dgR born K c) i) k)) ((g2 k (by omega)).trans (by rw [if_neg (by omega)])) ?_
              refine Z_sipush (nI 9999) dX16_worth_60 rfl ?_
              refine Z_icmpgeN 91 dX16_worth_63 rfl (by omega) (by omega) (fun c63 => ?_) (fun c63 => ?_)
              · refine Z_iincN (a := _) (k := 1) (lv' := [_, _, _, _, _]) dX16_worth_91 rfl rfl rfl rfl ?_
                refine Z_goto 50 dX16_worth_94 rfl ?_
                exact ihk (by omega) _ g1 (up_no g2 (by unfold awS; rw [if_neg (fun q => by have := q.1; omega)]))
              · refine Z_aload_n dX16_worth_66 rfl ?_
                refine Z_iload dX16_worth_67 rfl ?_
                refine Z_iald (zu_s _ _ _) (zix_nI (by omega) (by omega)) dX16_worth_69 ?_
                refine Z_re (y := nI ((lfR (wld D) p h0 len (dgR born K c) i) k)) ((g2 k (by omega)).trans (by rw [if_neg (by omega)])) ?_
                refine Z_ifleN 91 dX16_worth_70 rfl (by omega) (fun c70 => ?_) (fun c70 => ?_)
                · refine Z_iincN (a := _) (k := 1) (lv' := [_, _, _, _, _]) dX16_worth_91 rfl rfl rfl rfl ?_
                  refine Z_goto 50 dX16_worth_94 rfl ?_
                  exact ihk (by omega) _ g1 (up_no g2 (by unfold awS; rw [if_neg (fun q => by have := q.1; omega)]))
                · refine Z_aload_n dX16_worth_73 rfl ?_
                  refine Z_iload dX16_worth_74 rfl ?_
                  refine Z_iload_n dX16_worth_76 rfl ?_
                  refine Z_call0 (d' := 2) (zCal_U uX16_28_14 rfl nX15_works (by decide) dX16_worth_77) pX15_works hG2.2.1.2.1 zkl14 [_, _] rfl rfl (Nat.le_of_ble_eq_true rfl) (by omega) (c_X15_works14 hX0 hG2 hp hm (k := k) (by omega) (hOf k (by omega)) (hrn k (by omega)) (fun h77 => ?_) (fun h77 => ?_))
                  · refine Z_ifeq 91 dX16_worth_80 rfl (fun h => absurd h (by decide)) (fun _ => ?_)
                    refine Z_aload_n dX16_worth_83 rfl ?_
                    refine Z_iload dX16_worth_84 rfl ?_
                    refine Z_dup2_11 dX16_worth_86 rfl rfl ?_
                    refine Z_iald (zu_s _ _ _) (zix_nI (by omega) (by omega)) dX16_worth_87 ?_
                    refine Z_re (y := nI ((lfR (wld D) p h0 len (dgR born K c) i) k)) ((g2 k (by omega)).trans (by rw [if_neg (by omega)])) ?_
                    refine Z_iconst (nI 1) dX16_worth_88 rfl ?_
                    refine Z_isubN dX16_worth_89 (by omega) ?_
                    refine Z_iast (zu_s _ _ _) (zix_nI (by omega) (by omega)) dX16_worth_90 ?_
                    refine Z_iincN (a := _) (k := 1) (lv' := [_, _, _, _, _]) dX16_worth_91 rfl rfl rfl rfl ?_
                    refine Z_goto 50 dX16_worth_94 rfl ?_
                    exact ihk (by omega) _ (fun x hx => (zw_n _ _ _ _ hx).trans (g1 x hx)) (by rw [zw_a]; exact up_st (f := fun _ => 0) g2 (by unfold awS; rw [if_pos ⟨⟨by omega, by omega⟩, h77⟩]))
                  · refine Z_ifeq 91 dX16_worth_80 rfl (fun _ => ?_) (fun h => absurd h (by decide))
                    refine Z_iincN (a := _) (k := 1) (lv' := [_, _, _, _, _]) dX16_worth_91 rfl rfl rfl rfl ?_
                    refine Z_goto 50 dX16_worth_94 rfl ?_
                    exact ihk (by omega) _ g1 (up_no g2 (by unfold awS; rw [if_neg (fun q => by rw [h77] at q; exact absurd q.2 (by decide))]))
          exact lp50 0 (by omega) _ g1 (fun j hj => by rw [if_neg (Nat.not_lt_zero _)]; exact g3 j hj)
      exact lp40 0 (by omega) _ (fun x hx => (zw_n _ _ _ _ hx).trans (g1 x hx)) (fun j hj => by
        show _ = nI (if j = 0 then len else 9999)
        by_cases e9 : j = 0
        · subst e9; rw [if_pos rfl]; exact zw_s _ _ _ _
        · rw [if_neg e9, zw_a, zu_n _ _ _ e9]; exact g2 j (by omega) (by omega)) (fun j hj => absurd hj (Nat.not_lt_zero _))
    · refine Z_aload_n dX16_worth_13 rfl ?_
      refine Z_iload_n dX16_worth_14 rfl ?_
      refine Z_sipush (nI 9999) dX16_worth_15 rfl ?_
      refine Z_iast (zu_s _ _ _) (zix_nI (by omega) (by omega)) dX16_worth_18 ?_
      refine Z_iincN (a := _) (k := 1) (lv' := [_, _, _, _, _]) dX16_worth_19 rfl rfl rfl rfl ?_
      refine Z_goto 8 dX16_worth_22 rfl ?_
      exact ih (by omega) _ (fun x hx => (zw_n _ _ _ _ hx).trans (g1 x hx)) (fun j q1 q2 => by
        by_cases e9 : j = i + 1
        · subst e9; exact zw_s _ _ _ _
        · rw [zw_a, zu_n _ _ _ e9]; exact g2 j q1 (by omega))
  exact lp8 0 (by omega) _ (fun x hx => zu_n _ _ _ hx) (fun j q1 q2 => by omega)
end X53C
