set_option maxRecDepth 100000
/-! THE COMPONENT, part 9: what its memory says of the data; small calls -/
section X9C
variable {G : zG} {d C Sl : Nat} {I D W : zI} {R : List Int64} {L : zL} {P : zR} {S : zT} {Q : zQ} {no n np : Nat} {s : zS} {oh ph : Nat → Nat} {ro : Option (List Nat)}
/-- the row told -/
def rwX (I : zI) (L : zL) (R : List Int64) : Prop := (I 100 10 = nI R.length ∧ R.length ≤ 32) ∧ ∀ i, i < R.length → L 302 i = R.getD i 0
def txX (D I : zI) : Prop := ∀ k, k < (D 0 29).toNatClampNeg → I 301 k = (D 28 k).toInt8.toInt32
def prX (D I : zI) (np : Nat) : Prop := ∀ k, k < np → I 303 k = D 51 k ∧ I 304 k = D 52 k ∧ I 305 k = D 53 k
def kpX (D I : zI) (P : zR) (S : zT) : Prop := ∀ i, i < 3 → (P 306 i = none ∧ D 56 i = -1) ∨ ∃ h m, (P 306 i = some h ∧ 7000 ≤ h ∧ stO S P h) ∧ (D 56 i = nI m ∧ m ≤ 8 ∧ I 307 i = nI m) ∧ sRw m I h (fun k => D 57 (127 * i + k))
/-- what is not yet taken -/
def tlX (P : zR) (S : zT) (no n : Nat) : Prop := ((∀ a, no ≤ a → a < 6 → P 201 a = none) ∧ (∀ p, n ≤ p → p < 8 → P 110 p = none)) ∧ ((∀ o, no ≤ o → o < 6 → S (6000 + 16 * o) = none ∧ S (6000 + 16 * o + 8) = none) ∧ ∀ p, n ≤ p → p < 8 → S (6200 + p) = none) ∧ ∃ N, 7000 ≤ N ∧ ∀ a, N ≤ a → S a = none
/-- the component's memory holds the data and the row -/
def xR (D : zI) (R : List Int64) (no n np : Nat) (ro : Option (List Nat)) (oh ph : Nat → Nat) (I : zI) (L : zL) (P : zR) (S : zT) : Prop :=
  hE (wld D) no n oh ph 200 240 I P S ∧ (sRw n I 240 (D 23) ∧ ruX I P S 200 ro) ∧ ((I 100 8 = D 0 29 ∧ I 100 14 = nI np) ∧ rwX I L R) ∧ (txX D I ∧ prX D I np ∧ kpX D I P S) ∧ tlX P S no n ∧ ((∀ o, oh o = 6000 + 16 * o) ∧ ∀ p, ph p = 6200 + p)
/-- what the component's calls leave alone -/
def frX (I : zI) (L : zL) (P : zR) (S : zT) (I2 : zI) (L2 : zL) (P2 : zR) (S2 : zT) : Prop := ∀ a, a < 100 ∨ (5000 ≤ a ∧ a < 6000) → (I2 a = I a ∧ L2 a = L a) ∧ P2 a = P a ∧ S2 a = S a
theorem frX.rf : frX I L P S I L P S := fun _ _ => ⟨⟨rfl, rfl⟩, rfl, rfl⟩
section FRX
variable {I2 : zI} {L2 : zL} {P2 : zR} {S2 : zT}
theorem frX.i {I3 : zI} (f : frX I L P S I2 L2 P2 S2) (h : ∀ a, a < 100 ∨ (5000 ≤ a ∧ a < 6000) → I3 a = I2 a) : frX I L P S I3 L2 P2 S2 := fun a ha => ⟨⟨(h a ha).trans (f a ha).1.1, (f a ha).1.2⟩, (f a ha).2⟩
theorem frX.st {a k : Nat} {v : Int32} (f : frX I L P S I2 L2 P2 S2) (h : ¬ (a < 100 ∨ (5000 ≤ a ∧ a < 6000))) : frX I L P S (zw I2 a k v) L2 P2 S2 := f.i fun b hb => zw_n _ _ _ _ (by rintro rfl; exact h hb)
theorem frX.sl {a k : Nat} {v : Int64} (f : frX I L P S I2 L2 P2 S2) (h : ¬ (a < 100 ∨ (5000 ≤ a ∧ a < 6000))) : frX I L P S I2 (zw L2 a k v) P2 S2 := fun b hb => ⟨⟨(f b hb).1.1, (zw_n _ _ _ _ (by rintro rfl; exact h hb)).trans (f b hb).1.2⟩, (f b hb).2⟩
theorem frX.sp {a k : Nat} {v : Option Nat} (f : frX I L P S I2 L2 P2 S2) (h : ¬ (a < 100 ∨ (5000 ≤ a ∧ a < 6000))) : frX I L P S I2 L2 (zw P2 a k v) S2 := fun b hb => ⟨(f b hb).1, (zw_n _ _ _ _ (by rintro rfl; exact h hb)).trans (f b hb).2.1, (f b hb).2.2⟩
theorem frX.p {P3 : zR} (f : frX I L P S I2 L2 P2 S2) (h : ∀ a, a < 100 ∨ (5000 ≤ a ∧ a < 6000) → P3 a = P2 a) : frX I L P S I2 L2 P3 S2 := fun a ha => ⟨(f a ha).1, (h a ha).trans (f a ha).2.1, (f a ha).2.2⟩
theorem xO_k {f : zO} {v : Int32} {D2 : zI} {R2 : List Int64} (h : f = (v, D2, R2)) (k : ∀ I2 L2 P2 S2, xR f.2.1 f.2.2 no n np ro oh ph I2 L2 P2 S2 → frX I L P S I2 L2 P2 S2 → Q (.inl (some (.int f.1))) I2 L2 P2 S2) (hm : xR D2 R2 no n np ro oh ph I2 L2 P2 S2) (hf : frX I L P S I2 L2 P2 S2) : Q (.inl (some (.int v))) I2 L2 P2 S2 := by
  subst h
  exact k _ _ _ _ hm hf
end FRX
-- a world's rows may say the same with other data
theorem wld_at {D2 : zI} {a k : Nat} (h : D2 a k = D a k) : wld D2 a k = wld D a k := by unfold wld; rw [h]
theorem wf_pt {W2 : zI} (h : wf W no n) (h3 : W2 0 3 = W 0 3) (h16 : W2 0 16 = W 0 16) (h20 : ∀ p, W2 20 p = W 20 p) (h21 : ∀ p, W2 21 p = W 21 p) : wf W2 no n := by
  obtain ⟨⟨a, b⟩, ⟨c, c2⟩, e, f⟩ := h
  exact ⟨⟨h3.trans a, b⟩, ⟨h16.trans c, c2⟩, fun p hp => by rw [h20]; exact e p hp, fun p hp => by rw [h21]; exact f p hp⟩
theorem xf_pt {W2 : zI} (h : xf W n) (hW : ∀ a p, 17 ≤ a → a ≤ 22 → W2 a p = W a p) : xf W2 n := fun p hp => by
  rw [hW 19 p (by decide) (by decide), hW 18 p (by decide) (by decide), hW 22 p (by decide) (by decide), hW 17 p (by decide) (by decide)]
  exact h p hp
theorem pcR.wq {W2 : zI} (h : pcR S P I W n ph) (hW : ∀ a p, 17 ≤ a → a ≤ 22 → W2 a p = W a p) (h37 : W2 0 37 = W 0 37) : pcR S P I W2 n ph := fun p hp => by
  have e : askd W2 p = askd W p := by unfold askd; rw [h37, hW 21 p (by decide) (by decide)]
  rw [hW 19 p (by decide) (by decide), hW 18 p (by decide) (by decide), hW 22 p (by decide) (by decide), hW 17 p (by decide) (by decide), hW 20 p (by decide) (by decide), e]
  exact h p hp
theorem wRw.wq {W2 : zI} {h : Nat} (g : wRw S P I h W no oh) (hW : ∀ a p, 4 ≤ a → a ≤ 13 → W2 a p = W a p) (h14 : W2 0 14 = W 0 14) (h15 : W2 0 15 = W 0 15) : wRw S P I h W2 no oh := by
  obtain ⟨⟨a, b, c⟩, r, o⟩ := g
  refine ⟨⟨a, b.trans h14.symm, c.trans h15.symm⟩, fun x y hx hy => by rw [hW 13 _ (by decide) (by decide)]; exact r x y hx hy, fun q hq => ?_⟩
  obtain ⟨q1, q2, q3⟩ := o q hq
  refine ⟨q1, q2, ?_⟩
  unfold oRw at q3 ⊢
  rw [hW 4 _ (by decide) (by decide), hW 5 _ (by decide) (by decide), hW 6 _ (by decide) (by decide), hW 7 _ (by decide) (by decide), hW 8 _ (by decide) (by decide), hW 9 _ (by decide) (by decide), hW 10 _ (by decide) (by decide), hW 11 _ (by decide) (by decide)]
  exact ⟨q3.1, q3.2.1, fun dd hd => by rw [hW 12 _ (by decide) (by decide)]; exact q3.2.2 dd hd⟩
theorem kpX.fr {D2 I2 : zI} (g : kpX D I P S) (h56 : ∀ k, D2 56 k = D 56 k) (h57 : ∀ k, D2 57 k = D 57 k) (h307 : I2 307 = I 307) (hI : ∀ a, 7000 ≤ a → I2 a = I a) : kpX D2 I2 P S := fun i hi => by
  rcases g i hi with ⟨a, b⟩ | ⟨h, m, ⟨a1, a2, a3⟩, ⟨b1, b2, b3⟩, c⟩
  · exact Or.inl ⟨a, (h56 i).trans b⟩
  · refine Or.inr ⟨h, m, ⟨a1, a2, a3⟩, ⟨(h56 i).trans b1, b2, by rw [h307]; exact b3⟩, ?_⟩
    have e : (fun k => D2 57 (127 * i + k)) = fun k => D 57 (127 * i + k) := funext fun k => h57 _
    rw [e]
    exact c.fr fun k hk => hI _ (by omega)
theorem stO.h {h : Nat} (g : stO S P h) (k : Nat) {q : FieldType × Nat} (hk : sAr k = some q) : S (h + k) ≠ none := by rw [(g.2.1 k q hk).1]; simp
/-- the offices, who knows whom, what is lost: in the world alone -/
theorem xR.wd {I2 D2 : zI} (g : xR D R no n np ro oh ph I L P S) (hI : ∀ a, a ≠ 200 → ¬ (203 ≤ a ∧ a ≤ 208) → ¬ (6000 ≤ a ∧ a < 6200) → I2 a = I a) (hD : ∀ a k, ¬ (4 ≤ a ∧ a ≤ 13) → ¬ (a = 0 ∧ (k = 14 ∨ k = 15)) → D2 a k = D a k) (hw : wRw S P I2 200 (wld D2) no oh) : xR D2 R no n np ro oh ph I2 L P S := by
  obtain ⟨⟨⟨a1, a2⟩, ⟨b1, b2⟩, ⟨c1, c2⟩, ⟨d1, d2⟩, d3, d4, d5⟩, ⟨gs, hro⟩, ⟨⟨h29, h50⟩, hrw⟩, ⟨htx, hpr, hkp⟩, htl, hoh, hph⟩ := g
  have hW : ∀ a p, 17 ≤ a → a ≤ 22 → wld D2 a p = wld D a p := fun a p h1 h2 => wld_at (hD a p (by omega) (by omega))
  have h100 : I2 100 = I 100 := hI _ (by decide) (by decide) (by decide)
  have e23 : D2 23 = D 23 := funext fun k => hD 23 k (by decide) (by omega)
  refine ⟨⟨⟨a1, by rw [h100]; exact a2⟩, ⟨b1, hw⟩, ⟨c1, ?_⟩, ⟨wf_pt d1 (wld_at (hD _ _ (by decide) (by decide))) (wld_at (hD _ _ (by decide) (by decide))) (fun p => hW 20 p (by decide) (by decide)) (fun p => hW 21 p (by decide) (by decide)), xf_pt d2 hW⟩, d3, d4, d5⟩, ⟨?_, ?_⟩, ⟨⟨by rw [h100, hD 0 29 (by decide) (by decide)]; exact h29, by rw [h100]; exact h50⟩, by unfold rwX; rw [h100]; exact hrw⟩, ⟨fun k hk => ?_, fun k hk => ?_, ?_⟩, htl, hoh, hph⟩
  · exact (c2.fr (fun p hp => hI _ (by rw [hph]; omega) (by rw [hph]; omega) (by rw [hph]; omega))).wq hW (wld_at (hD _ _ (by decide) (by decide)))
  · rw [e23]; exact gs.fr fun k hk => hI _ (by omega) (by omega) (by omega)
  · cases ro with
    | none => exact hro
    | some c =>
      obtain ⟨r, f, r1, r2, r3⟩ := hro
      exact ⟨r, f, r1, r2, r3.fr fun a ha _ => ⟨hI _ (by omega) (by omega) (by omega), rfl, rfl⟩⟩
  · rw [hD 0 29 (by decide) (by decide)] at hk
    rw [hI 301 (by decide) (by decide) (by decide), hD 28 k (by decide) (by omega)]; exact htx k hk
  · rw [hI 303 (by decide) (by decide) (by decide), hI 304 (by decide) (by decide) (by decide), hI 305 (by decide) (by decide) (by decide), hD 51 k (by decide) (by omega), hD 52 k (by decide) (by omega), hD 53 k (by decide) (by omega)]; exact hpr k hk
  · exact hkp.fr (fun k => hD 56 k (by decide) (by omega)) (fun k => hD 57 k (by decide) (by omega)) (hI _ (by decide) (by decide) (by decide)) (fun a ha => hI a (by omega) (by omega) (by omega))
theorem nI_s1 {k : Nat} (hk : k < 2 ^ 31) : (nI k - nI 1).toInt = (k : Int) - 1 := by
  cases k with
  | zero => decide
  | succ k => rw [show nI (k + 1) = nI k + nI 1 from (nI_add k 1).symm, Int32.sub_eq_add_neg, Int32.add_assoc, Int32.add_right_neg, Int32.add_zero, z_ti (by omega)]; omega
set_option maxHeartbeats 4000000 in
theorem c_X1_isOffice (hx : xO S P) (h1 : I 200 1 = nI no) (h6 : no ≤ 6) {o : Int32} (kt : ∀ k, k < no → o = nI k → Q (.inl (some (.int (nI 1)))) I L P S) (kf : ¬ (0 ≤ o.toInt ∧ o.toInt ≤ (no : Int) - 1) → Q (.inl (some (.int (nI 0)))) I L P S) : Zm G mX1_isOffice 1 C Sl [.ref 100, .int o] I L P S Q := by
  refine Z_entry (lv := [_, _]) (Nat.le_of_ble_eq_true rfl) rfl ?_
  refine Z_iload_n dX1_isOffice_0 rfl ?_
  refine Z_iconst (nI 0) dX1_isOffice_1 rfl ?_
  refine Z_aload_n dX1_isOffice_2 rfl ?_
  refine Z_getR (r := 200) hx.1 fX1_52_0 dX1_isOffice_3 rfl hx.2.2.2.1.1 ?_
  refine Z_getI hx.2.2.2.2.1.1 fX1_19_1 dX1_isOffice_6 rfl ?_
  refine Z_re (y := nI (no)) h1 ?_
  refine Z_iconst (nI 1) dX1_isOffice_9 rfl ?_
  refine Z_isub dX1_isOffice_10 ?_
  refine Z_callS0 (d' := 0) (zCal_S gX1_3 nX1_in (by decide) dX1_isOffice_11) pX1_in [_, _, _] rfl rfl (Nat.le_of_ble_eq_true rfl) (by omega) (c_X1_in (fun h11a h11b => ?_) (fun h11 => ?_))
  · rw [nI_s1 (by omega)] at h11b
    obtain ⟨k0, hk0, e0⟩ := z_rng (n := no - 1) h11a (by omega) (by omega)
    have hk1 : k0 < no := by
      rw [e0, z_ti (by omega)] at h11b
      omega
    refine Z_ireturn dX1_isOffice_14 rfl rfl ?_
    exact kt k0 hk1 e0
  · rw [nI_s1 (by omega)] at h11
    refine Z_ireturn dX1_isOffice_14 rfl rfl ?_
    exact kf h11
set_option maxHeartbeats 4000000 in
theorem c_X1_isPiece (hx : xO S P) (hn : I 100 1 = nI n) (h6 : n ≤ 8) {o : Int32} (kt : ∀ k, k < n → o = nI k → Q (.inl (some (.int (nI 1)))) I L P S) (kf : ¬ (0 ≤ o.toInt ∧ o.toInt ≤ (n : Int) - 1) → Q (.inl (some (.int (nI 0)))) I L P S) : Zm G mX1_isPiece 1 C Sl [.ref 100, .int o] I L P S Q := by
  refine Z_entry (lv := [_, _]) (Nat.le_of_ble_eq_true rfl) rfl ?_
  refine Z_iload_n dX1_isPiece_0 rfl ?_
  refine Z_iconst (nI 0) dX1_isPiece_1 rfl ?_
  refine Z_aload_n dX1_isPiece_2 rfl ?_
  refine Z_getI hx.1 fX1_105_0 dX1_isPiece_3 rfl ?_
  refine Z_re (y := nI (n)) hn ?_
  refine Z_iconst (nI 1) dX1_isPiece_6 rfl ?_
  refine Z_isub dX1_isPiece_7 ?_
  refine Z_callS0 (d' := 0) (zCal_S gX1_3 nX1_in (by decide) dX1_isPiece_8) pX1_in [_, _, _] rfl rfl (Nat.le_of_ble_eq_true rfl) (by omega) (c_X1_in (fun h8a h8b => ?_) (fun h8 => ?_))
  · rw [nI_s1 (by omega)] at h8b
    obtain ⟨k0, hk0, e0⟩ := z_rng (n := n - 1) h8a (by omega) (by omega)
    have hk1 : k0 < n := by
      rw [e0, z_ti (by omega)] at h8b
      omega
    refine Z_ireturn dX1_isPiece_11 rfl rfl ?_
    exact kt k0 hk1 e0
  · rw [nI_s1 (by omega)] at h8
    refine Z_ireturn dX1_isPiece_11 rfl rfl ?_
    exact kf h8
set_option maxHeartbeats 4000000 in
theorem o_xopen (hX : xR D R no n np ro oh ph I L P S) {o h : Int32} (k : ∀ I2 L2 P2 S2, xR (fOpen D R o h).2.1 (fOpen D R o h).2.2 no n np ro oh ph I2 L2 P2 S2 → frX I L P S I2 L2 P2 S2 → Q (.inl (some (.int (fOpen D R o h).1))) I2 L2 P2 S2) : Zm G mX1_open 3 C Sl [.ref 100, .int o, .int h] I L P S Q := by
  obtain ⟨e, ⟨g, hro⟩, ⟨⟨h29, h50⟩, hrw⟩, ⟨htx, hpr, hkp⟩, htl, hoh, hph⟩ := hX
  have hX : xR D R no n np ro oh ph I L P S := ⟨e, ⟨g, hro⟩, ⟨⟨h29, h50⟩, hrw⟩, ⟨htx, hpr, hkp⟩, htl, hoh, hph⟩
  have hx := e.x
  have hO := e.wd
  have hR := e.wr
  have hT := e.st
  have hPc := e.pc
  have hw := e.hw
  have hf := e.hx
  have hb := e.b
  have hn := e.nn
  have n8 := hw.n8
  have h6 := hw.o6
  have hn8 := hw.n8
  have hno : noD D = no := by rw [noD, show D 0 3 = nI no from hw.o3, nI_clamp (by omega)]
  have hnn : nD D = n := by rw [nD, show D 0 16 = nI n from hw.n16, nI_clamp (by omega)]
  have hM := hR.1
  refine Z_entry (lv := [_, _, _]) (Nat.le_of_ble_eq_true rfl) rfl ?_
  refine Z_aload_n dX1_open_0 rfl ?_
  refine Z_iload_n dX1_open_1 rfl ?_
  refine Z_call0 (d' := 1) (zCal_V gX1_121 nX1_isOffice (by decide) dX1_open_2) pX1_isOffice hx.1 zkl0 [_] rfl rfl (Nat.le_of_ble_eq_true rfl) (by omega) (c_X1_isOffice hx hR.1.1 h6 (fun k2 hk2 e2 => ?_) (fun h2 => ?_))
  · subst e2
    have r2 : oB D (nI k2) = true := rB_t (by rw [z_ti (by omega)]; omega) (by rw [z_ti (by omega), hno]; omega)
    have v2 : (nI k2).toNatClampNeg = k2 := nI_clamp (by omega)
    refine Z_ifeq 15 dX1_open_5 rfl (fun h => absurd h (by decide)) (fun _ => ?_)
    refine Z_iload_n dX1_open_8 rfl ?_
    refine Z_callS0 (d' := 1) (zCal_S gX1_124 nX1_isHour (by decide) dX1_open_9) pX1_isHour [_] rfl rfl (Nat.le_of_ble_eq_true rfl) (by omega) (c_X1_isHour (fun h9a h9b => ?_) (fun h9 => ?_))
    · have r9 : rB h 0 2399 = true := rB_t h9a h9b
      obtain ⟨k9, hk9, e9⟩ := z_rng (n := 2399) h9a h9b (by omega)
      subst e9
      have v9 : (nI k9).toNatClampNeg = k9 := nI_clamp (by omega)
      refine Z_ifne 19 dX1_open_12 rfl (fun _ => ?_) (fun h => absurd h (by decide))
      refine Z_aload_n dX1_open_19 rfl ?_
      refine Z_getR (r := 200) hx.1 fX1_52_0 dX1_open_20 rfl hx.2.2.2.1.1 ?_
      refine Z_getR (r := (200 + 1)) hO.1 fX1_127_1 dX1_open_23 rfl hO.2.1.2 ?_
      refine Z_iload_n dX1_open_26 rfl ?_
      refine Z_aald (r := (oh k2)) hO.2.1.1 (by simp [zTys]) rfl (zix_nI (by first | omega | (dsimp only; omega)) (by decide)) (hR.2.2 k2 (by omega)).1 dX1_open_27 ?_
      refine Z_iload_n dX1_open_28 rfl ?_
      refine Z_call0 (d' := 1) (zCal_V gX1_178 nX6_isOpen (by decide) dX1_open_29) pX6_isOpen (hR.2.2 k2 (by omega)).2.1.1 zkl5 [_] rfl rfl (Nat.le_of_ble_eq_true rfl) (by omega) (c_X6_isOpen (hR.2.2 k2 (by omega)).2.1 (hR.2.2 k2 (by omega)).2.2 (fun h29 => ?_) (fun h29 => ?_))
      · refine Z_ifeq 39 dX1_open_32 rfl (fun h => absurd h (by decide)) (fun _ => ?_)
        refine Z_iconst (nI 1) dX1_open_35 rfl ?_
        refine Z_goto 40 dX1_open_36 rfl ?_
        refine Z_ireturn dX1_open_40 rfl rfl ?_
        exact xO_k (D2 := D) (R2 := R) (by simp [fOpen, bI, r2, v2, r9, v9, h29]) k (hX) (frX.rf)
      · refine Z_ifeq 39 dX1_open_32 rfl (fun _ => ?_) (fun h => absurd h (by decide))
        refine Z_iconst (nI 0) dX1_open_39 rfl ?_
        refine Z_ireturn dX1_open_40 rfl rfl ?_
        exact xO_k (D2 := D) (R2 := R) (by simp [fOpen, bI, r2, v2, r9, v9, h29]) k (hX) (frX.rf)
    · have r9 : rB h 0 2399 = false := rB_f h9
      refine Z_ifne 19 dX1_open_12 rfl (fun h => absurd h (by decide)) (fun _ => ?_)
      refine Z_iconst (-1) dX1_open_15 rfl ?_
      refine Z_goto 40 dX1_open_16 rfl ?_
      refine Z_ireturn dX1_open_40 rfl rfl ?_
      exact xO_k (D2 := D) (R2 := R) (by simp [fOpen, bI, r2, v2, r9]) k (hX) (frX.rf)
  · have r2 : oB D o = false := rB_f (fun q => h2 ⟨q.1, by have := q.2; rw [hno] at this; omega⟩)
    refine Z_ifeq 15 dX1_open_5 rfl (fun _ => ?_) (fun h => absurd h (by decide))
    refine Z_iconst (-1) dX1_open_15 rfl ?_
    refine Z_goto 40 dX1_open_16 rfl ?_
    refine Z_ireturn dX1_open_40 rfl rfl ?_
    exact xO_k (D2 := D) (R2 := R) (by simp [fOpen, bI, r2]) k (hX) (frX.rf)
set_option maxHeartbeats 4000000 in
theorem o_xoverlap (hX : xR D R no n np ro oh ph I L P S) {a b h : Int32} (k : ∀ I2 L2 P2 S2, xR (fOverlap D R a b h).2.1 (fOverlap D R a b h).2.2 no n np ro oh ph I2 L2 P2 S2 → frX I L P S I2 L2 P2 S2 → Q (.inl (some (.int (fOverlap D R a b h).1))) I2 L2 P2 S2) : Zm G mX1_overlap 4 C Sl [.ref 100, .int a, .int b, .int h] I L P S Q := by
  obtain ⟨e, ⟨g, hro⟩, ⟨⟨h29, h50⟩, hrw⟩, ⟨htx, hpr, hkp⟩, htl, hoh, hph⟩ := hX
  have hX : xR D R no n np ro oh ph I L P S := ⟨e, ⟨g, hro⟩, ⟨⟨h29, h50⟩, hrw⟩, ⟨htx, hpr, hkp⟩, htl, hoh, hph⟩
  have hx := e.x
  have hO := e.wd
  have hR := e.wr
  have hT := e.st
  have hPc := e.pc
  have hw := e.hw
  have hf := e.hx
  have hb := e.b
  have hn := e.nn
  have n8 := hw.n8
  have h6 := hw.o6
  have hn8 := hw.n8
  have hno : noD D = no := by rw [noD, show D 0 3 = nI no from hw.o3, nI_clamp (by omega)]
  have hnn : nD D = n := by rw [nD, show D 0 16 = nI n from hw.n16, nI_clamp (by omega)]
  have hM := hR.1
  refine Z_entry (lv := [_, _, _, _]) (Nat.le_of_ble_eq_true rfl) rfl ?_
  refine Z_aload_n dX1_overlap_0 rfl ?_
  refine Z_iload_n dX1_overlap_1 rfl ?_
  refine Z_call0 (d' := 1) (zCal_V gX1_121 nX1_isOffice (by decide) dX1_overlap_2) pX1_isOffice hx.1 zkl0 [_] rfl rfl (Nat.le_of_ble_eq_true rfl) (by omega) (c_X1_isOffice hx hR.1.1 h6 (fun k2 hk2 e2 => ?_) (fun h2 => ?_))
  · subst e2
    have r2 : oB D (nI k2) = true := rB_t (by rw [z_ti (by omega)]; omega) (by rw [z_ti (by omega), hno]; omega)
    have v2 : (nI k2).toNatClampNeg = k2 := nI_clamp (by omega)
    refine Z_ifeq 36 dX1_overlap_5 rfl (fun h => absurd h (by decide)) (fun _ => ?_)
    refine Z_aload_n dX1_overlap_8 rfl ?_
    refine Z_iload_n dX1_overlap_9 rfl ?_
    refine Z_call0 (d' := 1) (zCal_V gX1_121 nX1_isOffice (by decide) dX1_overlap_10) pX1_isOffice hx.1 zkl0 [_] rfl rfl (Nat.le_of_ble_eq_true rfl) (by omega) (c_X1_isOffice hx hR.1.1 h6 (fun k10 hk10 e10 => ?_) (fun h10 => ?_))
    · subst e10
      have r10 : oB D (nI k10) = true := rB_t (by rw [z_ti (by omega)]; omega) (by rw [z_ti (by omega), hno]; omega)
      have v10 : (nI k10).toNatClampNeg = k10 := nI_clamp (by omega)
      refine Z_ifeq 36 dX1_overlap_13 rfl (fun h => absurd h (by decide)) (fun _ => ?_)
      refine Z_iload_n dX1_overlap_16 rfl ?_
      refine Z_callS0 (d' := 1) (zCal_S gX1_124 nX1_isHour (by decide) dX1_overlap_17) pX1_isHour [_] rfl rfl (Nat.le_of_ble_eq_true rfl) (by omega) (c_X1_isHour (fun h17a h17b => ?_) (fun h17 => ?_))
      · have r17 : rB h 0 2399 = true := rB_t h17a h17b
        obtain ⟨k17, hk17, e17⟩ := z_rng (n := 2399) h17a h17b (by omega)
        subst e17
        have v17 : (nI k17).toNatClampNeg = k17 := nI_clamp (by omega)
        refine Z_ifeq 36 dX1_overlap_20 rfl (fun h => absurd h (by decide)) (fun _ => ?_)
        refine Z_aload_n dX1_overlap_23 rfl ?_
        refine Z_getR (r := 200) hx.1 fX1_52_0 dX1_overlap_24 rfl hx.2.2.2.1.1 ?_
        refine Z_iload_n dX1_overlap_27 rfl ?_
        refine Z_iload_n dX1_overlap_28 rfl ?_
        refine Z_iload_n dX1_overlap_29 rfl ?_
        refine Z_call0 (d' := 2) (zCal_V gX1_181 nX2_overlap (by decide) dX1_overlap_30) pX2_overlap hO.1 zkl1 [_, _, _] rfl rfl (Nat.le_of_ble_eq_true rfl) (by omega) (c_X2_overlap hO hR h6 (by omega) (by omega) (by omega) ?_)
        refine Z_goto 37 dX1_overlap_33 rfl ?_
        refine Z_ireturn dX1_overlap_37 rfl rfl ?_
        exact xO_k (D2 := D) (R2 := R) (by simp [fOverlap, r2, v2, r10, v10, r17, v17]) k (hX) (frX.rf)
      · have r17 : rB h 0 2399 = false := rB_f h17
        refine Z_ifeq 36 dX1_overlap_20 rfl (fun _ => ?_) (fun h => absurd h (by decide))
        refine Z_iconst (-1) dX1_overlap_36 rfl ?_
        refine Z_ireturn dX1_overlap_37 rfl rfl ?_
        exact xO_k (D2 := D) (R2 := R) (by simp [fOverlap, r2, v2, r10, v10, r17]) k (hX) (frX.rf)
    · have r10 : oB D b = false := rB_f (fun q => h10 ⟨q.1, by have := q.2; rw [hno] at this; omega⟩)
      refine Z_ifeq 36 dX1_overlap_13 rfl (fun _ => ?_) (fun h => absurd h (by decide))
      refine Z_iconst (-1) dX1_overlap_36 rfl ?_
      refine Z_ireturn dX1_overlap_37 rfl rfl ?_
      exact xO_k (D2 := D) (R2 := R) (by simp [fOverlap, r2, v2, r10]) k (hX) (frX.rf)
  · have r2 : oB D a = false := rB_f (fun q => h2 ⟨q.1, by have := q.2; rw [hno] at this; omega⟩)
    refine Z_ifeq 36 dX1_overlap_5 rfl (fun _ => ?_) (fun h => absurd h (by decide))
    refine Z_iconst (-1) dX1_overlap_36 rfl ?_
    refine Z_ireturn dX1_overlap_37 rfl rfl ?_
    exact xO_k (D2 := D) (R2 := R) (by simp [fOverlap, r2]) k (hX) (frX.rf)
set_option maxHeartbeats 4000000 in
theorem o_xloses (hX : xR D R no n np ro oh ph I L P S) {a b h : Int32} (k : ∀ I2 L2 P2 S2, xR (fLoses D R a b h).2.1 (fLoses D R a b h).2.2 no n np ro oh ph I2 L2 P2 S2 → frX I L P S I2 L2 P2 S2 → Q (.inl (some (.int (fLoses D R a b h).1))) I2 L2 P2 S2) : Zm G mX1_loses 4 C Sl [.ref 100, .int a, .int b, .int h] I L P S Q := by
  obtain ⟨e, ⟨g, hro⟩, ⟨⟨h29, h50⟩, hrw⟩, ⟨htx, hpr, hkp⟩, htl, hoh, hph⟩ := hX
  have hX : xR D R no n np ro oh ph I L P S := ⟨e, ⟨g, hro⟩, ⟨⟨h29, h50⟩, hrw⟩, ⟨htx, hpr, hkp⟩, htl, hoh, hph⟩
  have hx := e.x
  have hO := e.wd
  have hR := e.wr
  have hT := e.st
  have hPc := e.pc
  have hw := e.hw
  have hf := e.hx
  have hb := e.b
  have hn := e.nn
  have n8 := hw.n8
  have h6 := hw.o6
  have hn8 := hw.n8
  have hno : noD D = no := by rw [noD, show D 0 3 = nI no from hw.o3, nI_clamp (by omega)]
  have hnn : nD D = n := by rw [nD, show D 0 16 = nI n from hw.n16, nI_clamp (by omega)]
  have hM := hR.1
  refine Z_entry (lv := [_, _, _, _]) (Nat.le_of_ble_eq_true rfl) rfl ?_
  refine Z_aload_n dX1_loses_0 rfl ?_
  refine Z_iload_n dX1_loses_1 rfl ?_
  refine Z_call0 (d' := 1) (zCal_V gX1_121 nX1_isOffice (by decide) dX1_loses_2) pX1_isOffice hx.1 zkl0 [_] rfl rfl (Nat.le_of_ble_eq_true rfl) (by omega) (c_X1_isOffice hx hR.1.1 h6 (fun k2 hk2 e2 => ?_) (fun h2 => ?_))
  · subst e2
    have r2 : oB D (nI k2) = true := rB_t (by rw [z_ti (by omega)]; omega) (by rw [z_ti (by omega), hno]; omega)
    have v2 : (nI k2).toNatClampNeg = k2 := nI_clamp (by omega)
    refine Z_ifeq 36 dX1_loses_5 rfl (fun h => absurd h (by decide)) (fun _ => ?_)
    refine Z_aload_n dX1_loses_8 rfl ?_
    refine Z_iload_n dX1_loses_9 rfl ?_
    refine Z_call0 (d' := 1) (zCal_V gX1_121 nX1_isOffice (by decide) dX1_loses_10) pX1_isOffice hx.1 zkl0 [_] rfl rfl (Nat.le_of_ble_eq_true rfl) (by omega) (c_X1_isOffice hx hR.1.1 h6 (fun k10 hk10 e10 => ?_) (fun h10 => ?_))
    · subst e10
      have r10 : oB D (nI k10) = true := rB_t (by rw [z_ti (by omega)]; omega) (by rw [z_ti (by omega), hno]; omega)
      have v10 : (nI k10).toNatClampNeg = k10 := nI_clamp (by omega)
      refine Z_ifeq 36 dX1_loses_13 rfl (fun h => absurd h (by decide)) (fun _ => ?_)
      refine Z_iload_n dX1_loses_16 rfl ?_
      refine Z_callS0 (d' := 1) (zCal_S gX1_124 nX1_isHour (by decide) dX1_loses_17) pX1_isHour [_] rfl rfl (Nat.le_of_ble_eq_true rfl) (by omega) (c_X1_isHour (fun h17a h17b => ?_) (fun h17 => ?_))
      · have r17 : rB h 0 2399 = true := rB_t h17a h17b
        obtain ⟨k17, hk17, e17⟩ := z_rng (n := 2399) h17a h17b (by omega)
        subst e17
        have v17 : (nI k17).toNatClampNeg = k17 := nI_clamp (by omega)
        refine Z_ifeq 36 dX1_loses_20 rfl (fun h => absurd h (by decide)) (fun _ => ?_)
        refine Z_aload_n dX1_loses_23 rfl ?_
        refine Z_getR (r := 200) hx.1 fX1_52_0 dX1_loses_24 rfl hx.2.2.2.1.1 ?_
        refine Z_iload_n dX1_loses_27 rfl ?_
        refine Z_iload_n dX1_loses_28 rfl ?_
        refine Z_iload_n dX1_loses_29 rfl ?_
        refine Z_call0 (d' := 3) (zCal_V gX1_185 nX2_lost (by decide) dX1_loses_30) pX2_lost hO.1 zkl1 [_, _, _] rfl rfl (Nat.le_of_ble_eq_true rfl) (by omega) (c_X2_lost hO hR h6 (by omega) (by omega) (by omega) ?_)
        refine Z_goto 37 dX1_loses_33 rfl ?_
        refine Z_ireturn dX1_loses_37 rfl rfl ?_
        exact xO_k (D2 := D) (R2 := R) (by simp [fLoses, r2, v2, r10, v10, r17, v17]) k (hX) (frX.rf)
      · have r17 : rB h 0 2399 = false := rB_f h17
        refine Z_ifeq 36 dX1_loses_20 rfl (fun _ => ?_) (fun h => absurd h (by decide))
        refine Z_iconst (-1) dX1_loses_36 rfl ?_
        refine Z_ireturn dX1_loses_37 rfl rfl ?_
        exact xO_k (D2 := D) (R2 := R) (by simp [fLoses, r2, v2, r10, v10, r17]) k (hX) (frX.rf)
    · have r10 : oB D b = false := rB_f (fun q => h10 ⟨q.1, by have := q.2; rw [hno] at this; omega⟩)
      refine Z_ifeq 36 dX1_loses_13 rfl (fun _ => ?_) (fun h => absurd h (by decide))
      refine Z_iconst (-1) dX1_loses_36 rfl ?_
      refine Z_ireturn dX1_loses_37 rfl rfl ?_
      exact xO_k (D2 := D) (R2 := R) (by simp [fLoses, r2, v2, r10]) k (hX) (frX.rf)
  · have r2 : oB D a = false := rB_f (fun q => h2 ⟨q.1, by have := q.2; rw [hno] at this; omega⟩)
    refine Z_ifeq 36 dX1_loses_5 rfl (fun _ => ?_) (fun h => absurd h (by decide))
    refine Z_iconst (-1) dX1_loses_36 rfl ?_
    refine Z_ireturn dX1_loses_37 rfl rfl ?_
    exact xO_k (D2 := D) (R2 := R) (by simp [fLoses, r2]) k (hX) (frX.rf)
end X9C
