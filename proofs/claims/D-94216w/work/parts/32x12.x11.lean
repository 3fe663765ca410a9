set_option maxRecDepth 100000
/-! THE COMPONENT, part 11: what is asked; the tape; pairs; a state taken again -/
section X11C
variable {G : zG} {d C Sl : Nat} {I D W : zI} {R : List Int64} {L : zL} {P : zR} {S : zT} {Q : zQ} {no n np : Nat} {s : zS} {oh ph : Nat → Nat} {ro : Option (List Nat)}
/-- fields of the object itself, its text and its pairs -/
theorem xR.misc {I2 D2 : zI} {np2 : Nat} (g : xR D R no n np ro oh ph I L P S) (hI : ∀ a, a ≠ 100 → a ≠ 301 → a ≠ 303 → a ≠ 304 → a ≠ 305 → I2 a = I a) (h1 : I2 100 1 = I 100 1) (h10 : I2 100 10 = I 100 10) (hD : ∀ a k, a ≠ 28 → a ≠ 51 → a ≠ 52 → a ≠ 53 → ¬ (a = 0 ∧ (k = 29 ∨ k = 50)) → D2 a k = D a k) (h8 : I2 100 8 = D2 0 29) (h14 : I2 100 14 = nI np2) (htx : txX D2 I2) (hpr : prX D2 I2 np2) : xR D2 R no n np2 ro oh ph I2 L P S := by
  obtain ⟨⟨⟨a1, a2⟩, ⟨b1, b2⟩, ⟨c1, c2⟩, d1, d3, d4, d5⟩, ⟨gs, hro⟩, ⟨⟨h29, h50⟩, ⟨r1, r2⟩, r3⟩, ⟨-, -, hkp⟩, htl, hoh, hph⟩ := g
  have hW : wld D2 = wld D := by
    funext a k
    unfold wld
    split
    · next q =>
      refine hD a k ?_ ?_ ?_ ?_ ?_
      · rintro rfl; exact absurd q (by simp [wAt])
      · rintro rfl; exact absurd q (by simp [wAt])
      · rintro rfl; exact absurd q (by simp [wAt])
      · rintro rfl; exact absurd q (by simp [wAt])
      · rintro ⟨rfl, rfl | rfl⟩ <;> exact absurd q (by decide)
    · rfl
  have e23 : D2 23 = D 23 := funext fun k => hD 23 k (by decide) (by decide) (by decide) (by decide) (by omega)
  have hI2 : ∀ a, (110 < a ∧ a ≤ 300) ∨ 306 ≤ a → I2 a = I a := fun a ha => hI a (by omega) (by omega) (by omega) (by omega) (by omega)
  refine ⟨⟨⟨a1, h1.trans a2⟩, ⟨b1, ?_⟩, ⟨c1, ?_⟩, by rw [hW]; exact d1, d3, d4, d5⟩, ⟨?_, ?_⟩, ⟨⟨h8, h14⟩, ⟨h10.trans r1, r2⟩, r3⟩, ⟨htx, hpr, ?_⟩, htl, hoh, hph⟩
  · rw [hW]; exact b2.fI (fun a ha => hI2 a (by omega)) d4
  · rw [hW]; exact c2.fr fun p hp => hI2 _ (by have := d5 p hp; omega)
  · rw [e23]; exact gs.fr fun k hk => hI2 _ (by omega)
  · cases ro with
    | none => exact hro
    | some c =>
      obtain ⟨r, f, q1, q2, q3⟩ := hro
      exact ⟨r, f, q1, q2, q3.fr fun a ha _ => ⟨hI2 _ (by omega), rfl, rfl⟩⟩
  · exact hkp.fr (fun k => hD 56 k (by decide) (by decide) (by decide) (by decide) (by omega)) (fun k => hD 57 k (by decide) (by decide) (by decide) (by decide) (by omega)) (hI2 _ (by decide)) (fun a ha => hI2 a (by omega))
theorem sRw.eq {h : Nat} {s2 : zS} (g : sRw n I h s) (hn : n ≤ 8) (h60 : (s 2).toNatClampNeg ≤ 60) (e : ∀ j, j < 127 → s2 j = s j) : sRw n I h s2 := by
  obtain ⟨⟨a0, a1, a2, a3⟩, b, c, f⟩ := g
  refine ⟨⟨a0.trans (e 0 (by decide)).symm, a1.trans (e 1 (by decide)).symm, a2.trans (sumI_c n fun q hq => (e _ (by omega)).symm), a3.trans (sumI_c n fun q hq => (e _ (by omega)).symm)⟩, fun k p h4 h11 hp => (b k p h4 h11 hp).trans (e _ ?_).symm, c, fun k hk => ?_⟩
  · have := sBs_k k h4 h11; omega
  · rw [e 2 (by decide)] at hk
    exact (f k hk).trans (e _ (by omega)).symm
/-- the shifts of a sign -/
def sgK : Nat → Int32
  | 0 => nI 24
  | 1 => nI 16
  | 2 => nI 8
  | 3 => nI 0
  | _ => -8
theorem sgK_s {i : Nat} (hi : i < 4) : sgK i + Int32.ofInt (-8) = sgK (i + 1) := by
  obtain rfl | rfl | rfl | rfl : i = 0 ∨ i = 1 ∨ i = 2 ∨ i = 3 := by omega
  all_goals decide
theorem sgK_4 {i : Nat} (hi : i ≤ 4) (h : sgK i < 0) : i = 4 := by
  obtain rfl | rfl | rfl | rfl | rfl : i = 0 ∨ i = 1 ∨ i = 2 ∨ i = 3 ∨ i = 4 := by omega
  all_goals first | rfl | exact absurd h (by decide)
theorem sgK_n {i : Nat} (hi : i ≤ 4) (h : ¬ sgK i < 0) : i < 4 := by
  obtain rfl | rfl | rfl | rfl | rfl : i = 0 ∨ i = 1 ∨ i = 2 ∨ i = 3 ∨ i = 4 := by omega
  all_goals first | decide | exact absurd (by decide) h
theorem sgK_v {i : Nat} (hi : i < 4) : sgK i = nI (24 - 8 * i) := by
  obtain rfl | rfl | rfl | rfl : i = 0 ∨ i = 1 ∨ i = 2 ∨ i = 3 := by omega
  all_goals rfl
theorem b8_and (y : Int32) : (y &&& nI 255).toInt8 = y.toInt8 := by
  rw [Int32.toInt8_and, show (nI 255).toInt8 = -1 from by decide, Int8.and_neg_one]
theorem b8_b8 (y : Int32) : y.toInt8.toInt32.toInt8 = y.toInt8 := by simp
theorem sgnT_v {x : Int32} {t : Nat} : ∀ k j, j < k → sgnT D x t k 28 (t + j) = ((x >>> (nI (24 - 8 * j) &&& 31)) &&& nI 255) := by
  intro k
  induction k with
  | zero => exact fun j h => absurd h (by omega)
  | succ k ih =>
    intro j hj
    rw [sgnT, zw_a]
    by_cases e : j = k
    · subst e; rw [zu_s]
    · rw [zu_n _ _ _ (by omega)]; exact ih j (by omega)
theorem sgnT_o {x : Int32} {t j : Nat} (hj : j < t) : ∀ k, sgnT D x t k 28 j = D 28 j := by
  intro k
  induction k with
  | zero => rfl
  | succ k ih => rw [sgnT, zw_a, zu_n _ _ _ (by omega)]; exact ih
theorem sgnT_c {x : Int32} {t a : Nat} (ha : a ≠ 28) : ∀ k, sgnT D x t k a = D a := by
  intro k
  induction k with
  | zero => rfl
  | succ k ih => rw [sgnT, zw_n _ _ _ _ ha]; exact ih
/-- how far a sign is typed -/
def sgI (I : zI) (x : Int32) (t i : Nat) (I2 : zI) : Prop := I2 100 8 = nI (t + i) ∧ (∀ a, a ≠ 100 → a ≠ 301 → I2 a = I a) ∧ (∀ k, k ≠ 8 → I2 100 k = I 100 k) ∧ (∀ j, j < t → I2 301 j = I 301 j) ∧ ∀ j, j < i → I2 301 (t + j) = (x >>> (nI (24 - 8 * j) &&& 31)).toInt8.toInt32
theorem sgI.st {I2 : zI} {x : Int32} {t i : Nat} (g : sgI I x t i I2) (hi : i < 4) : sgI I x t (i + 1) (zw (zw I2 301 (t + i) ((x >>> (sgK i &&& 31)).toInt8.toInt32.toInt8.toInt32)) 100 8 (nI (t + i + 1))) := by
  obtain ⟨g1, g2, g3, g4, g5⟩ := g
  refine ⟨zw_s _ _ _ _, fun a h1 h2 => ?_, fun k hk => ?_, fun j hj => ?_, fun j hj => ?_⟩
  · rw [zw_n _ _ _ _ h1, zw_n _ _ _ _ h2]; exact g2 a h1 h2
  · rw [zw_a, zu_n _ _ _ hk, zw_n _ _ _ _ (by decide)]; exact g3 k hk
  · rw [zw_n _ _ _ _ (by decide), zw_a, zu_n _ _ _ (by omega)]; exact g4 j hj
  · rw [zw_n _ _ _ _ (by decide), zw_a]
    by_cases e : j = i
    · subst e; rw [zu_s, b8_b8, sgK_v hi]
    · rw [zu_n _ _ _ (by omega)]; exact g5 j (by omega)
set_option maxHeartbeats 4000000 in
theorem o_xcount (hX : xR D R no n np ro oh ph I L P S) (hsf : sf (wld D) no n (D 23)) (hnp : D 0 50 = nI np) {x : Int32} (k : ∀ I2 L2 P2 S2, xR (fCount D R n x).2.1 (fCount D R n x).2.2 no n np ro oh ph I2 L2 P2 S2 → frX I L P S I2 L2 P2 S2 → Q (.inl (some (.int (fCount D R n x).1))) I2 L2 P2 S2) : Zm G mX1_count 4 C Sl [.ref 100, .int x] I L P S Q := by
  obtain ⟨e, ⟨g, hro⟩, ⟨⟨h29, h50⟩, hrw⟩, ⟨htx, hpr, hkp⟩, htl, hoh, hph⟩ := hX
  have hX : xR D R no n np ro oh ph I L P S := ⟨e, ⟨g, hro⟩, ⟨⟨h29, h50⟩, hrw⟩, ⟨htx, hpr, hkp⟩, htl, hoh, hph⟩
  have hx := e.x
  have hO := e.wd
  have hR := e.wr
  have hT := e.st
  have hPc := e.pc
  have hw := e.hw
  have hf := e.hx
  have hb := e.b
  have hn := e.nn
  have n8 := hw.n8
  have h6 := hw.o6
  have hn8 := hw.n8
  have hno : noD D = no := by rw [noD, show D 0 3 = nI no from hw.o3, nI_clamp (by omega)]
  have hnn : nD D = n := by rw [nD, show D 0 16 = nI n from hw.n16, nI_clamp (by omega)]
  have hdn := fun (p : Nat) (hp : p < n) => hsf.dn hp
  have hM := hR.1
  refine Z_entry (lv := [_, _]) (Nat.le_of_ble_eq_true rfl) rfl ?_
  refine Z_iload_n dX1_count_0 rfl ?_
  by_cases hxx : 0 ≤ x.toInt ∧ x.toInt ≤ 9
  · have rxt : rB x 0 9 = true := rB_t hxx.1 hxx.2
    obtain ⟨q, hq, rfl⟩ := z_rng (n := 9) hxx.1 hxx.2 (by decide)
    obtain rfl | rfl | rfl | rfl | rfl | rfl | rfl | rfl | rfl | rfl : q = 0 ∨ q = 1 ∨ q = 2 ∨ q = 3 ∨ q = 4 ∨ q = 5 ∨ q = 6 ∨ q = 7 ∨ q = 8 ∨ q = 9 := by omega
    · refine Z_tableIn 56 dX1_count_1 (by decide) (by decide) rfl rfl ?_
      refine Z_aload_n dX1_count_56 rfl ?_
      refine Z_getR (r := 200) hx.1 fX1_52_0 dX1_count_57 rfl hx.2.2.2.1.1 ?_
      refine Z_getI hO.1 fX1_19_1 dX1_count_60 rfl ?_
      refine Z_re hR.1.1 ?_
      refine Z_ireturn dX1_count_63 rfl rfl ?_
      exact xO_k (by simp [fCount, nI_eq, hnp, show D 0 3 = nI no from hw.o3, show D 0 16 = nI n from hw.n16]) k hX frX.rf
    · refine Z_tableIn 64 dX1_count_1 (by decide) (by decide) rfl rfl ?_
      refine Z_aload_n dX1_count_64 rfl ?_
      refine Z_getI hx.1 fX1_105_0 dX1_count_65 rfl ?_
      refine Z_re hn ?_
      refine Z_ireturn dX1_count_68 rfl rfl ?_
      exact xO_k (by simp [fCount, nI_eq, hnp, show D 0 3 = nI no from hw.o3, show D 0 16 = nI n from hw.n16]) k hX frX.rf
    · refine Z_tableIn 69 dX1_count_1 (by decide) (by decide) rfl rfl ?_
      refine Z_aload_n dX1_count_69 rfl ?_
      refine Z_getR (r := 240) hx.1 fX1_62_0 dX1_count_70 rfl hx.2.2.2.1.2.2.1 ?_
      refine Z_getI hT.1 fX1_225_2 dX1_count_73 rfl ?_
      refine Z_re g.1.1 ?_
      refine Z_ireturn dX1_count_76 rfl rfl ?_
      exact xO_k (by simp [fCount, nI_eq, hnp, show D 0 3 = nI no from hw.o3, show D 0 16 = nI n from hw.n16]) k hX frX.rf
    · refine Z_tableIn 77 dX1_count_1 (by decide) (by decide) rfl rfl ?_
      refine Z_aload_n dX1_count_77 rfl ?_
      refine Z_getR (r := 240) hx.1 fX1_62_0 dX1_count_78 rfl hx.2.2.2.1.2.2.1 ?_
      refine Z_call0 (d' := 0) (zCal_V gX1_418 nX3_doneOnes (by decide) dX1_count_81) pX3_doneOnes hT.1 zkl2 [] rfl rfl (Nat.le_of_ble_eq_true rfl) (by omega) (c_X3_doneOnes hx hT g hn hn8 hdn ?_)
      refine Z_ireturn dX1_count_84 rfl rfl ?_
      exact xO_k (by simp [fCount, nI_eq, hnp, show D 0 3 = nI no from hw.o3, show D 0 16 = nI n from hw.n16]) k hX frX.rf
    · refine Z_tableIn 85 dX1_count_1 (by decide) (by decide) rfl rfl ?_
      refine Z_aload_n dX1_count_85 rfl ?_
      refine Z_getI hx.1 fX1_352_0 dX1_count_86 rfl ?_
      refine Z_re h50 ?_
      refine Z_ireturn dX1_count_89 rfl rfl ?_
      exact xO_k (by simp [fCount, nI_eq, hnp, show D 0 3 = nI no from hw.o3, show D 0 16 = nI n from hw.n16]) k hX frX.rf
    · refine Z_tableIn 90 dX1_count_1 (by decide) (by decide) rfl rfl ?_
      refine Z_aload_n dX1_count_90 rfl ?_
      refine Z_getR (r := 240) hx.1 fX1_62_0 dX1_count_91 rfl hx.2.2.2.1.2.2.1 ?_
      refine Z_getI hT.1 fX1_260_2 dX1_count_94 rfl ?_
      refine Z_re g.1.2.2.1 ?_
      refine Z_ireturn dX1_count_97 rfl rfl ?_
      exact xO_k (by simp [fCount, nI_eq, hnp, show D 0 3 = nI no from hw.o3, show D 0 16 = nI n from hw.n16]) k hX frX.rf
    · refine Z_tableIn 98 dX1_count_1 (by decide) (by decide) rfl rfl ?_
      refine Z_aload_n dX1_count_98 rfl ?_
      refine Z_getR (r := 240) hx.1 fX1_62_0 dX1_count_99 rfl hx.2.2.2.1.2.2.1 ?_
      refine Z_getI hT.1 fX1_263_2 dX1_count_102 rfl ?_
      refine Z_re g.1.2.2.2 ?_
      refine Z_ireturn dX1_count_105 rfl rfl ?_
      exact xO_k (by simp [fCount, nI_eq, hnp, show D 0 3 = nI no from hw.o3, show D 0 16 = nI n from hw.n16]) k hX frX.rf
    · refine Z_tableIn 106 dX1_count_1 (by decide) (by decide) rfl rfl ?_
      refine Z_aload_n dX1_count_106 rfl ?_
      refine Z_getR (r := 240) hx.1 fX1_62_0 dX1_count_107 rfl hx.2.2.2.1.2.2.1 ?_
      refine Z_getI hT.1 fX1_265_2 dX1_count_110 rfl ?_
      refine Z_re g.1.2.1 ?_
      refine Z_ireturn dX1_count_113 rfl rfl ?_
      exact xO_k (by simp [fCount, nI_eq, hnp, show D 0 3 = nI no from hw.o3, show D 0 16 = nI n from hw.n16]) k hX frX.rf
    · refine Z_tableIn 114 dX1_count_1 (by decide) (by decide) rfl rfl ?_
      refine Z_aload_n dX1_count_114 rfl ?_
      refine Z_getI hx.1 fX1_94_0 dX1_count_115 rfl ?_
      refine Z_re hrw.1.1 ?_
      refine Z_ireturn dX1_count_118 rfl rfl ?_
      exact xO_k (by simp [fCount, nI_eq, hnp, show D 0 3 = nI no from hw.o3, show D 0 16 = nI n from hw.n16]) k hX frX.rf
    · refine Z_tableIn 119 dX1_count_1 (by decide) (by decide) rfl rfl ?_
      refine Z_aload_n dX1_count_119 rfl ?_
      refine Z_getI hx.1 fX1_197_0 dX1_count_120 rfl ?_
      refine Z_re h29 ?_
      refine Z_ireturn dX1_count_123 rfl rfl ?_
      exact xO_k (by simp [fCount, nI_eq, hnp, show D 0 3 = nI no from hw.o3, show D 0 16 = nI n from hw.n16]) k hX frX.rf
  · have rxf : rB x 0 9 = false := rB_f hxx
    have n0 : ¬ x = nI 0 := by rintro rfl; exact hxx (by decide)
    have n1 : ¬ x = nI 1 := by rintro rfl; exact hxx (by decide)
    have n2 : ¬ x = nI 2 := by rintro rfl; exact hxx (by decide)
    have n3 : ¬ x = nI 3 := by rintro rfl; exact hxx (by decide)
    have n4 : ¬ x = nI 4 := by rintro rfl; exact hxx (by decide)
    have n5 : ¬ x = nI 5 := by rintro rfl; exact hxx (by decide)
    have n6 : ¬ x = nI 6 := by rintro rfl; exact hxx (by decide)
    have n7 : ¬ x = nI 7 := by rintro rfl; exact hxx (by decide)
    have n8 : ¬ x = nI 8 := by rintro rfl; exact hxx (by decide)
    have n9 : ¬ x = nI 9 := by rintro rfl; exact hxx (by decide)
    refine Z_tableOut 124 dX1_count_1 (by omega) rfl ?_
    refine Z_iconst (-1) dX1_count_124 rfl ?_
    refine Z_ireturn dX1_count_125 rfl rfl ?_
    exact xO_k (by simp [fCount, nI_eq, hnp, show D 0 3 = nI no from hw.o3, show D 0 16 = nI n from hw.n16, n0, n1, n2, n3, n4, n5, n6, n7, n8, n9]) k hX frX.rf
set_option maxHeartbeats 4000000 in
theorem o_xof (hX : xR D R no n np ro oh ph I L P S) (hsf : sf (wld D) no n (D 23)) {y x : Int32} (k : ∀ v, fOf D y x = some v → Q (.inl (some (.int v))) I L P S) (kn : fOf D y x = none → Q (.inr (16, none)) I L P S) : Zm G mX1_of 6 (C + 1) (Sl + 6) [.ref 100, .int y, .int x] I L P S Q := by
  obtain ⟨e, ⟨g, hro⟩, ⟨⟨h29, h50⟩, hrw⟩, ⟨htx, hpr, hkp⟩, htl, hoh, hph⟩ := hX
  have hX : xR D R no n np ro oh ph I L P S := ⟨e, ⟨g, hro⟩, ⟨⟨h29, h50⟩, hrw⟩, ⟨htx, hpr, hkp⟩, htl, hoh, hph⟩
  have hx := e.x
  have hO := e.wd
  have hR := e.wr
  have hT := e.st
  have hPc := e.pc
  have hw := e.hw
  have hf := e.hx
  have hb := e.b
  have hn := e.nn
  have n8 := hw.n8
  have h6 := hw.o6
  have hn8 := hw.n8
  have hno : noD D = no := by rw [noD, show D 0 3 = nI no from hw.o3, nI_clamp (by omega)]
  have hnn : nD D = n := by rw [nD, show D 0 16 = nI n from hw.n16, nI_clamp (by omega)]
  have hdn := fun (p : Nat) (hp : p < n) => hsf.dn hp
  have hM := hR.1
  refine Z_entry (lv := [_, _, _]) (Nat.le_of_ble_eq_true rfl) rfl ?_
  refine Z_aload_n dX1_of_0 rfl ?_
  refine Z_iload_n dX1_of_1 rfl ?_
  refine Z_call0 (d' := 1) (zCal_V gX1_212 nX1_isPiece (by decide) dX1_of_2) pX1_isPiece hx.1 zkl0 [_] rfl rfl (Nat.le_of_ble_eq_true rfl) (by omega) (c_X1_isPiece hx hn hn8 (fun k2 hk2 e2 => ?_) (fun h2 => ?_))
  · subst e2
    have r2 : pB D (nI k2) = true := rB_t (by rw [z_ti (by omega)]; omega) (by rw [z_ti (by omega), hnn]; omega)
    have v2 : (nI k2).toNatClampNeg = k2 := nI_clamp (by omega)
    refine Z_ifne 16 dX1_of_5 rfl (fun _ => ?_) (fun h => absurd h (by decide))
    refine Z_iload_n dX1_of_16 rfl ?_
    by_cases hxx : 0 ≤ x.toInt ∧ x.toInt ≤ 8
    · have rxt : rB x 0 8 = true := rB_t hxx.1 hxx.2
      obtain ⟨q, hq, rfl⟩ := z_rng (n := 8) hxx.1 hxx.2 (by decide)
      obtain rfl | rfl | rfl | rfl | rfl | rfl | rfl | rfl | rfl : q = 0 ∨ q = 1 ∨ q = 2 ∨ q = 3 ∨ q = 4 ∨ q = 5 ∨ q = 6 ∨ q = 7 ∨ q = 8 := by omega
      · refine Z_tableIn 68 dX1_of_17 (by decide) (by decide) rfl rfl ?_
        refine Z_aload_n dX1_of_68 rfl ?_
        refine Z_getR (r := 240) hx.1 fX1_62_0 dX1_of_69 rfl hx.2.2.2.1.2.2.1 ?_
        refine Z_getR (r := (240 + 4)) hT.1 fX1_7_2 dX1_of_72 rfl (hT.2.1 4 _ rfl).2 ?_
        refine Z_iload_n dX1_of_75 rfl ?_
        refine Z_iald (hT.2.1 4 _ rfl).1 (zix_nI (by first | omega | (dsimp only; omega)) (by decide)) dX1_of_76 ?_
        refine Z_re (g.f (k := 4) (by decide) (by decide) (p := k2) (by omega)) ?_
        refine Z_ireturn dX1_of_77 rfl rfl ?_
        exact k _ (by simp [fOf, fOfv, nI_eq, bI, sBs, r2, v2, rxt])
      · refine Z_tableIn 78 dX1_of_17 (by decide) (by decide) rfl rfl ?_
        refine Z_aload_n dX1_of_78 rfl ?_
        refine Z_getR (r := 240) hx.1 fX1_62_0 dX1_of_79 rfl hx.2.2.2.1.2.2.1 ?_
        refine Z_getR (r := (240 + 5)) hT.1 fX1_232_2 dX1_of_82 rfl (hT.2.1 5 _ rfl).2 ?_
        refine Z_iload_n dX1_of_85 rfl ?_
        refine Z_iald (hT.2.1 5 _ rfl).1 (zix_nI (by first | omega | (dsimp only; omega)) (by decide)) dX1_of_86 ?_
        refine Z_re (g.f (k := 5) (by decide) (by decide) (p := k2) (by omega)) ?_
        refine Z_ireturn dX1_of_87 rfl rfl ?_
        exact k _ (by simp [fOf, fOfv, nI_eq, bI, sBs, r2, v2, rxt])
      · refine Z_tableIn 88 dX1_of_17 (by decide) (by decide) rfl rfl ?_
        refine Z_aload_n dX1_of_88 rfl ?_
        refine Z_getR (r := 240) hx.1 fX1_62_0 dX1_of_89 rfl hx.2.2.2.1.2.2.1 ?_
        refine Z_getR (r := (240 + 6)) hT.1 fX1_235_2 dX1_of_92 rfl (hT.2.1 6 _ rfl).2 ?_
        refine Z_iload_n dX1_of_95 rfl ?_
        refine Z_iald (hT.2.1 6 _ rfl).1 (zix_nI (by first | omega | (dsimp only; omega)) (by decide)) dX1_of_96 ?_
        refine Z_re (g.f (k := 6) (by decide) (by decide) (p := k2) (by omega)) ?_
        refine Z_ireturn dX1_of_97 rfl rfl ?_
        exact k _ (by simp [fOf, fOfv, nI_eq, bI, sBs, r2, v2, rxt])
      · refine Z_tableIn 98 dX1_of_17 (by decide) (by decide) rfl rfl ?_
        refine Z_aload_n dX1_of_98 rfl ?_
        refine Z_getR (r := 240) hx.1 fX1_62_0 dX1_of_99 rfl hx.2.2.2.1.2.2.1 ?_
        refine Z_getR (r := (240 + 8)) hT.1 fX1_238_2 dX1_of_102 rfl (hT.2.1 8 _ rfl).2 ?_
        refine Z_iload_n dX1_of_105 rfl ?_
        refine Z_zald (hT.2.1 8 _ rfl).1 (zix_nI (by first | omega | (dsimp only; omega)) (by decide)) dX1_of_106 ?_
        refine Z_re (g.f (k := 8) (by decide) (by decide) (p := k2) (by omega)) ?_
        rcases hsf.wt (p := k2) (by omega) with hw0 | ⟨hw0, -⟩
        · refine Z_re (y := nI 0) hw0 ?_
          refine Z_ifeq 114 dX1_of_107 rfl (fun _ => ?_) (fun h => absurd h (by decide))
          refine Z_iconst (nI 0) dX1_of_114 rfl ?_
          refine Z_ireturn dX1_of_115 rfl rfl ?_
          exact k _ (by simp [fOf, fOfv, nI_eq, bI, sBs, r2, v2, rxt, show (D 23 (27 + k2)) = _ from hw0])
        · refine Z_re (y := nI 1) hw0 ?_
          refine Z_ifeq 114 dX1_of_107 rfl (fun h => absurd h (by decide)) (fun _ => ?_)
          refine Z_iconst (nI 1) dX1_of_110 rfl ?_
          refine Z_goto 115 dX1_of_111 rfl ?_
          refine Z_ireturn dX1_of_115 rfl rfl ?_
          exact k _ (by simp [fOf, fOfv, nI_eq, bI, sBs, r2, v2, rxt, show (D 23 (27 + k2)) = _ from hw0])
      · refine Z_tableIn 116 dX1_of_17 (by decide) (by decide) rfl rfl ?_
        refine Z_aload_n dX1_of_116 rfl ?_
        refine Z_getR (r := 240) hx.1 fX1_62_0 dX1_of_117 rfl hx.2.2.2.1.2.2.1 ?_
        refine Z_getR (r := (240 + 7)) hT.1 fX1_241_2 dX1_of_120 rfl (hT.2.1 7 _ rfl).2 ?_
        refine Z_iload_n dX1_of_123 rfl ?_
        refine Z_iald (hT.2.1 7 _ rfl).1 (zix_nI (by first | omega | (dsimp only; omega)) (by decide)) dX1_of_124 ?_
        refine Z_re (g.f (k := 7) (by decide) (by decide) (p := k2) (by omega)) ?_
        refine Z_ireturn dX1_of_125 rfl rfl ?_
        exact k _ (by simp [fOf, fOfv, nI_eq, bI, sBs, r2, v2, rxt])
      · refine Z_tableIn 126 dX1_of_17 (by decide) (by decide) rfl rfl ?_
        refine Z_aload_n dX1_of_126 rfl ?_
        refine Z_getR (r := 240) hx.1 fX1_62_0 dX1_of_127 rfl hx.2.2.2.1.2.2.1 ?_
        refine Z_getR (r := (240 + 9)) hT.1 fX1_244_2 dX1_of_130 rfl (hT.2.1 9 _ rfl).2 ?_
        refine Z_iload_n dX1_of_133 rfl ?_
        refine Z_iald (hT.2.1 9 _ rfl).1 (zix_nI (by first | omega | (dsimp only; omega)) (by decide)) dX1_of_134 ?_
        refine Z_re (g.f (k := 9) (by decide) (by decide) (p := k2) (by omega)) ?_
        refine Z_ireturn dX1_of_135 rfl rfl ?_
        exact k _ (by simp [fOf, fOfv, nI_eq, bI, sBs, r2, v2, rxt])
      · refine Z_tableIn 136 dX1_of_17 (by decide) (by decide) rfl rfl ?_
        refine Z_aload_n dX1_of_136 rfl ?_
        refine Z_getR (r := 240) hx.1 fX1_62_0 dX1_of_137 rfl hx.2.2.2.1.2.2.1 ?_
        refine Z_getR (r := (240 + 10)) hT.1 fX1_247_2 dX1_of_140 rfl (hT.2.1 10 _ rfl).2 ?_
        refine Z_iload_n dX1_of_143 rfl ?_
        refine Z_iald (hT.2.1 10 _ rfl).1 (zix_nI (by first | omega | (dsimp only; omega)) (by decide)) dX1_of_144 ?_
        refine Z_re (g.f (k := 10) (by decide) (by decide) (p := k2) (by omega)) ?_
        refine Z_ireturn dX1_of_145 rfl rfl ?_
        exact k _ (by simp [fOf, fOfv, nI_eq, bI, sBs, r2, v2, rxt])
      · refine Z_tableIn 146 dX1_of_17 (by decide) (by decide) rfl rfl ?_
        refine Z_aload_n dX1_of_146 rfl ?_
        refine Z_getR (r := 240) hx.1 fX1_62_0 dX1_of_147 rfl hx.2.2.2.1.2.2.1 ?_
        refine Z_getR (r := (240 + 11)) hT.1 fX1_250_2 dX1_of_150 rfl (hT.2.1 11 _ rfl).2 ?_
        refine Z_iload_n dX1_of_153 rfl ?_
        refine Z_iald (hT.2.1 11 _ rfl).1 (zix_nI (by first | omega | (dsimp only; omega)) (by decide)) dX1_of_154 ?_
        refine Z_re (g.f (k := 11) (by decide) (by decide) (p := k2) (by omega)) ?_
        refine Z_ireturn dX1_of_155 rfl rfl ?_
        exact k _ (by simp [fOf, fOfv, nI_eq, bI, sBs, r2, v2, rxt])
      · refine Z_tableIn 156 dX1_of_17 (by decide) (by decide) rfl rfl ?_
        refine Z_aload_n dX1_of_156 rfl ?_
        refine Z_getR (r := 240) hx.1 fX1_62_0 dX1_of_157 rfl hx.2.2.2.1.2.2.1 ?_
        refine Z_iload_n dX1_of_160 rfl ?_
        refine Z_call0 (d' := 1) (zCal_V gX1_253 nX3_isReady (by decide) dX1_of_161) pX3_isReady hT.1 zkl2 [_] rfl rfl (Nat.le_of_ble_eq_true rfl) (by omega) (c_X3_isReady hx hT g hn hn8 hdn hPc hf (by omega) (fun h161 => ?_) (fun h161 => ?_))
        · refine Z_ifeq 171 dX1_of_164 rfl (fun h => absurd h (by decide)) (fun _ => ?_)
          refine Z_iconst (nI 1) dX1_of_167 rfl ?_
          refine Z_goto 172 dX1_of_168 rfl ?_
          refine Z_ireturn dX1_of_172 rfl rfl ?_
          exact k _ (by simp [fOf, fOfv, nI_eq, bI, sBs, r2, v2, rxt, h161])
        · refine Z_ifeq 171 dX1_of_164 rfl (fun _ => ?_) (fun h => absurd h (by decide))
          refine Z_iconst (nI 0) dX1_of_171 rfl ?_
          refine Z_ireturn dX1_of_172 rfl rfl ?_
          exact k _ (by simp [fOf, fOfv, nI_eq, bI, sBs, r2, v2, rxt, h161])
    · have rxf : rB x 0 8 = false := rB_f hxx
      have n0 : ¬ x = nI 0 := by rintro rfl; exact hxx (by decide)
      have n1 : ¬ x = nI 1 := by rintro rfl; exact hxx (by decide)
      have n2 : ¬ x = nI 2 := by rintro rfl; exact hxx (by decide)
      have n3 : ¬ x = nI 3 := by rintro rfl; exact hxx (by decide)
      have n4 : ¬ x = nI 4 := by rintro rfl; exact hxx (by decide)
      have n5 : ¬ x = nI 5 := by rintro rfl; exact hxx (by decide)
      have n6 : ¬ x = nI 6 := by rintro rfl; exact hxx (by decide)
      have n7 : ¬ x = nI 7 := by rintro rfl; exact hxx (by decide)
      have n8 : ¬ x = nI 8 := by rintro rfl; exact hxx (by decide)
      refine Z_tableOut 173 dX1_of_17 (by omega) rfl ?_
      refine Z_throwNS rfl dX1_of_173 dX1_of_176 dX1_of_177 dX1_of_180 (by decide) (Zx_out (fun _ h => by cases h) ?_)
      exact kn (by simp [fOf, r2, v2, n0, n1, n2, n3, n4, n5, n6, n7, n8, rxf])
  · have r2 : pB D y = false := rB_f (fun q => h2 ⟨q.1, by have := q.2; rw [hnn] at this; omega⟩)
    refine Z_ifne 16 dX1_of_5 rfl (fun h => absurd h (by decide)) (fun _ => ?_)
    refine Z_throwNS rfl dX1_of_8 dX1_of_11 dX1_of_12 dX1_of_15 (by decide) (Zx_out (fun _ h => by cases h) ?_)
    exact kn (by simp [fOf, r2])
set_option maxHeartbeats 4000000 in
theorem o_xrow (hX : xR D R no n np ro oh ph I L P S) {x : Int32} (k : ∀ v, fRow R x = some v → Q (.inl (some (.long v))) I L P S) (kn : fRow R x = none → Q (.inr (16, none)) I L P S) : Zm G mX1_row 6 (C + 1) (Sl + 6) [.ref 100, .int x] I L P S Q := by
  obtain ⟨e, ⟨g, hro⟩, ⟨⟨h29, h50⟩, hrw⟩, ⟨htx, hpr, hkp⟩, htl, hoh, hph⟩ := hX
  have hX : xR D R no n np ro oh ph I L P S := ⟨e, ⟨g, hro⟩, ⟨⟨h29, h50⟩, hrw⟩, ⟨htx, hpr, hkp⟩, htl, hoh, hph⟩
  have hx := e.x
  have hO := e.wd
  have hR := e.wr
  have hT := e.st
  have hPc := e.pc
  have hw := e.hw
  have hf := e.hx
  have hb := e.b
  have hn := e.nn
  have n8 := hw.n8
  have h6 := hw.o6
  have hn8 := hw.n8
  have hno : noD D = no := by rw [noD, show D 0 3 = nI no from hw.o3, nI_clamp (by omega)]
  have hnn : nD D = n := by rw [nD, show D 0 16 = nI n from hw.n16, nI_clamp (by omega)]
  have hrl := hrw.1.2
  have hM := hR.1
  refine Z_entry (lv := [_, _]) (Nat.le_of_ble_eq_true rfl) rfl ?_
  refine Z_iload_n dX1_row_0 rfl ?_
  refine Z_iconst (nI 0) dX1_row_1 rfl ?_
  refine Z_aload_n dX1_row_2 rfl ?_
  refine Z_getI hx.1 fX1_94_0 dX1_row_3 rfl ?_
  refine Z_re (y := nI (R.length)) hrw.1.1 ?_
  refine Z_iconst (nI 1) dX1_row_6 rfl ?_
  refine Z_isub dX1_row_7 ?_
  refine Z_callS0 (d' := 0) (zCal_S gX1_3 nX1_in (by decide) dX1_row_8) pX1_in [_, _, _] rfl rfl (Nat.le_of_ble_eq_true rfl) (by omega) (c_X1_in (fun h8a h8b => ?_) (fun h8 => ?_))
  · rw [nI_s1 (by omega)] at h8b
    have r8 : rB x 0 ((R.length : Int) - 1) = true := rB_t h8a h8b
    obtain ⟨q, hq, e8⟩ := z_rng (n := 32) h8a (by omega) (by decide)
    subst e8
    have v8 : (nI q).toNatClampNeg = q := nI_clamp (by omega)
    rw [z_ti (by omega)] at h8b
    have hq2 : q < R.length := by omega
    refine Z_ifne 22 dX1_row_11 rfl (fun _ => ?_) (fun h => absurd h (by decide))
    refine Z_aload_n dX1_row_22 rfl ?_
    refine Z_getR (r := 302) hx.1 fX1_74_0 dX1_row_23 rfl (hx.2.2.1 9 _ rfl).2 ?_
    refine Z_iload_n dX1_row_26 rfl ?_
    refine Z_lald (hx.2.2.1 9 _ rfl).1 (zix_nI (by first | omega | (dsimp only; omega)) (by decide)) dX1_row_27 ?_
    refine Z_lreturn dX1_row_28 rfl ?_
    exact zQl (hrw.2 q hq2) (k _ (by simp [fRow, r8, v8]))
  · rw [nI_s1 (by omega)] at h8
    have r8 : rB x 0 ((R.length : Int) - 1) = false := rB_f h8
    refine Z_ifne 22 dX1_row_11 rfl (fun h => absurd h (by decide)) (fun _ => ?_)
    refine Z_throwNS rfl dX1_row_14 dX1_row_17 dX1_row_18 dX1_row_21 (by decide) (Zx_out (fun _ h => by cases h) ?_)
    exact kn (by simp [fRow, r8])
theorem zw3 {α : Type} {f : Nat → Nat → α} {b k j : Nat} {v w : α} (h : b ≠ 300) : zw (zw f 300 k v) 300 j w b = f b := by rw [zw_n _ _ _ _ h, zw_n _ _ _ _ h]
set_option maxHeartbeats 4000000 in
theorem o_xvalue (hX : xR D R no n np ro oh ph I L P S) (hsf : sf (wld D) no n (D 23)) {B : Nat} (hkB : hk (D 23) n B) (hB : B < 2 ^ 28) (h37 : ro ≠ none → wld D 0 37 = 0) {y x : Int32} (k : ∀ v, fVal D ro y x = some v → ∀ I2 P2, xR D R no n np ro oh ph I2 L P2 S → frX I L P S I2 L P2 S → Q (.inl (some (.int v))) I2 L P2 S) (kn : fVal D ro y x = none → Q (.inr (16, none)) I L P S) : Zm G mX1_value 100 (C + 1) (Sl + 6) [.ref 100, .int y, .int x] I L P S Q := by
  obtain ⟨e, ⟨g, hro⟩, ⟨⟨h29, h50⟩, hrw⟩, ⟨htx, hpr, hkp⟩, htl, hoh, hph⟩ := hX
  have hX : xR D R no n np ro oh ph I L P S := ⟨e, ⟨g, hro⟩, ⟨⟨h29, h50⟩, hrw⟩, ⟨htx, hpr, hkp⟩, htl, hoh, hph⟩
  have hx := e.x
  have hO := e.wd
  have hR := e.wr
  have hT := e.st
  have hPc := e.pc
  have hw := e.hw
  have hf := e.hx
  have hb := e.b
  have hn := e.nn
  have n8 := hw.n8
  have h6 := hw.o6
  have hn8 := hw.n8
  have hno : noD D = no := by rw [noD, show D 0 3 = nI no from hw.o3, nI_clamp (by omega)]
  have hnn : nD D = n := by rw [nD, show D 0 16 = nI n from hw.n16, nI_clamp (by omega)]
  obtain ⟨t0, ht0, h0⟩ := hsf.now
  have e3 : (D 23 0).toNatClampNeg = t0 := by rw [h0, nI_clamp (by omega)]
  have hM := hR.1
  refine Z_entry (lv := [_, _, _]) (Nat.le_of_ble_eq_true rfl) rfl ?_
  refine Z_aload_n dX1_value_0 rfl ?_
  refine Z_iload_n dX1_value_1 rfl ?_
  refine Z_call0 (d' := 1) (zCal_V gX1_212 nX1_isPiece (by decide) dX1_value_2) pX1_isPiece hx.1 zkl0 [_] rfl rfl (Nat.le_of_ble_eq_true rfl) (by omega) (c_X1_isPiece hx hn hn8 (fun k2 hk2 e2 => ?_) (fun h2 => ?_))
  · subst e2
    have r2 : pB D (nI k2) = true := rB_t (by rw [z_ti (by omega)]; omega) (by rw [z_ti (by omega), hnn]; omega)
    have v2 : (nI k2).toNatClampNeg = k2 := nI_clamp (by omega)
    refine Z_ifeq 26 dX1_value_5 rfl (fun h => absurd h (by decide)) (fun _ => ?_)
    refine Z_aload_n dX1_value_8 rfl ?_
    refine Z_iload_n dX1_value_9 rfl ?_
    refine Z_call0 (d' := 1) (zCal_V gX1_121 nX1_isOffice (by decide) dX1_value_10) pX1_isOffice hx.1 zkl0 [_] rfl rfl (Nat.le_of_ble_eq_true rfl) (by omega) (c_X1_isOffice hx hR.1.1 h6 (fun k10 hk10 e10 => ?_) (fun h10 => ?_))
    · subst e10
      have r10 : oB D (nI k10) = true := rB_t (by rw [z_ti (by omega)]; omega) (by rw [z_ti (by omega), hno]; omega)
      have v10 : (nI k10).toNatClampNeg = k10 := nI_clamp (by omega)
      refine Z_ifeq 26 dX1_value_13 rfl (fun h => absurd h (by decide)) (fun _ => ?_)
      rcases ro with _ | er
      · refine Z_aload_n dX1_value_16 rfl ?_
        refine Z_getR (r := 200) hx.1 fX1_52_0 dX1_value_17 rfl hx.2.2.2.1.1 ?_
        refine Z_getN hO.1 fX1_13_1 dX1_value_20 rfl hro ?_
        refine Z_ifnonnullN dX1_value_23 ?_
        refine Z_throwNS rfl dX1_value_26 dX1_value_29 dX1_value_30 dX1_value_33 (by decide) (Zx_out (fun _ h => by cases h) ?_)
        exact kn (by rfl)
      · obtain ⟨r9, f, hP9, hf45, hnr⟩ := hro
        obtain ⟨a, ha6, ha⟩ := hsf.pl hk2
        refine Z_aload_n dX1_value_16 rfl ?_
        refine Z_getR (r := 200) hx.1 fX1_52_0 dX1_value_17 rfl hx.2.2.2.1.1 ?_
        refine Z_getR (r := r9) hO.1 fX1_13_1 dX1_value_20 rfl hP9 ?_
        refine Z_ifnonnullR 34 dX1_value_23 rfl ?_
        refine Z_aload_n dX1_value_34 rfl ?_
        refine Z_getR (r := 200) hx.1 fX1_52_0 dX1_value_35 rfl hx.2.2.2.1.1 ?_
        refine Z_getR (r := r9) hO.1 fX1_13_1 dX1_value_38 rfl hP9 ?_
        refine Z_aload_n dX1_value_41 rfl ?_
        refine Z_getR (r := 300) hx.1 fX1_23_0 dX1_value_42 rfl hx.2.2.2.1.2.2.2.2 ?_
        refine Z_aload_n dX1_value_45 rfl ?_
        refine Z_getR (r := 200) hx.1 fX1_52_0 dX1_value_46 rfl hx.2.2.2.1.1 ?_
        refine Z_aload_n dX1_value_49 rfl ?_
        refine Z_getR (r := 240) hx.1 fX1_62_0 dX1_value_50 rfl hx.2.2.2.1.2.2.1 ?_
        refine Z_iload_n dX1_value_53 rfl ?_
        refine Z_iload_n dX1_value_54 rfl ?_
        refine Z_call0 (d' := 0) (zCal_V gX1_27 nX4_of (by decide) dX1_value_55) pX4_of hx.2.1 zkl3 [_, _, _, _] rfl rfl (Nat.le_of_ble_eq_true rfl) (by omega) (c_X4_of hx.2.1 ?_)
        have e2 : hE (wld D) no n oh ph 200 240 (zw (zw I 300 1 (nI k2)) 300 2 (nI k10)) (zw (zw P 300 0 (some 200)) 300 3 (some 240)) S := e.fr (fH.of3 f3.rf.st.st) f3.rf.st.st
        have g9 : sRw n (zw (zw I 300 1 (nI k2)) 300 2 (nI k10)) 240 (D 23) := g.c3 f3.rf.st.st ⟨by decide, by decide⟩
        have hC : cR (zw (zw I 300 1 (nI k2)) 300 2 (nI k10)) (zw (zw P 300 0 (some 200)) 300 3 (some 240)) 200 240 k2 k10 := ⟨⟨by simp [zw, zu], by simp [zw, zu]⟩, by simp [zw, zu], by simp [zw, zu]⟩
        have hq9 := hnr.fr (I2 := zw (zw I 300 1 (nI k2)) 300 2 (nI k10)) (P2 := zw (zw P 300 0 (some 200)) 300 3 (some 240)) (S2 := S) (fun a ha _ => ⟨zw3 (by omega), zw3 (by omega), rfl⟩)
        refine nd_call (d9 := 2 * f + 6) dX1_value_58 q1215 hq9 (nd_val e2 hC hk2 hk10 g9 ha ha6 h0 ht0 (h37 (by simp)) hq9) (Nat.le_of_ble_eq_true rfl) (by omega) ?_
        refine Z_ireturn dX1_value_63 rfl rfl ?_
        exact k _ (by simp [fVal, e3, r2, v2, r10, v10]) _ _ (hX.st (fH.of3 f3.rf.st.st) f3.rf.st.st (fun a k _ => rfl) (g.c3 f3.rf.st.st ⟨by decide, by decide⟩)) (frX.fH (fH.of3 f3.rf.st.st) f3.rf.st.st)
    · have r10 : oB D x = false := rB_f (fun q => h10 ⟨q.1, by have := q.2; rw [hno] at this; omega⟩)
      refine Z_ifeq 26 dX1_value_13 rfl (fun _ => ?_) (fun h => absurd h (by decide))
      refine Z_throwNS rfl dX1_value_26 dX1_value_29 dX1_value_30 dX1_value_33 (by decide) (Zx_out (fun _ h => by cases h) ?_)
      exact kn (by cases ro <;> simp [fVal, r2, v2, r10])
  · have r2 : pB D y = false := rB_f (fun q => h2 ⟨q.1, by have := q.2; rw [hnn] at this; omega⟩)
    refine Z_ifeq 26 dX1_value_5 rfl (fun _ => ?_) (fun h => absurd h (by decide))
    refine Z_throwNS rfl dX1_value_26 dX1_value_29 dX1_value_30 dX1_value_33 (by decide) (Zx_out (fun _ h => by cases h) ?_)
    exact kn (by cases ro <;> simp [fVal, r2])
theorem zw_c {f : zI} {a j : Nat} {v : Int32} (h : ¬ (a = 0 ∧ (j = 29 ∨ j = 50))) : zw f 0 29 v a j = f a j := by
  by_cases e : a = 0
  · subst e; rw [zw_a, zu_n _ _ _ (by rintro rfl; exact h ⟨rfl, Or.inl rfl⟩)]
  · rw [zw_n _ _ _ _ e]
theorem xR.typ {x t q : Nat} (hX : xR D R no n np ro oh ph I L P S) (h29t : D 0 29 = nI t) (ht : t ≤ 60) (hq : q ≤ t) : xR (zw D 0 29 (nI q)) R no n np ro oh ph (zw I 100 8 (nI q)) L P S := by
  obtain ⟨-, -, ⟨⟨h29, h50⟩, -⟩, ⟨htx, hpr, -⟩, -⟩ := id hX
  refine hX.misc (fun a q1 _ _ _ _ => zw_n _ _ _ _ q1) (by rw [zw_a, zu_n _ _ _ (by decide)]) (by rw [zw_a, zu_n _ _ _ (by decide)]) (fun a j _ _ _ _ q => zw_c q) (by rw [zw_s, zw_s]) (by rw [zw_a, zu_n _ _ _ (by decide)]; exact h50) (fun j hj => ?_) (fun j hj => ?_)
  · rw [zw_s, nI_clamp (by omega)] at hj
    rw [zw_n _ _ _ _ (by decide), zw_n _ _ _ _ (by decide)]
    exact htx j (by rw [h29t, nI_clamp (by omega)]; omega)
  · rw [zw_n _ _ _ _ (by decide), zw_n _ _ _ _ (by decide), zw_n _ _ _ _ (by decide), zw_n _ _ _ _ (by decide), zw_n _ _ _ _ (by decide), zw_n _ _ _ _ (by decide)]; exact hpr j hj
theorem xR.sgn {x : Int32} {t : Nat} {I2 : zI} (hX : xR D R no n np ro oh ph I L P S) (h29t : D 0 29 = nI t) (ht : t ≤ 56) (g : sgI I x t 4 I2) : xR (zw (sgnT D x t 4) 0 29 (nI (t + 4))) R no n np ro oh ph I2 L P S := by
  obtain ⟨-, -, ⟨⟨h29, h50⟩, -⟩, ⟨htx, hpr, -⟩, -⟩ := id hX
  obtain ⟨g1, g2, g3, g4, g5⟩ := g
  refine hX.misc (fun a q1 q2 _ _ _ => g2 a q1 q2) (g3 _ (by decide)) (g3 _ (by decide)) (fun a j q _ _ _ q2 => (zw_c q2).trans (congrFun (sgnT_c q 4) j)) (by rw [zw_s]; exact g1) ((g3 _ (by decide)).trans h50) (fun j hj => ?_) (fun j hj => ?_)
  · rw [zw_s, nI_clamp (by omega)] at hj
    rw [zw_n _ _ _ _ (by decide)]
    by_cases e : j < t
    · rw [sgnT_o e, g4 j e]
      exact htx j (by rw [h29t, nI_clamp (by omega)]; exact e)
    · obtain ⟨m, rfl⟩ : ∃ m, j = t + m := ⟨j - t, by omega⟩
      rw [sgnT_v 4 m (by omega), g5 m (by omega), b8_and]
  · rw [zw_n _ _ _ _ (by decide), zw_n _ _ _ _ (by decide), zw_n _ _ _ _ (by decide), g2 303 (by decide) (by decide), g2 304 (by decide) (by decide), g2 305 (by decide) (by decide), sgnT_c (by decide), sgnT_c (by decide), sgnT_c (by decide)]; exact hpr j hj
theorem sgI.fr {x : Int32} {t i : Nat} {I2 : zI} (g : sgI I x t i I2) : frX I L P S I2 L P S := frX.rf.i fun a ha => g.2.1 a (by omega) (by omega)
theorem nI_nle56 {a : Nat} (h : 56 < a) (ha : a ≤ 60) : ¬ nI a ≤ nI 56 := nI_ge h (by omega)
theorem xR.prr {a b y : Int32} (hX : xR D R no n np ro oh ph I L P S) : xR (zw (zw (zw (zw D 51 np a) 52 np b) 53 np y) 0 50 (nI (np + 1))) R no n (np + 1) ro oh ph (zw (zw (zw (zw I 303 np a) 304 np b) 305 np y) 100 14 (nI (np + 1))) L P S := by
  obtain ⟨-, -, ⟨⟨h29, h50⟩, -⟩, ⟨htx, hpr, -⟩, -⟩ := id hX
  refine hX.misc (fun a q1 _ q3 q4 q5 => ?_) ?_ ?_ (fun a j _ q1 q2 q3 q => ?_) ?_ (zw_s _ _ _ _) (fun j hj => ?_) (fun j hj => ?_)
  · rw [zw_n _ _ _ _ q1, zw_n _ _ _ _ q5, zw_n _ _ _ _ q4, zw_n _ _ _ _ q3]
  · rw [zw_a, zu_n _ _ _ (by decide), zw_n _ _ _ _ (by decide), zw_n _ _ _ _ (by decide), zw_n _ _ _ _ (by decide)]
  · rw [zw_a, zu_n _ _ _ (by decide), zw_n _ _ _ _ (by decide), zw_n _ _ _ _ (by decide), zw_n _ _ _ _ (by decide)]
  · by_cases e : a = 0
    · subst e; rw [zw_a, zu_n _ _ _ (by rintro rfl; exact q ⟨rfl, Or.inr rfl⟩), zw_n _ _ _ _ (by decide), zw_n _ _ _ _ (by decide), zw_n _ _ _ _ (by decide)]
    · rw [zw_n _ _ _ _ e, zw_n _ _ _ _ q3, zw_n _ _ _ _ q2, zw_n _ _ _ _ q1]
  · rw [zw_a, zu_n _ _ _ (by decide), zw_n _ _ _ _ (by decide), zw_n _ _ _ _ (by decide), zw_n _ _ _ _ (by decide), zw_a, zu_n _ _ _ (by decide), zw_n _ _ _ _ (by decide), zw_n _ _ _ _ (by decide), zw_n _ _ _ _ (by decide)]; exact h29
  · rw [zw_a, zu_n _ _ _ (by decide), zw_n _ _ _ _ (by decide), zw_n _ _ _ _ (by decide), zw_n _ _ _ _ (by decide)] at hj
    rw [zw_n _ _ _ _ (by decide), zw_n _ _ _ _ (by decide), zw_n _ _ _ _ (by decide), zw_n _ _ _ _ (by decide), zw_n _ _ _ _ (by decide), zw_n _ _ _ _ (by decide), zw_n _ _ _ _ (by decide), zw_n _ _ _ _ (by decide)]
    exact htx j hj
  · by_cases e : j = np
    · subst e; simp [zw, zu]
    · have q := hpr j (by omega)
      simp [zw, zu, e, q]
set_option maxHeartbeats 4000000 in
theorem o_xend (hX : xR D R no n np ro oh ph I L P S) {t : Nat} (ht : t ≤ 60) (h29t : D 0 29 = nI t) {x : Int32} (k : ∀ I2 L2 P2 S2, xR (fEnd D R x).2.1 (fEnd D R x).2.2 no n np ro oh ph I2 L2 P2 S2 → frX I L P S I2 L2 P2 S2 → Q (.inl (some (.int (fEnd D R x).1))) I2 L2 P2 S2) : Zm G mX1_end 2 C Sl [.ref 100, .int x] I L P S Q := by
  obtain ⟨e, ⟨g, hro⟩, ⟨⟨h29, h50⟩, hrw⟩, ⟨htx, hpr, hkp⟩, htl, hoh, hph⟩ := hX
  have hX : xR D R no n np ro oh ph I L P S := ⟨e, ⟨g, hro⟩, ⟨⟨h29, h50⟩, hrw⟩, ⟨htx, hpr, hkp⟩, htl, hoh, hph⟩
  have hx := e.x
  have hO := e.wd
  have hR := e.wr
  have hT := e.st
  have hPc := e.pc
  have hw := e.hw
  have hf := e.hx
  have hb := e.b
  have hn := e.nn
  have n8 := hw.n8
  have h6 := hw.o6
  have hn8 := hw.n8
  have hno : noD D = no := by rw [noD, show D 0 3 = nI no from hw.o3, nI_clamp (by omega)]
  have hnn : nD D = n := by rw [nD, show D 0 16 = nI n from hw.n16, nI_clamp (by omega)]
  have hM := hR.1
  refine Z_entry (lv := [_, _]) (Nat.le_of_ble_eq_true rfl) rfl ?_
  refine Z_iload_n dX1_end_0 rfl ?_
  refine Z_iconst (nI 0) dX1_end_1 rfl ?_
  refine Z_aload_n dX1_end_2 rfl ?_
  refine Z_getI hx.1 fX1_197_0 dX1_end_3 rfl ?_
  refine Z_re h29 ?_
  refine Z_callS0 (d' := 0) (zCal_S gX1_3 nX1_in (by decide) dX1_end_6) pX1_in [_, _, _] rfl rfl (Nat.le_of_ble_eq_true rfl) (by omega) (c_X1_in (fun h6a h6b => ?_) (fun h6 => ?_))
  · have r6 : rB x 0 (D 0 29).toInt = true := rB_t h6a h6b
    rw [h29t, z_ti (by omega)] at h6b
    obtain ⟨q, hq, e6⟩ := z_rng (n := t) h6a h6b (by omega)
    subst e6
    refine Z_ifne 14 dX1_end_9 rfl (fun _ => ?_) (fun h => absurd h (by decide))
    refine Z_aload_n dX1_end_14 rfl ?_
    refine Z_iload_n dX1_end_15 rfl ?_
    refine Z_putI hx.1 fX1_197_0 dX1_end_16 rfl rfl rfl ?_
    refine Z_iconst (nI 1) dX1_end_19 rfl ?_
    refine Z_ireturn dX1_end_20 rfl rfl ?_
    exact xO_k (D2 := zw D 0 29 (nI q)) (R2 := R) (by simp [fEnd, r6]) k (hX.typ (x := 0) h29t ht hq) (frX.rf.st (by decide))
  · have r6 : rB x 0 (D 0 29).toInt = false := rB_f h6
    refine Z_ifne 14 dX1_end_9 rfl (fun h => absurd h (by decide)) (fun _ => ?_)
    refine Z_iconst (nI 0) dX1_end_12 rfl ?_
    refine Z_ireturn dX1_end_13 rfl rfl ?_
    exact xO_k (D2 := D) (R2 := R) (by simp [fEnd, r6]) k (hX) (frX.rf)
set_option maxHeartbeats 4000000 in
theorem o_xsign (hX : xR D R no n np ro oh ph I L P S) {t : Nat} (ht : t ≤ 60) (h29t : D 0 29 = nI t) {x : Int32} (k : ∀ I2 L2 P2 S2, xR (fSign D R x).2.1 (fSign D R x).2.2 no n np ro oh ph I2 L2 P2 S2 → frX I L P S I2 L2 P2 S2 → Q (.inl (some (.int (fSign D R x).1))) I2 L2 P2 S2) : Zm G mX1_sign 0 C Sl [.ref 100, .int x] I L P S Q := by
  obtain ⟨e, ⟨g, hro⟩, ⟨⟨h29, h50⟩, hrw⟩, ⟨htx, hpr, hkp⟩, htl, hoh, hph⟩ := hX
  have hX : xR D R no n np ro oh ph I L P S := ⟨e, ⟨g, hro⟩, ⟨⟨h29, h50⟩, hrw⟩, ⟨htx, hpr, hkp⟩, htl, hoh, hph⟩
  have hx := e.x
  have hO := e.wd
  have hR := e.wr
  have hT := e.st
  have hPc := e.pc
  have hw := e.hw
  have hf := e.hx
  have hb := e.b
  have hn := e.nn
  have n8 := hw.n8
  have h6 := hw.o6
  have hn8 := hw.n8
  have hno : noD D = no := by rw [noD, show D 0 3 = nI no from hw.o3, nI_clamp (by omega)]
  have hnn : nD D = n := by rw [nD, show D 0 16 = nI n from hw.n16, nI_clamp (by omega)]
  have hM := hR.1
  refine Z_entry (lv := [_, _, _]) (Nat.le_of_ble_eq_true rfl) rfl ?_
  refine Z_aload_n dX1_sign_0 rfl ?_
  refine Z_getI hx.1 fX1_197_0 dX1_sign_1 rfl ?_
  refine Z_re (y := nI (t)) (h29.trans h29t) ?_
  refine Z_iconst (nI 4) dX1_sign_4 rfl ?_
  refine Z_iaddN dX1_sign_5 ?_
  refine Z_bipush (nI 60) dX1_sign_6 rfl ?_
  refine Z_icmpleN 13 dX1_sign_8 rfl (by omega) (by omega) (fun c8 => ?_) (fun c8 => ?_)
  · refine Z_bipush (nI 24) dX1_sign_13 rfl ?_
    refine Z_istore_n (lv' := [_, _, _]) dX1_sign_15 rfl rfl (Nat.le_of_ble_eq_true rfl) ?_
    have lp16 : ∀ i, i ≤ 4 → ∀ I2, sgI I x t i I2 → Zj G mX1_sign 0 C Sl 16 [.ref 100, .int x, .int (sgK i)] [] I2 L P S Q := by
      refine zloop (4) (fun i => ∀ I2, sgI I x t i I2 → Zj G mX1_sign 0 C Sl 16 [.ref 100, .int x, .int (sgK i)] [] I2 L P S Q) (fun i hi ih => ?_)
      intro I2 gB
      show Zj _ _ _ _ _ _ _ _ _ _ _ _ _
      refine Z_iload_n dX1_sign_16 rfl ?_
      refine Z_iflt 49 dX1_sign_17 rfl (fun c17 => ?_) (fun c17 => ?_)
      · obtain rfl := sgK_4 (by omega) c17
        refine Z_aload_n dX1_sign_49 rfl ?_
        refine Z_getI hx.1 fX1_197_0 dX1_sign_50 rfl ?_
        refine Z_re (y := nI (t + 4)) gB.1 ?_
        refine Z_ireturn dX1_sign_53 rfl rfl ?_
        have e8 : nI t ≤ nI 56 := nI_le (by omega) (by omega)
        have e9 : (nI t).toNatClampNeg = t := nI_clamp (by omega)
        exact xO_k (D2 := zw (sgnT D x t 4) 0 29 (nI (t + 4))) (R2 := R) (by simp [fSign, h29t, e8, e9, nI_add]) k (hX.sgn h29t (by omega) gB) gB.fr
      · have hi4 := sgK_n (by omega) c17
        refine Z_aload_n dX1_sign_20 rfl ?_
        refine Z_getR (r := 301) hx.1 fX1_70_0 dX1_sign_21 rfl (hx.2.2.1 7 _ rfl).2 ?_
        refine Z_aload_n dX1_sign_24 rfl ?_
        refine Z_getI hx.1 fX1_197_0 dX1_sign_25 rfl ?_
        refine Z_re (y := nI (t + i)) gB.1 ?_
        refine Z_iload_n dX1_sign_28 rfl ?_
        refine Z_iload_n dX1_sign_29 rfl ?_
        refine Z_ishr dX1_sign_30 ?_
        refine Z_i2b dX1_sign_31 ?_
        refine Z_bast (hx.2.2.1 7 _ rfl).1 (zix_nI (by first | omega | (dsimp only; omega)) (by decide)) dX1_sign_32 ?_
        refine Z_aload_n dX1_sign_33 rfl ?_
        refine Z_dup dX1_sign_34 rfl ?_
        refine Z_getI hx.1 fX1_197_0 dX1_sign_35 rfl ?_
        refine Z_re (y := nI (t + i)) ((congrFun (zw_n _ _ _ _ (by decide)) 8).trans gB.1) ?_
        refine Z_iconst (nI 1) dX1_sign_38 rfl ?_
        refine Z_iaddN dX1_sign_39 ?_
        refine Z_putI hx.1 fX1_197_0 dX1_sign_40 rfl rfl rfl ?_
        refine Z_iinc (lv' := [_, _, _]) dX1_sign_43 rfl rfl rfl ?_
        refine Z_goto 16 dX1_sign_46 rfl ?_
        have q := ih (by omega) _ (gB.st (by omega))
        rw [← sgK_s (by omega)] at q
        exact q
    exact lp16 0 (by omega) I ⟨h29.trans h29t, fun _ _ _ => rfl, fun _ _ => rfl, fun _ _ => rfl, fun j hj => absurd hj (by omega)⟩
  · refine Z_iconst (-1) dX1_sign_11 rfl ?_
    refine Z_ireturn dX1_sign_12 rfl rfl ?_
    exact xO_k (by simp [fSign, h29t, nI_nle56 (show 56 < t by omega) ht]) k hX frX.rf
theorem zw3b {f : zI} {a b c k : Nat} {v w : Int32} (h : c ≠ a) (h2 : c ≠ b) : zw (zw f a k v) b k w c = f c := by rw [zw_n _ _ _ _ h2, zw_n _ _ _ _ h]
theorem zw3c {f : zI} {a b e c k : Nat} {v w x : Int32} (h : c ≠ a) (h2 : c ≠ b) (h3 : c ≠ e) : zw (zw (zw f a k v) b k w) e k x c = f c := by rw [zw_n _ _ _ _ h3, zw_n _ _ _ _ h2, zw_n _ _ _ _ h]
theorem xO_p {f : zO} {v : Int32} {D2 : zI} {R2 : List Int64} {np2 : Nat} {I2 : zI} {L2 : zL} {P2 : zR} {S2 : zT} (h : f = (v, D2, R2)) (k : ∀ I2 L2 P2 S2 np2, xR f.2.1 f.2.2 no n np2 ro oh ph I2 L2 P2 S2 → f.2.1 0 50 = nI np2 → np2 ≤ 9 → frX I L P S I2 L2 P2 S2 → Q (.inl (some (.int f.1))) I2 L2 P2 S2) (hm : xR D2 R2 no n np2 ro oh ph I2 L2 P2 S2) (h50 : D2 0 50 = nI np2) (h9 : np2 ≤ 9) (hf : frX I L P S I2 L2 P2 S2) : Q (.inl (some (.int v))) I2 L2 P2 S2 := by
  subst h
  exact k _ _ _ _ _ hm h50 h9 hf
set_option maxHeartbeats 4000000 in
theorem o_xpair (hX : xR D R no n np ro oh ph I L P S) (hn50 : D 0 50 = nI np) (hnp : np ≤ 9) {a b y : Int32} (k : ∀ I2 L2 P2 S2 np2, xR (fPair D R np a b y).2.1 (fPair D R np a b y).2.2 no n np2 ro oh ph I2 L2 P2 S2 → (fPair D R np a b y).2.1 0 50 = nI np2 → np2 ≤ 9 → frX I L P S I2 L2 P2 S2 → Q (.inl (some (.int (fPair D R np a b y).1))) I2 L2 P2 S2) : Zm G mX1_pair 3 C Sl [.ref 100, .int a, .int b, .int y] I L P S Q := by
  obtain ⟨e, ⟨g, hro⟩, ⟨⟨h29, h50⟩, hrw⟩, ⟨htx, hpr, hkp⟩, htl, hoh, hph⟩ := hX
  have hX : xR D R no n np ro oh ph I L P S := ⟨e, ⟨g, hro⟩, ⟨⟨h29, h50⟩, hrw⟩, ⟨htx, hpr, hkp⟩, htl, hoh, hph⟩
  have hx := e.x
  have hO := e.wd
  have hR := e.wr
  have hT := e.st
  have hPc := e.pc
  have hw := e.hw
  have hf := e.hx
  have hb := e.b
  have hn := e.nn
  have n8 := hw.n8
  have h6 := hw.o6
  have hn8 := hw.n8
  have hno : noD D = no := by rw [noD, show D 0 3 = nI no from hw.o3, nI_clamp (by omega)]
  have hnn : nD D = n := by rw [nD, show D 0 16 = nI n from hw.n16, nI_clamp (by omega)]
  have hM := hR.1
  refine Z_entry (lv := [_, _, _, _, _]) (Nat.le_of_ble_eq_true rfl) rfl ?_
  refine Z_aload_n dX1_pair_0 rfl ?_
  refine Z_iload_n dX1_pair_1 rfl ?_
  refine Z_call0 (d' := 1) (zCal_V gX1_121 nX1_isOffice (by decide) dX1_pair_2) pX1_isOffice hx.1 zkl0 [_] rfl rfl (Nat.le_of_ble_eq_true rfl) (by omega) (c_X1_isOffice hx hR.1.1 h6 (fun k2 hk2 e2 => ?_) (fun h2 => ?_))
  · subst e2
    have r2 : oB D (nI k2) = true := rB_t (by rw [z_ti (by omega)]; omega) (by rw [z_ti (by omega), hno]; omega)
    have v2 : (nI k2).toNatClampNeg = k2 := nI_clamp (by omega)
    refine Z_ifeq 40 dX1_pair_5 rfl (fun h => absurd h (by decide)) (fun _ => ?_)
    refine Z_aload_n dX1_pair_8 rfl ?_
    refine Z_iload_n dX1_pair_9 rfl ?_
    refine Z_call0 (d' := 1) (zCal_V gX1_121 nX1_isOffice (by decide) dX1_pair_10) pX1_isOffice hx.1 zkl0 [_] rfl rfl (Nat.le_of_ble_eq_true rfl) (by omega) (c_X1_isOffice hx hR.1.1 h6 (fun k10 hk10 e10 => ?_) (fun h10 => ?_))
    · subst e10
      have r10 : oB D (nI k10) = true := rB_t (by rw [z_ti (by omega)]; omega) (by rw [z_ti (by omega), hno]; omega)
      have v10 : (nI k10).toNatClampNeg = k10 := nI_clamp (by omega)
      refine Z_ifeq 40 dX1_pair_13 rfl (fun h => absurd h (by decide)) (fun _ => ?_)
      refine Z_iload_n dX1_pair_16 rfl ?_
      refine Z_iload_n dX1_pair_17 rfl ?_
      refine Z_icmpeqN 40 dX1_pair_18 rfl (by omega) (by omega) (fun c18 => ?_) (fun c18 => ?_)
      · refine Z_iconst (-1) dX1_pair_40 rfl ?_
        refine Z_ireturn dX1_pair_41 rfl rfl ?_
        exact xO_p (by simp [fPair, hn50, nI_eq, r2, v2, r10, v10, c18]) k hX hn50 hnp frX.rf
      · refine Z_iload_n dX1_pair_21 rfl ?_
        refine Z_iconst (nI 1) dX1_pair_22 rfl ?_
        refine Z_bipush (nI 99) dX1_pair_23 rfl ?_
        refine Z_callS0 (d' := 0) (zCal_S gX1_3 nX1_in (by decide) dX1_pair_25) pX1_in [_, _, _] rfl rfl (Nat.le_of_ble_eq_true rfl) (by omega) (c_X1_in (fun h25a h25b => ?_) (fun h25 => ?_))
        · have r25 : rB y 1 99 = true := rB_t h25a h25b
          refine Z_ifeq 40 dX1_pair_28 rfl (fun h => absurd h (by decide)) (fun _ => ?_)
          refine Z_aload_n dX1_pair_31 rfl ?_
          refine Z_getI hx.1 fX1_352_0 dX1_pair_32 rfl ?_
          refine Z_re (y := nI (np)) h50 ?_
          refine Z_bipush (nI 9) dX1_pair_35 rfl ?_
          refine Z_icmpneN 42 dX1_pair_37 rfl (by omega) (by omega) (fun c37 => ?_) (fun c37 => ?_)
          · refine Z_iconst (nI 0) dX1_pair_42 rfl ?_
            refine Z_istore (lv' := [_, _, _, _, _]) dX1_pair_43 rfl rfl (Nat.le_of_ble_eq_true rfl) ?_
            have lp45 : ∀ i, i ≤ np → fstB (pr1 D (nI k2) (nI k10)) i = none → Zj G mX1_pair 3 C Sl 45 [.ref 100, .int (nI k2), .int (nI k10), .int y, .int (nI i)] [] I L P S Q := by
              refine zloop (np) (fun i => fstB (pr1 D (nI k2) (nI k10)) i = none → Zj G mX1_pair 3 C Sl 45 [.ref 100, .int (nI k2), .int (nI k10), .int y, .int (nI i)] [] I L P S Q) (fun i hi ih => ?_)
              intro hF
              show Zj _ _ _ _ _ _ _ _ _ _ _ _ _
              refine Z_iload dX1_pair_45 rfl ?_
              refine Z_aload_n dX1_pair_47 rfl ?_
              refine Z_getI hx.1 fX1_352_0 dX1_pair_48 rfl ?_
              refine Z_re (y := nI (np)) h50 ?_
              refine Z_icmpgeN 106 dX1_pair_51 rfl (by omega) (by omega) (fun c51 => ?_) (fun c51 => ?_)
              · refine Z_aload_n dX1_pair_106 rfl ?_
                refine Z_getR (r := 303) hx.1 fX1_78_0 dX1_pair_107 rfl (hx.2.2.1 11 _ rfl).2 ?_
                refine Z_aload_n dX1_pair_110 rfl ?_
                refine Z_getI hx.1 fX1_352_0 dX1_pair_111 rfl ?_
                refine Z_re (y := nI (np)) h50 ?_
                refine Z_iload_n dX1_pair_114 rfl ?_
                refine Z_iast (hx.2.2.1 11 _ rfl).1 (zix_nI (by first | omega | (dsimp only; omega)) (by decide)) dX1_pair_115 ?_
                refine Z_aload_n dX1_pair_116 rfl ?_
                refine Z_getR (r := 304) hx.1 fX1_81_0 dX1_pair_117 rfl (hx.2.2.1 12 _ rfl).2 ?_
                refine Z_aload_n dX1_pair_120 rfl ?_
                refine Z_getI hx.1 fX1_352_0 dX1_pair_121 rfl ?_
                refine Z_re (y := nI (np)) ((congrFun (zw_n _ _ _ _ (by decide)) 14).trans h50) ?_
                refine Z_iload_n dX1_pair_124 rfl ?_
                refine Z_iast (hx.2.2.1 12 _ rfl).1 (zix_nI (by first | omega | (dsimp only; omega)) (by decide)) dX1_pair_125 ?_
                refine Z_aload_n dX1_pair_126 rfl ?_
                refine Z_getR (r := 305) hx.1 fX1_84_0 dX1_pair_127 rfl (hx.2.2.1 13 _ rfl).2 ?_
                refine Z_aload_n dX1_pair_130 rfl ?_
                refine Z_getI hx.1 fX1_352_0 dX1_pair_131 rfl ?_
                refine Z_re (y := nI (np)) ((congrFun (zw3b (by decide) (by decide)) 14).trans h50) ?_
                refine Z_iload_n dX1_pair_134 rfl ?_
                refine Z_iast (hx.2.2.1 13 _ rfl).1 (zix_nI (by first | omega | (dsimp only; omega)) (by decide)) dX1_pair_135 ?_
                refine Z_aload_n dX1_pair_136 rfl ?_
                refine Z_dup dX1_pair_137 rfl ?_
                refine Z_getI hx.1 fX1_352_0 dX1_pair_138 rfl ?_
                refine Z_re (y := nI (np)) ((congrFun (zw3c (by decide) (by decide) (by decide)) 14).trans h50) ?_
                refine Z_iconst (nI 1) dX1_pair_141 rfl ?_
                refine Z_iaddN dX1_pair_142 ?_
                refine Z_putI hx.1 fX1_352_0 dX1_pair_143 rfl rfl rfl ?_
                refine Z_aload_n dX1_pair_146 rfl ?_
                refine Z_getI hx.1 fX1_352_0 dX1_pair_147 rfl ?_
                refine Z_re (y := nI (np + 1)) (zw_s _ _ _ _) ?_
                refine Z_ireturn dX1_pair_150 rfl rfl ?_
                have ei : i = np := by omega
                rw [ei] at hF
                have n9 : ¬ nI np = nI 9 := fun e => c37 ((nI_eq (by omega) (by decide)).mp e)
                have n23 : ¬ nI k2 = nI k10 := fun e => c18 ((nI_eq (by omega) (by omega)).mp e)
                exact xO_p (D2 := zw (zw (zw (zw D 51 np (nI k2)) 52 np (nI k10)) 53 np y) 0 50 (nI (np + 1))) (R2 := R) (np2 := np + 1) (by simp [fPair, hn50, nI_add, r2, v2, r10, v10, r25, n9, n23, hF]) k hX.prr (zw_s _ _ _ _) (by omega) ((((frX.rf.st (by decide)).st (by decide)).st (by decide)).st (by decide))
              · refine Z_aload_n dX1_pair_54 rfl ?_
                refine Z_getR (r := 303) hx.1 fX1_78_0 dX1_pair_55 rfl (hx.2.2.1 11 _ rfl).2 ?_
                refine Z_iload dX1_pair_58 rfl ?_
                refine Z_iald (hx.2.2.1 11 _ rfl).1 (zix_nI (by first | omega | (dsimp only; omega)) (by decide)) dX1_pair_60 ?_
                refine Z_re (hpr i (by omega)).1 ?_
                refine Z_iload_n dX1_pair_61 rfl ?_
                refine Z_icmpne 76 dX1_pair_62 rfl (fun c62 => ?_) (fun c62 => ?_)
                · refine Z_aload_n dX1_pair_76 rfl ?_
                  refine Z_getR (r := 303) hx.1 fX1_78_0 dX1_pair_77 rfl (hx.2.2.1 11 _ rfl).2 ?_
                  refine Z_iload dX1_pair_80 rfl ?_
                  refine Z_iald (hx.2.2.1 11 _ rfl).1 (zix_nI (by first | omega | (dsimp only; omega)) (by decide)) dX1_pair_82 ?_
                  refine Z_re (hpr i (by omega)).1 ?_
                  refine Z_iload_n dX1_pair_83 rfl ?_
                  refine Z_icmpne 100 dX1_pair_84 rfl (fun c84 => ?_) (fun c84 => ?_)
                  · refine Z_iincN (a := _) (k := 1) (lv' := [_, _, _, _, _]) dX1_pair_100 rfl rfl rfl rfl ?_
                    refine Z_goto 45 dX1_pair_103 rfl ?_
                    have e : pr1 D (nI k2) (nI k10) i = false := by
                      rw [pr1, Bool.eq_false_iff]
                      intro q
                      simp only [Bool.or_eq_true, Bool.and_eq_true, decide_eq_true_eq] at q
                      rcases q with ⟨q1, q2⟩ | ⟨q1, q2⟩
                      · first | exact c62 q1 | exact c73 q2
                      · first | exact c84 q1 | exact c95 q2
                    exact ih (by omega) (by simp [fstB, hF, e])
                  · refine Z_aload_n dX1_pair_87 rfl ?_
                    refine Z_getR (r := 304) hx.1 fX1_81_0 dX1_pair_88 rfl (hx.2.2.1 12 _ rfl).2 ?_
                    refine Z_iload dX1_pair_91 rfl ?_
                    refine Z_iald (hx.2.2.1 12 _ rfl).1 (zix_nI (by first | omega | (dsimp only; omega)) (by decide)) dX1_pair_93 ?_
                    refine Z_re (hpr i (by omega)).2.1 ?_
                    refine Z_iload_n dX1_pair_94 rfl ?_
                    refine Z_icmpne 100 dX1_pair_95 rfl (fun c95 => ?_) (fun c95 => ?_)
                    · refine Z_iincN (a := _) (k := 1) (lv' := [_, _, _, _, _]) dX1_pair_100 rfl rfl rfl rfl ?_
                      refine Z_goto 45 dX1_pair_103 rfl ?_
                      have e : pr1 D (nI k2) (nI k10) i = false := by
                        rw [pr1, Bool.eq_false_iff]
                        intro q
                        simp only [Bool.or_eq_true, Bool.and_eq_true, decide_eq_true_eq] at q
                        rcases q with ⟨q1, q2⟩ | ⟨q1, q2⟩
                        · first | exact c62 q1 | exact c73 q2
                        · first | exact c84 q1 | exact c95 q2
                      exact ih (by omega) (by simp [fstB, hF, e])
                    · refine Z_iconst (-1) dX1_pair_98 rfl ?_
                      refine Z_ireturn dX1_pair_99 rfl rfl ?_
                      have e : pr1 D (nI k2) (nI k10) i = true := by
                        rw [pr1]
                        first | (simp [c62, c73]; done) | (simp [c84, c95]; done)
                      have e2 : fstB (pr1 D (nI k2) (nI k10)) np = some i := fstB_up (a := i + 1) (by simp [fstB, hF, e]) np (by omega)
                      exact xO_p (by simp [fPair, e2]) k hX hn50 hnp frX.rf
                · refine Z_aload_n dX1_pair_65 rfl ?_
                  refine Z_getR (r := 304) hx.1 fX1_81_0 dX1_pair_66 rfl (hx.2.2.1 12 _ rfl).2 ?_
                  refine Z_iload dX1_pair_69 rfl ?_
                  refine Z_iald (hx.2.2.1 12 _ rfl).1 (zix_nI (by first | omega | (dsimp only; omega)) (by decide)) dX1_pair_71 ?_
                  refine Z_re (hpr i (by omega)).2.1 ?_
                  refine Z_iload_n dX1_pair_72 rfl ?_
                  refine Z_icmpeq 98 dX1_pair_73 rfl (fun c73 => ?_) (fun c73 => ?_)
                  · refine Z_iconst (-1) dX1_pair_98 rfl ?_
                    refine Z_ireturn dX1_pair_99 rfl rfl ?_
                    have e : pr1 D (nI k2) (nI k10) i = true := by
                      rw [pr1]
                      first | (simp [c62, c73]; done) | (simp [c84, c95]; done)
                    have e2 : fstB (pr1 D (nI k2) (nI k10)) np = some i := fstB_up (a := i + 1) (by simp [fstB, hF, e]) np (by omega)
                    exact xO_p (by simp [fPair, e2]) k hX hn50 hnp frX.rf
                  · refine Z_aload_n dX1_pair_76 rfl ?_
                    refine Z_getR (r := 303) hx.1 fX1_78_0 dX1_pair_77 rfl (hx.2.2.1 11 _ rfl).2 ?_
                    refine Z_iload dX1_pair_80 rfl ?_
                    refine Z_iald (hx.2.2.1 11 _ rfl).1 (zix_nI (by first | omega | (dsimp only; omega)) (by decide)) dX1_pair_82 ?_
                    refine Z_re (hpr i (by omega)).1 ?_
                    refine Z_iload_n dX1_pair_83 rfl ?_
                    refine Z_icmpne 100 dX1_pair_84 rfl (fun c84 => ?_) (fun c84 => ?_)
                    · refine Z_iincN (a := _) (k := 1) (lv' := [_, _, _, _, _]) dX1_pair_100 rfl rfl rfl rfl ?_
                      refine Z_goto 45 dX1_pair_103 rfl ?_
                      have e : pr1 D (nI k2) (nI k10) i = false := by
                        rw [pr1, Bool.eq_false_iff]
                        intro q
                        simp only [Bool.or_eq_true, Bool.and_eq_true, decide_eq_true_eq] at q
                        rcases q with ⟨q1, q2⟩ | ⟨q1, q2⟩
                        · first | exact c62 q1 | exact c73 q2
                        · first | exact c84 q1 | exact c95 q2
                      exact ih (by omega) (by simp [fstB, hF, e])
                    · refine Z_aload_n dX1_pair_87 rfl ?_
                      refine Z_getR (r := 304) hx.1 fX1_81_0 dX1_pair_88 rfl (hx.2.2.1 12 _ rfl).2 ?_
                      refine Z_iload dX1_pair_91 rfl ?_
                      refine Z_iald (hx.2.2.1 12 _ rfl).1 (zix_nI (by first | omega | (dsimp only; omega)) (by decide)) dX1_pair_93 ?_
                      refine Z_re (hpr i (by omega)).2.1 ?_
                      refine Z_iload_n dX1_pair_94 rfl ?_
                      refine Z_icmpne 100 dX1_pair_95 rfl (fun c95 => ?_) (fun c95 => ?_)
                      · refine Z_iincN (a := _) (k := 1) (lv' := [_, _, _, _, _]) dX1_pair_100 rfl rfl rfl rfl ?_
                        refine Z_goto 45 dX1_pair_103 rfl ?_
                        have e : pr1 D (nI k2) (nI k10) i = false := by
                          rw [pr1, Bool.eq_false_iff]
                          intro q
                          simp only [Bool.or_eq_true, Bool.and_eq_true, decide_eq_true_eq] at q
                          rcases q with ⟨q1, q2⟩ | ⟨q1, q2⟩
                          · first | exact c62 q1 | exact c73 q2
                          · first | exact c84 q1 | exact c95 q2
                        exact ih (by omega) (by simp [fstB, hF, e])
                      · refine Z_iconst (-1) dX1_pair_98 rfl ?_
                        refine Z_ireturn dX1_pair_99 rfl rfl ?_
                        have e : pr1 D (nI k2) (nI k10) i = true := by
                          rw [pr1]
                          first | (simp [c62, c73]; done) | (simp [c84, c95]; done)
                        have e2 : fstB (pr1 D (nI k2) (nI k10)) np = some i := fstB_up (a := i + 1) (by simp [fstB, hF, e]) np (by omega)
                        exact xO_p (by simp [fPair, e2]) k hX hn50 hnp frX.rf
            exact lp45 0 (by omega) rfl
          · refine Z_iconst (-1) dX1_pair_40 rfl ?_
            refine Z_ireturn dX1_pair_41 rfl rfl ?_
            exact xO_p (by simp [fPair, hn50, nI_eq, r2, v2, r10, v10, c18, r25, c37]) k hX hn50 hnp frX.rf
        · have r25 : rB y 1 99 = false := rB_f h25
          refine Z_ifeq 40 dX1_pair_28 rfl (fun _ => ?_) (fun h => absurd h (by decide))
          refine Z_iconst (-1) dX1_pair_40 rfl ?_
          refine Z_ireturn dX1_pair_41 rfl rfl ?_
          exact xO_p (by simp [fPair, hn50, nI_eq, r2, v2, r10, v10, c18, r25]) k hX hn50 hnp frX.rf
    · have r10 : oB D b = false := rB_f (fun q => h10 ⟨q.1, by have := q.2; rw [hno] at this; omega⟩)
      refine Z_ifeq 40 dX1_pair_13 rfl (fun _ => ?_) (fun h => absurd h (by decide))
      refine Z_iconst (-1) dX1_pair_40 rfl ?_
      refine Z_ireturn dX1_pair_41 rfl rfl ?_
      exact xO_p (by simp [fPair, hn50, nI_eq, r2, v2, r10]) k hX hn50 hnp frX.rf
  · have r2 : oB D a = false := rB_f (fun q => h2 ⟨q.1, by have := q.2; rw [hno] at this; omega⟩)
    refine Z_ifeq 40 dX1_pair_5 rfl (fun _ => ?_) (fun h => absurd h (by decide))
    refine Z_iconst (-1) dX1_pair_40 rfl ?_
    refine Z_ireturn dX1_pair_41 rfl rfl ?_
    exact xO_p (by simp [fPair, hn50, nI_eq, r2]) k hX hn50 hnp frX.rf
set_option maxHeartbeats 4000000 in
theorem o_xagain (hX : xR D R no n np ro oh ph I L P S) (hkf : ∀ i, i < 3 → D 56 i = nI n → sf (wld D) no n (fun k => D 57 (127 * i + k))) {x : Int32} (k : ∀ I2 L2 P2 S2, xR (fAgain D R x).2.1 (fAgain D R x).2.2 no n np ro oh ph I2 L2 P2 S2 → frX I L P S I2 L2 P2 S2 → Q (.inl (some (.int (fAgain D R x).1))) I2 L2 P2 S2) : Zm G mX1_again 3 C Sl [.ref 100, .int x] I L P S Q := by
  obtain ⟨e, ⟨g, hro⟩, ⟨⟨h29, h50⟩, hrw⟩, ⟨htx, hpr, hkp⟩, htl, hoh, hph⟩ := hX
  have hX : xR D R no n np ro oh ph I L P S := ⟨e, ⟨g, hro⟩, ⟨⟨h29, h50⟩, hrw⟩, ⟨htx, hpr, hkp⟩, htl, hoh, hph⟩
  have hx := e.x
  have hO := e.wd
  have hR := e.wr
  have hT := e.st
  have hPc := e.pc
  have hw := e.hw
  have hf := e.hx
  have hb := e.b
  have hn := e.nn
  have n8 := hw.n8
  have h6 := hw.o6
  have hn8 := hw.n8
  have hno : noD D = no := by rw [noD, show D 0 3 = nI no from hw.o3, nI_clamp (by omega)]
  have hnn : nD D = n := by rw [nD, show D 0 16 = nI n from hw.n16, nI_clamp (by omega)]
  have hM := hR.1
  refine Z_entry (lv := [_, _]) (Nat.le_of_ble_eq_true rfl) rfl ?_
  refine Z_iload_n dX1_again_0 rfl ?_
  refine Z_iconst (nI 0) dX1_again_1 rfl ?_
  refine Z_iconst (nI 2) dX1_again_2 rfl ?_
  refine Z_callS0 (d' := 0) (zCal_S gX1_3 nX1_in (by decide) dX1_again_3) pX1_in [_, _, _] rfl rfl (Nat.le_of_ble_eq_true rfl) (by omega) (c_X1_in (fun h3a h3b => ?_) (fun h3 => ?_))
  · have r3 : rB x 0 2 = true := rB_t h3a h3b
    obtain ⟨k3, hk3, e3⟩ := z_rng (n := 2) h3a h3b (by omega)
    subst e3
    have v3 : (nI k3).toNatClampNeg = k3 := nI_clamp (by omega)
    refine Z_ifeq 31 dX1_again_6 rfl (fun h => absurd h (by decide)) (fun _ => ?_)
    refine Z_aload_n dX1_again_9 rfl ?_
    refine Z_getR (r := 306) hx.1 fX1_87_0 dX1_again_10 rfl (hx.2.2.1 15 _ rfl).2 ?_
    refine Z_iload_n dX1_again_13 rfl ?_
    rcases hkp k3 (by omega) with ⟨hP9, h56⟩ | ⟨h9, m, ⟨hP9, h97, hU⟩, ⟨h56, hm8, h307⟩, gk⟩
    · refine Z_aaldN (hx.2.2.1 15 _ rfl).1 (by simp [zTys]) rfl (zix_nI (by first | omega | (dsimp only; omega)) (by decide)) hP9 dX1_again_14 ?_
      refine Z_ifnullN 31 dX1_again_15 rfl ?_
      refine Z_iconst (nI 0) dX1_again_31 rfl ?_
      refine Z_ireturn dX1_again_32 rfl rfl ?_
      exact xO_k (by simp [fAgain, h56, show D 0 16 = nI n from hw.n16, show ¬ (-1 : Int32) = nI n from fun q => nI_m1 (by omega) q.symm, v3]) k hX frX.rf
    · refine Z_aald (r := h9) (hx.2.2.1 15 _ rfl).1 (by simp [zTys]) rfl (zix_nI (by first | omega | (dsimp only; omega)) (by decide)) hP9 dX1_again_14 ?_
      refine Z_ifnullR dX1_again_15 ?_
      refine Z_aload_n dX1_again_18 rfl ?_
      refine Z_getR (r := 307) hx.1 fX1_91_0 dX1_again_19 rfl (hx.2.2.1 16 _ rfl).2 ?_
      refine Z_iload_n dX1_again_22 rfl ?_
      refine Z_iald (hx.2.2.1 16 _ rfl).1 (zix_nI (by first | omega | (dsimp only; omega)) (by decide)) dX1_again_23 ?_
      refine Z_re (y := nI (m)) h307 ?_
      refine Z_aload_n dX1_again_24 rfl ?_
      refine Z_getI hx.1 fX1_105_0 dX1_again_25 rfl ?_
      refine Z_re (y := nI (n)) hn ?_
      refine Z_icmpeqN 33 dX1_again_28 rfl (by omega) (by omega) (fun c28 => ?_) (fun c28 => ?_)
      · have c28 := c28
        subst c28
        have sk := hkf k3 (by omega) h56
        have h60 : ((fun k => D 57 (127 * k3 + k)) 2).toNatClampNeg ≤ 60 := by obtain ⟨b9, hb9, eb9⟩ := sk.bk; show (D 57 (127 * k3 + 2)).toNatClampNeg ≤ 60; rw [show D 57 (127 * k3 + 2) = nI b9 from eb9, nI_clamp (by omega)]; exact hb9
        refine Z_aload_n dX1_again_33 rfl ?_
        refine Z_getR (r := 240) hx.1 fX1_62_0 dX1_again_34 rfl hx.2.2.2.1.2.2.1 ?_
        refine Z_aload_n dX1_again_37 rfl ?_
        refine Z_getR (r := 306) hx.1 fX1_87_0 dX1_again_38 rfl (hx.2.2.1 15 _ rfl).2 ?_
        refine Z_iload_n dX1_again_41 rfl ?_
        refine Z_aald (r := h9) (hx.2.2.1 15 _ rfl).1 (by simp [zTys]) rfl (zix_nI (by first | omega | (dsimp only; omega)) (by decide)) hP9 dX1_again_42 ?_
        refine Z_call0 (d' := 1) (zCal_V gX1_272 nX3_as (by decide) dX1_again_43) pX3_as hT.1 zkl2 [_] rfl rfl (Nat.le_of_ble_eq_true rfl) (by omega) (c_X3_as hT hU gk (fun p hp => (sk.wt hp).imp id And.left) h60 hn8 (by omega) (fun I2 gA fI => ?_))
        refine Z_pop dX1_again_46 rfl ?_
        refine Z_iconst (nI 1) dX1_again_47 rfl ?_
        refine Z_ireturn dX1_again_48 rfl rfl ?_
        have e56 : decide (D 56 k3 = D 0 16) = true := decide_eq_true (by rw [h56, show D 0 16 = nI m from hw.n16])
        exact xO_k (D2 := cpyN D 23 0 (fun k => D 57 (127 * k3 + k)) 127) (R2 := R) (by simp only [fAgain, r3, v3, e56, Bool.and_self, if_true]) k (hX.st (fH.of fI) f3.rf (fun a k q => by rw [cpyN_n q]) (gA.eq hn8 h60 (fun j hj => by have q := cpy_at (X := D) (a := 23) (b := 0) (s := fun k => D 57 (127 * k3 + k)) 127 hj; rw [Nat.zero_add] at q; exact q))) (frX.fH (fH.of fI) f3.rf)
      · refine Z_iconst (nI 0) dX1_again_31 rfl ?_
        refine Z_ireturn dX1_again_32 rfl rfl ?_
        have c28 : ¬ nI m = nI n := fun e => c28 ((nI_eq (by omega) (by omega)).mp e)
        exact xO_k (by simp [fAgain, h56, show D 0 16 = nI n from hw.n16, c28, v3]) k hX frX.rf
  · have r3 : rB x 0 2 = false := rB_f h3
    refine Z_ifeq 31 dX1_again_6 rfl (fun _ => ?_) (fun h => absurd h (by decide))
    refine Z_iconst (nI 0) dX1_again_31 rfl ?_
    refine Z_ireturn dX1_again_32 rfl rfl ?_
    exact xO_k (by simp [fAgain, r3]) k hX frX.rf
end X11C
