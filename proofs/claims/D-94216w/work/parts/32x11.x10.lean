set_option maxRecDepth 100000
/-! THE COMPONENT, part 10: calls that change the data a little, calls on the state -/
section X10C
variable {G : zG} {d C Sl : Nat} {I D W : zI} {R : List Int64} {L : zL} {P : zR} {S : zT} {Q : zQ} {no n np : Nat} {s : zS} {oh ph : Nat → Nat} {ro : Option (List Nat)}
theorem wld_zi {a k : Nat} {v : Int32} (h : wAt a k = true) : wld (zw D a k v) = zw (wld D) a k v := by
  funext b j
  unfold wld zw zu
  by_cases hb : b = a
  · subst hb
    by_cases hj : j = k
    · subst hj; simp [h]
    · simp [hj]
  · simp [hb]
section WRW
variable {h k : Nat}
theorem wRw.clk {x y : Int32} (g : wRw S P I h W no oh) (hoh : ∀ o, oh o = 6000 + 16 * o) (hh : h + 8 < 6000) : wRw S P (zw (zw I (oh k) 6 x) (oh k) 7 y) h (zw (zw W 10 k x) 11 k y) no oh := by
  have h6 := hoh k
  obtain ⟨⟨a, b, c⟩, r, f⟩ := g
  refine ⟨?_, fun x y hx hy => ?_, fun o ho => ?_⟩
  · rw [zw_n _ _ _ _ (by omega), zw_n _ _ _ _ (by omega), zw_n _ _ _ _ (by decide), zw_n _ _ _ _ (by decide)]; exact ⟨a, b, c⟩
  · rw [zw_n _ _ _ _ (by omega), zw_n _ _ _ _ (by omega), zw_n _ _ _ _ (by decide), zw_n _ _ _ _ (by decide)]; exact r x y hx hy
  · obtain ⟨q1, q2, ⟨p0, p1, p2, p3⟩, ⟨p4, p5, p6, p7⟩, p8⟩ := f o ho
    refine ⟨q1, q2, ?_⟩
    by_cases e : o = k
    · subst e
      refine ⟨⟨?_, ?_, ?_, ?_⟩, ⟨?_, ?_, ?_, ?_⟩, fun dd hd => ?_⟩ <;> first | (simp [zw, zu, p0, p1, p2, p3, p4, p5]; done) | (simp [zw, zu, p8 dd hd]; done)
    · have n1 : oh o ≠ oh k := by rw [hoh, hoh]; omega
      have n2 : oh o + 8 ≠ oh k := by rw [hoh, hoh]; omega
      refine ⟨⟨?_, ?_, ?_, ?_⟩, ⟨?_, ?_, ?_, ?_⟩, fun dd hd => ?_⟩ <;> first | (simp [zw, zu, n1, e, p0, p1, p2, p3, p4, p5, p6, p7]; done) | (simp [zw, zu, n2, p8 dd hd]; done)
theorem wRw.fst {dd : Nat} {v : Int32} (g : wRw S P I h W no oh) (hoh : ∀ o, oh o = 6000 + 16 * o) (hh : h + 8 < 6000) (hd : dd < 100) : wRw S P (zw I (oh k + 8) dd v) h (zw W 12 (100 * k + dd) v) no oh := by
  have h6 := hoh k
  obtain ⟨⟨a, b, c⟩, r, f⟩ := g
  refine ⟨?_, fun x y hx hy => ?_, fun o ho => ?_⟩
  · rw [zw_n _ _ _ _ (by omega), zw_n _ _ _ _ (by decide)]; exact ⟨a, b, c⟩
  · rw [zw_n _ _ _ _ (by omega), zw_n _ _ _ _ (by decide)]; exact r x y hx hy
  · obtain ⟨q1, q2, ⟨p0, p1, p2, p3⟩, ⟨p4, p5, p6, p7⟩, p8⟩ := f o ho
    refine ⟨q1, q2, ?_⟩
    have n1 : oh o ≠ oh k + 8 := by rw [hoh, hoh]; omega
    have key : ∀ d2, d2 < 100 → zw I (oh k + 8) dd v (oh o + 8) d2 = zw W 12 (100 * k + dd) v 12 (100 * o + d2) := by
      intro d2 hd2
      by_cases e : o = k
      · subst e
        rw [zw_a, zw_a]
        by_cases e2 : d2 = dd
        · subst e2; rw [zu_s, zu_s]
        · rw [zu_n _ _ _ e2, zu_n _ _ _ (by omega)]; exact p8 d2 hd2
      · rw [zw_n _ _ _ _ (by rw [hoh, hoh]; omega), zw_a, zu_n _ _ _ (by omega)]; exact p8 d2 hd2
    refine ⟨⟨?_, ?_, ?_, ?_⟩, ⟨?_, ?_, ?_, ?_⟩, key⟩ <;> simp [zw, zu, n1, p0, p1, p2, p3, p4, p5, p6, p7]
theorem wRw.knw {a b : Nat} {v : Int32} (g : wRw S P I h W no oh) (ha : a < no) (hb : b < no) (h6 : no ≤ 6) (ho : ∀ o, o < no → 6000 ≤ oh o) (hh : h + 8 < 6000) : wRw S P (zw (zw I (h + 3 + a) b v) (h + 3 + b) a v) h (zw (zw W 13 (6 * a + b) v) 13 (6 * b + a) v) no oh := by
  obtain ⟨⟨g1, g2, g3⟩, r, f⟩ := g
  refine ⟨?_, fun x y hx hy => ?_, fun o hoo => ?_⟩
  · rw [zw_n _ _ _ _ (by omega), zw_n _ _ _ _ (by omega), zw_n _ _ _ _ (by decide), zw_n _ _ _ _ (by decide)]; exact ⟨g1, g2, g3⟩
  · have q := r x y hx hy
    by_cases e1 : x = b ∧ y = a
    · obtain ⟨rfl, rfl⟩ := e1
      rw [zw_s, if_pos ⟨hb, ha⟩, zw_s]
    · have z1 : zw (zw I (h + 3 + a) b v) (h + 3 + b) a v (h + 3 + x) y = zw I (h + 3 + a) b v (h + 3 + x) y := by
        by_cases ex : x = b
        · subst ex; rw [zw_a, zu_n _ _ _ (fun e => e1 ⟨rfl, e⟩)]
        · rw [zw_n _ _ _ _ (by omega)]
      have z2 : zw (zw W 13 (6 * a + b) v) 13 (6 * b + a) v 13 (6 * x + y) = zw W 13 (6 * a + b) v 13 (6 * x + y) := by
        rw [zw_a, zu_n _ _ _ (by omega)]
      rw [z1, z2]
      by_cases e2 : x = a ∧ y = b
      · obtain ⟨rfl, rfl⟩ := e2
        rw [zw_s, if_pos ⟨ha, hb⟩, zw_s]
      · have z3 : zw I (h + 3 + a) b v (h + 3 + x) y = I (h + 3 + x) y := by
          by_cases ex : x = a
          · subst ex; rw [zw_a, zu_n _ _ _ (fun e => e2 ⟨rfl, e⟩)]
          · rw [zw_n _ _ _ _ (by omega)]
        rw [z3, zw_a, zu_n _ _ _ (by omega)]
        exact q
  · obtain ⟨q1, q2, q3⟩ := f o hoo
    have h6o := ho o hoo
    refine ⟨q1, q2, ?_⟩
    unfold oRw at q3 ⊢
    rw [zw_n _ _ _ _ (by omega), zw_n _ _ _ _ (by omega), zw_n (b := oh o + 8) _ _ _ _ (by omega), zw_n (b := oh o + 8) _ _ _ _ (by omega)]
    simp only [zw_n _ _ _ _ (show (4 : Nat) ≠ 13 by decide), zw_n _ _ _ _ (show (5 : Nat) ≠ 13 by decide), zw_n _ _ _ _ (show (6 : Nat) ≠ 13 by decide), zw_n _ _ _ _ (show (7 : Nat) ≠ 13 by decide), zw_n _ _ _ _ (show (8 : Nat) ≠ 13 by decide), zw_n _ _ _ _ (show (9 : Nat) ≠ 13 by decide), zw_n _ _ _ _ (show (10 : Nat) ≠ 13 by decide), zw_n _ _ _ _ (show (11 : Nat) ≠ 13 by decide), zw_n _ _ _ _ (show (12 : Nat) ≠ 13 by decide)]
    exact q3
theorem wRw.los {v : Int32} {j : Nat} (g : wRw S P I h W no oh) (ho : ∀ o, o < no → 6000 ≤ oh o) (hh : h + 8 < 6000) (hj : j = 14 ∨ j = 15) : wRw S P (zw I h (j - 12) v) h (zw W 0 j v) no oh := by
  obtain ⟨⟨g1, g2, g3⟩, r, f⟩ := g
  refine ⟨?_, fun x y hx hy => ?_, fun o hoo => ?_⟩
  · rcases hj with rfl | rfl
    · exact ⟨by rw [zw_a, zu_n _ _ _ (by decide)]; exact g1, by rw [zw_s, zw_s], by rw [zw_a, zu_n _ _ _ (by decide), zw_a, zu_n _ _ _ (by decide)]; exact g3⟩
    · exact ⟨by rw [zw_a, zu_n _ _ _ (by decide)]; exact g1, by rw [zw_a, zu_n _ _ _ (by decide), zw_a, zu_n _ _ _ (by decide)]; exact g2, by rw [zw_s, zw_s]⟩
  · rw [zw_n _ _ _ _ (by omega), zw_n _ _ _ _ (by decide)]; exact r x y hx hy
  · obtain ⟨q1, q2, q3⟩ := f o hoo
    have h6o := ho o hoo
    refine ⟨q1, q2, ?_⟩
    unfold oRw at q3 ⊢
    have i1 : zw I h (j - 12) v (oh o) = I (oh o) := zw_n _ _ _ _ (by omega)
    have i2 : zw I h (j - 12) v (oh o + 8) = I (oh o + 8) := zw_n _ _ _ _ (by omega)
    have e9 : ∀ a, a ≠ 0 → zw W 0 j v a = W a := fun a ha => zw_n _ _ _ _ ha
    rw [i1, i2, e9 4 (by decide), e9 5 (by decide), e9 6 (by decide), e9 7 (by decide), e9 8 (by decide), e9 9 (by decide), e9 10 (by decide), e9 11 (by decide), e9 12 (by decide)]
    exact q3
end WRW
/-- the state alone -/
theorem xR.st {I2 D2 : zI} {P2 : zR} (g : xR D R no n np ro oh ph I L P S) (hI : fH 240 I I2) (hP : f3 P P2) (hD : ∀ a k, a ≠ 23 → D2 a k = D a k) (hs : sRw n I2 240 (D2 23)) : xR D2 R no n np ro oh ph I2 L P2 S := by
  obtain ⟨e, ⟨gs, hro⟩, ⟨⟨h29, h50⟩, hrw⟩, ⟨htx, hpr, hkp⟩, htl, hoh, hph⟩ := g
  have hW : wld D2 = wld D := by
    funext a k
    by_cases ha : a = 23
    · subst ha; rfl
    · exact wld_at (hD a k ha)
  have h100 : I2 100 = I 100 := hI _ (by decide) (by decide)
  have e2 := e.fr hI hP
  rw [← hW] at e2
  refine ⟨e2, ⟨hs, hro.fH hI hP (by omega) (by omega)⟩, ⟨⟨by rw [h100, hD _ _ (by decide)]; exact h29, by rw [h100]; exact h50⟩, by unfold rwX; rw [h100]; exact hrw⟩, ⟨fun k hk => ?_, fun k hk => ?_, ?_⟩, ?_, hoh, hph⟩
  · rw [hD _ _ (by decide)] at hk
    rw [hI 301 (by decide) (by decide), hD _ _ (by decide)]; exact htx k hk
  · rw [hI 303 (by decide) (by decide), hI 304 (by decide) (by decide), hI 305 (by decide) (by decide), hD _ _ (by decide), hD _ _ (by decide), hD _ _ (by decide)]; exact hpr k hk
  · have q := hkp.fr (D2 := D2) (I2 := I2) (fun k => hD 56 k (by decide)) (fun k => hD 57 k (by decide)) (hI 307 (by decide) (by decide)) (fun a ha => hI a (by omega) (by omega))
    intro i hi
    rcases q i hi with ⟨a, b⟩ | ⟨h, m, ⟨a1, a2, a3⟩, b, c⟩
    · exact Or.inl ⟨by rw [hP _ (by decide)]; exact a, b⟩
    · exact Or.inr ⟨h, m, ⟨by rw [hP _ (by decide)]; exact a1, a2, a3.f3 hP (by omega)⟩, b, c⟩
  · obtain ⟨⟨t1, t2⟩, t3⟩ := htl
    exact ⟨⟨fun a h1 h2 => by rw [hP _ (by decide)]; exact t1 a h1 h2, fun a h1 h2 => by rw [hP _ (by decide)]; exact t2 a h1 h2⟩, t3⟩
theorem frX.fH {I2 : zI} {P2 : zR} (hI : fH 240 I I2) (hP : f3 P P2) : frX I L P S I2 L P2 S := fun a ha => ⟨⟨hI a (by omega) (by omega), rfl⟩, hP a (by omega), rfl⟩
theorem goN_st {t : Nat} (h0 : s 0 = nI t) (ht : t < 2399) (f : Nat) : goN W ro no n (f + 1) s = goN W ro no n f (hrS W ro no n s) := by
  rw [goN, h0, nI_clamp (by omega), if_pos ht]
theorem goN_end {t : Nat} (h0 : s 0 = nI t) (ht : t = 2399) (f : Nat) : goN W ro no n f s = s := by
  cases f with
  | zero => rfl
  | succ f => rw [goN, h0, nI_clamp (by omega), if_neg (by omega)]
theorem xR.clk {a : Nat} {x y : Int32} (hX : xR D R no n np ro oh ph I L P S) (ha : a < no) : xR (zw (zw D 10 a x) 11 a y) R no n np ro oh ph (zw (zw I (oh a) 6 x) (oh a) 7 y) L P S := by
  have h6 := hX.1.hw.o6
  have hoh := hX.2.2.2.2.2.1
  have := hoh a
  refine hX.wd (fun b q1 q2 q3 => ?_) (fun b k q1 q2 => ?_) ?_
  · rw [zw_n _ _ _ _ (by omega), zw_n _ _ _ _ (by omega)]
  · rw [zw_n _ _ _ _ (by omega), zw_n _ _ _ _ (by omega)]
  · rw [wld_zi rfl, wld_zi rfl]; exact hX.1.wr.clk hoh (by omega)
theorem xR.fst {a dd : Nat} {v : Int32} (hX : xR D R no n np ro oh ph I L P S) (ha : a < no) (hd : dd < 100) : xR (zw D 12 (100 * a + dd) v) R no n np ro oh ph (zw I (oh a + 8) dd v) L P S := by
  have h6 := hX.1.hw.o6
  have hoh := hX.2.2.2.2.2.1
  have := hoh a
  refine hX.wd (fun b q1 q2 q3 => ?_) (fun b k q1 q2 => ?_) ?_
  · rw [zw_n _ _ _ _ (by omega)]
  · rw [zw_n _ _ _ _ (by omega)]
  · rw [wld_zi rfl]; exact hX.1.wr.fst hoh (by omega) hd
theorem xR.knw {a b : Nat} {v : Int32} (hX : xR D R no n np ro oh ph I L P S) (ha : a < no) (hb : b < no) : xR (stKn D a b v) R no n np ro oh ph (zw (zw I (200 + 3 + a) b v) (200 + 3 + b) a v) L P S := by
  have h6 := hX.1.hw.o6
  refine hX.wd (fun b q1 q2 q3 => ?_) (fun b k q1 q2 => ?_) ?_
  · rw [zw_n _ _ _ _ (by omega), zw_n _ _ _ _ (by omega)]
  · unfold stKn; rw [zw_n _ _ _ _ (by omega), zw_n _ _ _ _ (by omega)]
  · unfold stKn; rw [wld_zi rfl, wld_zi rfl]; exact hX.1.wr.knw ha hb h6 hX.1.ho (by omega)
theorem xR.los {j : Nat} {v : Int32} (hX : xR D R no n np ro oh ph I L P S) (hj : j = 14 ∨ j = 15) : xR (zw D 0 j v) R no n np ro oh ph (zw I 200 (j - 12) v) L P S := by
  refine hX.wd (fun b q1 q2 q3 => ?_) (fun b k q1 q2 => ?_) ?_
  · rw [zw_n _ _ _ _ (by omega)]
  · by_cases hb : b = 0
    · subst hb; rw [zw_a, zu_n _ _ _ (by rintro rfl; exact q2 ⟨rfl, hj⟩)]
    · rw [zw_n _ _ _ _ hb]
  · rw [wld_zi (by rcases hj with rfl | rfl <;> rfl)]; exact hX.1.wr.los hX.1.ho (by omega) hj
set_option maxHeartbeats 4000000 in
theorem o_xclock (hX : xR D R no n np ro oh ph I L P S) {o h b : Int32} (k : ∀ I2 L2 P2 S2, xR (fClock D R o h b).2.1 (fClock D R o h b).2.2 no n np ro oh ph I2 L2 P2 S2 → frX I L P S I2 L2 P2 S2 → Q (.inl (some (.int (fClock D R o h b).1))) I2 L2 P2 S2) : Zm G mX1_clock 3 C Sl [.ref 100, .int o, .int h, .int b] I L P S Q := by
  obtain ⟨e, ⟨g, hro⟩, ⟨⟨h29, h50⟩, hrw⟩, ⟨htx, hpr, hkp⟩, htl, hoh, hph⟩ := hX
  have hX : xR D R no n np ro oh ph I L P S := ⟨e, ⟨g, hro⟩, ⟨⟨h29, h50⟩, hrw⟩, ⟨htx, hpr, hkp⟩, htl, hoh, hph⟩
  have hx := e.x
  have hO := e.wd
  have hR := e.wr
  have hT := e.st
  have hPc := e.pc
  have hw := e.hw
  have hf := e.hx
  have hb := e.b
  have hn := e.nn
  have n8 := hw.n8
  have h6 := hw.o6
  have hn8 := hw.n8
  have hno : noD D = no := by rw [noD, show D 0 3 = nI no from hw.o3, nI_clamp (by omega)]
  have hnn : nD D = n := by rw [nD, show D 0 16 = nI n from hw.n16, nI_clamp (by omega)]
  have hM := hR.1
  refine Z_entry (lv := [_, _, _, _]) (Nat.le_of_ble_eq_true rfl) rfl ?_
  refine Z_aload_n dX1_clock_0 rfl ?_
  refine Z_iload_n dX1_clock_1 rfl ?_
  refine Z_call0 (d' := 1) (zCal_V gX1_121 nX1_isOffice (by decide) dX1_clock_2) pX1_isOffice hx.1 zkl0 [_] rfl rfl (Nat.le_of_ble_eq_true rfl) (by omega) (c_X1_isOffice hx hR.1.1 h6 (fun k2 hk2 e2 => ?_) (fun h2 => ?_))
  · subst e2
    have r2 : oB D (nI k2) = true := rB_t (by rw [z_ti (by omega)]; omega) (by rw [z_ti (by omega), hno]; omega)
    have v2 : (nI k2).toNatClampNeg = k2 := nI_clamp (by omega)
    refine Z_ifeq 24 dX1_clock_5 rfl (fun h => absurd h (by decide)) (fun _ => ?_)
    refine Z_iload_n dX1_clock_8 rfl ?_
    refine Z_callS0 (d' := 1) (zCal_S gX1_124 nX1_isHour (by decide) dX1_clock_9) pX1_isHour [_] rfl rfl (Nat.le_of_ble_eq_true rfl) (by omega) (c_X1_isHour (fun h9a h9b => ?_) (fun h9 => ?_))
    · have r9 : rB h 0 2399 = true := rB_t h9a h9b
      obtain ⟨k9, hk9, e9⟩ := z_rng (n := 2399) h9a h9b (by omega)
      subst e9
      have v9 : (nI k9).toNatClampNeg = k9 := nI_clamp (by omega)
      refine Z_ifeq 24 dX1_clock_12 rfl (fun h => absurd h (by decide)) (fun _ => ?_)
      refine Z_iload_n dX1_clock_15 rfl ?_
      refine Z_iconst (-1) dX1_clock_16 rfl ?_
      refine Z_iconst (nI 1) dX1_clock_17 rfl ?_
      refine Z_callS0 (d' := 0) (zCal_S gX1_3 nX1_in (by decide) dX1_clock_18) pX1_in [_, _, _] rfl rfl (Nat.le_of_ble_eq_true rfl) (by omega) (c_X1_in (fun h18a h18b => ?_) (fun h18 => ?_))
      · have r18 : rB b (-1) 1 = true := rB_t h18a h18b
        refine Z_ifne 26 dX1_clock_21 rfl (fun _ => ?_) (fun h => absurd h (by decide))
        refine Z_aload_n dX1_clock_26 rfl ?_
        refine Z_getR (r := 200) hx.1 fX1_52_0 dX1_clock_27 rfl hx.2.2.2.1.1 ?_
        refine Z_getR (r := (200 + 1)) hO.1 fX1_127_1 dX1_clock_30 rfl hO.2.1.2 ?_
        refine Z_iload_n dX1_clock_33 rfl ?_
        refine Z_aald (r := (oh k2)) hO.2.1.1 (by simp [zTys]) rfl (zix_nI (by first | omega | (dsimp only; omega)) (by decide)) (hR.2.2 k2 (by omega)).1 dX1_clock_34 ?_
        refine Z_iload_n dX1_clock_35 rfl ?_
        refine Z_putI (hR.2.2 k2 (by omega)).2.1.1 fX1_131_5 dX1_clock_36 rfl rfl rfl ?_
        refine Z_aload_n dX1_clock_39 rfl ?_
        refine Z_getR (r := 200) hx.1 fX1_52_0 dX1_clock_40 rfl hx.2.2.2.1.1 ?_
        refine Z_getR (r := (200 + 1)) hO.1 fX1_127_1 dX1_clock_43 rfl hO.2.1.2 ?_
        refine Z_iload_n dX1_clock_46 rfl ?_
        refine Z_aald (r := (oh k2)) hO.2.1.1 (by simp [zTys]) rfl (zix_nI (by first | omega | (dsimp only; omega)) (by decide)) (hR.2.2 k2 (by omega)).1 dX1_clock_47 ?_
        refine Z_iload_n dX1_clock_48 rfl ?_
        refine Z_putI (hR.2.2 k2 (by omega)).2.1.1 fX1_134_5 dX1_clock_49 rfl rfl rfl ?_
        have o6 := hoh k2
        refine Z_iconst (nI 1) dX1_clock_52 rfl ?_
        refine Z_ireturn dX1_clock_53 rfl rfl ?_
        exact xO_k (D2 := zw (zw D 10 k2 (nI k9)) 11 k2 b) (R2 := R) (by simp [fClock, r2, v2, r9, v9, r18]) k (hX.clk hk2) ((frX.rf.st (by omega)).st (by omega))
      · have r18 : rB b (-1) 1 = false := rB_f h18
        refine Z_ifne 26 dX1_clock_21 rfl (fun h => absurd h (by decide)) (fun _ => ?_)
        refine Z_iconst (nI 0) dX1_clock_24 rfl ?_
        refine Z_ireturn dX1_clock_25 rfl rfl ?_
        exact xO_k (D2 := D) (R2 := R) (by simp [fClock, r2, v2, r9, v9, r18]) k (hX) (frX.rf)
    · have r9 : rB h 0 2399 = false := rB_f h9
      refine Z_ifeq 24 dX1_clock_12 rfl (fun _ => ?_) (fun h => absurd h (by decide))
      refine Z_iconst (nI 0) dX1_clock_24 rfl ?_
      refine Z_ireturn dX1_clock_25 rfl rfl ?_
      exact xO_k (D2 := D) (R2 := R) (by simp [fClock, r2, v2, r9]) k (hX) (frX.rf)
  · have r2 : oB D o = false := rB_f (fun q => h2 ⟨q.1, by have := q.2; rw [hno] at this; omega⟩)
    refine Z_ifeq 24 dX1_clock_5 rfl (fun _ => ?_) (fun h => absurd h (by decide))
    refine Z_iconst (nI 0) dX1_clock_24 rfl ?_
    refine Z_ireturn dX1_clock_25 rfl rfl ?_
    exact xO_k (D2 := D) (R2 := R) (by simp [fClock, r2]) k (hX) (frX.rf)
set_option maxHeartbeats 4000000 in
theorem o_xfeast (hX : xR D R no n np ro oh ph I L P S) {o h b : Int32} (k : ∀ I2 L2 P2 S2, xR (fFeast D R o h b).2.1 (fFeast D R o h b).2.2 no n np ro oh ph I2 L2 P2 S2 → frX I L P S I2 L2 P2 S2 → Q (.inl (some (.int (fFeast D R o h b).1))) I2 L2 P2 S2) : Zm G mX1_feast 3 C Sl [.ref 100, .int o, .int h, .int b] I L P S Q := by
  obtain ⟨e, ⟨g, hro⟩, ⟨⟨h29, h50⟩, hrw⟩, ⟨htx, hpr, hkp⟩, htl, hoh, hph⟩ := hX
  have hX : xR D R no n np ro oh ph I L P S := ⟨e, ⟨g, hro⟩, ⟨⟨h29, h50⟩, hrw⟩, ⟨htx, hpr, hkp⟩, htl, hoh, hph⟩
  have hx := e.x
  have hO := e.wd
  have hR := e.wr
  have hT := e.st
  have hPc := e.pc
  have hw := e.hw
  have hf := e.hx
  have hb := e.b
  have hn := e.nn
  have n8 := hw.n8
  have h6 := hw.o6
  have hn8 := hw.n8
  have hno : noD D = no := by rw [noD, show D 0 3 = nI no from hw.o3, nI_clamp (by omega)]
  have hnn : nD D = n := by rw [nD, show D 0 16 = nI n from hw.n16, nI_clamp (by omega)]
  have hM := hR.1
  refine Z_entry (lv := [_, _, _, _]) (Nat.le_of_ble_eq_true rfl) rfl ?_
  refine Z_aload_n dX1_feast_0 rfl ?_
  refine Z_iload_n dX1_feast_1 rfl ?_
  refine Z_call0 (d' := 1) (zCal_V gX1_121 nX1_isOffice (by decide) dX1_feast_2) pX1_isOffice hx.1 zkl0 [_] rfl rfl (Nat.le_of_ble_eq_true rfl) (by omega) (c_X1_isOffice hx hR.1.1 h6 (fun k2 hk2 e2 => ?_) (fun h2 => ?_))
  · subst e2
    have r2 : oB D (nI k2) = true := rB_t (by rw [z_ti (by omega)]; omega) (by rw [z_ti (by omega), hno]; omega)
    have v2 : (nI k2).toNatClampNeg = k2 := nI_clamp (by omega)
    refine Z_ifeq 18 dX1_feast_5 rfl (fun h => absurd h (by decide)) (fun _ => ?_)
    refine Z_iload_n dX1_feast_8 rfl ?_
    refine Z_iconst (nI 0) dX1_feast_9 rfl ?_
    refine Z_bipush (nI 99) dX1_feast_10 rfl ?_
    refine Z_callS0 (d' := 0) (zCal_S gX1_3 nX1_in (by decide) dX1_feast_12) pX1_in [_, _, _] rfl rfl (Nat.le_of_ble_eq_true rfl) (by omega) (c_X1_in (fun h12a h12b => ?_) (fun h12 => ?_))
    · have r12 : rB h 0 99 = true := rB_t h12a h12b
      obtain ⟨k12, hk12, e12⟩ := z_rng (n := 99) h12a h12b (by omega)
      subst e12
      have v12 : (nI k12).toNatClampNeg = k12 := nI_clamp (by omega)
      refine Z_ifne 20 dX1_feast_15 rfl (fun _ => ?_) (fun h => absurd h (by decide))
      refine Z_aload_n dX1_feast_20 rfl ?_
      refine Z_getR (r := 200) hx.1 fX1_52_0 dX1_feast_21 rfl hx.2.2.2.1.1 ?_
      refine Z_getR (r := (200 + 1)) hO.1 fX1_127_1 dX1_feast_24 rfl hO.2.1.2 ?_
      refine Z_iload_n dX1_feast_27 rfl ?_
      refine Z_aald (r := (oh k2)) hO.2.1.1 (by simp [zTys]) rfl (zix_nI (by first | omega | (dsimp only; omega)) (by decide)) (hR.2.2 k2 (by omega)).1 dX1_feast_28 ?_
      refine Z_getR (r := ((oh k2) + 8)) (hR.2.2 k2 (by omega)).2.1.1 fX1_137_5 dX1_feast_29 rfl (hR.2.2 k2 (by omega)).2.1.2.2 ?_
      refine Z_iload_n dX1_feast_32 rfl ?_
      refine Z_iload_n dX1_feast_33 rfl ?_
      refine Z_zast (hR.2.2 k2 (by omega)).2.1.2.1 (zix_nI (by first | omega | (dsimp only; omega)) (by decide)) dX1_feast_34 ?_
      have o6 := hoh k2
      refine Z_iconst (nI 1) dX1_feast_35 rfl ?_
      refine Z_ireturn dX1_feast_36 rfl rfl ?_
      exact xO_k (D2 := zw D 12 (100 * k2 + k12) (vp_nar .boolean b)) (R2 := R) (by simp [fFeast, r2, v2, r12, v12]) k (hX.fst hk2 (by omega)) (frX.rf.st (by omega))
    · have r12 : rB h 0 99 = false := rB_f h12
      refine Z_ifne 20 dX1_feast_15 rfl (fun h => absurd h (by decide)) (fun _ => ?_)
      refine Z_iconst (nI 0) dX1_feast_18 rfl ?_
      refine Z_ireturn dX1_feast_19 rfl rfl ?_
      exact xO_k (D2 := D) (R2 := R) (by simp [fFeast, r2, v2, r12]) k (hX) (frX.rf)
  · have r2 : oB D o = false := rB_f (fun q => h2 ⟨q.1, by have := q.2; rw [hno] at this; omega⟩)
    refine Z_ifeq 18 dX1_feast_5 rfl (fun _ => ?_) (fun h => absurd h (by decide))
    refine Z_iconst (nI 0) dX1_feast_18 rfl ?_
    refine Z_ireturn dX1_feast_19 rfl rfl ?_
    exact xO_k (D2 := D) (R2 := R) (by simp [fFeast, r2]) k (hX) (frX.rf)
set_option maxHeartbeats 4000000 in
theorem o_xknow (hX : xR D R no n np ro oh ph I L P S) {a b v : Int32} (k : ∀ I2 L2 P2 S2, xR (fKnow D R a b v).2.1 (fKnow D R a b v).2.2 no n np ro oh ph I2 L2 P2 S2 → frX I L P S I2 L2 P2 S2 → Q (.inl (some (.int (fKnow D R a b v).1))) I2 L2 P2 S2) : Zm G mX1_know 3 C Sl [.ref 100, .int a, .int b, .int v] I L P S Q := by
  obtain ⟨e, ⟨g, hro⟩, ⟨⟨h29, h50⟩, hrw⟩, ⟨htx, hpr, hkp⟩, htl, hoh, hph⟩ := hX
  have hX : xR D R no n np ro oh ph I L P S := ⟨e, ⟨g, hro⟩, ⟨⟨h29, h50⟩, hrw⟩, ⟨htx, hpr, hkp⟩, htl, hoh, hph⟩
  have hx := e.x
  have hO := e.wd
  have hR := e.wr
  have hT := e.st
  have hPc := e.pc
  have hw := e.hw
  have hf := e.hx
  have hb := e.b
  have hn := e.nn
  have n8 := hw.n8
  have h6 := hw.o6
  have hn8 := hw.n8
  have hno : noD D = no := by rw [noD, show D 0 3 = nI no from hw.o3, nI_clamp (by omega)]
  have hnn : nD D = n := by rw [nD, show D 0 16 = nI n from hw.n16, nI_clamp (by omega)]
  have hM := hR.1
  refine Z_entry (lv := [_, _, _, _, _]) (Nat.le_of_ble_eq_true rfl) rfl ?_
  refine Z_aload_n dX1_know_0 rfl ?_
  refine Z_iload_n dX1_know_1 rfl ?_
  refine Z_call0 (d' := 1) (zCal_V gX1_121 nX1_isOffice (by decide) dX1_know_2) pX1_isOffice hx.1 zkl0 [_] rfl rfl (Nat.le_of_ble_eq_true rfl) (by omega) (c_X1_isOffice hx hR.1.1 h6 (fun k2 hk2 e2 => ?_) (fun h2 => ?_))
  · subst e2
    have r2 : oB D (nI k2) = true := rB_t (by rw [z_ti (by omega)]; omega) (by rw [z_ti (by omega), hno]; omega)
    have v2 : (nI k2).toNatClampNeg = k2 := nI_clamp (by omega)
    refine Z_ifeq 31 dX1_know_5 rfl (fun h => absurd h (by decide)) (fun _ => ?_)
    refine Z_aload_n dX1_know_8 rfl ?_
    refine Z_iload_n dX1_know_9 rfl ?_
    refine Z_call0 (d' := 1) (zCal_V gX1_121 nX1_isOffice (by decide) dX1_know_10) pX1_isOffice hx.1 zkl0 [_] rfl rfl (Nat.le_of_ble_eq_true rfl) (by omega) (c_X1_isOffice hx hR.1.1 h6 (fun k10 hk10 e10 => ?_) (fun h10 => ?_))
    · subst e10
      have r10 : oB D (nI k10) = true := rB_t (by rw [z_ti (by omega)]; omega) (by rw [z_ti (by omega), hno]; omega)
      have v10 : (nI k10).toNatClampNeg = k10 := nI_clamp (by omega)
      refine Z_ifeq 31 dX1_know_13 rfl (fun h => absurd h (by decide)) (fun _ => ?_)
      refine Z_iload_n dX1_know_16 rfl ?_
      refine Z_iload_n dX1_know_17 rfl ?_
      refine Z_icmpeqN 31 dX1_know_18 rfl (by omega) (by omega) (fun c18 => ?_) (fun c18 => ?_)
      · refine Z_iconst (-1) dX1_know_31 rfl ?_
        refine Z_ireturn dX1_know_32 rfl rfl ?_
        exact xO_k (D2 := D) (R2 := R) (by simp [fKnow, r2, v2, r10, v10, c18]) k (hX) (frX.rf)
      · have c18 : ¬ nI k2 = nI k10 := fun e => c18 ((nI_eq (by omega) (by omega)).mp e)
        refine Z_iload_n dX1_know_21 rfl ?_
        refine Z_iconst (nI 0) dX1_know_22 rfl ?_
        refine Z_bipush (nI 9) dX1_know_23 rfl ?_
        refine Z_callS0 (d' := 0) (zCal_S gX1_3 nX1_in (by decide) dX1_know_25) pX1_in [_, _, _] rfl rfl (Nat.le_of_ble_eq_true rfl) (by omega) (c_X1_in (fun h25a h25b => ?_) (fun h25 => ?_))
        · have r25 : rB v 0 9 = true := rB_t h25a h25b
          refine Z_ifne 33 dX1_know_28 rfl (fun _ => ?_) (fun h => absurd h (by decide))
          refine Z_aload_n dX1_know_33 rfl ?_
          refine Z_getR (r := 200) hx.1 fX1_52_0 dX1_know_34 rfl hx.2.2.2.1.1 ?_
          refine Z_getR (r := (200 + 2)) hO.1 fX1_141_1 dX1_know_37 rfl hO.2.2.1.2 ?_
          refine Z_iload_n dX1_know_40 rfl ?_
          refine Z_aald (r := (200 + 3 + k2)) hO.2.2.1.1 (by simp [zTys]) rfl (zix_nI (by first | omega | (dsimp only; omega)) (by decide)) (hO.2.2.2 k2 (by omega)).2 dX1_know_41 ?_
          refine Z_iload_n dX1_know_42 rfl ?_
          refine Z_iald (hO.2.2.2 k2 (by omega)).1 (zix_nI (by first | omega | (dsimp only; omega)) (by decide)) dX1_know_43 ?_
          refine Z_re (y := D 13 (6 * k2 + k10)) (hR.kn h6 hk2 hk10) ?_
          refine Z_istore (lv' := [_, _, _, _, _]) dX1_know_44 rfl rfl (Nat.le_of_ble_eq_true rfl) ?_
          refine Z_aload_n dX1_know_46 rfl ?_
          refine Z_getR (r := 200) hx.1 fX1_52_0 dX1_know_47 rfl hx.2.2.2.1.1 ?_
          refine Z_iload_n dX1_know_50 rfl ?_
          refine Z_iload_n dX1_know_51 rfl ?_
          refine Z_iload_n dX1_know_52 rfl ?_
          refine Z_call0 (d' := 0) (zCal_V gX1_145 nX2_know (by decide) dX1_know_53) pX2_know hO.1 zkl1 [_, _, _] rfl rfl (Nat.le_of_ble_eq_true rfl) (by omega) (c_X2_know hO (by omega) (by omega) ?_)
          refine Z_iload dX1_know_56 rfl ?_
          refine Z_ireturn dX1_know_58 rfl rfl ?_
          exact xO_k (D2 := stKn D k2 k10 v) (R2 := R) (by simp [fKnow, r2, v2, r10, v10, c18, r25]) k (hX.knw hk2 hk10) ((frX.rf.st (by omega)).st (by omega))
        · have r25 : rB v 0 9 = false := rB_f h25
          refine Z_ifne 33 dX1_know_28 rfl (fun h => absurd h (by decide)) (fun _ => ?_)
          refine Z_iconst (-1) dX1_know_31 rfl ?_
          refine Z_ireturn dX1_know_32 rfl rfl ?_
          exact xO_k (D2 := D) (R2 := R) (by simp [fKnow, r2, v2, r10, v10, c18, r25]) k (hX) (frX.rf)
    · have r10 : oB D b = false := rB_f (fun q => h10 ⟨q.1, by have := q.2; rw [hno] at this; omega⟩)
      refine Z_ifeq 31 dX1_know_13 rfl (fun _ => ?_) (fun h => absurd h (by decide))
      refine Z_iconst (-1) dX1_know_31 rfl ?_
      refine Z_ireturn dX1_know_32 rfl rfl ?_
      exact xO_k (D2 := D) (R2 := R) (by simp [fKnow, r2, v2, r10]) k (hX) (frX.rf)
  · have r2 : oB D a = false := rB_f (fun q => h2 ⟨q.1, by have := q.2; rw [hno] at this; omega⟩)
    refine Z_ifeq 31 dX1_know_5 rfl (fun _ => ?_) (fun h => absurd h (by decide))
    refine Z_iconst (-1) dX1_know_31 rfl ?_
    refine Z_ireturn dX1_know_32 rfl rfl ?_
    exact xO_k (D2 := D) (R2 := R) (by simp [fKnow, r2]) k (hX) (frX.rf)
set_option maxHeartbeats 4000000 in
theorem o_xset (hX : xR D R no n np ro oh ph I L P S) {x v : Int32} (k : ∀ I2 L2 P2 S2, xR (fSet D R x v).2.1 (fSet D R x v).2.2 no n np ro oh ph I2 L2 P2 S2 → frX I L P S I2 L2 P2 S2 → Q (.inl (some (.int (fSet D R x v).1))) I2 L2 P2 S2) : Zm G mX1_set 2 C Sl [.ref 100, .int x, .int v] I L P S Q := by
  obtain ⟨e, ⟨g, hro⟩, ⟨⟨h29, h50⟩, hrw⟩, ⟨htx, hpr, hkp⟩, htl, hoh, hph⟩ := hX
  have hX : xR D R no n np ro oh ph I L P S := ⟨e, ⟨g, hro⟩, ⟨⟨h29, h50⟩, hrw⟩, ⟨htx, hpr, hkp⟩, htl, hoh, hph⟩
  have hx := e.x
  have hO := e.wd
  have hR := e.wr
  have hT := e.st
  have hPc := e.pc
  have hw := e.hw
  have hf := e.hx
  have hb := e.b
  have hn := e.nn
  have n8 := hw.n8
  have h6 := hw.o6
  have hn8 := hw.n8
  have hno : noD D = no := by rw [noD, show D 0 3 = nI no from hw.o3, nI_clamp (by omega)]
  have hnn : nD D = n := by rw [nD, show D 0 16 = nI n from hw.n16, nI_clamp (by omega)]
  have hM := hR.1
  refine Z_entry (lv := [_, _, _, _]) (Nat.le_of_ble_eq_true rfl) rfl ?_
  refine Z_iload_n dX1_set_0 rfl ?_
  refine Z_iconst (nI 0) dX1_set_1 rfl ?_
  refine Z_iconst (nI 1) dX1_set_2 rfl ?_
  refine Z_callS0 (d' := 0) (zCal_S gX1_3 nX1_in (by decide) dX1_set_3) pX1_in [_, _, _] rfl rfl (Nat.le_of_ble_eq_true rfl) (by omega) (c_X1_in (fun h3a h3b => ?_) (fun h3 => ?_))
  · have r3 : rB x 0 1 = true := rB_t h3a h3b
    refine Z_ifeq 28 dX1_set_6 rfl (fun h => absurd h (by decide)) (fun _ => ?_)
    refine Z_iload_n dX1_set_9 rfl ?_
    refine Z_iconst (nI 0) dX1_set_10 rfl ?_
    refine Z_iload_n dX1_set_11 rfl ?_
    refine Z_ifne 20 dX1_set_12 rfl (fun c12 => ?_) (fun c12 => ?_)
    · refine Z_bipush (nI 100) dX1_set_20 rfl ?_
      refine Z_callS0 (d' := 0) (zCal_S gX1_3 nX1_in (by decide) dX1_set_22) pX1_in [_, _, _] rfl rfl (Nat.le_of_ble_eq_true rfl) (by omega) (c_X1_in (fun h22a h22b => ?_) (fun h22 => ?_))
      · have r22 : rB v 0 100 = true := rB_t h22a h22b
        refine Z_ifne 30 dX1_set_25 rfl (fun _ => ?_) (fun h => absurd h (by decide))
        refine Z_iload_n dX1_set_30 rfl ?_
        refine Z_ifne 44 dX1_set_31 rfl (fun c31 => ?_) (fun c31 => ?_)
        · refine Z_aload_n dX1_set_44 rfl ?_
          refine Z_getR (r := 200) hx.1 fX1_52_0 dX1_set_45 rfl hx.2.2.2.1.1 ?_
          refine Z_getI hO.1 fX1_175_1 dX1_set_48 rfl ?_
          refine Z_re (y := D 0 15) hR.1.2.2 ?_
          refine Z_istore_n (lv' := [_, _, _, _]) dX1_set_51 rfl rfl (Nat.le_of_ble_eq_true rfl) ?_
          refine Z_iload_n dX1_set_52 rfl ?_
          refine Z_ifne 67 dX1_set_53 rfl (fun c53 => ?_) (fun c53 => ?_)
          · refine Z_aload_n dX1_set_67 rfl ?_
            refine Z_getR (r := 200) hx.1 fX1_52_0 dX1_set_68 rfl hx.2.2.2.1.1 ?_
            refine Z_iload_n dX1_set_71 rfl ?_
            refine Z_putI hO.1 fX1_175_1 dX1_set_72 rfl rfl rfl ?_
            refine Z_iload_n dX1_set_75 rfl ?_
            refine Z_ireturn dX1_set_76 rfl rfl ?_
            exact xO_k (D2 := zw D 0 15 v) (R2 := R) (by simp [fSet, (show rB 0 0 1 = true by decide), r3, c12, r22, c31, c53]) k (hX.los (Or.inr rfl)) (frX.rf.st (by decide))
          · exact absurd c53 c12
        · exact absurd c31 c12
      · have r22 : rB v 0 100 = false := rB_f h22
        refine Z_ifne 30 dX1_set_25 rfl (fun h => absurd h (by decide)) (fun _ => ?_)
        refine Z_iconst (-1) dX1_set_28 rfl ?_
        refine Z_ireturn dX1_set_29 rfl rfl ?_
        exact xO_k (D2 := D) (R2 := R) (by simp [fSet, (show rB 0 0 1 = true by decide), r3, c12, r22]) k (hX) (frX.rf)
    · refine Z_bipush (nI 20) dX1_set_15 rfl ?_
      refine Z_goto 22 dX1_set_17 rfl ?_
      refine Z_callS0 (d' := 0) (zCal_S gX1_3 nX1_in (by decide) dX1_set_22) pX1_in [_, _, _] rfl rfl (Nat.le_of_ble_eq_true rfl) (by omega) (c_X1_in (fun h22a h22b => ?_) (fun h22 => ?_))
      · have r22 : rB v 0 20 = true := rB_t h22a h22b
        refine Z_ifne 30 dX1_set_25 rfl (fun _ => ?_) (fun h => absurd h (by decide))
        refine Z_iload_n dX1_set_30 rfl ?_
        refine Z_ifne 44 dX1_set_31 rfl (fun c31 => ?_) (fun c31 => ?_)
        · exact absurd c12 c31
        · refine Z_aload_n dX1_set_34 rfl ?_
          refine Z_getR (r := 200) hx.1 fX1_52_0 dX1_set_35 rfl hx.2.2.2.1.1 ?_
          refine Z_getI hO.1 fX1_172_1 dX1_set_38 rfl ?_
          refine Z_goto 51 dX1_set_41 rfl ?_
          refine Z_re (y := D 0 14) hR.1.2.1 ?_
          refine Z_istore_n (lv' := [_, _, _, _]) dX1_set_51 rfl rfl (Nat.le_of_ble_eq_true rfl) ?_
          refine Z_iload_n dX1_set_52 rfl ?_
          refine Z_ifne 67 dX1_set_53 rfl (fun c53 => ?_) (fun c53 => ?_)
          · exact absurd c12 c53
          · refine Z_aload_n dX1_set_56 rfl ?_
            refine Z_getR (r := 200) hx.1 fX1_52_0 dX1_set_57 rfl hx.2.2.2.1.1 ?_
            refine Z_iload_n dX1_set_60 rfl ?_
            refine Z_putI hO.1 fX1_172_1 dX1_set_61 rfl rfl rfl ?_
            refine Z_goto 75 dX1_set_64 rfl ?_
            refine Z_iload_n dX1_set_75 rfl ?_
            refine Z_ireturn dX1_set_76 rfl rfl ?_
            exact xO_k (D2 := zw D 0 14 v) (R2 := R) (by simp [fSet, (show rB 0 0 1 = true by decide), r3, c12, r22, c31, c53]) k (hX.los (Or.inl rfl)) (frX.rf.st (by decide))
      · have r22 : rB v 0 20 = false := rB_f h22
        refine Z_ifne 30 dX1_set_25 rfl (fun h => absurd h (by decide)) (fun _ => ?_)
        refine Z_iconst (-1) dX1_set_28 rfl ?_
        refine Z_ireturn dX1_set_29 rfl rfl ?_
        exact xO_k (D2 := D) (R2 := R) (by simp [fSet, (show rB 0 0 1 = true by decide), r3, c12, r22]) k (hX) (frX.rf)
  · have r3 : rB x 0 1 = false := rB_f h3
    refine Z_ifeq 28 dX1_set_6 rfl (fun _ => ?_) (fun h => absurd h (by decide))
    refine Z_iconst (-1) dX1_set_28 rfl ?_
    refine Z_ireturn dX1_set_29 rfl rfl ?_
    exact xO_k (D2 := D) (R2 := R) (by simp [fSet, (show rB 0 0 1 = true by decide), r3]) k (hX) (frX.rf)
set_option maxHeartbeats 4000000 in
theorem o_xbegin (hX : xR D R no n np ro oh ph I L P S) {x : Int32} (k : ∀ I2 L2 P2 S2, xR (fBegin D R n x).2.1 (fBegin D R n x).2.2 no n np ro oh ph I2 L2 P2 S2 → frX I L P S I2 L2 P2 S2 → Q (.inl (some (.int (fBegin D R n x).1))) I2 L2 P2 S2) : Zm G mX1_begin 2 C Sl [.ref 100, .int x] I L P S Q := by
  obtain ⟨e, ⟨g, hro⟩, ⟨⟨h29, h50⟩, hrw⟩, ⟨htx, hpr, hkp⟩, htl, hoh, hph⟩ := hX
  have hX : xR D R no n np ro oh ph I L P S := ⟨e, ⟨g, hro⟩, ⟨⟨h29, h50⟩, hrw⟩, ⟨htx, hpr, hkp⟩, htl, hoh, hph⟩
  have hx := e.x
  have hO := e.wd
  have hR := e.wr
  have hT := e.st
  have hPc := e.pc
  have hw := e.hw
  have hf := e.hx
  have hb := e.b
  have hn := e.nn
  have n8 := hw.n8
  have h6 := hw.o6
  have hn8 := hw.n8
  have hno : noD D = no := by rw [noD, show D 0 3 = nI no from hw.o3, nI_clamp (by omega)]
  have hnn : nD D = n := by rw [nD, show D 0 16 = nI n from hw.n16, nI_clamp (by omega)]
  have hM := hR.1
  refine Z_entry (lv := [_, _]) (Nat.le_of_ble_eq_true rfl) rfl ?_
  refine Z_iload_n dX1_begin_0 rfl ?_
  refine Z_callS0 (d' := 1) (zCal_S gX1_124 nX1_isHour (by decide) dX1_begin_1) pX1_isHour [_] rfl rfl (Nat.le_of_ble_eq_true rfl) (by omega) (c_X1_isHour (fun h1a h1b => ?_) (fun h1 => ?_))
  · have r1 : rB x 0 2399 = true := rB_t h1a h1b
    obtain ⟨k1, hk1, e1⟩ := z_rng (n := 2399) h1a h1b (by omega)
    subst e1
    have v1 : (nI k1).toNatClampNeg = k1 := nI_clamp (by omega)
    refine Z_ifne 9 dX1_begin_4 rfl (fun _ => ?_) (fun h => absurd h (by decide))
    refine Z_aload_n dX1_begin_9 rfl ?_
    refine Z_getR (r := 240) hx.1 fX1_62_0 dX1_begin_10 rfl hx.2.2.2.1.2.2.1 ?_
    refine Z_iload_n dX1_begin_13 rfl ?_
    refine Z_call0 (d' := 1) (zCal_V gX1_221 nX3_begin (by decide) dX1_begin_14) pX3_begin hT.1 zkl2 [_] rfl rfl (Nat.le_of_ble_eq_true rfl) (by omega) (c_X3_begin hx hT hn hn8 hPc (by omega) e.hp (fun I2 gB fI => ?_))
    refine Z_pop dX1_begin_17 rfl ?_
    refine Z_iconst (nI 1) dX1_begin_18 rfl ?_
    refine Z_ireturn dX1_begin_19 rfl rfl ?_
    exact xO_k (D2 := zu D 23 (begS (wld D) (D 23) n k1)) (R2 := R) (by simp [fBegin, r1, v1]) k (hX.st (fH.of fI) f3.rf (fun a k q => by rw [zu_n _ _ _ q]) (by rw [zu_s]; exact gB _)) (frX.fH (fH.of fI) f3.rf)
  · have r1 : rB x 0 2399 = false := rB_f h1
    refine Z_ifne 9 dX1_begin_4 rfl (fun h => absurd h (by decide)) (fun _ => ?_)
    refine Z_iconst (nI 0) dX1_begin_7 rfl ?_
    refine Z_ireturn dX1_begin_8 rfl rfl ?_
    exact xO_k (D2 := D) (R2 := R) (by simp [fBegin, r1]) k (hX) (frX.rf)
set_option maxHeartbeats 4000000 in
theorem o_xgo (hX : xR D R no n np ro oh ph I L P S) (hsf : sf (wld D) no n (D 23)) {B : Nat} (hkB : hk (D 23) n B) (hB : B < 2 ^ 28) (h37 : ro ≠ none → wld D 0 37 = 0) {x : Int32} (k : ∀ I2 L2 P2 S2, xR (fGo D R ro no n x).2.1 (fGo D R ro no n x).2.2 no n np ro oh ph I2 L2 P2 S2 → hk ((fGo D R ro no n x).2.1 23) n (B + 4000) → frX I L P S I2 L2 P2 S2 → Q (.inl (some (.int (fGo D R ro no n x).1))) I2 L2 P2 S2) : Zm G mX1_go 103 C Sl [.ref 100, .int x] I L P S Q := by
  obtain ⟨e, ⟨g, hro⟩, ⟨⟨h29, h50⟩, hrw⟩, ⟨htx, hpr, hkp⟩, htl, hoh, hph⟩ := hX
  have hX : xR D R no n np ro oh ph I L P S := ⟨e, ⟨g, hro⟩, ⟨⟨h29, h50⟩, hrw⟩, ⟨htx, hpr, hkp⟩, htl, hoh, hph⟩
  have hx := e.x
  have hO := e.wd
  have hR := e.wr
  have hT := e.st
  have hPc := e.pc
  have hw := e.hw
  have hf := e.hx
  have hb := e.b
  have hn := e.nn
  have n8 := hw.n8
  have h6 := hw.o6
  have hn8 := hw.n8
  have hno : noD D = no := by rw [noD, show D 0 3 = nI no from hw.o3, nI_clamp (by omega)]
  have hnn : nD D = n := by rw [nD, show D 0 16 = nI n from hw.n16, nI_clamp (by omega)]
  obtain ⟨t0, ht0, h0⟩ := hsf.now
  have hM := hR.1
  refine Z_entry (lv := [_, _, _]) (Nat.le_of_ble_eq_true rfl) rfl ?_
  refine Z_iload_n dX1_go_0 rfl ?_
  refine Z_iconst (nI 0) dX1_go_1 rfl ?_
  refine Z_sipush (nI 500) dX1_go_2 rfl ?_
  refine Z_callS0 (d' := 0) (zCal_S gX1_3 nX1_in (by decide) dX1_go_5) pX1_in [_, _, _] rfl rfl (Nat.le_of_ble_eq_true rfl) (by omega) (c_X1_in (fun h5a h5b => ?_) (fun h5 => ?_))
  · have r5 : rB x 0 500 = true := rB_t h5a h5b
    obtain ⟨k5, hk5, e5⟩ := z_rng (n := 500) h5a h5b (by omega)
    subst e5
    have v5 : (nI k5).toNatClampNeg = k5 := nI_clamp (by omega)
    refine Z_ifne 13 dX1_go_8 rfl (fun _ => ?_) (fun h => absurd h (by decide))
    refine Z_iconst (nI 0) dX1_go_13 rfl ?_
    refine Z_istore_n (lv' := [_, _, _]) dX1_go_14 rfl rfl (Nat.le_of_ble_eq_true rfl) ?_
    have lp15 : ∀ i, i ≤ k5 → ∀ I2 P2 s2, s2 0 = nI (t0 + i) → t0 + i ≤ 2399 → sf (wld D) no n s2 → goN (wld D) ro no n (k5 - i) s2 = goN (wld D) ro no n k5 (D 23) → sRw n I2 240 s2 → hk s2 n (B + 8 * i) → fH 240 I I2 → f3 P P2 → Zj G mX1_go 103 C Sl 15 [.ref 100, .int (nI k5), .int (nI i)] [] I2 L P2 S Q := by
      refine zloop (k5) (fun i => ∀ I2 P2 s2, s2 0 = nI (t0 + i) → t0 + i ≤ 2399 → sf (wld D) no n s2 → goN (wld D) ro no n (k5 - i) s2 = goN (wld D) ro no n k5 (D 23) → sRw n I2 240 s2 → hk s2 n (B + 8 * i) → fH 240 I I2 → f3 P P2 → Zj G mX1_go 103 C Sl 15 [.ref 100, .int (nI k5), .int (nI i)] [] I2 L P2 S Q) (fun i hi ih => ?_)
      intro I2 P2 s2 g1 g9 hs2 gG g2 hk2 fI fP
      show Zj _ _ _ _ _ _ _ _ _ _ _ _ _
      have e2 := e.fr fI fP
      have hx := e2.x
      have hO := e2.wd
      have hR := e2.wr
      have hT := e2.st
      have hPc := e2.pc
      have hw := e2.hw
      have hf := e2.hx
      have hb := e2.b
      have hn := e2.nn
      have n8 := hw.n8
      have h6 := hw.o6
      have hn8 := hw.n8
      have hro2 := hro.fH fI fP (by omega) (by omega)
      refine Z_iload_n dX1_go_15 rfl ?_
      refine Z_iload_n dX1_go_16 rfl ?_
      refine Z_icmpgeN 50 dX1_go_17 rfl (by omega) (by omega) (fun c17 => ?_) (fun c17 => ?_)
      · refine Z_aload_n dX1_go_50 rfl ?_
        refine Z_getR (r := 240) hx.1 fX1_62_0 dX1_go_51 rfl hx.2.2.2.1.2.2.1 ?_
        refine Z_getI hT.1 fX1_225_2 dX1_go_54 rfl ?_
        refine Z_re g2.1.1 ?_
        refine Z_ireturn dX1_go_57 rfl rfl ?_
        rw [show k5 - i = 0 by omega] at gG
        have e8 : goN (wld D) ro no n k5 (D 23) = s2 := gG.symm
        have e9 : fGo D R ro no n (nI k5) = (s2 0, zu D 23 s2, R) := by simp [fGo, r5, v5, e8]
        exact zQe (by rw [e9]) (k I2 L P2 S (by rw [e9]; exact hX.st fI fP (fun a k q => by show zu D 23 s2 a k = _; rw [zu_n _ _ _ q]) (by show sRw n I2 240 (zu D 23 s2 23); rw [zu_s]; exact g2)) (by rw [e9]; show hk (zu D 23 s2 23) n _; rw [zu_s]; exact hk_le hk2 (by omega)) (frX.fH fI fP))
      · refine Z_aload_n dX1_go_20 rfl ?_
        refine Z_getR (r := 240) hx.1 fX1_62_0 dX1_go_21 rfl hx.2.2.2.1.2.2.1 ?_
        refine Z_getI hT.1 fX1_225_2 dX1_go_24 rfl ?_
        refine Z_re (y := nI (t0 + i)) (g2.1.1.trans g1) ?_
        refine Z_sipush (nI 2399) dX1_go_27 rfl ?_
        refine Z_icmpgeN 50 dX1_go_30 rfl (by omega) (by omega) (fun c30 => ?_) (fun c30 => ?_)
        · refine Z_aload_n dX1_go_50 rfl ?_
          refine Z_getR (r := 240) hx.1 fX1_62_0 dX1_go_51 rfl hx.2.2.2.1.2.2.1 ?_
          refine Z_getI hT.1 fX1_225_2 dX1_go_54 rfl ?_
          refine Z_re g2.1.1 ?_
          refine Z_ireturn dX1_go_57 rfl rfl ?_
          rw [goN_end g1 (by omega)] at gG
          have e8 : goN (wld D) ro no n k5 (D 23) = s2 := gG.symm
          have e9 : fGo D R ro no n (nI k5) = (s2 0, zu D 23 s2, R) := by simp [fGo, r5, v5, e8]
          exact zQe (by rw [e9]) (k I2 L P2 S (by rw [e9]; exact hX.st fI fP (fun a k q => by show zu D 23 s2 a k = _; rw [zu_n _ _ _ q]) (by show sRw n I2 240 (zu D 23 s2 23); rw [zu_s]; exact g2)) (by rw [e9]; show hk (zu D 23 s2 23) n _; rw [zu_s]; exact hk_le hk2 (by omega)) (frX.fH fI fP))
        · refine Z_aload_n dX1_go_33 rfl ?_
          refine Z_getR (r := 240) hx.1 fX1_62_0 dX1_go_34 rfl hx.2.2.2.1.2.2.1 ?_
          refine Z_aload_n dX1_go_37 rfl ?_
          refine Z_getR (r := 200) hx.1 fX1_52_0 dX1_go_38 rfl hx.2.2.2.1.1 ?_
          refine Z_call0 (d' := 102) (zCal_V gX1_228 nX3_hour (by decide) dX1_go_41) pX3_hour hT.1 zkl2 [_] rfl rfl (Nat.le_of_ble_eq_true rfl) (by omega) (c_X3_hour (ro := ro) e2 g2 hro2 hs2 hk2 (by omega) h37 g1 (by omega) (fun I3 P3 z41 y41 x41 w41 _ _ => ?_))
          refine Z_iincN (a := _) (k := 1) (lv' := [_, _, _]) dX1_go_44 rfl rfl rfl rfl ?_
          refine Z_goto 15 dX1_go_47 rfl ?_
          exact ih (by omega) I3 P3 _ (hrS_0 g1) (by omega) (sf_hrS hs2 hw g1 (by omega)) (by rw [← gG, show k5 - i = (k5 - (i + 1)) + 1 by omega, goN_st g1 (by omega)]) z41 (hk_le y41 (by omega)) (fI.tr x41) (fP.tr w41)
    exact lp15 0 (by omega) I P (D 23) h0 ht0 hsf rfl g (hk_le hkB (by omega)) fH.rf f3.rf
  · have r5 : rB x 0 500 = false := rB_f h5
    refine Z_ifne 13 dX1_go_8 rfl (fun h => absurd h (by decide)) (fun _ => ?_)
    refine Z_iconst (-1) dX1_go_11 rfl ?_
    refine Z_ireturn dX1_go_12 rfl rfl ?_
    have e9 : fGo D R ro no n x = (-1, D, R) := by simp [fGo, r5]
    exact zQe (by rw [e9]) (k I L P S (by rw [e9]; exact hX) (by rw [e9]; exact hk_le hkB (by omega)) frX.rf)
set_option maxHeartbeats 4000000 in
theorem o_xhand (hX : xR D R no n np ro oh ph I L P S) (hsf : sf (wld D) no n (D 23)) {B : Nat} (hkB : hk (D 23) n B) (hB : B < 2 ^ 28) (h37 : ro ≠ none → wld D 0 37 = 0) {x y : Int32} (k : ∀ I2 L2 P2 S2, xR (fHand D R x y).2.1 (fHand D R x y).2.2 no n np ro oh ph I2 L2 P2 S2 → frX I L P S I2 L2 P2 S2 → Q (.inl (some (.int (fHand D R x y).1))) I2 L2 P2 S2) : Zm G mX1_hand 6 C Sl [.ref 100, .int x, .int y] I L P S Q := by
  obtain ⟨e, ⟨g, hro⟩, ⟨⟨h29, h50⟩, hrw⟩, ⟨htx, hpr, hkp⟩, htl, hoh, hph⟩ := hX
  have hX : xR D R no n np ro oh ph I L P S := ⟨e, ⟨g, hro⟩, ⟨⟨h29, h50⟩, hrw⟩, ⟨htx, hpr, hkp⟩, htl, hoh, hph⟩
  have hx := e.x
  have hO := e.wd
  have hR := e.wr
  have hT := e.st
  have hPc := e.pc
  have hw := e.hw
  have hf := e.hx
  have hb := e.b
  have hn := e.nn
  have n8 := hw.n8
  have h6 := hw.o6
  have hn8 := hw.n8
  have hno : noD D = no := by rw [noD, show D 0 3 = nI no from hw.o3, nI_clamp (by omega)]
  have hnn : nD D = n := by rw [nD, show D 0 16 = nI n from hw.n16, nI_clamp (by omega)]
  obtain ⟨t0, ht0, h0⟩ := hsf.now
  have e2 : (D 23 0).toNatClampNeg = t0 := by rw [h0, nI_clamp (by omega)]
  obtain ⟨H9, hH9, eH2, eHs⟩ := hkB
  have hM := hR.1
  refine Z_entry (lv := [_, _, _]) (Nat.le_of_ble_eq_true rfl) rfl ?_
  refine Z_aload_n dX1_hand_0 rfl ?_
  refine Z_iload_n dX1_hand_1 rfl ?_
  refine Z_call0 (d' := 1) (zCal_V gX1_212 nX1_isPiece (by decide) dX1_hand_2) pX1_isPiece hx.1 zkl0 [_] rfl rfl (Nat.le_of_ble_eq_true rfl) (by omega) (c_X1_isPiece hx hn hn8 (fun k2 hk2 e2 => ?_) (fun h2 => ?_))
  · subst e2
    have r2 : pB D (nI k2) = true := rB_t (by rw [z_ti (by omega)]; omega) (by rw [z_ti (by omega), hnn]; omega)
    have v2 : (nI k2).toNatClampNeg = k2 := nI_clamp (by omega)
    refine Z_ifeq 42 dX1_hand_5 rfl (fun h => absurd h (by decide)) (fun _ => ?_)
    refine Z_aload_n dX1_hand_8 rfl ?_
    refine Z_iload_n dX1_hand_9 rfl ?_
    refine Z_call0 (d' := 1) (zCal_V gX1_121 nX1_isOffice (by decide) dX1_hand_10) pX1_isOffice hx.1 zkl0 [_] rfl rfl (Nat.le_of_ble_eq_true rfl) (by omega) (c_X1_isOffice hx hR.1.1 h6 (fun k10 hk10 e10 => ?_) (fun h10 => ?_))
    · subst e10
      have r10 : oB D (nI k10) = true := rB_t (by rw [z_ti (by omega)]; omega) (by rw [z_ti (by omega), hno]; omega)
      have v10 : (nI k10).toNatClampNeg = k10 := nI_clamp (by omega)
      refine Z_ifeq 42 dX1_hand_13 rfl (fun h => absurd h (by decide)) (fun _ => ?_)
      refine Z_aload_n dX1_hand_16 rfl ?_
      refine Z_getR (r := 240) hx.1 fX1_62_0 dX1_hand_17 rfl hx.2.2.2.1.2.2.1 ?_
      refine Z_getR (r := (240 + 7)) hT.1 fX1_241_2 dX1_hand_20 rfl (hT.2.1 7 _ rfl).2 ?_
      refine Z_iload_n dX1_hand_23 rfl ?_
      refine Z_iald (hT.2.1 7 _ rfl).1 (zix_nI (by first | omega | (dsimp only; omega)) (by decide)) dX1_hand_24 ?_
      refine Z_re (y := D 23 (35 + k2)) (g.f (k := 7) (by decide) (by decide) hk2) ?_
      refine Z_iconst (-1) dX1_hand_25 rfl ?_
      refine Z_icmpne 42 dX1_hand_26 rfl (fun c26 => ?_) (fun c26 => ?_)
      · have idn : isDn (D 23) k2 = true := by rw [dn_i (hsf.dn hk2), decide_eq_false c26]; rfl
        refine Z_iconst (-1) dX1_hand_42 rfl ?_
        refine Z_ireturn dX1_hand_43 rfl rfl ?_
        exact xO_k (D2 := D) (R2 := R) (by simp [fHand, idn, r2, v2, r10, v10]) k hX frX.rf
      · have idn : isDn (D 23) k2 = false := by rw [dn_i (hsf.dn hk2), decide_eq_true c26]; rfl
        refine Z_aload_n dX1_hand_29 rfl ?_
        refine Z_getR (r := 240) hx.1 fX1_62_0 dX1_hand_30 rfl hx.2.2.2.1.2.2.1 ?_
        refine Z_getR (r := (240 + 4)) hT.1 fX1_7_2 dX1_hand_33 rfl (hT.2.1 4 _ rfl).2 ?_
        refine Z_iload_n dX1_hand_36 rfl ?_
        refine Z_iald (hT.2.1 4 _ rfl).1 (zix_nI (by first | omega | (dsimp only; omega)) (by decide)) dX1_hand_37 ?_
        refine Z_re (y := D 23 (3 + k2)) (g.f (k := 4) (by decide) (by decide) hk2) ?_
        refine Z_iload_n dX1_hand_38 rfl ?_
        refine Z_icmpne 44 dX1_hand_39 rfl (fun c39 => ?_) (fun c39 => ?_)
        · obtain ⟨a, ha6, ha⟩ := hsf.pl hk2
          have e1 : (D 23 (3 + k2)).toNatClampNeg = a := by rw [ha, nI_clamp (by omega)]
          refine Z_aload_n dX1_hand_44 rfl ?_
          refine Z_getR (r := 240) hx.1 fX1_62_0 dX1_hand_45 rfl hx.2.2.2.1.2.2.1 ?_
          refine Z_aload_n dX1_hand_48 rfl ?_
          refine Z_getR (r := 200) hx.1 fX1_52_0 dX1_hand_49 rfl hx.2.2.2.1.1 ?_
          refine Z_iload_n dX1_hand_52 rfl ?_
          refine Z_iload_n dX1_hand_53 rfl ?_
          refine Z_aload_n dX1_hand_54 rfl ?_
          refine Z_getR (r := 240) hx.1 fX1_62_0 dX1_hand_55 rfl hx.2.2.2.1.2.2.1 ?_
          refine Z_getI hT.1 fX1_225_2 dX1_hand_58 rfl ?_
          refine Z_re (y := nI (t0)) (g.1.1.trans h0) ?_
          refine Z_call0 (d' := 4) (zCal_V gX1_256 nX3_hand (by decide) dX1_hand_61) pX3_hand hT.1 zkl2 [_, _, _, _] rfl rfl (Nat.le_of_ble_eq_true rfl) (by omega) (c_X3_hand hx hT g hn hn8 hO hR h6 (by omega) (by omega) (p := k2) (o := k10) (t := t0) (a := a) (H := H9) hk2 hk10 ha ha6 eH2 eHs (by omega) (by omega) (fun I2 gH fI _ _ => ?_))
          refine Z_ireturn dX1_hand_64 rfl rfl ?_
          exact xO_k (D2 := zu D 23 (hndS (wld D) (D 23) k2 k10 t0)) (R2 := R) (by simp [fHand, e1, e2, idn, r2, v2, r10, v10, c39]) k (hX.st (fH.of fI) f3.rf (fun a k q => by rw [zu_n _ _ _ q]) (by rw [zu_s]; exact gH)) (frX.fH (fH.of fI) f3.rf)
        · refine Z_iconst (-1) dX1_hand_42 rfl ?_
          refine Z_ireturn dX1_hand_43 rfl rfl ?_
          exact xO_k (D2 := D) (R2 := R) (by simp [fHand, idn, r2, v2, r10, v10, c39]) k hX frX.rf
    · have r10 : oB D y = false := rB_f (fun q => h10 ⟨q.1, by have := q.2; rw [hno] at this; omega⟩)
      refine Z_ifeq 42 dX1_hand_13 rfl (fun _ => ?_) (fun h => absurd h (by decide))
      refine Z_iconst (-1) dX1_hand_42 rfl ?_
      refine Z_ireturn dX1_hand_43 rfl rfl ?_
      exact xO_k (D2 := D) (R2 := R) (by simp [fHand, r2, v2, r10]) k hX frX.rf
  · have r2 : pB D x = false := rB_f (fun q => h2 ⟨q.1, by have := q.2; rw [hnn] at this; omega⟩)
    refine Z_ifeq 42 dX1_hand_5 rfl (fun _ => ?_) (fun h => absurd h (by decide))
    refine Z_iconst (-1) dX1_hand_42 rfl ?_
    refine Z_ireturn dX1_hand_43 rfl rfl ?_
    exact xO_k (D2 := D) (R2 := R) (by simp [fHand, r2]) k hX frX.rf
end X10C
