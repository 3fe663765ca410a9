set_option maxRecDepth 100000
/-! THE COMPONENT, part 28: an office more -/
section X28C
variable {G : zG} {d C Sl : Nat} {I D W : zI} {R : List Int64} {L : zL} {P : zR} {S : zT} {Q : zQ} {no n np : Nat} {s : zS} {oh ph : Nat → Nat} {ro : Option (List Nat)}
/-- the same offices, the same numbers -/
def eqO (D D2 : zI) (no : Nat) : Prop := (∀ a o, 4 ≤ a → a ≤ 11 → o < no → D2 a o = D a o) ∧ (∀ o d, o < no → d < 100 → D2 12 (100 * o + d) = D 12 (100 * o + d)) ∧ (∀ x y, x < no → y < no → D2 13 (6 * x + y) = D 13 (6 * x + y)) ∧ (∀ a, a ≠ 0 → (a < 4 ∨ 13 < a) → D2 a = D a) ∧ D2 0 = D 0
theorem wRw.eqO {D2 : zI} {h : Nat} (g : wRw S P I h (wld D) no oh) (q : eqO D D2 no) : wRw S P I h (wld D2) no oh := by
  obtain ⟨q1, q2, q3, q4, q5⟩ := q
  obtain ⟨⟨a, b, c⟩, r, o⟩ := g
  refine ⟨⟨a, b.trans (wld_at (by rw [q5])).symm, c.trans (wld_at (by rw [q5])).symm⟩, fun x y hx hy => ?_, fun k hk => ?_⟩
  · rw [r x y hx hy]
    split
    · next h => exact (q3 x y h.1 h.2).symm
    · rfl
  · obtain ⟨x1, x2, x3⟩ := o k hk
    refine ⟨x1, x2, ?_⟩
    unfold oRw at x3 ⊢
    rw [wld_at (q1 4 k (by decide) (by decide) hk), wld_at (q1 5 k (by decide) (by decide) hk), wld_at (q1 6 k (by decide) (by decide) hk), wld_at (q1 7 k (by decide) (by decide) hk), wld_at (q1 8 k (by decide) (by decide) hk), wld_at (q1 9 k (by decide) (by decide) hk), wld_at (q1 10 k (by decide) (by decide) hk), wld_at (q1 11 k (by decide) (by decide) hk)]
    exact ⟨x3.1, x3.2.1, fun dd hd => by rw [wld_at (q2 k dd hk hd)]; exact x3.2.2 dd hd⟩
theorem xR.eqO {D2 : zI} (g : xR D R no n np ro oh ph I L P S) (q : eqO D D2 no) : xR D2 R no n np ro oh ph I L P S := by
  obtain ⟨⟨⟨a1, a2⟩, ⟨b1, b2⟩, ⟨c1, c2⟩, ⟨d1, d2⟩, d3, d4, d5⟩, ⟨gs, hro⟩, ⟨⟨h29, h50⟩, hrw⟩, ⟨htx, hpr, hkp⟩, htl, hoh, hph⟩ := g
  have b3 := b2.eqO q
  obtain ⟨q1, q2, q3, q4, q5⟩ := q
  have hW : ∀ a p, 17 ≤ a → a ≤ 22 → wld D2 a p = wld D a p := fun a p h1 h2 => wld_at (by rw [q4 a (by omega) (by omega)])
  have h0 : ∀ k, wld D2 0 k = wld D 0 k := fun k => wld_at (by rw [q5])
  refine ⟨⟨⟨a1, a2⟩, ⟨b1, b3⟩, ⟨c1, c2.wq hW (h0 37)⟩, ⟨wf_pt d1 (h0 3) (h0 16) (fun p => hW 20 p (by decide) (by decide)) (fun p => hW 21 p (by decide) (by decide)), xf_pt d2 hW⟩, d3, d4, d5⟩, ⟨by rw [q4 23 (by decide) (by decide)]; exact gs, hro⟩, ⟨⟨by rw [q5]; exact h29, h50⟩, hrw⟩, ⟨fun k hk => ?_, fun k hk => ?_, ?_⟩, htl, hoh, hph⟩
  · rw [q5] at hk; rw [q4 28 (by decide) (by decide)]; exact htx k hk
  · rw [q4 51 (by decide) (by decide), q4 52 (by decide) (by decide), q4 53 (by decide) (by decide)]; exact hpr k hk
  · exact hkp.fr (fun k => by rw [q4 56 (by decide) (by decide)]) (fun k => by rw [q4 57 (by decide) (by decide)]) rfl (fun _ _ => rfl)
section SIT
variable {l c v : Int32}
theorem kn1_at {o x y : Nat} (hx : x < o) (hy : y < o) (ho : o < 6) : ∀ k, k ≤ o → kn1 D o v k 13 (6 * x + y) = D 13 (6 * x + y) := by
  intro k
  induction k with
  | zero => exact fun _ => rfl
  | succ k ih =>
    intro hk
    rw [kn1]
    unfold stKn
    rw [zw_a, zu_n _ _ _ (by omega), zw_a, zu_n _ _ _ (by omega)]
    exact ih (by omega)
theorem sit_eqO (h3 : D 0 3 = nI no) (h6 : no < 6) : ∀ z, eqO D (sitD D no l c v z) no := by
  intro z
  refine ⟨?_, ?_, ?_, fun a h0 h => sitD_n h0 h z, sitD_0 h3 z⟩
  · intro a o h1 h2 ho
    induction z with
    | zero => rfl
    | succ z ih =>
      rw [sitD, zw_n _ _ _ _ (by omega)]
      unfold sitZ
      rw [kn1_n (by omega), opnS_o (by omega) h1 h2]
      exact ih
  · intro o d ho hd
    induction z with
    | zero => rfl
    | succ z ih =>
      rw [sitD, zw_n _ _ _ _ (by omega)]
      unfold sitZ
      rw [kn1_n (by omega), opnS_12, if_neg (by omega)]
      exact ih
  · intro x y hx hy
    induction z with
    | zero => rfl
    | succ z ih =>
      rw [sitD, zw_n _ _ _ _ (by omega)]
      unfold sitZ
      rw [kn1_at hx hy h6 no (Nat.le_refl _), opnS_13 h6 (by omega) (by omega), if_neg (by omega), if_neg (by omega)]
      exact ih
theorem sit_at {a p z : Nat} (h1 : 17 ≤ a) : wld (sitZ (sitD D no l c v z) no l c v z) a p = wld D a p := wld_at (by rw [sitZ_n (by omega) (by omega), sitD_n (by omega) (by omega)])
end SIT
/-- another world, at 220, with one office more, at a -/
theorem hE.add {I3 W3 : zI} {P3 : zR} {S3 : zT} {a : Nat} (e : hE W no n oh ph 200 240 I P S) (q1 : wdO S3 P3 220) (q2 : wRw S3 P3 I3 220 W3 (no + 1) (zu oh no a)) (ha : 7000 ≤ a) (fI : ∀ b, ¬ (220 ≤ b ∧ b ≤ 228) → b ≠ a → b ≠ a + 8 → I3 b = I b) (fP : ∀ b, ¬ (220 ≤ b ∧ b ≤ 228) → b ≠ a → b ≠ a + 8 → P3 b = P b) (fS : ∀ b, b ≠ a → b ≠ a + 8 → S3 b = S b) (h1 : S a = none) (h8 : S (a + 8) = none) (hw : wf W3 (no + 1) n) (hf : xf W3 n) (hp : pcR S P I W3 n ph) : hE W3 (no + 1) n (zu oh no a) ph 220 240 I3 P3 S3 := by
  have hb := e.b
  obtain ⟨x1, x2, x3, x4, x5, x6, x7, x8⟩ := e.x
  have lo : ∀ b, b < 6000 → S3 b = S b := fun b hb => fS b (by omega) (by omega)
  have po : ∀ b, b < 6000 → ¬ (220 ≤ b ∧ b ≤ 228) → P3 b = P b := fun b hb h => fP b h (by omega) (by omega)
  have p100 := po 100 (by decide) (by decide)
  have gx : xO S3 P3 := ⟨(lo _ (by decide)).trans x1, (lo _ (by decide)).trans x2, fun k q hq => ⟨(lo _ (by have := xAr_lt hq; omega)).trans (x3 k q hq).1, by rw [p100]; exact (x3 k q hq).2⟩, by rw [p100]; exact x4,
    x5.eq (fun a h1 h2 => lo a (by omega)) (by rw [po 200 (by decide) (by decide)]) (by rw [po 200 (by decide) (by decide)]) (po _ (by decide) (by decide)), q1, x7.eq (fun a h1 h2 _ => lo a (by omega)) (po _ (by decide) (by decide)), x8.eq (fun a h1 h2 _ => lo a (by omega)) (po _ (by decide) (by decide))⟩
  refine ⟨⟨gx, by rw [fI 100 (by omega) (by omega) (by omega)]; exact e.nn⟩, ⟨q1, q2⟩, ⟨gx.2.2.2.2.2.2.1, fun p h => ?_⟩, ⟨hw, hf⟩, ⟨by omega, by omega, by omega, by omega⟩, fun o ho => ?_, e.hp⟩
  · obtain ⟨y1, y2, y3⟩ := hp p h
    have h6p := e.hp p h
    have n1 : ph p ≠ a := fun q => by rw [q, h1] at y2; cases y2
    have n2 : ph p ≠ a + 8 := fun q => by rw [q, h8] at y2; cases y2
    exact ⟨by rw [po 110 (by omega) (by omega)]; exact y1, (fS _ n1 n2).trans y2, by rw [fI (ph p) (by omega) n1 n2]; exact y3⟩
  · by_cases eo : o = no
    · subst eo; rw [zu_s]; omega
    · rw [zu_n _ _ _ eo]; exact e.ho o (by omega)
set_option maxHeartbeats 16000000 in
theorem o_xsite (hX : xR D R no n np ro oh ph I L P S) (hi9 : ∀ j, 127 ≤ j → D 23 j = 0) (h37 : ro ≠ none → wld D 0 37 = 0) {l c v h : Int32} (k : ∀ I2 L2 P2 S2, xR (fSite D R ro no n l c v h).2.1 (fSite D R ro no n l c v h).2.2 no n np ro oh ph I2 L2 P2 S2 → frX I L P S I2 L2 P2 S2 → Q (.inl (some (.int (fSite D R ro no n l c v h).1))) I2 L2 P2 S2) : Zm G mX1_site 105 (C + 48) (Sl + 2616) [.ref 100, .int l, .int c, .int v, .int h] I L P S Q := by
  obtain ⟨e, ⟨g, hro⟩, ⟨⟨h29, h50⟩, hrw⟩, ⟨htx, hpr, hkp⟩, htl, hoh, hph⟩ := hX
  have hX : xR D R no n np ro oh ph I L P S := ⟨e, ⟨g, hro⟩, ⟨⟨h29, h50⟩, hrw⟩, ⟨htx, hpr, hkp⟩, htl, hoh, hph⟩
  have hx := e.x
  have hO := e.wd
  have hR := e.wr
  have hT := e.st
  have hPc := e.pc
  have hw := e.hw
  have hf := e.hx
  have hb := e.b
  have hn := e.nn
  have n8 := hw.n8
  have h6 := hw.o6
  have hn8 := hw.n8
  have hno : noD D = no := by rw [noD, show D 0 3 = nI no from hw.o3, nI_clamp (by omega)]
  have hnn : nD D = n := by rw [nD, show D 0 16 = nI n from hw.n16, nI_clamp (by omega)]
  obtain ⟨-, -, -, -, ⟨-, -, hN⟩, -⟩ := id hX
  have h3 : D 0 3 = nI no := hw.o3
  have hM := hR.1
  refine Z_entry (lv := [_, _, _, _, _, _, _, _, _, _, _]) (Nat.le_of_ble_eq_true rfl) rfl ?_
  refine Z_iload_n dX1_site_0 rfl ?_
  refine Z_iconst (nI 1) dX1_site_1 rfl ?_
  refine Z_bipush (nI 16) dX1_site_2 rfl ?_
  refine Z_callS0 (d' := 0) (zCal_S gX1_3 nX1_in (by decide) dX1_site_4) pX1_in [_, _, _] rfl rfl (Nat.le_of_ble_eq_true rfl) (by omega) (c_X1_in (fun h4a h4b => ?_) (fun h4 => ?_))
  · have r4 : rB (l) 1 16 = true := rB_t h4a h4b
    refine Z_ifeq 54 dX1_site_7 rfl (fun h => absurd h (by decide)) (fun _ => ?_)
    refine Z_iload_n dX1_site_10 rfl ?_
    refine Z_callS0 (d' := 1) (zCal_S gX1_108 nX1_arePeople (by decide) dX1_site_11) pX1_arePeople [_] rfl rfl (Nat.le_of_ble_eq_true rfl) (by omega) (c_X1_arePeople (fun r14 => ?_) (fun r14 => ?_))
    · refine Z_ifeq 54 dX1_site_14 rfl (fun h => absurd h (by decide)) (fun _ => ?_)
      refine Z_iload_n dX1_site_17 rfl ?_
      refine Z_iconst (nI 0) dX1_site_18 rfl ?_
      refine Z_bipush (nI 9) dX1_site_19 rfl ?_
      refine Z_callS0 (d' := 0) (zCal_S gX1_3 nX1_in (by decide) dX1_site_21) pX1_in [_, _, _] rfl rfl (Nat.le_of_ble_eq_true rfl) (by omega) (c_X1_in (fun h21a h21b => ?_) (fun h21 => ?_))
      · have r21 : rB (v) 0 9 = true := rB_t h21a h21b
        refine Z_ifeq 54 dX1_site_24 rfl (fun h => absurd h (by decide)) (fun _ => ?_)
        refine Z_iload dX1_site_27 rfl ?_
        refine Z_callS0 (d' := 1) (zCal_S gX1_124 nX1_isHour (by decide) dX1_site_29) pX1_isHour [_] rfl rfl (Nat.le_of_ble_eq_true rfl) (by omega) (c_X1_isHour (fun h29a h29b => ?_) (fun h29 => ?_))
        · have r29 : rB h 0 2399 = true := rB_t h29a h29b
          obtain ⟨k29, hk29, e29⟩ := z_rng (n := 2399) h29a h29b (by omega)
          subst e29
          have v29 : (nI k29).toNatClampNeg = k29 := nI_clamp (by omega)
          refine Z_ifeq 54 dX1_site_32 rfl (fun h => absurd h (by decide)) (fun _ => ?_)
          refine Z_aload_n dX1_site_35 rfl ?_
          refine Z_getR (r := 200) hx.1 fX1_52_0 dX1_site_36 rfl hx.2.2.2.1.1 ?_
          refine Z_getI hO.1 fX1_19_1 dX1_site_39 rfl ?_
          refine Z_re (y := nI (no)) hR.1.1 ?_
          refine Z_bipush (nI 6) dX1_site_42 rfl ?_
          refine Z_icmpeqN 54 dX1_site_44 rfl (by omega) (by omega) (fun c44 => ?_) (fun c44 => ?_)
          · have c44z : D 0 3 = nI 6 := by rw [h3, c44]
            refine Z_iconst (-1) dX1_site_54 rfl ?_
            refine Z_ireturn dX1_site_55 rfl rfl ?_
            exact xO_k (D2 := D) (R2 := R) (by simp [fSite, ppl_e, show D 0 16 = nI n from hw.n16, nI_0, r4, r14, r21, r29, v29, c44z]) k hX frX.rf
          · have h5 : no < 6 := by omega
            have c44b : ¬ D 0 3 = nI 6 := fun e => c44 ((nI_eq (by omega) (by decide)).mp (h3.symm.trans e))
            refine Z_aload_n dX1_site_47 rfl ?_
            refine Z_getI hx.1 fX1_105_0 dX1_site_48 rfl ?_
            refine Z_re (y := nI (n)) hn ?_
            refine Z_ifneN 56 dX1_site_51 rfl (by omega) (fun c51 => ?_) (fun c51 => ?_)
            · have n0 : ¬ D 0 16 = 0 := fun e => c51 ((nI_z (by omega)).mp ((show D 0 16 = nI n from hw.n16).symm.trans e))
              refine Z_bipush (-2) dX1_site_56 rfl ?_
              refine Z_istore (lv' := [_, _, _, _, _, _, _, _, _, _, _]) dX1_site_58 rfl rfl (Nat.le_of_ble_eq_true rfl) ?_
              refine Z_iconst (nI 0) dX1_site_60 rfl ?_
              refine Z_istore (lv' := [_, _, _, _, _, _, _, _, _, _, _]) dX1_site_61 rfl rfl (Nat.le_of_ble_eq_true rfl) ?_
              refine Z_iconst (nI 0) dX1_site_63 rfl ?_
              refine Z_istore (lv' := [_, _, _, _, _, _, _, _, _, _, _]) dX1_site_64 rfl rfl (Nat.le_of_ble_eq_true rfl) ?_
              have lp66 : ∀ z, z ≤ 24 → ∀ I2 L2 P2 S2, fX I L P S I2 L2 P2 S2 → I2 100 = I 100 → L2 302 = L 302 → Zj G mX1_site 105 (C + 2 * (24 - z)) (Sl + 109 * (24 - z)) 66 [.ref 100, .int l, .int c, .int v, .int (nI k29), .int (xlB (minF (sitO D ro no n l c v k29) z)), .int (xlS (minF (sitO D ro no n l c v k29) z)), .int (nI z), .retAddr 0, .retAddr 0, .retAddr 0] [] I2 L2 P2 S2 Q := by
                refine zloop (24) (fun z => ∀ I2 L2 P2 S2, fX I L P S I2 L2 P2 S2 → I2 100 = I 100 → L2 302 = L 302 → Zj G mX1_site 105 (C + 2 * (24 - z)) (Sl + 109 * (24 - z)) 66 [.ref 100, .int l, .int c, .int v, .int (nI k29), .int (xlB (minF (sitO D ro no n l c v k29) z)), .int (xlS (minF (sitO D ro no n l c v k29) z)), .int (nI z), .retAddr 0, .retAddr 0, .retAddr 0] [] I2 L2 P2 S2 Q) (fun z hz ih => ?_)
                intro I2 L2 P2 S2 fF e100 e302
                show Zj _ _ _ _ _ _ _ _ _ _ _ _ _
                have r1 : rwX I2 L2 R := hrw.fX (by rw [e100]) e302
                have hX1 := hX.go fF r1
                have hx := hX1.1.x
                have hO := hX1.1.wd
                have hR := hX1.1.wr
                refine Z_iload dX1_site_66 rfl ?_
                refine Z_bipush (nI 24) dX1_site_68 rfl ?_
                refine Z_icmpgeN 184 dX1_site_70 rfl (by omega) (by omega) (fun c70 => ?_) (fun c70 => ?_)
                · have ez : z = 24 := by omega
                  obtain ⟨m0, hm⟩ : ∃ m0, minF (sitO D ro no n l c v k29) z = m0 := ⟨_, rfl⟩
                  rw [hm]
                  rcases m0 with _ | b
                  · dsimp only [xlB, xlS]
                    refine Z_iload dX1_site_184 rfl ?_
                    refine Z_ifge 192 dX1_site_186 rfl (fun c186 => ?_) (fun c186 => ?_)
                    · exact absurd c186 (by decide)
                    · refine Z_bipush (-2) dX1_site_189 rfl ?_
                      refine Z_ireturn dX1_site_191 rfl rfl ?_
                      rw [ez] at hm
                      exact xO_k (D2 := sitD D no l c v 24) (R2 := R) (by rw [fSite, ppl_e, if_pos (by rw [r4, r14, r21, r29, decide_eq_false c44b, decide_eq_false n0]; rfl), v29, hm]) k ((hX.go fF r1).eqO (sit_eqO h3 h5 24)) fF.frX
                  · dsimp only [xlB, xlS]
                    have hb1 := minF_mem _ _ hm
                    have hb2 := sitO_b hw hi9 h5 (by omega) hb1.2
                    refine Z_iload dX1_site_184 rfl ?_
                    refine Z_ifgeN 192 dX1_site_186 rfl (by omega) ?_
                    refine Z_aload_n dX1_site_192 rfl ?_
                    refine Z_aload_n dX1_site_193 rfl ?_
                    refine Z_getR (r := 200) hx.1 fX1_52_0 dX1_site_194 rfl hx.2.2.2.1.1 ?_
                    refine Z_iload dX1_site_197 rfl ?_
                    refine Z_call0 (d' := 104) (zCal_V gX1_362 nX1_endIn (by decide) dX1_site_199) pX1_endIn hx.1 zkl0 [_, _] rfl rfl (Nat.le_of_ble_eq_true rfl) (by omega) (c_X1_endIn (s := D 23) hX1.1 hX1.2.1.2 hi9 (by omega) h37 (fun s0 t0 I6 P6 a1 a2 a3 a4 a5 => ?_) (fun a1 I6 P6 a4 a5 => ?_))
                    · have hx := hX1.1.x.f3 a5
                      refine Z_istore (lv' := [_, _, _, _, _, _, _, _, _, _, _]) dX1_site_202 rfl rfl (Nat.le_of_ble_eq_true rfl) ?_
                      refine Z_aload_n dX1_site_204 rfl ?_
                      refine Z_iconst (nI 0) dX1_site_205 rfl ?_
                      refine Z_putI hx.1 fX1_94_0 dX1_site_206 rfl rfl rfl ?_
                      refine Z_aload_n dX1_site_209 rfl ?_
                      refine Z_iload dX1_site_210 rfl ?_
                      refine Z_i2l dX1_site_212 ?_
                      refine Z_call0 (d' := 0) (zCal_V gX1_101 nX1_tell (by decide) dX1_site_213) pX1_tell hx.1 zkl0 [_] rfl rfl (Nat.le_of_ble_eq_true rfl) (by omega) (c_X1_tell hx (rwX.z (I := I6) (L := L2)) (by decide) (fun J1 M1 u1 v1 => ?_))
                      refine Z_aload_n dX1_site_216 rfl ?_
                      refine Z_iload dX1_site_217 rfl ?_
                      refine Z_ifgeN 228 dX1_site_219 rfl (by omega) ?_
                      refine Z_iload dX1_site_228 rfl ?_
                      refine Z_i2l dX1_site_230 ?_
                      refine Z_call0 (d' := 0) (zCal_V gX1_101 nX1_tell (by decide) dX1_site_231) pX1_tell hx.1 zkl0 [_] rfl rfl (Nat.le_of_ble_eq_true rfl) (by omega) (c_X1_tell hx u1 (by simp) (fun J2 M2 u2 v2 => ?_))
                      refine Z_iload dX1_site_234 rfl ?_
                      refine Z_ireturn dX1_site_236 rfl rfl ?_
                      rw [ez] at hm
                      have ew : endV (pEnd (wld D) ro no n (begS (wld D) (D 23) n k29)) = nI t0 := by rw [a1]; exact a2
                      have FE := (fF.fH a4 a5).fR ((fR.rf.z.tr v1).tr v2)
                      exact xO_k (D2 := sitD D no l c v 24) (R2 := [(nI b.2).toInt64, (nI t0).toInt64]) (by rw [fSite, ppl_e, if_pos (by rw [r4, r14, r21, r29, decide_eq_false c44b, decide_eq_false n0]; rfl), v29, hm]; dsimp only; rw [ew]) k ((hX.go FE u2).eqO (sit_eqO h3 h5 24)) FE.frX
                    · have hx := hX1.1.x.f3 a5
                      refine Z_istore (lv' := [_, _, _, _, _, _, _, _, _, _, _]) dX1_site_202 rfl rfl (Nat.le_of_ble_eq_true rfl) ?_
                      refine Z_aload_n dX1_site_204 rfl ?_
                      refine Z_iconst (nI 0) dX1_site_205 rfl ?_
                      refine Z_putI hx.1 fX1_94_0 dX1_site_206 rfl rfl rfl ?_
                      refine Z_aload_n dX1_site_209 rfl ?_
                      refine Z_iload dX1_site_210 rfl ?_
                      refine Z_i2l dX1_site_212 ?_
                      refine Z_call0 (d' := 0) (zCal_V gX1_101 nX1_tell (by decide) dX1_site_213) pX1_tell hx.1 zkl0 [_] rfl rfl (Nat.le_of_ble_eq_true rfl) (by omega) (c_X1_tell hx (rwX.z (I := I6) (L := L2)) (by decide) (fun J1 M1 u1 v1 => ?_))
                      refine Z_aload_n dX1_site_216 rfl ?_
                      refine Z_iload dX1_site_217 rfl ?_
                      refine Z_ifge 228 dX1_site_219 rfl (fun c219 => ?_) (fun c219 => ?_)
                      · exact absurd c219 (by decide)
                      · refine Z_ldc2 q1141 dX1_site_222 ?_
                        refine Z_goto 231 dX1_site_225 rfl ?_
                        refine Z_call0 (d' := 0) (zCal_V gX1_101 nX1_tell (by decide) dX1_site_231) pX1_tell hx.1 zkl0 [_] rfl rfl (Nat.le_of_ble_eq_true rfl) (by omega) (c_X1_tell hx u1 (by simp) (fun J2 M2 u2 v2 => ?_))
                        refine Z_iload dX1_site_234 rfl ?_
                        refine Z_ireturn dX1_site_236 rfl rfl ?_
                        rw [ez] at hm
                        have ew : endV (pEnd (wld D) ro no n (begS (wld D) (D 23) n k29)) = -1 := by rw [a1]; rfl
                        have FE := (fF.fH a4 a5).fR ((fR.rf.z.tr v1).tr v2)
                        exact xO_k (D2 := sitD D no l c v 24) (R2 := [(nI b.2).toInt64, -1]) (by rw [fSite, ppl_e, if_pos (by rw [r4, r14, r21, r29, decide_eq_false c44b, decide_eq_false n0]; rfl), v29, hm]; dsimp only; rw [ew]; rfl) k ((hX.go FE u2).eqO (sit_eqO h3 h5 24)) FE.frX
                · refine Z_aload_n dX1_site_73 rfl ?_
                  refine Z_getR (r := 220) hx.1 fX1_56_0 dX1_site_74 rfl hx.2.2.2.1.2.1 ?_
                  refine Z_aload_n dX1_site_77 rfl ?_
                  refine Z_getR (r := 200) hx.1 fX1_52_0 dX1_site_78 rfl hx.2.2.2.1.1 ?_
                  refine Z_call0 (d' := 1) (zCal_V gX1_346 nX2_as (by decide) dX1_site_81) pX2_as hx.2.2.2.2.2.1.1 zkl1 [_] rfl rfl (Nat.le_of_ble_eq_true rfl) (by omega) (c_X2_asB hO hx.2.2.2.2.2.1 hR hX1.2.2.2.2.1.1.1 h6 e.ho (by decide) (by decide) (fun Ia Pa q1 q2 q3 q4 q5 q6 q7 q8 => ?_))
                  have F2 := fF.w q5 q6 q7 q8
                  obtain ⟨-, -, -, -, ⟨-, -, N1, hN1, hN2⟩, -⟩ := id hX1
                  refine Zj.less (C := C + 2 * (24 - (z + 1)) + 1 + 1) (Sl := Sl + 109 * (24 - (z + 1)) + 100 + 9) ?_ (Nat.le_refl _) (by omega) (by omega)
                  refine Z_astore (lv' := [_, _, _, _, _, _, _, _, _, _, _]) dX1_site_84 rfl rfl (Nat.le_of_ble_eq_true rfl) ?_
                  refine Z_aload dX1_site_86 rfl ?_
                  refine Z_new N1 (hN2 N1 (Nat.le_refl _)) wX1_112 dX1_site_88 ?_
                  refine Z_dup dX1_site_91 rfl ?_
                  refine Z_iload dX1_site_92 rfl ?_
                  refine Z_bipush (nI 9) dX1_site_94 rfl ?_
                  refine Z_iload_n dX1_site_96 rfl ?_
                  refine Z_iconst (nI 1) dX1_site_97 rfl ?_
                  refine Z_iload_n dX1_site_98 rfl ?_
                  refine Z_bipush (nI 64) dX1_site_99 rfl ?_
                  refine Z_idiv dX1_site_101 (by decide) ?_
                  refine Z_iload_n dX1_site_102 rfl ?_
                  refine Z_bipush (nI 64) dX1_site_103 rfl ?_
                  refine Z_irem dX1_site_105 (by decide) ?_
                  refine Z_call (d' := 1) (C := (C + 2 * (24 - (z + 1)))) (C' := 1) (Sl := (Sl + 109 * (24 - (z + 1)))) (S' := 100) (zCal_I q336 q88 q334 q335 rfl nX6_init (by decide) dX1_site_106) pX6_init (by simp [zu]) zkl5 [_, _, _, _, _, _] rfl rfl (Nat.le_of_ble_eq_true rfl) (by omega) (by omega) (by omega) (c_X6_init (zu_s _ _ _) (by rw [zu_n _ _ _ (by omega)]; exact hN2 _ (by omega)) ⟨by rw [zu_s]; rfl, by rw [zu_s]; rfl⟩ (fun I3 L3 P3 S3 hA gA fA => ?_))
                  have F0 := (frO.nw (I := Ia) (L := L2) (P := Pa) (S := S2) (f := fun _ => 0) (f2 := fun _ => 0) (f3 := fun _ => none) (x := some (.inl 5))).tr fA
                  have F3 : fX I L P S I3 L3 P3 S3 := F2.o F0 hN1 (hN2 N1 (Nat.le_refl _)) (hN2 _ (by omega))
                  have q1c : wdO S3 P3 220 := q1.eq (fun a h1 h2 => (F0 a (by omega) (by omega)).2.2) (by rw [(F0 220 (by omega) (by omega)).2.1]) (by rw [(F0 220 (by omega) (by omega)).2.1]) (F0 222 (by omega) (by omega)).2.1
                  have q2c := (q2.eqO (sit_eqO (l := l) (c := c) (v := v) h3 h5 z)).add (z := nI z) (f := nI 9) (l := l) (y := nI 1) (m := c / nI 64) (c := c - c / nI 64 * nI 64) h5 (fun o ho => by have := hoh o; omega) (by omega) (by decide) hA gA F0
                  refine Z_call0 (d' := 0) (zCal_V gX1_117 nX2_add (by decide) dX1_site_109) pX2_add q1c.1 zkl1 [_] rfl rfl (Nat.le_of_ble_eq_true rfl) (by omega) (c_X2_add q1c (by rw [(F0 220 (by omega) (by omega)).1.1]; exact q2.1.1) h5 hA.1 ?_)
                  have q1d : wdO S3 (zw P3 (220 + 1) no (some N1)) 220 := q1c.w (by rw [zw_n _ _ _ _ (by decide)]) (by rw [zw_n _ _ _ _ (by decide)]) (zw_n _ _ _ _ (by decide))
                  obtain ⟨I4, eI4⟩ : ∃ x, x = zw (zw I3 (220 + 3 + no) no (nI 9)) 220 1 (nI (no + 1)) := ⟨_, rfl⟩
                  obtain ⟨P4, eP4⟩ : ∃ x, x = zw P3 (220 + 1) no (some N1) := ⟨_, rfl⟩
                  rw [← eI4, ← eP4]
                  rw [← eI4, ← eP4] at q2c
                  rw [← eP4] at q1d
                  have f4 : fW 220 I3 I4 := by rw [eI4]; exact (fW.rf.st (by omega)).st (by omega)
                  have f4p : fW 220 P3 P4 := by rw [eP4]; exact fW.rf.st (by omega)
                  have r3 : rwX I3 L3 R := hrw.fX (by rw [(F0 100 (by omega) (by omega)).1.1, q5 100 (by omega), e100]) (by rw [(F0 302 (by omega) (by omega)).1.2, e302])
                  refine Z_istore (lv' := [_, _, _, _, _, _, _, _, _, _, _]) dX1_site_112 rfl rfl (Nat.le_of_ble_eq_true rfl) ?_
                  refine Z_iconst (nI 0) dX1_site_114 rfl ?_
                  refine Z_istore (lv' := [_, _, _, _, _, _, _, _, _, _, _]) dX1_site_115 rfl rfl (Nat.le_of_ble_eq_true rfl) ?_
                  have lp117 : ∀ a, a ≤ no → ∀ I5, wRw S3 P4 I5 220 (wld (kn1 (opnS (sitD D no l c v z) no (nI z) (nI 9) l (nI 1) (c / nI 64) (c - c / nI 64 * nI 64)) no v a)) (no + 1) (zu oh no N1) → fW 220 I4 I5 → Zj G mX1_site 105 (C + 2 * (24 - (z + 1))) (Sl + 109 * (24 - (z + 1))) 117 [.ref 100, .int l, .int c, .int v, .int (nI k29), .int (xlB (minF (sitO D ro no n l c v k29) z)), .int (xlS (minF (sitO D ro no n l c v k29) z)), .int (nI z), .ref 220, .int (nI no), .int (nI a)] [] I5 L3 P4 S3 Q := by
                    refine zloop (no) (fun a => ∀ I5, wRw S3 P4 I5 220 (wld (kn1 (opnS (sitD D no l c v z) no (nI z) (nI 9) l (nI 1) (c / nI 64) (c - c / nI 64 * nI 64)) no v a)) (no + 1) (zu oh no N1) → fW 220 I4 I5 → Zj G mX1_site 105 (C + 2 * (24 - (z + 1))) (Sl + 109 * (24 - (z + 1))) 117 [.ref 100, .int l, .int c, .int v, .int (nI k29), .int (xlB (minF (sitO D ro no n l c v k29) z)), .int (xlS (minF (sitO D ro no n l c v k29) z)), .int (nI z), .ref 220, .int (nI no), .int (nI a)] [] I5 L3 P4 S3 Q) (fun a ha iha => ?_)
                    intro I5 gW g9
                    show Zj _ _ _ _ _ _ _ _ _ _ _ _ _
                    have q1e := q1d
                    refine Z_iload dX1_site_117 rfl ?_
                    refine Z_iload dX1_site_119 rfl ?_
                    refine Z_icmpgeN 140 dX1_site_121 rfl (by omega) (by omega) (fun c121 => ?_) (fun c121 => ?_)
                    · have ea : a = no := by omega
                      rw [ea] at gW
                      have eS := hX1.1.add (W3 := wld (sitZ (sitD D no l c v z) no l c v z)) q1e gW hN1 (fun b h1 h2 h3 => (g9 b h1).trans ((f4 b h1).trans ((F0 b h2 h3).1.1.trans (q5 b h1)))) (fun b h1 h2 h3 => (f4p b h1).trans ((F0 b h2 h3).2.1.trans (q6 b h1))) (fun b h1 h2 => (F0 b h1 h2).2.2) (hN2 N1 (Nat.le_refl _)) (hN2 _ (by omega)) (sit_wf hw h5) (xf_pt hf (fun a p h1 h2 => sit_at h1)) (hX1.1.pc.wq (fun a p h1 h2 => sit_at h1) (wld_at (by rw [sitZ_0, zu_n _ _ _ (by decide), sitD_0 h3])))
                      have hroS : ruX I5 P4 S3 220 ro := by
                        have hro2 := hX1.2.1.2
                        cases ro with
                        | none => exact ((congrFun (show P4 220 = Pa 220 by rw [eP4, zw_n _ _ _ _ (by decide)]; exact (F0 220 (by omega) (by omega)).2.1) 5).trans q4).trans hro2
                        | some e0 =>
                          obtain ⟨r, f, y1, y2, y3⟩ := hro2
                          refine ⟨r, f, ((congrFun (show P4 220 = Pa 220 by rw [eP4, zw_n _ _ _ _ (by decide)]; exact (F0 220 (by omega) (by omega)).2.1) 5).trans q4).trans y1, y2, y3.fr fun b hb hs => ?_⟩
                          have n1 : b ≠ N1 := fun q => hs (by rw [q]; exact hN2 N1 (Nat.le_refl _))
                          have n2 : b ≠ N1 + 8 := fun q => hs (by rw [q]; exact hN2 _ (by omega))
                          exact ⟨(g9 b (by omega)).trans ((f4 b (by omega)).trans ((F0 b n1 n2).1.1.trans (q5 b (by omega)))), (f4p b (by omega)).trans ((F0 b n1 n2).2.1.trans (q6 b (by omega))), (F0 b n1 n2).2.2⟩
                      have F4 : fX I L P S I5 L3 P4 S3 := F3.w (f4.tr g9) f4p (fun j hj => by rw [eP4, zw_n _ _ _ _ (by decide)]) (by rw [eP4, zw_n _ _ _ _ (by decide)])
                      have e1004 : I5 100 = I 100 := (g9 100 (by omega)).trans ((f4 100 (by omega)).trans ((F0 100 (by omega) (by omega)).1.1.trans ((q5 100 (by omega)).trans e100)))
                      have e3024 : L3 302 = L 302 := (F0 302 (by omega) (by omega)).1.2.trans e302
                      have hx := eS.x
                      refine Z_aload_n dX1_site_140 rfl ?_
                      refine Z_aload dX1_site_141 rfl ?_
                      refine Z_iload dX1_site_143 rfl ?_
                      refine Z_call0 (d' := 104) (zCal_V gX1_362 nX1_endIn (by decide) dX1_site_145) pX1_endIn hx.1 zkl0 [_, _] rfl rfl (Nat.le_of_ble_eq_true rfl) (by omega) (c_X1_endIn (s := D 23) eS hroS hi9 (by omega) (fun q => (wld_at (by rw [sitZ_0, zu_n _ _ _ (by decide), sitD_0 h3])).trans (h37 q)) (fun s1 t1 I6 P6 a1 a2 a3 a4 a5 => ?_) (fun a1 I6 P6 a4 a5 => ?_))
                      · refine Z_istore (lv' := [_, _, _, _, _, _, _, _, _, _, _]) dX1_site_148 rfl rfl (Nat.le_of_ble_eq_true rfl) ?_
                        refine Z_iload dX1_site_150 rfl ?_
                        refine Z_ifltN 178 dX1_site_152 rfl (by omega) ?_
                        obtain ⟨m0, hm⟩ : ∃ m0, minF (sitO D ro no n l c v k29) z = m0 := ⟨_, rfl⟩
                        rw [hm]
                        rcases m0 with _ | b
                        · dsimp only [xlB, xlS]
                          refine Z_iload dX1_site_155 rfl ?_
                          refine Z_iflt 170 dX1_site_157 rfl (fun c157 => ?_) (fun c157 => ?_)
                          · refine Z_iload dX1_site_170 rfl ?_
                            refine Z_istore (lv' := [_, _, _, _, _, _, _, _, _, _, _]) dX1_site_172 rfl rfl (Nat.le_of_ble_eq_true rfl) ?_
                            refine Z_iload dX1_site_174 rfl ?_
                            refine Z_istore (lv' := [_, _, _, _, _, _, _, _, _, _, _]) dX1_site_176 rfl rfl (Nat.le_of_ble_eq_true rfl) ?_
                            refine Z_iincN (a := _) (k := 1) (lv' := [_, _, _, _, _, _, _, _, _, _, _]) dX1_site_178 rfl rfl rfl rfl ?_
                            refine Z_goto 66 dX1_site_181 rfl ?_
                            have ev : (sitO D ro no n l c v k29) z = some t1 := by show endO (pEnd _ _ _ _ (begS _ (D 23) _ _)) = _; rw [a1]; show some (s1 0).toNatClampNeg = _; rw [a2, nI_clamp (by omega)]
                            have e9 : minF (sitO D ro no n l c v k29) (z + 1) = some (z, t1) := by simp [minF, ev, hm]
                            have ih2 := ih (by omega) _ _ _ _ (F4.fH a4 a5) ((a4 100 (by decide) (by decide)).trans e1004) e3024
                            rw [e9] at ih2
                            exact Z_fgt ih2 (by repeat first | exact zwk_n | refine zwk_f ?_ | refine zwk_c rfl ?_)
                          · exact absurd (by decide) c157
                        · dsimp only [xlB, xlS]
                          have hb1 := minF_mem _ _ hm
                          have hb2 := sitO_b hw hi9 h5 (by omega) hb1.2
                          refine Z_iload dX1_site_155 rfl ?_
                          refine Z_ifltN 170 dX1_site_157 rfl (by omega) ?_
                          refine Z_iload dX1_site_160 rfl ?_
                          refine Z_iload dX1_site_162 rfl ?_
                          refine Z_icmpltN 170 dX1_site_164 rfl (by omega) (by omega) (fun c164 => ?_) (fun c164 => ?_)
                          · refine Z_iload dX1_site_170 rfl ?_
                            refine Z_istore (lv' := [_, _, _, _, _, _, _, _, _, _, _]) dX1_site_172 rfl rfl (Nat.le_of_ble_eq_true rfl) ?_
                            refine Z_iload dX1_site_174 rfl ?_
                            refine Z_istore (lv' := [_, _, _, _, _, _, _, _, _, _, _]) dX1_site_176 rfl rfl (Nat.le_of_ble_eq_true rfl) ?_
                            refine Z_iincN (a := _) (k := 1) (lv' := [_, _, _, _, _, _, _, _, _, _, _]) dX1_site_178 rfl rfl rfl rfl ?_
                            refine Z_goto 66 dX1_site_181 rfl ?_
                            have ev : (sitO D ro no n l c v k29) z = some t1 := by show endO (pEnd _ _ _ _ (begS _ (D 23) _ _)) = _; rw [a1]; show some (s1 0).toNatClampNeg = _; rw [a2, nI_clamp (by omega)]
                            have e9 : minF (sitO D ro no n l c v k29) (z + 1) = some (z, t1) := by simp [minF, ev, hm, Nat.not_le.mpr c164]
                            have ih2 := ih (by omega) _ _ _ _ (F4.fH a4 a5) ((a4 100 (by decide) (by decide)).trans e1004) e3024
                            rw [e9] at ih2
                            exact Z_fgt ih2 (by repeat first | exact zwk_n | refine zwk_f ?_ | refine zwk_c rfl ?_)
                          · refine Z_goto 178 dX1_site_167 rfl ?_
                            refine Z_iincN (a := _) (k := 1) (lv' := [_, _, _, _, _, _, _, _, _, _, _]) dX1_site_178 rfl rfl rfl rfl ?_
                            refine Z_goto 66 dX1_site_181 rfl ?_
                            have ev : (sitO D ro no n l c v k29) z = some t1 := by show endO (pEnd _ _ _ _ (begS _ (D 23) _ _)) = _; rw [a1]; show some (s1 0).toNatClampNeg = _; rw [a2, nI_clamp (by omega)]
                            have e9 : minF (sitO D ro no n l c v k29) (z + 1) = some b := by simp [minF, ev, hm, c164]
                            have ih2 := ih (by omega) _ _ _ _ (F4.fH a4 a5) ((a4 100 (by decide) (by decide)).trans e1004) e3024
                            rw [e9] at ih2
                            exact Z_fgt ih2 (by repeat first | exact zwk_n | refine zwk_f ?_ | refine zwk_c rfl ?_)
                      · refine Z_istore (lv' := [_, _, _, _, _, _, _, _, _, _, _]) dX1_site_148 rfl rfl (Nat.le_of_ble_eq_true rfl) ?_
                        refine Z_iload dX1_site_150 rfl ?_
                        refine Z_iflt 178 dX1_site_152 rfl (fun c152 => ?_) (fun c152 => ?_)
                        · refine Z_iincN (a := _) (k := 1) (lv' := [_, _, _, _, _, _, _, _, _, _, _]) dX1_site_178 rfl rfl rfl rfl ?_
                          refine Z_goto 66 dX1_site_181 rfl ?_
                          have ev : (sitO D ro no n l c v k29) z = none := by show endO (pEnd _ _ _ _ (begS _ (D 23) _ _)) = _; rw [a1]; rfl
                          have e9 : minF (sitO D ro no n l c v k29) (z + 1) = minF (sitO D ro no n l c v k29) z := by simp [minF, ev]
                          have ih2 := ih (by omega) _ _ _ _ (F4.fH a4 a5) ((a4 100 (by decide) (by decide)).trans e1004) e3024
                          rw [e9] at ih2
                          exact Z_fgt ih2 (by repeat first | exact zwk_n | refine zwk_f ?_ | refine zwk_c rfl ?_)
                        · exact absurd (show (-2 : Int32) < 0 by decide) c152
                    · refine Z_aload dX1_site_124 rfl ?_
                      refine Z_iload dX1_site_126 rfl ?_
                      refine Z_iload dX1_site_128 rfl ?_
                      refine Z_iload_n dX1_site_130 rfl ?_
                      refine Z_call0 (d' := 0) (zCal_V gX1_145 nX2_know (by decide) dX1_site_131) pX2_know q1e.1 zkl1 [_, _, _] rfl rfl (Nat.le_of_ble_eq_true rfl) (by omega) (c_X2_know q1e (by omega) (by omega) ?_)
                      refine Z_iincN (a := _) (k := 1) (lv' := [_, _, _, _, _, _, _, _, _, _, _]) dX1_site_134 rfl rfl rfl rfl ?_
                      refine Z_goto 117 dX1_site_137 rfl ?_
                      refine iha (by omega) _ ?_ ((g9.st (by omega)).st (by omega))
                      rw [kn1]
                      unfold stKn
                      rw [wld_zi rfl, wld_zi rfl]
                      exact gW.knw (by omega) (by omega) (by omega) (fun o ho => by
                        by_cases eo : o = no
                        · subst eo; rw [zu_s]; omega
                        · rw [zu_n _ _ _ eo]; exact e.ho o (by omega)) (by decide)
                  exact lp117 0 (by omega) I4 q2c fW.rf
              exact Zj.less (lp66 0 (by omega) I L P S (fX.rf hN) rfl rfl) (Nat.le_refl _) (by omega) (by omega)
            · refine Z_iconst (-1) dX1_site_54 rfl ?_
              refine Z_ireturn dX1_site_55 rfl rfl ?_
              exact xO_k (D2 := D) (R2 := R) (by simp [fSite, ppl_e, show D 0 16 = nI n from hw.n16, nI_0, r4, r14, r21, r29, v29, c44b, c51]) k hX frX.rf
        · have r29 : rB h 0 2399 = false := rB_f h29
          refine Z_ifeq 54 dX1_site_32 rfl (fun _ => ?_) (fun h => absurd h (by decide))
          refine Z_iconst (-1) dX1_site_54 rfl ?_
          refine Z_ireturn dX1_site_55 rfl rfl ?_
          exact xO_k (D2 := D) (R2 := R) (by simp [fSite, ppl_e, show D 0 16 = nI n from hw.n16, nI_0, r4, r14, r21, r29]) k hX frX.rf
      · have r21 : rB (v) 0 9 = false := rB_f h21
        refine Z_ifeq 54 dX1_site_24 rfl (fun _ => ?_) (fun h => absurd h (by decide))
        refine Z_iconst (-1) dX1_site_54 rfl ?_
        refine Z_ireturn dX1_site_55 rfl rfl ?_
        exact xO_k (D2 := D) (R2 := R) (by simp [fSite, ppl_e, show D 0 16 = nI n from hw.n16, nI_0, r4, r14, r21]) k hX frX.rf
    · refine Z_ifeq 54 dX1_site_14 rfl (fun _ => ?_) (fun h => absurd h (by decide))
      refine Z_iconst (-1) dX1_site_54 rfl ?_
      refine Z_ireturn dX1_site_55 rfl rfl ?_
      exact xO_k (D2 := D) (R2 := R) (by simp [fSite, ppl_e, show D 0 16 = nI n from hw.n16, nI_0, r4, r14]) k hX frX.rf
  · have r4 : rB (l) 1 16 = false := rB_f h4
    refine Z_ifeq 54 dX1_site_7 rfl (fun _ => ?_) (fun h => absurd h (by decide))
    refine Z_iconst (-1) dX1_site_54 rfl ?_
    refine Z_ireturn dX1_site_55 rfl rfl ?_
    exact xO_k (D2 := D) (R2 := R) (by simp [fSite, ppl_e, show D 0 16 = nI n from hw.n16, nI_0, r4]) k hX frX.rf
end X28C
