set_option maxRecDepth 100000
/-! THE COMPONENT, part 15: ends, judge -/
section X15C
variable {G : zG} {d C Sl : Nat} {I D W : zI} {R : List Int64} {L : zL} {P : zR} {S : zT} {Q : zQ} {no n np : Nat} {s : zS} {oh ph : Nat → Nat} {ro : Option (List Nat)}
theorem hE.s270 {w : Nat} (e : hE W no n oh ph w 240 I P S) : hE W no n oh ph w 270 I P S := ⟨e.1, e.2.1, ⟨e.x.2.2.2.2.2.2.2, e.pc⟩, e.2.2.2.1, ⟨by decide, by decide, e.b.2.2.1, e.b.2.2.2⟩, e.2.2.2.2.2⟩
theorem fX_as {I2 I3 : zI} {P3 : zR} (hN : ∃ N, 7000 ≤ N ∧ ∀ a, N ≤ a → S a = none) (fI : frS 270 I I2) (f2 : fH 270 I2 I3) (f4 : f3 P P3) : fX I L P S I3 L P3 S := (fX.rf hN).fH ((fH.of fI).tr f2) f4
section IDL
def idF (W : zI) (n : Nat) (s : zS) (hh q : Nat) : Bool := zbit (rdyB W s n) (nI q) && decide ((wT W n s hh q).1 (27 + q) = nI 1)
def idG (W : zI) (n : Nat) (s : zS) (hh q : Nat) : Bool := zbit (rdyB W s n) (nI q) && (!decide ((wT W n s hh q).1 (27 + q) = nI 1) && canW W (wT W n s hh q).2.2.2 hh q ((wT W n s hh q).1 (3 + q)).toNatClampNeg)
theorem wT_or {hh : Nat} : ∀ i, (wT W n s hh i).2.1 = orB (idF W n s hh) i ∧ (wT W n s hh i).2.2.1 = orB (idG W n s hh) i := by
  intro i
  induction i with
  | zero => exact ⟨rfl, rfl⟩
  | succ i ih =>
    rw [wT_s, orB, orB, ← ih.1, ← ih.2]
    unfold wrkS idF idG
    by_cases h1 : zbit (rdyB W s n) (nI i) = true
    · rw [if_pos h1, h1]
      by_cases h2 : (wT W n s hh i).1 (27 + i) = nI 1
      · rw [if_pos h2]; simp [h2, or0]
      · rw [if_neg h2]
        by_cases h3 : canW W (wT W n s hh i).2.2.2 hh i ((wT W n s hh i).1 (3 + i)).toNatClampNeg = true
        · rw [if_pos h3]; simp [h2, h3, or0]
        · rw [if_neg h3]; simp [h2, h3, or0]
    · rw [if_neg h1]; simp [h1, or0]
theorem idl_bits {hh p : Nat} (hn : n ≤ 8) (hp : p < n) (h0 : s 0 = nI hh) (hh9 : hh ≤ 2399) : zbit (orB (idC W n s hh) n) (nI p) = jdI (rdyB W s n) (wrks W n s).2.1 (wrks W n s).2.2.1 p := by
  have ew : wrks W n s = wT W n s hh n := by unfold wrks wT; rw [h0, nI_clamp (by omega)]
  rw [ew, (wT_or n).1, (wT_or n).2]
  unfold jdI
  rw [zbit_or hn (by omega), zbit_or hn (by omega), zbit_or hn (by omega)]
  simp only [hp, decide_true, Bool.true_and]
  unfold idC idF idG
  cases zbit (rdyB W s n) (nI p) <;> cases decide ((wT W n s hh p).1 (27 + p) = nI 1) <;> rfl
end IDL
set_option maxHeartbeats 4000000 in
theorem o_xends (hX : xR D R no n np ro oh ph I L P S) (hsf : sf (wld D) no n (D 23)) {B : Nat} (hkB : hk (D 23) n B) (hB : B < 2 ^ 28) (h37 : ro ≠ none → wld D 0 37 = 0) (k : ∀ I2 L2 P2 S2, xR (fEnds D R ro no n).2.1 (fEnds D R ro no n).2.2 no n np ro oh ph I2 L2 P2 S2 → frX I L P S I2 L2 P2 S2 → Q (.inl (some (.int (fEnds D R ro no n).1))) I2 L2 P2 S2) : Zm G mX1_ends 105 C Sl [.ref 100] I L P S Q := by
  obtain ⟨e, ⟨g, hro⟩, ⟨⟨h29, h50⟩, hrw⟩, ⟨htx, hpr, hkp⟩, htl, hoh, hph⟩ := hX
  have hX : xR D R no n np ro oh ph I L P S := ⟨e, ⟨g, hro⟩, ⟨⟨h29, h50⟩, hrw⟩, ⟨htx, hpr, hkp⟩, htl, hoh, hph⟩
  have hx := e.x
  have hO := e.wd
  have hR := e.wr
  have hT := e.st
  have hPc := e.pc
  have hw := e.hw
  have hf := e.hx
  have hb := e.b
  have hn := e.nn
  have n8 := hw.n8
  have h6 := hw.o6
  have hn8 := hw.n8
  have hno : noD D = no := by rw [noD, show D 0 3 = nI no from hw.o3, nI_clamp (by omega)]
  have hnn : nD D = n := by rw [nD, show D 0 16 = nI n from hw.n16, nI_clamp (by omega)]
  obtain ⟨b6, hb6, eb6⟩ := hsf.bk
  have h60 : (D 23 2).toNatClampNeg ≤ 60 := by rw [eb6, nI_clamp (by omega)]; exact hb6
  obtain ⟨-, -, -, -, ⟨-, -, hN⟩, -⟩ := id hX
  refine Z_entry (lv := [_]) (Nat.le_of_ble_eq_true rfl) rfl ?_
  refine Z_aload_n dX1_ends_0 rfl ?_
  refine Z_getI hx.1 fX1_105_0 dX1_ends_1 rfl ?_
  refine Z_re (y := nI n) hn ?_
  refine Z_ifneN 11 dX1_ends_4 rfl (by omega) (fun c4 => ?_) (fun c4 => ?_)
  · refine Z_aload_n dX1_ends_11 rfl ?_
    refine Z_aload_n dX1_ends_12 rfl ?_
    refine Z_getR (r := 270) hx.1 fX1_66_0 dX1_ends_13 rfl hx.2.2.2.1.2.2.2.1 ?_
    refine Z_aload_n dX1_ends_16 rfl ?_
    refine Z_getR (r := 240) hx.1 fX1_62_0 dX1_ends_17 rfl hx.2.2.2.1.2.2.1 ?_
    refine Z_call0 (d' := 1) (zCal_V gX1_272 nX3_as (by decide) dX1_ends_20) pX3_as hx.2.2.2.2.2.2.2.1 zkl2 [_] rfl rfl (Nat.le_of_ble_eq_true rfl) (by omega) (c_X3_as hx.2.2.2.2.2.2.2 hT g (fun p hp => (hsf.wt hp).imp id And.left) h60 hn8 (by omega) (fun I2 gA fI => ?_))
    have eA := e.s270.fr (fH.of fI) (f3.rf (f := P))
    have hroA := hro.fH (fH.of fI) (f3.rf (f := P)) (by omega) (by omega)
    refine Z_aload_n dX1_ends_23 rfl ?_
    refine Z_getR (r := 240) hx.1 fX1_62_0 dX1_ends_24 rfl hx.2.2.2.1.2.2.1 ?_
    refine Z_aload_n dX1_ends_27 rfl ?_
    refine Z_getR (r := 200) hx.1 fX1_52_0 dX1_ends_28 rfl hx.2.2.2.1.1 ?_
    refine Z_call0 (d' := 104) (zCal_V gX1_276 nX1_endOf (by decide) dX1_ends_31) pX1_endOf hx.1 zkl0 [_, _, _] rfl rfl (Nat.le_of_ble_eq_true rfl) (by omega) (c_X1_endOfA eA gA hroA hsf hkB hB h37 ⟨by rw [fI 240 (by omega)]; exact g.1.2.2.1, by rw [fI 240 (by omega)]; exact g.1.2.2.2, by rw [fI 240 (by omega)]; exact g.1.2.1⟩ (fun s2 t I1 I3 L3 P3 a1 a2 a3 a5 ra f1 fr9 f2 => ?_) (fun a1 I3 P3 f1 f2 => ?_))
    · refine Z_ireturn dX1_ends_34 rfl rfl ?_
      have n0 : ¬ D 0 16 = 0 := fun e => c4 ((nI_z (by omega)).mp ((show D 0 16 = nI n from hw.n16).symm.trans e))
      exact xO_k (D2 := D) (R2 := endR n (D 23) s2) (by rw [fEnds, if_neg n0, a1]; simp [a2]) k (hX.go ((fX_as (L := L) hN fI f1 f2).fR fr9) ra) ((fX_as (L := L) hN fI f1 f2).fR fr9).frX
    · refine Z_ireturn dX1_ends_34 rfl rfl ?_
      have n0 : ¬ D 0 16 = 0 := fun e => c4 ((nI_z (by omega)).mp ((show D 0 16 = nI n from hw.n16).symm.trans e))
      exact xO_k (D2 := D) (R2 := R) (by rw [fEnds, if_neg n0, a1]) k (hX.go (fX_as hN fI f1 f2) ⟨⟨by rw [f1 100 (by decide) (by omega), fI 100 (by omega)]; exact hrw.1.1, hrw.1.2⟩, hrw.2⟩) (fX_as (L := L) hN fI f1 f2).frX
  · refine Z_iconst (-1) dX1_ends_7 rfl ?_
    refine Z_goto 34 dX1_ends_8 rfl ?_
    refine Z_ireturn dX1_ends_34 rfl rfl ?_
    exact xO_k (by rw [fEnds, if_pos (by rw [show D 0 16 = nI n from hw.n16, c4]; rfl)]) k hX frX.rf
set_option maxHeartbeats 16000000 in
theorem o_xjudge (hX : xR D R no n np ro oh ph I L P S) (hsf : sf (wld D) no n (D 23)) {B : Nat} (hkB : hk (D 23) n B) (hB : B < 2 ^ 28) (h37 : ro ≠ none → wld D 0 37 = 0) (k : ∀ I2 L2 P2 S2, xR (fJudge D R ro no n).2.1 (fJudge D R ro no n).2.2 no n np ro oh ph I2 L2 P2 S2 → frX I L P S I2 L2 P2 S2 → Q (.inl (some (.int (fJudge D R ro no n).1))) I2 L2 P2 S2) : Zm G mX1_judge 104 C Sl [.ref 100] I L P S Q := by
  obtain ⟨e, ⟨g, hro⟩, ⟨⟨h29, h50⟩, hrw⟩, ⟨htx, hpr, hkp⟩, htl, hoh, hph⟩ := hX
  have hX : xR D R no n np ro oh ph I L P S := ⟨e, ⟨g, hro⟩, ⟨⟨h29, h50⟩, hrw⟩, ⟨htx, hpr, hkp⟩, htl, hoh, hph⟩
  have hx := e.x
  have hO := e.wd
  have hR := e.wr
  have hT := e.st
  have hPc := e.pc
  have hw := e.hw
  have hf := e.hx
  have hb := e.b
  have hn := e.nn
  have n8 := hw.n8
  have h6 := hw.o6
  have hn8 := hw.n8
  have hno : noD D = no := by rw [noD, show D 0 3 = nI no from hw.o3, nI_clamp (by omega)]
  have hnn : nD D = n := by rw [nD, show D 0 16 = nI n from hw.n16, nI_clamp (by omega)]
  obtain ⟨b6, hb6, eb6⟩ := hsf.bk
  have h60 : (D 23 2).toNatClampNeg ≤ 60 := by rw [eb6, nI_clamp (by omega)]; exact hb6
  obtain ⟨-, -, -, -, ⟨-, -, hN⟩, -⟩ := id hX
  obtain ⟨t0, ht0, h0⟩ := hsf.now
  obtain ⟨b, hb9⟩ : ∃ b, t0 + b = 2399 := ⟨2399 - t0, by omega⟩
  have eb : 2399 - (D 23 0).toNatClampNeg = b := by rw [h0, nI_clamp (by omega)]; omega
  refine Z_entry (lv := [_, _, _, _, _]) (Nat.le_of_ble_eq_true rfl) rfl ?_
  refine Z_aload_n dX1_judge_0 rfl ?_
  refine Z_getI hx.1 fX1_105_0 dX1_judge_1 rfl ?_
  refine Z_re (y := nI n) hn ?_
  refine Z_ifneN 9 dX1_judge_4 rfl (by omega) (fun c4 => ?_) (fun c4 => ?_)
  · refine Z_aload_n dX1_judge_9 rfl ?_
    refine Z_getR (r := 270) hx.1 fX1_66_0 dX1_judge_10 rfl hx.2.2.2.1.2.2.2.1 ?_
    refine Z_aload_n dX1_judge_13 rfl ?_
    refine Z_getR (r := 240) hx.1 fX1_62_0 dX1_judge_14 rfl hx.2.2.2.1.2.2.1 ?_
    refine Z_call0 (d' := 1) (zCal_V gX1_272 nX3_as (by decide) dX1_judge_17) pX3_as hx.2.2.2.2.2.2.2.1 zkl2 [_] rfl rfl (Nat.le_of_ble_eq_true rfl) (by omega) (c_X3_as hx.2.2.2.2.2.2.2 hT g (fun p hp => (hsf.wt hp).imp id And.left) h60 hn8 (by omega) (fun I2 gA fI => ?_))
    have eA := e.s270.fr (fH.of fI) (f3.rf (f := P))
    have hroA := hro.fH (fH.of fI) (f3.rf (f := P)) (by omega) (by omega)
    refine Z_astore_n (lv' := [_, _, _, _, _]) dX1_judge_20 rfl rfl (Nat.le_of_ble_eq_true rfl) ?_
    have lp21 : ∀ i, i ≤ b → ∀ I3 P3 s2, s2 0 = nI (t0 + i) → sf (wld D) no n s2 → sRw n I3 270 s2 → hk s2 n (B + 8 * i) → fH 270 I2 I3 → f3 P P3 → jdgN (wld D) ro no n (b - i) s2 = jdgN (wld D) ro no n b (D 23) → Zj G mX1_judge 104 C Sl 21 [.ref 100, .ref 270, .retAddr 0, .retAddr 0, .retAddr 0] [] I3 L P3 S Q := by
      refine zloop (b) (fun i => ∀ I3 P3 s2, s2 0 = nI (t0 + i) → sf (wld D) no n s2 → sRw n I3 270 s2 → hk s2 n (B + 8 * i) → fH 270 I2 I3 → f3 P P3 → jdgN (wld D) ro no n (b - i) s2 = jdgN (wld D) ro no n b (D 23) → Zj G mX1_judge 104 C Sl 21 [.ref 100, .ref 270, .retAddr 0, .retAddr 0, .retAddr 0] [] I3 L P3 S Q) (fun i hi ih => ?_)
      intro I3 P3 s2 g1 hs2 g2 hk2 fI2 fP g4
      show Zj _ _ _ _ _ _ _ _ _ _ _ _ _
      have e2 := eA.fr fI2 fP
      have hx := e2.x
      have hO := e2.wd
      have hR := e2.wr
      have hT := e2.st
      have hPc := e2.pc
      have hw := e2.hw
      have hf := e2.hx
      have hb := e2.b
      have hn := e2.nn
      have n8 := hw.n8
      have h6 := hw.o6
      have hn8 := hw.n8
      have hdn := fun (p : Nat) (hp : p < n) => hs2.dn hp
      have hro2 := hroA.fH fI2 fP (by omega) (by omega)
      refine Z_aload_n dX1_judge_21 rfl ?_
      refine Z_call0 (d' := 1) (zCal_V gX1_280 nX3_isAllDone (by decide) dX1_judge_22) pX3_isAllDone hx.2.2.2.2.2.2.2.1 zkl2 [] rfl rfl (Nat.le_of_ble_eq_true rfl) (by omega) (c_X3_isAllDone hx hT g2 hn hn8 hdn (fun h22 => ?_) (fun h22 => ?_))
      · refine Z_ifne 189 dX1_judge_25 rfl (fun _ => ?_) (fun h => absurd h (by decide))
        refine Z_bipush (-2) dX1_judge_189 rfl ?_
        refine Z_ireturn dX1_judge_191 rfl rfl ?_
        have n0 : ¬ D 0 16 = 0 := fun e => c4 ((nI_z (by omega)).mp ((show D 0 16 = nI n from hw.n16).symm.trans e))
        have hz : jdgN (wld D) ro no n b (D 23) = none := by rw [← g4]; cases h : b - i <;> simp [jdgN, h22]
        exact xO_k (D2 := D) (R2 := R) (by rw [fJudge, if_neg n0, eb, hz]) k (hX.go (fX_as hN fI fI2 fP) ⟨⟨by rw [fI2 100 (by decide) (by omega), fI 100 (by omega)]; exact hrw.1.1, hrw.1.2⟩, hrw.2⟩) (fX_as (L := L) hN fI fI2 fP).frX
      · refine Z_ifne 189 dX1_judge_25 rfl (fun h => absurd h (by decide)) (fun _ => ?_)
        refine Z_aload_n dX1_judge_28 rfl ?_
        refine Z_getI hx.2.2.2.2.2.2.2.1 fX1_225_2 dX1_judge_29 rfl ?_
        refine Z_re (y := nI (t0 + i)) (g2.1.1.trans g1) ?_
        refine Z_sipush (nI 2399) dX1_judge_32 rfl ?_
        refine Z_icmpgeN 189 dX1_judge_35 rfl (by omega) (by omega) (fun c35 => ?_) (fun c35 => ?_)
        · refine Z_bipush (-2) dX1_judge_189 rfl ?_
          refine Z_ireturn dX1_judge_191 rfl rfl ?_
          have n0 : ¬ D 0 16 = 0 := fun e => c4 ((nI_z (by omega)).mp ((show D 0 16 = nI n from hw.n16).symm.trans e))
          have hz : jdgN (wld D) ro no n b (D 23) = none := by rw [← g4]; rw [show b - i = 0 by omega]; rfl
          exact xO_k (D2 := D) (R2 := R) (by rw [fJudge, if_neg n0, eb, hz]) k (hX.go (fX_as hN fI fI2 fP) ⟨⟨by rw [fI2 100 (by decide) (by omega), fI 100 (by omega)]; exact hrw.1.1, hrw.1.2⟩, hrw.2⟩) (fX_as (L := L) hN fI fI2 fP).frX
        · refine Z_aload_n dX1_judge_38 rfl ?_
          refine Z_getI hx.2.2.2.2.2.2.2.1 fX1_225_2 dX1_judge_39 rfl ?_
          refine Z_re (y := nI (t0 + i)) (g2.1.1.trans g1) ?_
          refine Z_istore_n (lv' := [_, _, _, _, _]) dX1_judge_42 rfl rfl (Nat.le_of_ble_eq_true rfl) ?_
          refine Z_aload_n dX1_judge_43 rfl ?_
          refine Z_aload_n dX1_judge_44 rfl ?_
          refine Z_getR (r := 200) hx.1 fX1_52_0 dX1_judge_45 rfl hx.2.2.2.1.1 ?_
          refine Z_call0 (d' := 102) (zCal_V gX1_228 nX3_hour (by decide) dX1_judge_48) pX3_hour hx.2.2.2.2.2.2.2.1 zkl2 [_] rfl rfl (Nat.le_of_ble_eq_true rfl) (by omega) (c_X3_hour (ro := ro) e2 g2 hro2 hs2 hk2 (by omega) h37 g1 (by omega) (fun I4 P4 z48 y48 x48 w48 i48 b48 => ?_))
          have e1 : (s2 0).toNatClampNeg = t0 + i := by rw [g1, nI_clamp (by omega)]
          have e3 := e2.fr x48 w48
          have hx := e3.x
          have hO := e3.wd
          have hR := e3.wr
          have hT := e3.st
          have hPc := e3.pc
          have hw := e3.hw
          have hf := e3.hx
          have hb := e3.b
          have hn := e3.nn
          have n8 := hw.n8
          have h6 := hw.o6
          have hn8 := hw.n8
          refine Z_iconst (nI 0) dX1_judge_51 rfl ?_
          refine Z_istore_n (lv' := [_, _, _, _, _]) dX1_judge_52 rfl rfl (Nat.le_of_ble_eq_true rfl) ?_
          have lp53 : ∀ j, j ≤ n → jdN (wld D) no (rdyB (wld D) s2 n) (wrks (wld D) n s2) (t0 + i) j = none → Zj G mX1_judge 104 C Sl 53 [.ref 100, .ref 270, .int (nI (t0 + i)), .int (nI j), .retAddr 0] [] I4 L P4 S Q := by
            refine zloop (n) (fun j => jdN (wld D) no (rdyB (wld D) s2 n) (wrks (wld D) n s2) (t0 + i) j = none → Zj G mX1_judge 104 C Sl 53 [.ref 100, .ref 270, .int (nI (t0 + i)), .int (nI j), .retAddr 0] [] I4 L P4 S Q) (fun j hj ihj => ?_)
            intro hjN
            show Zj _ _ _ _ _ _ _ _ _ _ _ _ _
            refine Z_iload_n dX1_judge_53 rfl ?_
            refine Z_aload_n dX1_judge_54 rfl ?_
            refine Z_getI hx.1 fX1_105_0 dX1_judge_55 rfl ?_
            refine Z_re (y := nI n) hn ?_
            refine Z_icmpgeN 186 dX1_judge_58 rfl (by omega) (by omega) (fun c58 => ?_) (fun c58 => ?_)
            · refine Z_goto 21 dX1_judge_186 rfl ?_
              have ej : j = n := by omega
              rw [ej] at hjN
              exact Z_fgt (ih (by omega) I4 P4 _ (hrS_0 g1) (sf_hrS hs2 hw g1 (by omega)) z48 (hk_le y48 (by omega)) (fI2.tr x48) (fP.tr w48) (by rw [← g4, show b - i = (b - (i + 1)) + 1 by omega]; simp [jdgN, h22, e1, hjN])) (by repeat first | exact zwk_n | refine zwk_f ?_ | refine zwk_c rfl ?_)
            · refine Z_aload_n dX1_judge_61 rfl ?_
              refine Z_getI hx.2.2.2.2.2.2.2.1 fX1_284_2 dX1_judge_62 rfl ?_
              refine Z_re i48 ?_
              refine Z_iload_n dX1_judge_65 rfl ?_
              refine Z_callS0 (d' := 0) (zCal_S gX1_287 nX1_has (by decide) dX1_judge_66) pX1_has [_, _] rfl rfl (Nat.le_of_ble_eq_true rfl) (by omega) (c_X1_has (fun h66 => ?_) (fun h66 => ?_))
              · have hj := h66
                rw [idl_bits hn8 (by omega) g1 (by omega)] at hj
                refine Z_ifne 75 dX1_judge_69 rfl (fun _ => ?_) (fun h => absurd h (by decide))
                refine Z_iconst (nI 0) dX1_judge_75 rfl ?_
                refine Z_istore (lv' := [_, _, _, _, _]) dX1_judge_76 rfl rfl (Nat.le_of_ble_eq_true rfl) ?_
                have lp78 : ∀ q, q ≤ no → fstB (fun o => canW (wld D) (wrks (wld D) n s2).2.2.2 (t0 + i) j o) q = none → Zj G mX1_judge 104 C Sl 78 [.ref 100, .ref 270, .int (nI (t0 + i)), .int (nI j), .int (nI q)] [] I4 L P4 S Q := by
                  refine zloop (no) (fun q => fstB (fun o => canW (wld D) (wrks (wld D) n s2).2.2.2 (t0 + i) j o) q = none → Zj G mX1_judge 104 C Sl 78 [.ref 100, .ref 270, .int (nI (t0 + i)), .int (nI j), .int (nI q)] [] I4 L P4 S Q) (fun q hq ihq => ?_)
                  intro hF
                  show Zj _ _ _ _ _ _ _ _ _ _ _ _ _
                  refine Z_iload dX1_judge_78 rfl ?_
                  refine Z_aload_n dX1_judge_80 rfl ?_
                  refine Z_getR (r := 200) hx.1 fX1_52_0 dX1_judge_81 rfl hx.2.2.2.1.1 ?_
                  refine Z_getI hO.1 fX1_19_1 dX1_judge_84 rfl ?_
                  refine Z_re (y := nI no) hR.1.1 ?_
                  refine Z_icmpgeN 180 dX1_judge_87 rfl (by omega) (by omega) (fun c87 => ?_) (fun c87 => ?_)
                  · refine Z_iincN (a := _) (k := 1) (lv' := [_, _, _, _, _]) dX1_judge_180 rfl rfl rfl rfl ?_
                    refine Z_goto 53 dX1_judge_183 rfl ?_
                    have eq : q = no := by omega
                    rw [eq] at hF
                    exact Z_fgt (ihj (by omega) (by simp [jdN, hjN, hj, hF])) (by repeat first | exact zwk_n | refine zwk_f ?_ | refine zwk_c rfl ?_)
                  · refine Z_aload_n dX1_judge_90 rfl ?_
                    refine Z_getR (r := 200) hx.1 fX1_52_0 dX1_judge_91 rfl hx.2.2.2.1.1 ?_
                    refine Z_iload dX1_judge_94 rfl ?_
                    refine Z_aload_n dX1_judge_96 rfl ?_
                    refine Z_getR (r := 110) hx.1 fX1_47_0 dX1_judge_97 rfl (hx.2.2.1 0 _ rfl).2 ?_
                    refine Z_iload_n dX1_judge_100 rfl ?_
                    refine Z_aald (r := (ph j)) (hx.2.2.1 0 _ rfl).1 (by simp [zTys]) rfl (zix_nI (by first | omega | (dsimp only; omega)) (by decide)) (hPc j (by omega)).1 dX1_judge_101 ?_
                    refine Z_getI (hPc j (by omega)).2.1 fX1_290_6 dX1_judge_102 rfl ?_
                    refine Z_re (hPc j (by omega)).2.2.1.1 ?_
                    refine Z_call0 (d' := 1) (zCal_V gX1_188 nX2_hasCraft (by decide) dX1_judge_105) pX2_hasCraft hO.1 zkl1 [_, _] rfl rfl (Nat.le_of_ble_eq_true rfl) (by omega) (c_X2_hasCraft hO hR h6 (by omega) (fun h105 => ?_) (fun h105 => ?_))
                    · refine Z_ifeq 174 dX1_judge_108 rfl (fun h => absurd h (by decide)) (fun _ => ?_)
                      refine Z_aload_n dX1_judge_111 rfl ?_
                      refine Z_getR (r := 200) hx.1 fX1_52_0 dX1_judge_112 rfl hx.2.2.2.1.1 ?_
                      refine Z_getR (r := (200 + 1)) hO.1 fX1_127_1 dX1_judge_115 rfl hO.2.1.2 ?_
                      refine Z_iload dX1_judge_118 rfl ?_
                      refine Z_aald (r := (oh q)) hO.2.1.1 (by simp [zTys]) rfl (zix_nI (by first | omega | (dsimp only; omega)) (by decide)) (hR.2.2 q (by omega)).1 dX1_judge_120 ?_
                      refine Z_iload_n dX1_judge_121 rfl ?_
                      refine Z_call0 (d' := 1) (zCal_V gX1_178 nX6_isOpen (by decide) dX1_judge_122) pX6_isOpen (hR.2.2 q (by omega)).2.1.1 zkl5 [_] rfl rfl (Nat.le_of_ble_eq_true rfl) (by omega) (c_X6_isOpen (hR.2.2 q (by omega)).2.1 (hR.2.2 q (by omega)).2.2 (fun h122 => ?_) (fun h122 => ?_))
                      · refine Z_ifeq 174 dX1_judge_125 rfl (fun h => absurd h (by decide)) (fun _ => ?_)
                        refine Z_aload_n dX1_judge_128 rfl ?_
                        refine Z_getR (r := (270 + 14)) hx.2.2.2.2.2.2.2.1 fX1_293_2 dX1_judge_129 rfl (hT.2.1 14 _ rfl).2 ?_
                        refine Z_iload dX1_judge_132 rfl ?_
                        refine Z_iald (hT.2.1 14 _ rfl).1 (zix_nI (by first | omega | (dsimp only; omega)) (by decide)) dX1_judge_134 ?_
                        refine Z_re (b48 q (by omega)) ?_
                        refine Z_aload_n dX1_judge_135 rfl ?_
                        refine Z_getR (r := 200) hx.1 fX1_52_0 dX1_judge_136 rfl hx.2.2.2.1.1 ?_
                        refine Z_getR (r := (200 + 1)) hO.1 fX1_127_1 dX1_judge_139 rfl hO.2.1.2 ?_
                        refine Z_iload dX1_judge_142 rfl ?_
                        refine Z_aald (r := (oh q)) hO.2.1.1 (by simp [zTys]) rfl (zix_nI (by first | omega | (dsimp only; omega)) (by decide)) (hR.2.2 q (by omega)).1 dX1_judge_144 ?_
                        refine Z_getI (hR.2.2 q (by omega)).2.1.1 fX1_296_5 dX1_judge_145 rfl ?_
                        refine Z_re (hR.2.2 q (by omega)).2.2.2.1.1 ?_
                        refine Z_icmplt 154 dX1_judge_148 rfl (fun c148 => ?_) (fun c148 => ?_)
                        · refine Z_aload_n dX1_judge_154 rfl ?_
                          refine Z_iconst (nI 0) dX1_judge_155 rfl ?_
                          refine Z_putI hx.1 fX1_94_0 dX1_judge_156 rfl rfl rfl ?_
                          refine Z_aload_n dX1_judge_159 rfl ?_
                          refine Z_iload_n dX1_judge_160 rfl ?_
                          refine Z_i2l dX1_judge_161 ?_
                          refine Z_call0 (d' := 0) (zCal_V gX1_101 nX1_tell (by decide) dX1_judge_162) pX1_tell hx.1 zkl0 [_] rfl rfl (Nat.le_of_ble_eq_true rfl) (by omega) (c_X1_tell hx (rwX.z (I := I4) (L := L)) (by decide) (fun J1 M1 u1 v1 => ?_))
                          refine Z_aload_n dX1_judge_165 rfl ?_
                          refine Z_iload dX1_judge_166 rfl ?_
                          refine Z_i2l dX1_judge_168 ?_
                          refine Z_call0 (d' := 0) (zCal_V gX1_101 nX1_tell (by decide) dX1_judge_169) pX1_tell hx.1 zkl0 [_] rfl rfl (Nat.le_of_ble_eq_true rfl) (by omega) (c_X1_tell hx u1 (by simp) (fun J2 M2 u2 v2 => ?_))
                          refine Z_iload_n dX1_judge_172 rfl ?_
                          refine Z_ireturn dX1_judge_173 rfl rfl ?_
                          have n0 : ¬ D 0 16 = 0 := fun e => c4 ((nI_z (by omega)).mp ((show D 0 16 = nI n from hw.n16).symm.trans e))
                          have f1q : fstB (fun o => canW (wld D) (wrks (wld D) n s2).2.2.2 (t0 + i) j o) no = some q := fstB_up (a := q + 1) (by rw [fstB, hF]; exact if_pos (by rw [canW, h105, h122, decide_eq_true c148]; decide)) no (by omega)
                          have f2q : jdN (wld D) no (rdyB (wld D) s2 n) (wrks (wld D) n s2) (t0 + i) n = some (j, q) := jdN_up (a := j + 1) (by simp [jdN, hjN, hj, f1q]) n (by omega)
                          have hz : jdgN (wld D) ro no n b (D 23) = some (t0 + i, j, q) := by rw [← g4, show b - i = (b - (i + 1)) + 1 by omega]; simp [jdgN, h22, e1, f2q]
                          exact xO_k (D2 := D) (R2 := [(nI j).toInt64, (nI q).toInt64]) (by rw [fJudge, if_neg n0, eb, hz]) k (hX.go ((fX_as (L := L) hN fI (fI2.tr x48) (fP.tr w48)).fR ((fR.rf.z.tr v1).tr v2)) u2) ((fX_as (L := L) hN fI (fI2.tr x48) (fP.tr w48)).fR ((fR.rf.z.tr v1).tr v2)).frX
                        · refine Z_goto 174 dX1_judge_151 rfl ?_
                          refine Z_iincN (a := _) (k := 1) (lv' := [_, _, _, _, _]) dX1_judge_174 rfl rfl rfl rfl ?_
                          refine Z_goto 78 dX1_judge_177 rfl ?_
                          exact ihq (by omega) (by rw [fstB, hF]; exact if_neg (by rw [canW, h105, h122, decide_eq_false c148]; decide))
                      · refine Z_ifeq 174 dX1_judge_125 rfl (fun _ => ?_) (fun h => absurd h (by decide))
                        refine Z_iincN (a := _) (k := 1) (lv' := [_, _, _, _, _]) dX1_judge_174 rfl rfl rfl rfl ?_
                        refine Z_goto 78 dX1_judge_177 rfl ?_
                        exact ihq (by omega) (by rw [fstB, hF]; exact if_neg (by simp [canW, h105, h122]))
                    · refine Z_ifeq 174 dX1_judge_108 rfl (fun _ => ?_) (fun h => absurd h (by decide))
                      refine Z_iincN (a := _) (k := 1) (lv' := [_, _, _, _, _]) dX1_judge_174 rfl rfl rfl rfl ?_
                      refine Z_goto 78 dX1_judge_177 rfl ?_
                      exact ihq (by omega) (by rw [fstB, hF]; exact if_neg (by simp [canW, h105]))
                exact lp78 0 (by omega) rfl
              · have hj := h66
                rw [idl_bits hn8 (by omega) g1 (by omega)] at hj
                refine Z_ifne 75 dX1_judge_69 rfl (fun h => absurd h (by decide)) (fun _ => ?_)
                refine Z_goto 180 dX1_judge_72 rfl ?_
                refine Z_iincN (a := _) (k := 1) (lv' := [_, _, _, _, _]) dX1_judge_180 rfl rfl rfl rfl ?_
                refine Z_goto 53 dX1_judge_183 rfl ?_
                exact Z_fgt (ihj (by omega) (by simp [jdN, hjN, hj])) (by repeat first | exact zwk_n | refine zwk_f ?_ | refine zwk_c rfl ?_)
          exact lp53 0 (by omega) rfl
    exact lp21 0 (by omega) I2 P (D 23) h0 hsf gA (hk_le hkB (by omega)) fH.rf f3.rf rfl
  · refine Z_iconst (-1) dX1_judge_7 rfl ?_
    refine Z_ireturn dX1_judge_8 rfl rfl ?_
    exact xO_k (by rw [fJudge, if_pos (by rw [show D 0 16 = nI n from hw.n16, c4]; rfl)]) k hX frX.rf
end X15C
