set_option maxRecDepth 100000
/-! THE COMPONENT, part 57: a kept row again -/
section X57C
variable {G : zG} {d C Sl : Nat} {I D W : zI} {R : List Int64} {L : zL} {P : zR} {S : zT} {Q : zQ} {no n np : Nat} {s : zS} {oh ph : Nat → Nat} {ro : Option (List Nat)}
set_option maxHeartbeats 4000000 in
theorem o_xagain2 (hX : xR D R no n np ro oh ph I L P S) (hkf : ∀ i, i < 3 → D 56 i = nI n → sf (wld D) no n (kcut D i)) {x : Int32} (k : ∀ I2 L2 P2 S2, xR (fAgain D R x).2.1 (fAgain D R x).2.2 no n np ro oh ph I2 L2 P2 S2 → frX I L P S I2 L2 P2 S2 → Q (.inl (some (.int (fAgain D R x).1))) I2 L2 P2 S2) : Zm G mX1_again 3 C Sl [.ref 100, .int x] I L P S Q := by
  obtain ⟨e, ⟨g, hro⟩, ⟨⟨h29, h50⟩, hrw⟩, ⟨htx, hpr, hkp⟩, htl, hoh, hph⟩ := hX
  have hX : xR D R no n np ro oh ph I L P S := ⟨e, ⟨g, hro⟩, ⟨⟨h29, h50⟩, hrw⟩, ⟨htx, hpr, hkp⟩, htl, hoh, hph⟩
  have hx := e.x
  have hO := e.wd
  have hR := e.wr
  have hT := e.st
  have hPc := e.pc
  have hw := e.hw
  have hf := e.hx
  have hb := e.b
  have hn := e.nn
  have n8 := hw.n8
  have h6 := hw.o6
  have hn8 := hw.n8
  have hno : noD D = no := by rw [noD, show D 0 3 = nI no from hw.o3, nI_clamp (by omega)]
  have hnn : nD D = n := by rw [nD, show D 0 16 = nI n from hw.n16, nI_clamp (by omega)]
  have hM := hR.1
  refine Z_entry (lv := [_, _]) (Nat.le_of_ble_eq_true rfl) rfl ?_
  refine Z_iload_n dX1_again_0 rfl ?_
  refine Z_iconst (nI 0) dX1_again_1 rfl ?_
  refine Z_iconst (nI 2) dX1_again_2 rfl ?_
  refine Z_callS0 (d' := 0) (zCal_S gX1_3 nX1_in (by decide) dX1_again_3) pX1_in [_, _, _] rfl rfl (Nat.le_of_ble_eq_true rfl) (by omega) (c_X1_in (fun h3a h3b => ?_) (fun h3 => ?_))
  · have r3 : rB x 0 2 = true := rB_t h3a h3b
    obtain ⟨k3, hk3, e3⟩ := z_rng (n := 2) h3a h3b (by omega)
    subst e3
    have v3 : (nI k3).toNatClampNeg = k3 := nI_clamp (by omega)
    refine Z_ifeq 31 dX1_again_6 rfl (fun h => absurd h (by decide)) (fun _ => ?_)
    refine Z_aload_n dX1_again_9 rfl ?_
    refine Z_getR (r := 306) hx.1 fX1_87_0 dX1_again_10 rfl (hx.2.2.1 15 _ rfl).2 ?_
    refine Z_iload_n dX1_again_13 rfl ?_
    rcases hkp k3 (by omega) with ⟨hP9, h56⟩ | ⟨h9, m, ⟨hP9, h97, hU⟩, ⟨h56, hm8, h307⟩, gk⟩
    · refine Z_aaldN (hx.2.2.1 15 _ rfl).1 (by simp [zTys]) rfl (zix_nI (by first | omega | (dsimp only; omega)) (by decide)) hP9 dX1_again_14 ?_
      refine Z_ifnullN 31 dX1_again_15 rfl ?_
      refine Z_iconst (nI 0) dX1_again_31 rfl ?_
      refine Z_ireturn dX1_again_32 rfl rfl ?_
      exact xO_k (by simp [fAgain, h56, show D 0 16 = nI n from hw.n16, show ¬ (-1 : Int32) = nI n from fun q => nI_m1 (by omega) q.symm, v3]) k hX frX.rf
    · refine Z_aald (r := h9) (hx.2.2.1 15 _ rfl).1 (by simp [zTys]) rfl (zix_nI (by first | omega | (dsimp only; omega)) (by decide)) hP9 dX1_again_14 ?_
      refine Z_ifnullR dX1_again_15 ?_
      refine Z_aload_n dX1_again_18 rfl ?_
      refine Z_getR (r := 307) hx.1 fX1_91_0 dX1_again_19 rfl (hx.2.2.1 16 _ rfl).2 ?_
      refine Z_iload_n dX1_again_22 rfl ?_
      refine Z_iald (hx.2.2.1 16 _ rfl).1 (zix_nI (by first | omega | (dsimp only; omega)) (by decide)) dX1_again_23 ?_
      refine Z_re (y := nI (m)) h307 ?_
      refine Z_aload_n dX1_again_24 rfl ?_
      refine Z_getI hx.1 fX1_105_0 dX1_again_25 rfl ?_
      refine Z_re (y := nI (n)) hn ?_
      refine Z_icmpeqN 33 dX1_again_28 rfl (by omega) (by omega) (fun c28 => ?_) (fun c28 => ?_)
      · have c28 := c28
        subst c28
        have sk := hkf k3 (by omega) h56
        have kc : ∀ j, j < 127 → kcut D k3 j = D 57 (127 * k3 + j) := fun j hj => if_pos hj
        have h60 : ((fun k => D 57 (127 * k3 + k)) 2).toNatClampNeg ≤ 60 := by obtain ⟨b9, hb9, eb9⟩ := sk.bk; rw [kc 2 (by omega)] at eb9; show (D 57 (127 * k3 + 2)).toNatClampNeg ≤ 60; rw [eb9, nI_clamp (by omega)]; exact hb9
        refine Z_aload_n dX1_again_33 rfl ?_
        refine Z_getR (r := 240) hx.1 fX1_62_0 dX1_again_34 rfl hx.2.2.2.1.2.2.1 ?_
        refine Z_aload_n dX1_again_37 rfl ?_
        refine Z_getR (r := 306) hx.1 fX1_87_0 dX1_again_38 rfl (hx.2.2.1 15 _ rfl).2 ?_
        refine Z_iload_n dX1_again_41 rfl ?_
        refine Z_aald (r := h9) (hx.2.2.1 15 _ rfl).1 (by simp [zTys]) rfl (zix_nI (by first | omega | (dsimp only; omega)) (by decide)) hP9 dX1_again_42 ?_
        refine Z_call0 (d' := 1) (zCal_V gX1_272 nX3_as (by decide) dX1_again_43) pX3_as hT.1 zkl2 [_] rfl rfl (Nat.le_of_ble_eq_true rfl) (by omega) (c_X3_as hT hU gk (fun p hp => by have q := sk.wt hp; rw [kc (27 + p) (by omega)] at q; exact q.imp id And.left) h60 hn8 (by omega) (fun I2 gA fI => ?_))
        refine Z_pop dX1_again_46 rfl ?_
        refine Z_iconst (nI 1) dX1_again_47 rfl ?_
        refine Z_ireturn dX1_again_48 rfl rfl ?_
        have e56 : decide (D 56 k3 = D 0 16) = true := decide_eq_true (by rw [h56, show D 0 16 = nI m from hw.n16])
        exact xO_k (D2 := cpyN D 23 0 (fun k => D 57 (127 * k3 + k)) 127) (R2 := R) (by simp only [fAgain, r3, v3, e56, Bool.and_self, if_true]) k (hX.st (fH.of fI) f3.rf (fun a k q => by rw [cpyN_n q]) (gA.eq hn8 h60 (fun j hj => by have q := cpy_at (X := D) (a := 23) (b := 0) (s := fun k => D 57 (127 * k3 + k)) 127 hj; rw [Nat.zero_add] at q; exact q))) (frX.fH (fH.of fI) f3.rf)
      · refine Z_iconst (nI 0) dX1_again_31 rfl ?_
        refine Z_ireturn dX1_again_32 rfl rfl ?_
        have c28 : ¬ nI m = nI n := fun e => c28 ((nI_eq (by omega) (by omega)).mp e)
        exact xO_k (by simp [fAgain, h56, show D 0 16 = nI n from hw.n16, c28, v3]) k hX frX.rf
  · have r3 : rB x 0 2 = false := rB_f h3
    refine Z_ifeq 31 dX1_again_6 rfl (fun _ => ?_) (fun h => absurd h (by decide))
    refine Z_iconst (nI 0) dX1_again_31 rfl ?_
    refine Z_ireturn dX1_again_32 rfl rfl ?_
    exact xO_k (by simp [fAgain, r3]) k hX frX.rf
end X57C
