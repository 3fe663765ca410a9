set_option maxRecDepth 100000
/-! THE COMPONENT, part 54: all rows gone through -/
section X54C
variable {G : zG} {d C Sl : Nat} {I D W : zI} {R : List Int64} {L : zL} {P : zR} {S : zT} {Q : zQ} {no n np : Nat} {s : zS} {oh ph : Nat → Nat} {ro : Option (List Nat)} {I0 : zI} {L0 : zL} {P0 : zR} {S0 : zT} {a p h0 m en NN born len b bK bc : Nat} {bv : Nat → Int32}
set_option maxHeartbeats 4000000 in
theorem c_J10_copyOf {x n1 n2 N1 : Nat} (hS : S x = some (.inr (.int, n1))) (h1 : n1 ≤ 1000) (h2 : n2 ≤ n1) (hN : S N1 = none) (k : ∀ I2 f2 f3, (∀ j, j < n2 → I2 N1 j = I x j) → (∀ y, y ≠ N1 → I2 y = I y) → Q (.inl (some (.ref N1))) I2 (zu L N1 f2) (zu P N1 f3) (zu S N1 (some (.inr (.int, n2))))) : Zm G mJ10_copyOf 2 (0 + 1) (0 + n2) [.ref x, .int (nI n2)] I L P S Q := by
  have nx : x ≠ N1 := fun q => by rw [q, hN] at hS; cases hS
  refine Z_entry (lv := [_, _, _]) (Nat.le_of_ble_eq_true rfl) rfl ?_
  refine Z_iload_n dJ10_copyOf_0 rfl ?_
  refine Z_aload_n dJ10_copyOf_1 rfl ?_
  refine Z_alen hS (by simp [zTys]) dJ10_copyOf_2 ?_
  refine Z_icmpneN 14 dJ10_copyOf_3 rfl (by omega) (by omega) (fun c3 => ?_) (fun c3 => ?_)
  · refine Z_iload_n dJ10_copyOf_14 rfl ?_
    refine Z_newa (N := n2) N1 hN .int (by simp [zTys, newarray.typeOf]) rfl q165 (nI_pos (by omega)) (nI_clamp (by omega)) (by show n2 * 4 ≤ 536870912; omega) dJ10_copyOf_15 ?_
    refine Z_astore_n (lv' := [_, _, _]) dJ10_copyOf_17 rfl rfl (Nat.le_of_ble_eq_true rfl) ?_
    refine Z_aload_n dJ10_copyOf_18 rfl ?_
    refine Z_iconst (nI 0) dJ10_copyOf_19 rfl ?_
    refine Z_aload_n dJ10_copyOf_20 rfl ?_
    refine Z_iconst (nI 0) dJ10_copyOf_21 rfl ?_
    refine Z_aload_n dJ10_copyOf_22 rfl ?_
    have hS : zu S N1 (some (.inr (newarray.typeOf .int, n2))) x = some (.inr (.int, n1)) := (zu_n _ _ _ nx).trans hS
    refine Z_alen hS (by simp [zTys]) dJ10_copyOf_23 ?_
    refine Z_iload_n dJ10_copyOf_24 rfl ?_
    refine Z_callS0 (d' := 0) (zCal_S gJ10_304 nJ5_min (by decide) dJ10_copyOf_25) pJ5_min [_, _] rfl rfl (Nat.le_of_ble_eq_true rfl) (by omega) (c_J5_min ?_)
    rw [mn_n (by omega) (by omega), Nat.min_eq_right h2]
    refine Z_copyI (ty := .int) (n0 := n1) (n1 := n2) (sp := 0) (dp := 0) (n := n2) hS (zu_s _ _ _) (by simp [zTys]) rfl q1023 q889 q888 q107 (by omega) (by omega) ⟨by omega, by omega⟩ (fun _ _ => rfl) (by decide) dJ10_copyOf_28 ?_
    refine Z_aload_n dJ10_copyOf_31 rfl ?_
    refine Z_areturn dJ10_copyOf_32 rfl (by first | exact Or.inl ⟨_, rfl⟩ | exact Or.inr ⟨_, rfl⟩) ?_
    exact k _ _ _ (fun j hj => by rw [zu_s, va_cpy0 hj, zu_n _ _ _ nx]) (fun y hy => by rw [zu_n _ _ _ hy, zu_n _ _ _ hy])
  · refine Z_aload_n dJ10_copyOf_6 rfl ?_
    have c3b : n2 = n1 := c3
    refine Z_clone (ty := .int) (n := n2) (adn := "[I") N1 hN (by rw [c3b]; exact hS) (by simp [zTys]) rfl (by decide) q1015 q1016 q1017 q1018 q1019 q1020 (fun j hj => rfl) (by decide) dJ10_copyOf_7 ?_
    refine Z_castA (ty := .int) (n := n2) (zu_s _ _ _) (by simp [zTys]) (by decide) q1021 dJ10_copyOf_10 ?_
    refine Z_areturn dJ10_copyOf_13 rfl (by first | exact Or.inl ⟨_, rfl⟩ | exact Or.inr ⟨_, rfl⟩) ?_
    exact k _ _ _ (fun j hj => by rw [zu_s]) (fun y hy => zu_n _ _ _ hy)
/-- a better row is kept, at N1 -/
theorem gS.best {ci N1 K c v : Nat} {I2 : zI} {f2 : Nat → Int64} {f3 : Nat → Option Nat} (h : gS ci ph I0 L0 P0 S0 a p h0 m en bv NN born I L P S b bK bc) (hN : 7000 ≤ N1) (hs : S N1 = none) (hI : ∀ y, y ≠ N1 → I2 y = zw I a 3 (bv v) y) (hr : ∀ j, j ≤ K → I2 N1 j = nI (dgR born K c j)) : gS ci ph I0 L0 P0 S0 a p h0 m en bv NN born I2 (zu L N1 f2) (zw (zu P N1 f3) a 4 (some N1)) (zu S N1 (some (.inr (.int, K + 1)))) v K c := by
  have e := h.nwI (I2 := zu I N1 (I2 N1)) (f2 := f2) (f3 := f3) (x := .inr (.int, K + 1)) hN hs (fun y hy => zu_n _ _ _ hy)
  obtain ⟨-, ⟨-, b2, b3⟩, -⟩ := h
  have na : a ≠ N1 := fun q => by rw [q, hs] at b2; cases b2
  have na1 : N1 ≠ a + 1 := fun q => by rw [← q, hs] at b3; cases b3
  obtain ⟨⟨a1, a2, a3⟩, ⟨b1, b2, b3⟩, ⟨c1, c2, c3⟩, d1, d2⟩ := e
  have oa : ∀ x, (x < 7000 ∨ S0 x ≠ none) → x ≠ a := fun x hx q => by rw [q] at hx; exact hx.elim (fun h => by omega) (fun h => h b1.2.1)
  have eI : ∀ x, x ≠ a → I2 x = zu I N1 (I2 N1) x := fun x hx => by
    by_cases q : x = N1
    · subst q; rw [zu_s]
    · rw [zu_n _ _ _ q, hI x q, zw_n _ _ _ _ hx]
  have ea : ∀ k, k ≠ 3 → I2 a k = zu I N1 (I2 N1) a k := fun k hk => by rw [hI a na, zw_a, zu_n _ _ _ hk, zu_n _ _ _ na]
  refine ⟨⟨(a1.i (fun x _ _ h2 => eI x (oa x h2)) (fun k _ => by rw [eI 100 (by omega)])).p (fun x _ h2 => zw_n _ _ _ _ (oa x h2)) (fun k _ => by rw [zw_n _ _ _ _ (by omega)]) (zw_n _ _ _ _ (by omega)) (zw_n _ _ _ _ (by omega)), (eI 100 (by omega)).trans a2, a3⟩, ⟨b1, b2, b3⟩, ⟨⟨by rw [zw_a, zu_n _ _ _ (by decide)]; exact c1.1, by rw [zw_a, zu_n _ _ _ (by decide)]; exact c1.2.1, by rw [zw_a, zu_n _ _ _ (by decide)]; exact c1.2.2⟩, (ea 1 (by decide)).trans c2, fun q => ⟨(ea 6 (by decide)).trans (c3 q).1, by rw [zw_a, zu_n _ _ _ (by decide)]; exact (c3 q).2⟩⟩, by rw [hI a na]; exact zw_s _ _ _ _, fun _ => ⟨N1, ⟨zw_s _ _ _ _, hN, na1⟩, zu_s _ _ _, hr⟩⟩
/-- of K handings a row tells -/
def rowT (K c : Nat) : Nat → List Int64
  | 0 => [(nI K).toInt64]
  | k + 1 => rowT K c k ++ [(nI (dgR 0 K c (k + 1))).toInt64]
theorem rowT_l {K c : Nat} : ∀ k, (rowT K c k).length = k + 1 := by
  intro k
  induction k with
  | zero => rfl
  | succ k ih => rw [rowT, List.length_append, ih]; rfl
theorem dgR_b {K c j : Nat} : dgR born K c (j + 1) = dgR 0 K c (j + 1) := by unfold dgR; rw [if_neg (by omega), if_neg (by omega)]
def s6 : Nat → Nat
  | 0 => 0
  | k + 1 => s6 k + 6 ^ k
theorem s6_le : ∀ {x y : Nat}, x ≤ y → s6 x ≤ s6 y := by
  intro x y h
  induction h with
  | refl => exact Nat.le_refl _
  | step _ ih => exact Nat.le_trans ih (Nat.le_add_right _ _)
theorem bvS_1 {i : Nat} (h : h0 ≤ 2399) (hn : NN = 2399 - h0) (hi : i ≤ NN) : bvS h0 NN i = -1 ↔ i = NN := by
  unfold bvS
  by_cases e : i = NN
  · rw [if_pos e]; exact ⟨fun _ => e, fun _ => rfl⟩
  · rw [if_neg e]
    refine ⟨fun q => ?_, fun q => absurd q e⟩
    have := congrArg Int32.toInt q
    rw [z_ti (by omega), show (-1 : Int32).toInt = -1 from by decide] at this
    omega
theorem bvS_lt {i j : Nat} (h : h0 ≤ 2399) (hn : NN = 2399 - h0) (hi : i < NN) (hj : j < NN) : bvS h0 NN i < bvS h0 NN j ↔ i < j := by
  unfold bvS
  rw [if_neg (by omega), if_neg (by omega), Int32.lt_iff_toInt_lt, z_ti (by omega), z_ti (by omega)]
  omega
set_option maxHeartbeats 4000000 in
theorem c_X15_go140 (hX0 : xR D R no n np ro oh ph I0 L0 P0 S0) (hp : p < n) (hm : m ≤ 3) (hbn : born < no) (hkn : knf (wld D) no) (hl : wld D 18 p = nI len) (hl0 : 0 < len) (hl6 : len ≤ 60) (hh : h0 ≤ 2399) (hNN : NN = 2399 - h0) {K c : Nat} (hK : K ≤ m) (hG : gS 14 ph I0 L0 P0 S0 a p h0 m en (bvS h0 NN) NN born I L P S b bK bc) (hv : vr no born K c) (hoff : (∀ j, j ≤ K → I (a + 1) j = nI (dgR born K c j))) (hb : bsI no born NN (wvS (wld D) p h0 len born NN) K (c) b bK bc) (kk : (∀ I2 L2 P2 S2 b2 bK2 bc2, gS 14 ph I0 L0 P0 S0 a p h0 m en (bvS h0 NN) NN born I2 L2 P2 S2 b2 bK2 bc2 → (∀ j, j ≤ K → I2 (a + 1) j = I (a + 1) j) → bsI no born NN (wvS (wld D) p h0 len born NN) K (c + 1) b2 bK2 bc2 → Q (.inl none) I2 L2 P2 S2)) : Zm G mX15_go 7 2 8 [.ref a, .int (nI (K + 1)), .int (nI K)] I L P S Q := by
  have r1 : rwX I L R := hX0.2.2.1.2.fX (by rw [hG.1.2.1]) hG.1.2.2
  have hX := hX0.go hG.1.1 r1
  have hx := hX.1.x
  have hO := hX.1.wd
  have hR := hX.1.wr
  have hPc := hX.1.pc
  have hw := hX.1.hw
  have h6 := hw.o6
  have hn8 := hw.n8
  have A0 : I (ph p) 0 = wld D 17 p := (hPc p hp).2.2.1.1
  have hrK : dgR born K c K < no := by
    cases K with
    | zero => exact hbn
    | succ j => exact (hv.2.2 j (by omega)).1
  refine Z_entry (lv := [_, _, _, _]) (Nat.le_of_ble_eq_true rfl) rfl ?_
  refine Z_iload_n dX15_go_0 rfl ?_
  refine Z_iload_n dX15_go_1 rfl ?_
  refine Z_icmpleN 80 dX15_go_2 rfl (by omega) (by omega) (fun c2 => ?_) (fun c2 => ?_)
  · exact absurd c2 (by omega)
  · refine Z_aload_n dX15_go_5 rfl ?_
    refine Z_getR (r := 100) hG.2.1.2.1 fX15_3_14 dX15_go_6 rfl hG.2.2.1.1.2.2 ?_
    refine Z_getRN (r := 200) hx.1 fX15_39_0 dX15_go_9 rfl hx.2.2.2.1.1 ?_
    refine Z_aload_n dX15_go_12 rfl ?_
    refine Z_getR (r := (a + 1)) hG.2.1.2.1 fX15_30_14 dX15_go_13 rfl hG.2.2.1.1.2.1 ?_
    refine Z_iload_n dX15_go_16 rfl ?_
    refine Z_iald hG.2.1.2.2 (zix_nI (by omega) (by omega)) dX15_go_17 ?_
    refine Z_re (y := nI (dgR born K c K)) (hoff K (Nat.le_refl _)) ?_
    refine Z_aload_n dX15_go_18 rfl ?_
    refine Z_getR (r := (ph p)) hG.2.1.2.1 fX15_23_14 dX15_go_19 rfl hG.2.2.1.1.1 ?_
    refine Z_getI (hPc p (by omega)).2.1 fX15_43_6 dX15_go_22 rfl ?_
    refine Z_call0 (d' := 1) (zCal_V gX15_46 nX2_hasCraft (by decide) dX15_go_25) pX2_hasCraft hO.1 zkl1 [_, _] rfl rfl (Nat.le_of_ble_eq_true rfl) (by omega) (c_X2_hasCraft hO hR h6 hrK (fun h25 => ?_) (fun h25 => ?_))
    · refine Z_ifne 32 dX15_go_28 rfl (fun _ => ?_) (fun h => absurd h (by decide))
      refine Z_aload_n dX15_go_32 rfl ?_
      refine Z_iload_n dX15_go_33 rfl ?_
      refine Z_call (d' := 5) (C := 1) (C' := 1) (Sl := 4) (S' := 4) (zCal_A (n := 1) uX15_52_14 q977 ⟨by decide +kernel, by decide +kernel, by decide +kernel⟩ (by decide) dX15_go_34) pX16_worth hG.2.1.2.1 zkl14 [_] rfl rfl (Nat.le_of_ble_eq_true rfl) (by omega) (by omega) (by omega) (c_X16_worth hX0 hG hp hm hK hv hoff hbn hkn hl hl0 hl6 hh hNN (fun I2 L2 P2 S2 hG2 e34 => ?_))
      refine Z_istore_n (lv' := [_, _, _, _]) dX15_go_37 rfl rfl (Nat.le_of_ble_eq_true rfl) ?_
      refine Z_iload_n dX15_go_38 rfl ?_
      refine Z_iconst (-1) dX15_go_39 rfl ?_
      refine Z_icmpeq 59 dX15_go_40 rfl (fun c40 => ?_) (fun c40 => ?_)
      · refine Z_return dX15_go_59 rfl ?_
        exact kk _ _ _ _ _ _ _ hG2 (fun j hj => by rw [e34]) (bsI_no hb (by rw [(bvS_1 hh hNN (show wvS (wld D) p h0 len born NN K c ≤ NN from frH_le _)).mp c40]; exact hb.1.1))
      · refine Z_aload_n dX15_go_43 rfl ?_
        refine Z_getI hG2.2.1.2.1 fX15_15_14 dX15_go_44 rfl ?_
        refine Z_re hG2.2.2.2.1 ?_
        refine Z_iconst (-1) dX15_go_47 rfl ?_
        refine Z_icmpeq 60 dX15_go_48 rfl (fun c48 => ?_) (fun c48 => ?_)
        · obtain ⟨N1, hN1, hN2⟩ := hG2.N
          have na1 : a + 1 ≠ N1 := fun q => by have := hG2.2.1.2.2; rw [q, hN2 N1 (Nat.le_refl _)] at this; cases this
          refine Z_aload_n dX15_go_60 rfl ?_
          refine Z_iload_n dX15_go_61 rfl ?_
          refine Z_putI hG2.2.1.2.1 fX15_15_14 dX15_go_62 rfl rfl rfl ?_
          refine Z_aload_n dX15_go_65 rfl ?_
          refine Z_aload_n dX15_go_66 rfl ?_
          refine Z_getR (r := (a + 1)) hG2.2.1.2.1 fX15_30_14 dX15_go_67 rfl hG2.2.2.1.1.2.1 ?_
          refine Z_iload_n dX15_go_70 rfl ?_
          refine Z_iconst (nI 1) dX15_go_71 rfl ?_
          refine Z_iaddN dX15_go_72 ?_
          refine Zj.less (C := 0 + (0 + 1)) (Sl := 0 + (0 + (K + 1))) ?_ (Nat.le_refl _) (by omega) (by omega)
          refine Z_callS (d' := 2) (C := 0) (C' := (0 + 1)) (Sl := 0) (S' := (0 + (K + 1))) (zCal_S gX15_56 nJ10_copyOf (by decide) dX15_go_73) pJ10_copyOf [_, _] rfl rfl (Nat.le_of_ble_eq_true rfl) (by omega) (by omega) (by omega) (c_J10_copyOf hG2.2.1.2.2 (by omega) (by omega) (hN2 N1 (Nat.le_refl _)) (fun I3 f2 f3 g1 g2 => ?_))
          have na : a ≠ N1 := fun q => by have := hG2.2.1.2.1; rw [q, hN2 N1 (Nat.le_refl _)] at this; cases this
          have hGa : (zu S2 N1 (some (.inr (.int, K + 1)))) a = some (.inl 14) := (zu_n _ _ _ na).trans hG2.2.1.2.1
          have hz9 : True := trivial
          refine Z_putR hGa fX15_62_14 dX15_go_76 rfl ?_
          refine Z_return dX15_go_79 rfl ?_
          have hlt : (wvS (wld D) p h0 len born NN) K c < b := by
            have w8 : (wvS (wld D) p h0 len born NN) K c ≠ NN := fun e => c40 ((bvS_1 hh hNN (show wvS (wld D) p h0 len born NN K c ≤ NN from frH_le _)).mpr e)
            have w7 : (wvS (wld D) p h0 len born NN) K c ≤ NN := show wvS (wld D) p h0 len born NN K c ≤ NN from frH_le _
            have w5 := hb.1.1
            have w6 := (bvS_1 hh hNN hb.1.1).mp c48
            omega
          exact kk _ _ _ _ _ _ _ (hG2.best hN1 (hN2 N1 (Nat.le_refl _)) (by exact g2) (fun j hj => by rw [g1 j (by omega), zw_n _ _ _ _ (by omega), e34]; exact hoff j hj)) (fun j hj => by rw [g2 _ na1, zw_n _ _ _ _ (by omega), e34]) (bsI_yes hb hv hlt)
        · refine Z_iload_n dX15_go_51 rfl ?_
          refine Z_aload_n dX15_go_52 rfl ?_
          refine Z_getI hG2.2.1.2.1 fX15_15_14 dX15_go_53 rfl ?_
          refine Z_re hG2.2.2.2.1 ?_
          refine Z_icmplt 60 dX15_go_56 rfl (fun c56 => ?_) (fun c56 => ?_)
          · obtain ⟨N1, hN1, hN2⟩ := hG2.N
            have na1 : a + 1 ≠ N1 := fun q => by have := hG2.2.1.2.2; rw [q, hN2 N1 (Nat.le_refl _)] at this; cases this
            refine Z_aload_n dX15_go_60 rfl ?_
            refine Z_iload_n dX15_go_61 rfl ?_
            refine Z_putI hG2.2.1.2.1 fX15_15_14 dX15_go_62 rfl rfl rfl ?_
            refine Z_aload_n dX15_go_65 rfl ?_
            refine Z_aload_n dX15_go_66 rfl ?_
            refine Z_getR (r := (a + 1)) hG2.2.1.2.1 fX15_30_14 dX15_go_67 rfl hG2.2.2.1.1.2.1 ?_
            refine Z_iload_n dX15_go_70 rfl ?_
            refine Z_iconst (nI 1) dX15_go_71 rfl ?_
            refine Z_iaddN dX15_go_72 ?_
            refine Zj.less (C := 0 + (0 + 1)) (Sl := 0 + (0 + (K + 1))) ?_ (Nat.le_refl _) (by omega) (by omega)
            refine Z_callS (d' := 2) (C := 0) (C' := (0 + 1)) (Sl := 0) (S' := (0 + (K + 1))) (zCal_S gX15_56 nJ10_copyOf (by decide) dX15_go_73) pJ10_copyOf [_, _] rfl rfl (Nat.le_of_ble_eq_true rfl) (by omega) (by omega) (by omega) (c_J10_copyOf hG2.2.1.2.2 (by omega) (by omega) (hN2 N1 (Nat.le_refl _)) (fun I3 f2 f3 g1 g2 => ?_))
            have na : a ≠ N1 := fun q => by have := hG2.2.1.2.1; rw [q, hN2 N1 (Nat.le_refl _)] at this; cases this
            have hGa : (zu S2 N1 (some (.inr (.int, K + 1)))) a = some (.inl 14) := (zu_n _ _ _ na).trans hG2.2.1.2.1
            have hz9 : True := trivial
            refine Z_putR hGa fX15_62_14 dX15_go_76 rfl ?_
            refine Z_return dX15_go_79 rfl ?_
            have hlt : (wvS (wld D) p h0 len born NN) K c < b := by
              have w8 : (wvS (wld D) p h0 len born NN) K c ≠ NN := fun e => c40 ((bvS_1 hh hNN (show wvS (wld D) p h0 len born NN K c ≤ NN from frH_le _)).mpr e)
              have w7 : (wvS (wld D) p h0 len born NN) K c ≤ NN := show wvS (wld D) p h0 len born NN K c ≤ NN from frH_le _
              have w5 := hb.1.1
              exact (bvS_lt hh hNN (by omega) (by have w4 : ¬ b = NN := fun e => c48 ((bvS_1 hh hNN hb.1.1).mpr e); omega)).mp c56
            exact kk _ _ _ _ _ _ _ (hG2.best hN1 (hN2 N1 (Nat.le_refl _)) (by exact g2) (fun j hj => by rw [g1 j (by omega), zw_n _ _ _ _ (by omega), e34]; exact hoff j hj)) (fun j hj => by rw [g2 _ na1, zw_n _ _ _ _ (by omega), e34]) (bsI_yes hb hv hlt)
          · refine Z_return dX15_go_59 rfl ?_
            have w5 := hb.1.1
            exact kk _ _ _ _ _ _ _ hG2 (fun j hj => by rw [e34]) (bsI_no hb (Nat.le_of_not_lt fun q => c56 ((bvS_lt hh hNN (by omega) (by have w4 : ¬ b = NN := fun e => c48 ((bvS_1 hh hNN hb.1.1).mpr e); omega)).mpr q)))
    · refine Z_ifne 32 dX15_go_28 rfl (fun h => absurd h (by decide)) (fun _ => ?_)
      refine Z_return dX15_go_31 rfl ?_
      exact kk _ _ _ _ _ _ _ hG (fun _ _ => rfl) (bsI_no hb (by rw [wvS_no hl0 (by rw [← A0]; exact h25)]; exact hb.1.1))
set_option maxHeartbeats 4000000 in
theorem c_X15_go14s (hX0 : xR D R no n np ro oh ph I0 L0 P0 S0) (hp : p < n) (hm : m ≤ 3) (hbn : born < no) (hkn : knf (wld D) no) (hl : wld D 18 p = nI len) (hl0 : 0 < len) (hl6 : len ≤ 60) (hh : h0 ≤ 2399) (hNN : NN = 2399 - h0) {t : Nat} (IH : ∀ (q K c : Nat) (I : zI) (L : zL) (P : zR) (S : zT) (Q : zQ) (b bK bc : Nat), q + t = K → K ≤ m → gS 14 ph I0 L0 P0 S0 a p h0 m en (bvS h0 NN) NN born I L P S b bK bc → vr no born q c → (∀ j, j ≤ q → I (a + 1) j = nI (dgR born q c j)) → bsI no born NN (wvS (wld D) p h0 len born NN) K (c * 8 ^ t) b bK bc → (∀ I2 L2 P2 S2 b2 bK2 bc2, gS 14 ph I0 L0 P0 S0 a p h0 m en (bvS h0 NN) NN born I2 L2 P2 S2 b2 bK2 bc2 → (∀ j, j ≤ q → I2 (a + 1) j = I (a + 1) j) → bsI no born NN (wvS (wld D) p h0 len born NN) K ((c + 1) * 8 ^ t) b2 bK2 bc2 → Q (.inl none) I2 L2 P2 S2) → Zm G mX15_go (7 + t) (2 * 6 ^ t) (8 * 6 ^ t) [.ref a, .int (nI (q + 1)), .int (nI K)] I L P S Q) {q K c : Nat} (hq : q + (t + 1) = K) (hK : K ≤ m) (hG : gS 14 ph I0 L0 P0 S0 a p h0 m en (bvS h0 NN) NN born I L P S b bK bc) (hv : vr no born q c) (hoff : (∀ j, j ≤ q → I (a + 1) j = nI (dgR born q c j))) (hb : bsI no born NN (wvS (wld D) p h0 len born NN) K (c * 8 ^ (t + 1)) b bK bc) (kk : (∀ I2 L2 P2 S2 b2 bK2 bc2, gS 14 ph I0 L0 P0 S0 a p h0 m en (bvS h0 NN) NN born I2 L2 P2 S2 b2 bK2 bc2 → (∀ j, j ≤ q → I2 (a + 1) j = I (a + 1) j) → bsI no born NN (wvS (wld D) p h0 len born NN) K ((c + 1) * 8 ^ (t + 1)) b2 bK2 bc2 → Q (.inl none) I2 L2 P2 S2)) : Zm G mX15_go ((7 + (t + 1))) (2 * 6 ^ (t + 1)) (8 * 6 ^ (t + 1)) [.ref a, .int (nI (q + 1)), .int (nI K)] I L P S Q := by
  have r1 : rwX I L R := hX0.2.2.1.2.fX (by rw [hG.1.2.1]) hG.1.2.2
  have hX := hX0.go hG.1.1 r1
  have hx := hX.1.x
  have hO := hX.1.wd
  have hR := hX.1.wr
  have hPc := hX.1.pc
  have hw := hX.1.hw
  have h6 := hw.o6
  have hn8 := hw.n8
  have X6 : no * 6 ^ t ≤ 6 ^ (t + 1) := by rw [Nat.pow_succ, Nat.mul_comm (6 ^ t)]; exact Nat.mul_le_mul_right _ h6
  have hG0 := hG
  have rq : dgR born q c q < no := by
    cases q with
    | zero => exact hbn
    | succ j => exact (hv.2.2 j (by omega)).1
  refine Z_entry (lv := [_, _, _, _]) (Nat.le_of_ble_eq_true rfl) rfl ?_
  refine Z_iload_n dX15_go_0 rfl ?_
  refine Z_iload_n dX15_go_1 rfl ?_
  refine Z_icmpleN 80 dX15_go_2 rfl (by omega) (by omega) (fun c2 => ?_) (fun c2 => ?_)
  · refine Z_iconst (nI 0) dX15_go_80 rfl ?_
    refine Z_istore_n (lv' := [_, _, _, _]) dX15_go_81 rfl rfl (Nat.le_of_ble_eq_true rfl) ?_
    have lp82 : ∀ i, i ≤ no → ∀ I2 L2 P2 S2 b2 bK2 bc2, gS 14 ph I0 L0 P0 S0 a p h0 m en (bvS h0 NN) NN born I2 L2 P2 S2 b2 bK2 bc2 → (∀ j, j ≤ q → I2 (a + 1) j = I (a + 1) j) → bsI no born NN (wvS (wld D) p h0 len born NN) K ((8 * c + i) * 8 ^ t) b2 bK2 bc2 → Zj G mX15_go (7 + (t + 1)) (2 * ((no - i) * 6 ^ t)) (8 * ((no - i) * 6 ^ t)) 82 [.ref a, .int (nI (q + 1)), .int (nI K), .int (nI i)] [] I2 L2 P2 S2 Q := by
      refine zloop (no) (fun i => ∀ I2 L2 P2 S2 b2 bK2 bc2, gS 14 ph I0 L0 P0 S0 a p h0 m en (bvS h0 NN) NN born I2 L2 P2 S2 b2 bK2 bc2 → (∀ j, j ≤ q → I2 (a + 1) j = I (a + 1) j) → bsI no born NN (wvS (wld D) p h0 len born NN) K ((8 * c + i) * 8 ^ t) b2 bK2 bc2 → Zj G mX15_go (7 + (t + 1)) (2 * ((no - i) * 6 ^ t)) (8 * ((no - i) * 6 ^ t)) 82 [.ref a, .int (nI (q + 1)), .int (nI K), .int (nI i)] [] I2 L2 P2 S2 Q) (fun i hi ih => ?_)
      intro I2 L2 P2 S2 b2 bK2 bc2 hG f1 hb2
      show Zj _ _ _ _ _ _ _ _ _ _ _ _ _
      have r1 : rwX I2 L2 R := hX0.2.2.1.2.fX (by rw [hG.1.2.1]) hG.1.2.2
      have hX := hX0.go hG.1.1 r1
      have hx := hX.1.x
      have hO := hX.1.wd
      have hR := hX.1.wr
      have hPc := hX.1.pc
      have hw := hX.1.hw
      have h6 := hw.o6
      have hn8 := hw.n8
      refine Z_iload_n dX15_go_82 rfl ?_
      refine Z_aload_n dX15_go_83 rfl ?_
      refine Z_getR (r := 100) hG.2.1.2.1 fX15_3_14 dX15_go_84 rfl hG.2.2.1.1.2.2 ?_
      refine Z_getRN (r := 200) hx.1 fX15_39_0 dX15_go_87 rfl hx.2.2.2.1.1 ?_
      refine Z_getI hO.1 fX15_65_1 dX15_go_90 rfl ?_
      refine Z_re (y := nI (no)) hR.1.1 ?_
      refine Z_icmpgeN 132 dX15_go_93 rfl (by omega) (by omega) (fun c93 => ?_) (fun c93 => ?_)
      · have ei : i = no := by omega
        refine Z_return dX15_go_132 rfl ?_
        refine kk _ _ _ _ _ _ _ hG f1 (bsI_gap hb2 (by rw [Nat.pow_succ', ← Nat.mul_assoc]; exact Nat.mul_le_mul_right _ (by omega)) (fun c2 q1 q2 => ?_))
        have hp8 : 0 < 8 ^ t := Nat.pow_pos (by decide)
        have q3 := (Nat.le_div_iff_mul_le hp8).mpr q1
        rw [Nat.pow_succ', ← Nat.mul_assoc] at q2
        have q4 := (Nat.div_lt_iff_lt_mul hp8).mpr q2
        have q5 : c2 < (c2 / 8 ^ t + 1) * 8 ^ t := Nat.lt_mul_of_div_lt (Nat.lt_succ_self _) hp8
        have q6 : c2 / 8 ^ t * 8 ^ t ≤ c2 := Nat.div_mul_le_self _ _
        obtain ⟨o9, e9⟩ : ∃ o9, c2 / 8 ^ t = 8 * c + o9 := ⟨c2 / 8 ^ t - 8 * c, by omega⟩
        rw [e9] at q5 q6 q3 q4
        have z := gap_o (no := no) (born := born) (m := t) (at1 := q) (c := c) (o := o9) (fun q => by omega) (by omega) c2 q6 q5
        rw [show q + 1 + t = K by omega] at z
        exact z
      · have X7 : (no - i) * 6 ^ t = (no - (i + 1)) * 6 ^ t + 6 ^ t := by rw [← Nat.succ_mul, show Nat.succ (no - (i + 1)) = no - i by omega]
        refine Z_iload_n dX15_go_96 rfl ?_
        refine Z_aload_n dX15_go_97 rfl ?_
        refine Z_getR (r := (a + 1)) hG.2.1.2.1 fX15_30_14 dX15_go_98 rfl hG.2.2.1.1.2.1 ?_
        refine Z_iload_n dX15_go_101 rfl ?_
        refine Z_iconst (nI 1) dX15_go_102 rfl ?_
        refine Z_isubN dX15_go_103 (by omega) ?_
        refine Z_iald hG.2.1.2.2 (zix_nI (by omega) (by omega)) dX15_go_104 ?_
        refine Z_re (y := nI (dgR born q c q)) ((f1 q (Nat.le_refl _)).trans (hoff q (Nat.le_refl _))) ?_
        refine Z_icmpneN 111 dX15_go_105 rfl (by omega) (by omega) (fun c105 => ?_) (fun c105 => ?_)
        · refine Z_aload_n dX15_go_111 rfl ?_
          refine Z_getR (r := (a + 1)) hG.2.1.2.1 fX15_30_14 dX15_go_112 rfl hG.2.2.1.1.2.1 ?_
          refine Z_iload_n dX15_go_115 rfl ?_
          refine Z_iload_n dX15_go_116 rfl ?_
          refine Z_iast hG.2.1.2.2 (zix_nI (by omega) (by omega)) dX15_go_117 ?_
          have hG3 := hG.of (k := q + 1) (v := nI i)
          have hv3 : vr no born (q + 1) (8 * c + i) := vr_s hv h6 (by omega) c105
          have hof3 : ∀ j, j ≤ q + 1 → zw I2 (a + 1) (q + 1) (nI i) (a + 1) j = nI (dgR born (q + 1) (8 * c + i) j) := (fun j hj => by
            by_cases e9 : j = q + 1
            · subst e9; rw [zw_s, dgR_l (by omega)]
            · rw [zw_a, zu_n _ _ _ e9, f1 j (by omega), dgR_s (by omega) (by omega)]; exact hoff j (by omega))
          refine Z_aload_n dX15_go_118 rfl ?_
          refine Z_iload_n dX15_go_119 rfl ?_
          refine Z_iconst (nI 1) dX15_go_120 rfl ?_
          refine Z_iaddN dX15_go_121 ?_
          refine Z_iload_n dX15_go_122 rfl ?_
          refine Z_call (d' := (7 + t)) (C := (2 * ((no - (i + 1)) * 6 ^ t))) (C' := (2 * 6 ^ t)) (Sl := (8 * ((no - (i + 1)) * 6 ^ t))) (S' := (8 * 6 ^ t)) (zCal_U uX15_68_14 rfl nX15_go (by decide) dX15_go_123) pX15_go hG.2.1.2.1 zkl14 [_, _] rfl rfl (Nat.le_of_ble_eq_true rfl) (by omega) (by omega) (by omega) (IH (q + 1) K (8 * c + i) _ _ _ _ _ _ _ _ (by omega) hK hG3 hv3 hof3 hb2 (fun I3 L3 P3 S3 b3 bK3 bc3 g3 g4 g5 => ?_))
          refine Z_iincN (a := _) (k := 1) (lv' := [_, _, _, _]) dX15_go_126 rfl rfl rfl rfl ?_
          refine Z_goto 82 dX15_go_129 rfl ?_
          exact ih (by omega) _ _ _ _ _ _ _ g3 (fun j hj => by rw [g4 j (by omega), zw_a, zu_n _ _ _ (by omega)]; exact f1 j hj) g5
        · refine Z_goto 126 dX15_go_108 rfl ?_
          refine Z_iincN (a := _) (k := 1) (lv' := [_, _, _, _]) dX15_go_126 rfl rfl rfl rfl ?_
          refine Z_goto 82 dX15_go_129 rfl ?_
          have ih2 := ih (by omega) _ _ _ _ _ _ _ hG f1 (bsI_gap (Y := (8 * c + (i + 1)) * 8 ^ t) hb2 (Nat.mul_le_mul_right _ (by omega)) (by have z := gap_o (no := no) (born := born) (m := t) (at1 := q) (c := c) (o := i) (fun q => q.2 c105) (by omega); rw [show q + 1 + t = K by omega] at z; exact z))
          exact Zj.less ih2 (Nat.le_refl _) (by omega) (by omega)
    have u9 := lp82 0 (by omega) _ _ _ _ _ _ _ hG (fun _ _ => rfl) (by rw [Nat.add_zero, Nat.mul_comm 8 c, Nat.mul_assoc, ← Nat.pow_succ']; exact hb)
    rw [Nat.sub_zero] at u9
    exact Zj.less u9 (Nat.le_refl _) (by omega) (by omega)
  · exact absurd c2 (by omega)
theorem c_X15_go14 (hX0 : xR D R no n np ro oh ph I0 L0 P0 S0) (hp : p < n) (hm : m ≤ 3) (hbn : born < no) (hkn : knf (wld D) no) (hl : wld D 18 p = nI len) (hl0 : 0 < len) (hl6 : len ≤ 60) (hh : h0 ≤ 2399) (hNN : NN = 2399 - h0) : ∀ t : Nat, ∀ (q K c : Nat) (I : zI) (L : zL) (P : zR) (S : zT) (Q : zQ) (b bK bc : Nat), q + t = K → K ≤ m → gS 14 ph I0 L0 P0 S0 a p h0 m en (bvS h0 NN) NN born I L P S b bK bc → vr no born q c → (∀ j, j ≤ q → I (a + 1) j = nI (dgR born q c j)) → bsI no born NN (wvS (wld D) p h0 len born NN) K (c * 8 ^ t) b bK bc → (∀ I2 L2 P2 S2 b2 bK2 bc2, gS 14 ph I0 L0 P0 S0 a p h0 m en (bvS h0 NN) NN born I2 L2 P2 S2 b2 bK2 bc2 → (∀ j, j ≤ q → I2 (a + 1) j = I (a + 1) j) → bsI no born NN (wvS (wld D) p h0 len born NN) K ((c + 1) * 8 ^ t) b2 bK2 bc2 → Q (.inl none) I2 L2 P2 S2) → Zm G mX15_go (7 + t) (2 * 6 ^ t) (8 * 6 ^ t) [.ref a, .int (nI (q + 1)), .int (nI K)] I L P S Q := by
  intro t
  induction t with
  | zero =>
    intro q K c I L P S Q b bK bc hq hK hG hv hoff hb kk
    obtain rfl : q = K := by omega
    exact c_X15_go140 hX0 hp hm hbn hkn hl hl0 hl6 hh hNN hK hG hv hoff (by rw [Nat.pow_zero, Nat.mul_one] at hb; exact hb) (fun I2 L2 P2 S2 b2 bK2 bc2 g1 g2 g3 => kk _ _ _ _ _ _ _ g1 g2 (by rw [Nat.pow_zero, Nat.mul_one]; exact g3))
  | succ t ih =>
    intro q K c I L P S Q b bK bc hq hK hG hv hoff hb kk
    exact c_X15_go14s hX0 hp hm hbn hkn hl hl0 hl6 hh hNN ih hq hK hG hv hoff hb kk
set_option maxHeartbeats 4000000 in
theorem c_X15_all14 (hX0 : xR D R no n np ro oh ph I0 L0 P0 S0) (hp : p < n) (hm : m ≤ 3) (hbn : born < no) (hkn : knf (wld D) no) (hl : wld D 18 p = nI len) (hl0 : 0 < len) (hl6 : len ≤ 60) (hh : h0 ≤ 2399) (hNN : NN = 2399 - h0) (hG : gS 14 ph I0 L0 P0 S0 a p h0 m en (bvS h0 NN) NN born I L P S NN 0 0) (ho : I (a + 1) 0 = nI born) (kk : ∀ I2 L2 P2 S2 b2 bK2 bc2, gS 14 ph I0 L0 P0 S0 a p h0 m en (bvS h0 NN) NN born I2 L2 P2 S2 b2 bK2 bc2 → bsI no born NN (wvS (wld D) p h0 len born NN) (m + 1) (0) b2 bK2 bc2 → Q (.inl none) I2 L2 P2 S2) : Zm G mX15_all 11 (C + 2 * s6 (m + 1)) (Sl + 8 * s6 (m + 1)) [.ref a] I L P S Q := by
  refine Z_entry (lv := [_, _]) (Nat.le_of_ble_eq_true rfl) rfl ?_
  refine Z_iconst (nI 0) dX15_all_0 rfl ?_
  refine Z_istore_n (lv' := [_, _]) dX15_all_1 rfl rfl (Nat.le_of_ble_eq_true rfl) ?_
  have lp2 : ∀ i, i ≤ m + 1 → ∀ I2 L2 P2 S2 b2 bK2 bc2, gS 14 ph I0 L0 P0 S0 a p h0 m en (bvS h0 NN) NN born I2 L2 P2 S2 b2 bK2 bc2 → I2 (a + 1) 0 = nI born → bsI no born NN (wvS (wld D) p h0 len born NN) i (0) b2 bK2 bc2 → Zj G mX15_all 11 (C + 2 * (s6 (m + 1) - s6 i)) (Sl + 8 * (s6 (m + 1) - s6 i)) 2 [.ref a, .int (nI i)] [] I2 L2 P2 S2 Q := by
    refine zloop (m + 1) (fun i => ∀ I2 L2 P2 S2 b2 bK2 bc2, gS 14 ph I0 L0 P0 S0 a p h0 m en (bvS h0 NN) NN born I2 L2 P2 S2 b2 bK2 bc2 → I2 (a + 1) 0 = nI born → bsI no born NN (wvS (wld D) p h0 len born NN) i (0) b2 bK2 bc2 → Zj G mX15_all 11 (C + 2 * (s6 (m + 1) - s6 i)) (Sl + 8 * (s6 (m + 1) - s6 i)) 2 [.ref a, .int (nI i)] [] I2 L2 P2 S2 Q) (fun i hi ih => ?_)
    intro I2 L2 P2 S2 b2 bK2 bc2 hG f1 hb2
    show Zj _ _ _ _ _ _ _ _ _ _ _ _ _
    refine Z_iload_n dX15_all_2 rfl ?_
    refine Z_aload_n dX15_all_3 rfl ?_
    refine Z_getR (r := (a + 1)) hG.2.1.2.1 fX15_30_14 dX15_all_4 rfl hG.2.2.1.1.2.1 ?_
    refine Z_alen hG.2.1.2.2 (by simp [zTys]) dX15_all_7 ?_
    refine Z_icmpgeN 23 dX15_all_8 rfl (by omega) (by omega) (fun c8 => ?_) (fun c8 => ?_)
    · have ei : i = m + 1 := by omega
      rw [ei] at hb2
      refine Z_return dX15_all_23 rfl ?_
      exact kk _ _ _ _ _ _ _ hG hb2
    · have X6 := s6_le (show i + 1 ≤ m + 1 by omega)
      have X7 : s6 (i + 1) = s6 i + 6 ^ i := rfl
      refine Z_aload_n dX15_all_11 rfl ?_
      refine Z_iconst (nI 1) dX15_all_12 rfl ?_
      refine Z_iload_n dX15_all_13 rfl ?_
      refine Z_call (d' := (7 + i)) (C := (C + 2 * (s6 (m + 1) - s6 (i + 1)))) (C' := (2 * 6 ^ i)) (Sl := (Sl + 8 * (s6 (m + 1) - s6 (i + 1)))) (S' := (8 * 6 ^ i)) (zCal_U uX15_68_14 rfl nX15_go (by decide) dX15_all_14) pX15_go hG.2.1.2.1 zkl14 [_, _] rfl rfl (Nat.le_of_ble_eq_true rfl) (by omega) (by omega) (by omega) (c_X15_go14 hX0 hp hm hbn hkn hl hl0 hl6 hh hNN i 0 i 0 _ _ _ _ _ _ _ _ (by omega) (by omega) hG vr_0 (fun j hj => by obtain rfl : j = 0 := (by omega); exact f1) (by rw [Nat.zero_mul]; exact hb2) (fun I3 L3 P3 S3 b3 bK3 bc3 g3 g4 g5 => ?_))
      refine Z_iincN (a := _) (k := 1) (lv' := [_, _]) dX15_all_17 rfl rfl rfl rfl ?_
      refine Z_goto 2 dX15_all_20 rfl ?_
      exact ih (by omega) _ _ _ _ _ _ _ g3 ((g4 0 (Nat.le_refl _)).trans f1) (by have z := bsI_next (by rw [Nat.zero_add, Nat.one_mul] at g5; exact g5); exact z)
  have u9 := lp2 0 (by omega) _ _ _ _ _ _ _ hG ho bsI_0
  exact Zj.less u9 (Nat.le_refl _) (Nat.le_refl _) (Nat.le_refl _)
set_option maxHeartbeats 4000000 in
theorem c_X15_tellRow14 (hX0 : xR D R no n np ro oh ph I0 L0 P0 S0) (hG : gS 14 ph I0 L0 P0 S0 a p h0 m en (bvS h0 NN) NN born I L P S b bK bc) (hb : b < NN) (h3 : bK ≤ 3) (kk : ∀ I2 L2, rwX I2 L2 (rowT bK bc bK) → fR I L I2 L2 → Q (.inl none) I2 L2 P S) : Zm G mX15_tellRow 2 C Sl [.ref a] I L P S Q := by
  have r1 : rwX I L R := hX0.2.2.1.2.fX (by rw [hG.1.2.1]) hG.1.2.2
  have hX := hX0.go hG.1.1 r1
  have hx := hX.1.x
  have hO := hX.1.wd
  have hR := hX.1.wr
  have hPc := hX.1.pc
  have hw := hX.1.hw
  have h6 := hw.o6
  have hn8 := hw.n8
  obtain ⟨r, ⟨hr1, hr2, hr3⟩, hr4, hr5⟩ := hG.2.2.2.2 hb
  refine Z_entry (lv := [_, _]) (Nat.le_of_ble_eq_true rfl) rfl ?_
  refine Z_aload_n dX15_tellRow_0 rfl ?_
  refine Z_getR (r := 100) hG.2.1.2.1 fX15_3_14 dX15_tellRow_1 rfl hG.2.2.1.1.2.2 ?_
  refine Z_iconst (nI 0) dX15_tellRow_4 rfl ?_
  refine Z_putIN hx.1 fX15_85_0 dX15_tellRow_5 rfl ?_
  refine Z_aload_n dX15_tellRow_8 rfl ?_
  refine Z_getR (r := 100) hG.2.1.2.1 fX15_3_14 dX15_tellRow_9 rfl hG.2.2.1.1.2.2 ?_
  refine Z_aload_n dX15_tellRow_12 rfl ?_
  refine Z_getR (r := r) hG.2.1.2.1 fX15_62_14 dX15_tellRow_13 rfl hr1 ?_
  refine Z_alen hr4 (by simp [zTys]) dX15_tellRow_16 ?_
  refine Z_iconst (nI 1) dX15_tellRow_17 rfl ?_
  refine Z_isubN dX15_tellRow_18 (by omega) ?_
  refine Z_re (y := nI bK) (by rw [show bK + 1 - 1 = bK by omega]) ?_
  refine Z_i2l dX15_tellRow_19 ?_
  refine Z_call0 (d' := 0) (zCal_VN q549 q83 q1030 q548 qs2 nX1_tell (by decide) dX15_tellRow_20) pX1_tell hx.1 zkl0 [_] rfl rfl (Nat.le_of_ble_eq_true rfl) (by omega) (c_X1_tell hx (rwX.z (I := I) (L := L)) (by decide) (fun J8 M8 u8 v8 => ?_))
  refine Z_iconst (nI 1) dX15_tellRow_23 rfl ?_
  refine Z_istore_n (lv' := [_, _]) dX15_tellRow_24 rfl rfl (Nat.le_of_ble_eq_true rfl) ?_
  have lp25 : ∀ i, i ≤ bK → ∀ I2 L2, rwX I2 L2 (rowT bK bc i) → fR I L I2 L2 → Zj G mX15_tellRow 2 C Sl 25 [.ref a, .int (nI (i + 1))] [] I2 L2 P S Q := by
    refine zloop (bK) (fun i => ∀ I2 L2, rwX I2 L2 (rowT bK bc i) → fR I L I2 L2 → Zj G mX15_tellRow 2 C Sl 25 [.ref a, .int (nI (i + 1))] [] I2 L2 P S Q) (fun i hi ih => ?_)
    intro I2 L2 u1 v1
    show Zj _ _ _ _ _ _ _ _ _ _ _ _ _
    refine Z_iload_n dX15_tellRow_25 rfl ?_
    refine Z_aload_n dX15_tellRow_26 rfl ?_
    refine Z_getR (r := r) hG.2.1.2.1 fX15_62_14 dX15_tellRow_27 rfl hr1 ?_
    refine Z_alen hr4 (by simp [zTys]) dX15_tellRow_30 ?_
    refine Z_icmpgeN 54 dX15_tellRow_31 rfl (by omega) (by omega) (fun c31 => ?_) (fun c31 => ?_)
    · have ei : i = bK := by omega
      rw [ei] at u1
      refine Z_return dX15_tellRow_54 rfl ?_
      exact kk _ _ u1 v1
    · refine Z_aload_n dX15_tellRow_34 rfl ?_
      refine Z_getR (r := 100) hG.2.1.2.1 fX15_3_14 dX15_tellRow_35 rfl hG.2.2.1.1.2.2 ?_
      refine Z_aload_n dX15_tellRow_38 rfl ?_
      refine Z_getR (r := r) hG.2.1.2.1 fX15_62_14 dX15_tellRow_39 rfl hr1 ?_
      refine Z_iload_n dX15_tellRow_42 rfl ?_
      refine Z_iald hr4 (zix_nI (by omega) (by omega)) dX15_tellRow_43 ?_
      refine Z_re (y := nI (dgR born bK bc (i + 1))) ((congrFun (v1.1 r (by omega)) (i + 1)).trans (hr5 (i + 1) (by omega))) ?_
      refine Z_i2l dX15_tellRow_44 ?_
      refine Z_call0 (d' := 0) (zCal_VN q549 q83 q1030 q548 qs2 nX1_tell (by decide) dX15_tellRow_45) pX1_tell hx.1 zkl0 [_] rfl rfl (Nat.le_of_ble_eq_true rfl) (by omega) (c_X1_tell hx u1 (by rw [rowT_l]; omega) (fun J3 M3 u3 v3 => ?_))
      refine Z_iincN (a := _) (k := 1) (lv' := [_, _]) dX15_tellRow_48 rfl rfl rfl rfl ?_
      refine Z_goto 25 dX15_tellRow_51 rfl ?_
      rw [dgR_b] at u3
      exact ih (by omega) _ _ u3 (v1.tr v3)
  exact lp25 0 (by omega) _ _ u8 (fR.rf.z.tr v8)
end X54C
