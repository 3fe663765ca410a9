set_option maxRecDepth 100000
/-! THE COMPONENT, part 18: an end from an hour on; pairs brought together -/
section X18C
variable {G : zG} {d C Sl : Nat} {I D W : zI} {R : List Int64} {L : zL} {P : zR} {S : zT} {Q : zQ} {no n np : Nat} {s : zS} {oh ph : Nat → Nat} {ro : Option (List Nat)}
theorem hk_beg {h : Nat} (hn : n ≤ 8) : hk (begS W s n h) n 0 := by
  refine ⟨0, Nat.le_refl _, ?_, ?_⟩
  · unfold begS; rw [layN_o (by omega) n hn, zu_s]; rfl
  · unfold begS; exact sumI_0 fun p hp => (layN_v n p hp hn).2.2.2.1
/-- another world, at 220, the same offices -/
theorem hE.oth {I2 W2 : zI} {P2 : zR} (e : hE W no n oh ph 200 240 I P S) (q1 : wdO S P2 220) (q2 : wRw S P2 I2 220 W2 no oh) (fI : fW 220 I I2) (fP : fW 220 P P2) (hw : wf W2 no n) (hf : xf W2 n) (hp : pcR S P I W2 n ph) : hE W2 no n oh ph 220 240 I2 P2 S := by
  have hb := e.b
  refine ⟨⟨e.x.p (fun b hb => fP b (by omega)) q1, by rw [fI 100 (by omega)]; exact e.nn⟩, ⟨q1, q2⟩, ⟨e.st.eq (fun _ _ _ _ => rfl) (fP _ (by omega)), fun p h => ?_⟩, ⟨hw, hf⟩, ⟨by omega, by omega, by omega, by omega⟩, e.ho, e.hp⟩
  obtain ⟨x1, x2, x3⟩ := hp p h
  have h6p := e.hp p h
  exact ⟨by rw [fP 110 (by omega)]; exact x1, x2, by rw [fI (ph p) (by omega)]; exact x3⟩
/-- no pair twice -/
def prd (D : zI) (np : Nat) : Prop := ∀ i j, i < j → j < np → ¬ ((D 51 i = D 51 j ∧ D 52 i = D 52 j) ∨ (D 51 i = D 52 j ∧ D 52 i = D 51 j))
theorem brg_kn {x : Nat} (hp : prs D no np) (hd : prd D np) (h6 : no ≤ 6) {j a b : Nat} (hj : j < np) (ea : D 51 j = nI a) (eb : D 52 j = nI b) (ha : a < no) (hb : b < no) : ∀ k, k ≤ j → brgN D x k 13 (6 * a + b) = D 13 (6 * a + b) := by
  intro k
  induction k with
  | zero => exact fun _ => rfl
  | succ k ih =>
    intro hk
    rw [brgN]
    split
    · obtain ⟨a2, b2, h1, h2, e1, e2⟩ := hp k (by omega)
      have hn := hd k j (by omega) hj
      rw [e1, e2, nI_clamp (by omega), nI_clamp (by omega)]
      unfold stKn
      rw [zw_a, zu_n _ _ _ (fun q => hn (Or.inr ⟨by rw [e1, eb]; congr 1; omega, by rw [e2, ea]; congr 1; omega⟩)), zw_a, zu_n _ _ _ (fun q => hn (Or.inl ⟨by rw [e1, ea]; congr 1; omega, by rw [e2, eb]; congr 1; omega⟩))]
      exact ih (by omega)
    · exact ih (by omega)
theorem brg_at {x a k : Nat} (h : a ≠ 13) : ∀ i, wld (brgN D x i) a k = wld D a k := fun i => congrFun (brg_W h i) k
set_option maxHeartbeats 4000000 in
theorem c_X1_endIn {w : Nat} (e : hE W no n oh ph w 240 I P S) (hro : ruX I P S w ro) (hz : ∀ j, 127 ≤ j → s j = 0) {hr : Nat} (hh : hr ≤ 2399) (h37 : ro ≠ none → W 0 37 = 0) (kt : ∀ s2 t I2 P2, pEnd W ro no n (begS W s n hr) = some s2 → s2 0 = nI t → t ≤ 2399 → fH 270 I I2 → f3 P P2 → Q (.inl (some (.int (nI t)))) I2 L P2 S) (kn : pEnd W ro no n (begS W s n hr) = none → ∀ I2 P2, fH 270 I I2 → f3 P P2 → Q (.inl (some (.int (-2)))) I2 L P2 S) : Zm G mX1_endIn 104 C Sl [.ref 100, .ref w, .int (nI hr)] I L P S Q := by
  have hx := e.x
  have hO := e.wd
  have hR := e.wr
  have hT := e.st
  have hPc := e.pc
  have hw := e.hw
  have hf := e.hx
  have hb := e.b
  have hn := e.nn
  have n8 := hw.n8
  have h6 := hw.o6
  have hn8 := hw.n8
  refine Z_entry (lv := [_, _, _]) (Nat.le_of_ble_eq_true rfl) rfl ?_
  refine Z_aload_n dX1_endIn_0 rfl ?_
  refine Z_getR (r := 270) hx.1 fX1_66_0 dX1_endIn_1 rfl hx.2.2.2.1.2.2.2.1 ?_
  refine Z_iload_n dX1_endIn_4 rfl ?_
  refine Z_call0 (d' := 1) (zCal_V gX1_221 nX3_begin (by decide) dX1_endIn_5) pX3_begin hx.2.2.2.2.2.2.2.1 zkl2 [_] rfl rfl (Nat.le_of_ble_eq_true rfl) (by omega) (c_X3_begin hx hx.2.2.2.2.2.2.2 hn hn8 hPc (by omega) e.hp (fun I2 gB fI => ?_))
  have eA := e.s270.fr (fH.of fI) (f3.rf (f := P))
  refine Z_aload_n dX1_endIn_8 rfl ?_
  refine Z_call0 (d' := 103) (zCal_V gX1_268 nX3_end (by decide) dX1_endIn_9) pX3_end hx.2.2.2.2.2.2.2.1 zkl2 [_] rfl rfl (Nat.le_of_ble_eq_true rfl) (by omega) (c_X3_end eA (gB s) (hro.fH (fH.of fI) (f3.rf (f := P)) (by omega) (by omega)) (sf_begS hw hz hh) (hk_beg hn8) (by decide) h37 (fun s2 t I5 P5 a1 a2 a3 a4 a5 a6 a7 a8 => ?_) (fun a1 I5 P5 a7 a8 => ?_))
  · refine Z_ireturn dX1_endIn_12 rfl rfl ?_
    exact kt s2 t I5 P5 a1 a2 a3 ((fH.of fI).tr a7) a8
  · refine Z_ireturn dX1_endIn_12 rfl rfl ?_
    exact kn a1 I5 P5 ((fH.of fI).tr a7) a8
set_option maxHeartbeats 4000000 in
theorem c_X1_price (hx : xO S P) (hnp : I 100 14 = nI np) (hn9 : np ≤ 9) (hpr : prX D I np) {x : Nat} (k : Q (.inl (some (.int (prcN D x np)))) I L P S) : Zm G mX1_price 1 C Sl [.ref 100, .int (nI x)] I L P S Q := by
  refine Z_entry (lv := [_, _, _, _]) (Nat.le_of_ble_eq_true rfl) rfl ?_
  refine Z_iconst (nI 0) dX1_price_0 rfl ?_
  refine Z_istore_n (lv' := [_, _, _, _]) dX1_price_1 rfl rfl (Nat.le_of_ble_eq_true rfl) ?_
  refine Z_iconst (nI 0) dX1_price_2 rfl ?_
  refine Z_istore_n (lv' := [_, _, _, _]) dX1_price_3 rfl rfl (Nat.le_of_ble_eq_true rfl) ?_
  have lp4 : ∀ i, i ≤ np → Zj G mX1_price 1 C Sl 4 [.ref 100, .int (nI x), .int (prcN D x i), .int (nI i)] [] I L P S Q := by
    refine zloop (np) (fun i => Zj G mX1_price 1 C Sl 4 [.ref 100, .int (nI x), .int (prcN D x i), .int (nI i)] [] I L P S Q) (fun i hi ih => ?_)
    show Zj _ _ _ _ _ _ _ _ _ _ _ _ _
    refine Z_iload_n dX1_price_4 rfl ?_
    refine Z_aload_n dX1_price_5 rfl ?_
    refine Z_getI hx.1 fX1_352_0 dX1_price_6 rfl ?_
    refine Z_re (y := nI (np)) hnp ?_
    refine Z_icmpgeN 39 dX1_price_9 rfl (by omega) (by omega) (fun c9 => ?_) (fun c9 => ?_)
    · have ei : i = np := by omega
      rw [ei]
      refine Z_iload_n dX1_price_39 rfl ?_
      refine Z_ireturn dX1_price_40 rfl rfl ?_
      exact k
    · refine Z_iload_n dX1_price_12 rfl ?_
      refine Z_iload_n dX1_price_13 rfl ?_
      refine Z_iload_n dX1_price_14 rfl ?_
      refine Z_callS0 (d' := 0) (zCal_S gX1_287 nX1_has (by decide) dX1_price_15) pX1_has [_, _] rfl rfl (Nat.le_of_ble_eq_true rfl) (by omega) (c_X1_has (fun h15 => ?_) (fun h15 => ?_))
      · refine Z_ifeq 30 dX1_price_18 rfl (fun h => absurd h (by decide)) (fun _ => ?_)
        refine Z_aload_n dX1_price_21 rfl ?_
        refine Z_getR (r := 305) hx.1 fX1_84_0 dX1_price_22 rfl (hx.2.2.1 13 _ rfl).2 ?_
        refine Z_iload_n dX1_price_25 rfl ?_
        refine Z_iald (hx.2.2.1 13 _ rfl).1 (zix_nI (by first | omega | (dsimp only; omega)) (by decide)) dX1_price_26 ?_
        refine Z_re (hpr i (by omega)).2.2 ?_
        refine Z_goto 31 dX1_price_27 rfl ?_
        refine Z_iadd dX1_price_31 ?_
        refine Z_istore_n (lv' := [_, _, _, _]) dX1_price_32 rfl rfl (Nat.le_of_ble_eq_true rfl) ?_
        refine Z_iincN (a := _) (k := 1) (lv' := [_, _, _, _]) dX1_price_33 rfl rfl rfl rfl ?_
        refine Z_goto 4 dX1_price_36 rfl ?_
        have q := ih (by omega)
        have e1 : prcN D x (i + 1) = prcN D x i + (if zbit (nI x) (nI i) = true then D 53 i else nI 0) := rfl
        rw [e1, if_pos h15] at q
        exact q
      · refine Z_ifeq 30 dX1_price_18 rfl (fun _ => ?_) (fun h => absurd h (by decide))
        refine Z_iconst (nI 0) dX1_price_30 rfl ?_
        refine Z_iadd dX1_price_31 ?_
        refine Z_istore_n (lv' := [_, _, _, _]) dX1_price_32 rfl rfl (Nat.le_of_ble_eq_true rfl) ?_
        refine Z_iincN (a := _) (k := 1) (lv' := [_, _, _, _]) dX1_price_33 rfl rfl rfl rfl ?_
        refine Z_goto 4 dX1_price_36 rfl ?_
        have q := ih (by omega)
        have e1 : prcN D x (i + 1) = prcN D x i + (if zbit (nI x) (nI i) = true then D 53 i else nI 0) := rfl
        rw [e1, if_neg (by rw [h15]; decide)] at q
        exact q
  exact lp4 0 (by omega)
set_option maxHeartbeats 4000000 in
theorem c_X1_with (hX : xR D R no n np ro oh ph I L P S) (hn9 : np ≤ 9) (hprs : prs D no np) (hprd : prd D np) {x : Nat} (k : ∀ I2 P2, hE (wld (brgN D x np)) no n oh ph 220 240 I2 P2 S → ruX I2 P2 S 220 ro → fX I L P S I2 L P2 S → I2 100 = I 100 → Q (.inl (some (.ref 220))) I2 L P2 S) : Zm G mX1_with 2 C Sl [.ref 100, .int (nI x)] I L P S Q := by
  obtain ⟨e, ⟨g, hro⟩, ⟨⟨h29, h50⟩, hrw⟩, ⟨htx, hpr, hkp⟩, htl, hoh, hph⟩ := hX
  have hX : xR D R no n np ro oh ph I L P S := ⟨e, ⟨g, hro⟩, ⟨⟨h29, h50⟩, hrw⟩, ⟨htx, hpr, hkp⟩, htl, hoh, hph⟩
  have hx := e.x
  have hO := e.wd
  have hR := e.wr
  have hT := e.st
  have hPc := e.pc
  have hw := e.hw
  have hf := e.hx
  have hb := e.b
  have hn := e.nn
  have n8 := hw.n8
  have h6 := hw.o6
  have hn8 := hw.n8
  have hno : noD D = no := by rw [noD, show D 0 3 = nI no from hw.o3, nI_clamp (by omega)]
  have hnn : nD D = n := by rw [nD, show D 0 16 = nI n from hw.n16, nI_clamp (by omega)]
  refine Z_entry (lv := [_, _, _, _]) (Nat.le_of_ble_eq_true rfl) rfl ?_
  refine Z_aload_n dX1_with_0 rfl ?_
  refine Z_getR (r := 220) hx.1 fX1_56_0 dX1_with_1 rfl hx.2.2.2.1.2.1 ?_
  refine Z_aload_n dX1_with_4 rfl ?_
  refine Z_getR (r := 200) hx.1 fX1_52_0 dX1_with_5 rfl hx.2.2.2.1.1 ?_
  refine Z_call0 (d' := 1) (zCal_V gX1_346 nX2_as (by decide) dX1_with_8) pX2_as hx.2.2.2.2.2.1.1 zkl1 [_] rfl rfl (Nat.le_of_ble_eq_true rfl) (by omega) (c_X2_asB hO hx.2.2.2.2.2.1 hR htl.1.1 h6 e.ho (by decide) (by decide) (fun Ia P2 q1 q2 q3 q4 q5 q6 q7 q8 => ?_))
  obtain ⟨-, -, -, -, ⟨-, -, hN⟩, -⟩ := id hX
  have hxA := hx.p (fun b hb => q6 b (by omega)) q1
  have hx := hxA
  have hO : wdO S P2 200 := hxA.2.2.2.2.1
  have eP := e
  refine Z_astore_n (lv' := [_, _, _, _]) dX1_with_11 rfl rfl (Nat.le_of_ble_eq_true rfl) ?_
  refine Z_iconst (nI 0) dX1_with_12 rfl ?_
  refine Z_istore_n (lv' := [_, _, _, _]) dX1_with_13 rfl rfl (Nat.le_of_ble_eq_true rfl) ?_
  have lp14 : ∀ i, i ≤ np → ∀ I2, wRw S P2 I2 220 (wld (brgN D x i)) no oh → fW 220 I I2 → Zj G mX1_with 2 C Sl 14 [.ref 100, .int (nI x), .ref 220, .int (nI i)] [] I2 L P2 S Q := by
    refine zloop (np) (fun i => ∀ I2, wRw S P2 I2 220 (wld (brgN D x i)) no oh → fW 220 I I2 → Zj G mX1_with 2 C Sl 14 [.ref 100, .int (nI x), .ref 220, .int (nI i)] [] I2 L P2 S Q) (fun i hi ih => ?_)
    intro I2 gW fI
    show Zj _ _ _ _ _ _ _ _ _ _ _ _ _
    refine Z_iload_n dX1_with_14 rfl ?_
    refine Z_aload_n dX1_with_15 rfl ?_
    refine Z_getI hx.1 fX1_352_0 dX1_with_16 rfl ?_
    refine Z_re (y := nI (np)) ((congrFun (fI 100 (by omega)) 14).trans h50) ?_
    refine Z_icmpgeN 80 dX1_with_19 rfl (by omega) (by omega) (fun c19 => ?_) (fun c19 => ?_)
    · have ei : i = np := by omega
      rw [ei] at gW
      refine Z_aload_n dX1_with_80 rfl ?_
      refine Z_areturn dX1_with_81 rfl (by first | exact Or.inl ⟨_, rfl⟩ | exact Or.inr ⟨_, rfl⟩) ?_
      have eb := e.oth (W2 := wld (brgN D x np)) q1 gW fI q6 (wf_pt e.hw (brg_at (by decide) np) (brg_at (by decide) np) (fun p => brg_at (by decide) np) (fun p => brg_at (by decide) np)) (xf_pt e.hx (fun a p h1 h2 => brg_at (by omega) np)) (e.pc.wq (fun a p h1 h2 => brg_at (by omega) np) (brg_at (by decide) np))
      exact k I2 P2 eb (hro.w q4 (fun b hb => fI b (by omega)) (fun b hb => q6 b (by omega))) ((fX.rf hN).w fI q6 q7 q8) (fI 100 (by omega))
    · refine Z_iload_n dX1_with_22 rfl ?_
      refine Z_iload_n dX1_with_23 rfl ?_
      refine Z_callS0 (d' := 0) (zCal_S gX1_287 nX1_has (by decide) dX1_with_24) pX1_has [_, _] rfl rfl (Nat.le_of_ble_eq_true rfl) (by omega) (c_X1_has (fun h24 => ?_) (fun h24 => ?_))
      · obtain ⟨a, b, ha, hb9, ea, eb⟩ := hprs i (by omega)
        have p303 := (hpr i (by omega)).1.trans ea
        have p304 := (hpr i (by omega)).2.1.trans eb
        have i303 : I2 303 = I 303 := fI 303 (by omega)
        have i304 : I2 304 = I 304 := fI 304 (by omega)
        have kn9 : I2 (200 + 3 + a) b = brgN D x i 13 (6 * a + b) := (congrFun (fI _ (by omega)) b).trans ((hR.kn h6 ha hb9).trans (brg_kn hprs hprd h6 (by omega) ea eb ha hb9 i (Nat.le_refl _)).symm)
        refine Z_ifeq 74 dX1_with_27 rfl (fun h => absurd h (by decide)) (fun _ => ?_)
        refine Z_aload_n dX1_with_30 rfl ?_
        refine Z_aload_n dX1_with_31 rfl ?_
        refine Z_getR (r := 303) hx.1 fX1_78_0 dX1_with_32 rfl (hx.2.2.1 11 _ rfl).2 ?_
        refine Z_iload_n dX1_with_35 rfl ?_
        refine Z_iald (hx.2.2.1 11 _ rfl).1 (zix_nI (by first | omega | (dsimp only; omega)) (by decide)) dX1_with_36 ?_
        refine Z_re (y := nI a) ((congrFun i303 i).trans p303) ?_
        refine Z_aload_n dX1_with_37 rfl ?_
        refine Z_getR (r := 304) hx.1 fX1_81_0 dX1_with_38 rfl (hx.2.2.1 12 _ rfl).2 ?_
        refine Z_iload_n dX1_with_41 rfl ?_
        refine Z_iald (hx.2.2.1 12 _ rfl).1 (zix_nI (by first | omega | (dsimp only; omega)) (by decide)) dX1_with_42 ?_
        refine Z_re (y := nI b) ((congrFun i304 i).trans p304) ?_
        refine Z_bipush (nI 9) dX1_with_43 rfl ?_
        refine Z_aload_n dX1_with_45 rfl ?_
        refine Z_getR (r := 200) hx.1 fX1_52_0 dX1_with_46 rfl hx.2.2.2.1.1 ?_
        refine Z_getR (r := (200 + 2)) hO.1 fX1_141_1 dX1_with_49 rfl hO.2.2.1.2 ?_
        refine Z_aload_n dX1_with_52 rfl ?_
        refine Z_getR (r := 303) hx.1 fX1_78_0 dX1_with_53 rfl (hx.2.2.1 11 _ rfl).2 ?_
        refine Z_iload_n dX1_with_56 rfl ?_
        refine Z_iald (hx.2.2.1 11 _ rfl).1 (zix_nI (by first | omega | (dsimp only; omega)) (by decide)) dX1_with_57 ?_
        refine Z_re (y := nI a) ((congrFun i303 i).trans p303) ?_
        refine Z_aald (r := (200 + 3 + a)) hO.2.2.1.1 (by simp [zTys]) rfl (zix_nI (by first | omega | (dsimp only; omega)) (by decide)) (hO.2.2.2 a (by omega)).2 dX1_with_58 ?_
        refine Z_aload_n dX1_with_59 rfl ?_
        refine Z_getR (r := 304) hx.1 fX1_81_0 dX1_with_60 rfl (hx.2.2.1 12 _ rfl).2 ?_
        refine Z_iload_n dX1_with_63 rfl ?_
        refine Z_iald (hx.2.2.1 12 _ rfl).1 (zix_nI (by first | omega | (dsimp only; omega)) (by decide)) dX1_with_64 ?_
        refine Z_re (y := nI b) ((congrFun i304 i).trans p304) ?_
        refine Z_iald (hO.2.2.2 a (by omega)).1 (zix_nI (by first | omega | (dsimp only; omega)) (by decide)) dX1_with_65 ?_
        refine Z_re kn9 ?_
        refine Z_iconst (nI 3) dX1_with_66 rfl ?_
        refine Z_iadd dX1_with_67 ?_
        refine Z_callS0 (d' := 0) (zCal_S gX1_163 nJ5_min (by decide) dX1_with_68) pJ5_min [_, _] rfl rfl (Nat.le_of_ble_eq_true rfl) (by omega) (c_J5_min ?_)
        refine Z_call0 (d' := 0) (zCal_V gX1_145 nX2_know (by decide) dX1_with_71) pX2_know hx.2.2.2.2.2.1.1 zkl1 [_, _, _] rfl rfl (Nat.le_of_ble_eq_true rfl) (by omega) (c_X2_know q1 (by omega) (by omega) ?_)
        refine Z_iincN (a := _) (k := 1) (lv' := [_, _, _, _]) dX1_with_74 rfl rfl rfl rfl ?_
        refine Z_goto 14 dX1_with_77 rfl ?_
        refine ih (by omega) _ ?_ ((fI.st (by omega)).st (by omega))
        rw [brgN, if_pos h24, ea, eb, nI_clamp (by omega), nI_clamp (by omega)]
        unfold stKn
        rw [wld_zi rfl, wld_zi rfl]
        exact gW.knw ha hb9 h6 e.ho (by omega)
      · refine Z_ifeq 74 dX1_with_27 rfl (fun _ => ?_) (fun h => absurd h (by decide))
        refine Z_iincN (a := _) (k := 1) (lv' := [_, _, _, _]) dX1_with_74 rfl rfl rfl rfl ?_
        refine Z_goto 14 dX1_with_77 rfl ?_
        exact ih (by omega) _ (by rw [brgN, if_neg (by rw [h24]; decide)]; exact gW) fI
  exact lp14 0 (by omega) Ia q2 q5
end X18C
