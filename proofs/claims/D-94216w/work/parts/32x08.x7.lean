set_option maxRecDepth 100000
/-! THE COMPONENT, part 7: a state begins, ends -/
section X7C
variable {G : zG} {d C Sl pc : Nat} {M : zM} {lv st : List Value} {I D W : zI} {R : List Int64} {L : zL} {P : zR} {S : zT} {Q : zQ} {no n np : Nat} {s : zS} {oh ph : Nat → Nat}
theorem Z_aastN {a n j : Nat} {i : Int32} {CC : String} (hS : S a = some (.inr (.object CC, n))) (ht : FieldType.object CC ∈ zTys) (hi : zix i j n) (hd : decode M.2.1 pc = .ok (.aastore, 1)) (k : Zj G M d C Sl (pc + 1) lv st I L (zw P a j none) S Q) : Zj G M d C Sl pc lv (.null :: .int i :: .ref a :: st) I L P S Q := by
  intro p e R s m args below meth c H locs cells slots Kc Ks QQ ad ls X
  have hR := X.2.2.1
  have hw := X.2.2.2.2.2.2.1
  have hm : zmu S a := zmu_arr hS
  refine va_WaastN (C := CC) X.1.1 X.1.2.1 ((hR.1 a).arr hS) ((zArr X.2.1 ht).1 n _) (fun h => by cases h) (by show ¬ (i < 0 ∨ (arrV _ _ _).slots.size ≤ _); rw [arrV_size]; exact hi.in) rfl rfl hd fun H1 e1 e2 e3 => ?_
  rw [hi.1] at e1 ⊢
  refine k p e R s m args below meth c H1 _ cells slots Kc Ks QQ ad ls (X.toM (hR.put hm (fun _ _ => rfl) (fun _ _ => rfl) (fun b hb => zw_n _ _ _ _ hb) (zw_wf (fun y hy => by cases hy) (fun q r hr => hR.2.2.2 a q r hm.1 hr)) e3 ?_) (X.2.2.2.1.put e2 e3 (hR.2.2.1 a hm)) (zwf_tl (zwf_tl (zwf_tl hw))))
  unfold zc
  rw [hS]
  dsimp only
  exact z_store e1 (fun q => zv_r (ty := fun _ => .object CC) (r := none) rfl q)
/-- one that can never be worked -/
def stk0 (W : zI) (no n p : Nat) (s : zS) : Prop := p < n ∧ isDn s p = false ∧ ∃ a, a < no ∧ s (3 + p) = nI a ∧ zbit (W 9 a) (W 17 p) = false
theorem stk_wS {rd : Int32} {hr p q : Nat} {t : zK4} (h : stk0 W no n p t.1) (hn : n ≤ 8) (h6 : no ≤ 6) (hq : q < n) : stk0 W no n p (wrkS W rd hr q t).1 := by
  obtain ⟨h1, h2, a, h3, h4, h5⟩ := h
  refine ⟨h1, ?_, a, h3, by rw [wrkS_j (by omega) (by omega)]; exact h4, h5⟩
  have e : (wrkS W rd hr q t).1 (35 + p) = t.1 (35 + p) := by
    by_cases hpq : q = p
    · subst hpq
      unfold wrkS
      split
      · split
        · exact zu_n _ _ _ (by omega)
        · have ec : canW W t.2.2.2 hr q (t.1 (3 + q)).toNatClampNeg = false := by
            unfold canW
            rw [h4, nI_clamp (by omega), h5]
            simp
          rw [if_neg (by rw [ec]; decide)]
      · rfl
    · unfold wrkS
      split
      · split
        · exact zu_n _ _ _ (by omega)
        · split
          · unfold wrk1
            try dsimp only
            have e : ∀ a b c e : Int32, zu (zu (zu (zu t.1 (11 + q) a) (19 + q) b) (43 + q) c) 1 e (35 + p) = t.1 (35 + p) := fun a b c e => by
              rw [zu_n _ _ _ (by omega), zu_n _ _ _ (by omega), zu_n _ _ _ (by omega), zu_n _ _ _ (by omega)]
            split
            · rw [zu_n _ _ _ (by omega)]; exact e _ _ _ _
            · split
              · exact e _ _ _ _
              · split
                · rw [zu_n _ _ _ (by omega), zu_n _ _ _ (by omega)]; exact e _ _ _ _
                · exact e _ _ _ _
          · rfl
      · rfl
  unfold isDn at h2 ⊢
  rw [e]
  exact h2
theorem stk_hr {p : Nat} (h : stk0 W no n p s) (hn : n ≤ 8) (h6 : no ≤ 6) : stk0 W no n p (hrS W none no n s) := by
  have key : ∀ i, i ≤ n → stk0 W no n p (wrkN W (rdyB W s n) (s 0).toNatClampNeg (s, nI 0, nI 0, fun _ => nI 0) i).1 := by
    intro i
    induction i with
    | zero => exact fun _ => h
    | succ i ih => exact fun hi => stk_wS (ih (by omega)) hn h6 (by omega)
  obtain ⟨h1, h2, a, h3, h4, h5⟩ := key n (Nat.le_refl n)
  refine ⟨h1, ?_, a, h3, ?_, h5⟩
  · show isDn (zu (wrks W n s).1 0 (s 0 + nI 1)) p = false
    unfold isDn at h2 ⊢
    rw [zu_n _ _ _ (by omega)]
    exact h2
  · show zu (wrks W n s).1 0 (s 0 + nI 1) (3 + p) = _
    rw [zu_n _ _ _ (by omega)]
    exact h4
theorem stk_nd {p : Nat} (h : stk0 W no n p s) : allDn s n = false := by
  rw [← Bool.not_eq_true]
  intro q
  have := allB_iff.mp q p h.1
  rw [h.2.1] at this
  cases this
theorem stk_end {p : Nat} (hn : n ≤ 8) (h6 : no ≤ 6) : ∀ (f : Nat) (s : zS), stk0 W no n p s → endN W none no n f s = none := by
  intro f
  induction f with
  | zero => exact fun s h => endN_0 (stk_nd h)
  | succ f ih => exact fun s h => by rw [endN_nd (stk_nd h)]; exact ih _ (stk_hr h hn h6)
set_option maxHeartbeats 4000000 in
theorem c_X3_isStuck {w h : Nat} (e : hE W no n oh ph w h I P S) (g : sRw n I h s) (hs : sf W no n s) (kt : ∀ p, stk0 W no n p s → Q (.inl (some (.int (nI 1)))) I L P S) (kf : Q (.inl (some (.int (nI 0)))) I L P S) : Zm G mX3_isStuck 3 C Sl [.ref h, .ref w] I L P S Q := by
  have hx := e.x
  have hO := e.wd
  have hR := e.wr
  have hT := e.st
  have hPc := e.pc
  have hw := e.hw
  have hf := e.hx
  have hb := e.b
  have hn := e.nn
  have n8 := hw.n8
  have h6 := hw.o6
  have hn8 := hw.n8
  have hdn := fun (p : Nat) (hp : p < n) => hs.dn hp
  refine Z_entry (lv := [_, _, _]) (Nat.le_of_ble_eq_true rfl) rfl ?_
  refine Z_iconst (nI 0) dX3_isStuck_0 rfl ?_
  refine Z_istore_n (lv' := [_, _, _]) dX3_isStuck_1 rfl rfl (Nat.le_of_ble_eq_true rfl) ?_
  have lp2 : ∀ i, i ≤ n → Zj G mX3_isStuck 3 C Sl 2 [.ref h, .ref w, .int (nI i)] [] I L P S Q := by
    refine zloop (n) (fun i => Zj G mX3_isStuck 3 C Sl 2 [.ref h, .ref w, .int (nI i)] [] I L P S Q) (fun i hi ih => ?_)
    show Zj _ _ _ _ _ _ _ _ _ _ _ _ _
    refine Z_iload_n dX3_isStuck_2 rfl ?_
    refine Z_aload_n dX3_isStuck_3 rfl ?_
    refine Z_getR (r := 100) hT.1 fX3_3_2 dX3_isStuck_4 rfl hT.2.2 ?_
    refine Z_getIN hx.1 fX3_60_0 dX3_isStuck_7 rfl ?_
    refine Z_re (y := nI (n)) hn ?_
    refine Z_icmpgeN 56 dX3_isStuck_10 rfl (by omega) (by omega) (fun c10 => ?_) (fun c10 => ?_)
    · refine Z_iconst (nI 0) dX3_isStuck_56 rfl ?_
      refine Z_ireturn dX3_isStuck_57 rfl rfl ?_
      exact kf
    · obtain ⟨a, haN, ea⟩ := hs.pl (p := i) (by omega)
      refine Z_aload_n dX3_isStuck_13 rfl ?_
      refine Z_getR (r := (h + 7)) hT.1 fX3_25_2 dX3_isStuck_14 rfl (hT.2.1 7 _ rfl).2 ?_
      refine Z_iload_n dX3_isStuck_17 rfl ?_
      refine Z_iald (hT.2.1 7 _ rfl).1 (zix_nI (by first | omega | (dsimp only; omega)) (by decide)) dX3_isStuck_18 ?_
      refine Z_re (g.f (k := 7) (by decide) (by decide) (p := i) (by omega)) ?_
      refine Z_iconst (-1) dX3_isStuck_19 rfl ?_
      refine Z_icmpne 50 dX3_isStuck_20 rfl (fun c20 => ?_) (fun c20 => ?_)
      · refine Z_iincN (a := _) (k := 1) (lv' := [_, _, _]) dX3_isStuck_50 rfl rfl rfl rfl ?_
        refine Z_goto 2 dX3_isStuck_53 rfl ?_
        exact ih (by omega)
      · refine Z_aload_n dX3_isStuck_23 rfl ?_
        refine Z_aload_n dX3_isStuck_24 rfl ?_
        refine Z_getR (r := (h + 4)) hT.1 fX3_15_2 dX3_isStuck_25 rfl (hT.2.1 4 _ rfl).2 ?_
        refine Z_iload_n dX3_isStuck_28 rfl ?_
        refine Z_iald (hT.2.1 4 _ rfl).1 (zix_nI (by first | omega | (dsimp only; omega)) (by decide)) dX3_isStuck_29 ?_
        refine Z_re (y := nI (a)) ((g.f (k := 4) (by decide) (by decide) (p := i) (by omega)).trans ea) ?_
        refine Z_aload_n dX3_isStuck_30 rfl ?_
        refine Z_getR (r := 100) hT.1 fX3_3_2 dX3_isStuck_31 rfl hT.2.2 ?_
        refine Z_getRN (r := 110) hx.1 fX3_73_0 dX3_isStuck_34 rfl (hx.2.2.1 0 _ rfl).2 ?_
        refine Z_iload_n dX3_isStuck_37 rfl ?_
        refine Z_aald (r := (ph i)) (hx.2.2.1 0 _ rfl).1 (by simp [zTys]) rfl (zix_nI (by first | omega | (dsimp only; omega)) (by decide)) (hPc i (by omega)).1 dX3_isStuck_38 ?_
        refine Z_getI (hPc i (by omega)).2.1 fX3_124_6 dX3_isStuck_39 rfl ?_
        refine Z_re (hPc i (by omega)).2.2.1.1 ?_
        refine Z_call0 (d' := 1) (zCal_V gX3_127 nX2_hasCraft (by decide) dX3_isStuck_42) pX2_hasCraft hO.1 zkl1 [_, _] rfl rfl (Nat.le_of_ble_eq_true rfl) (by omega) (c_X2_hasCraft hO hR h6 (by omega) (fun h42 => ?_) (fun h42 => ?_))
        · refine Z_ifne 50 dX3_isStuck_45 rfl (fun _ => ?_) (fun h => absurd h (by decide))
          refine Z_iincN (a := _) (k := 1) (lv' := [_, _, _]) dX3_isStuck_50 rfl rfl rfl rfl ?_
          refine Z_goto 2 dX3_isStuck_53 rfl ?_
          exact ih (by omega)
        · refine Z_ifne 50 dX3_isStuck_45 rfl (fun h => absurd h (by decide)) (fun _ => ?_)
          refine Z_iconst (nI 1) dX3_isStuck_48 rfl ?_
          refine Z_ireturn dX3_isStuck_49 rfl rfl ?_
          have idn := dn_i (p := i) (hdn i (by omega))
          exact kt i ⟨by omega, by rw [idn, decide_eq_true (show s (35 + i) = -1 from c20)]; rfl, a, haN, ea, h42⟩
  exact lp2 0 (by omega)
set_option maxHeartbeats 8000000 in
theorem c_X3_end {w h : Nat} (e : hE W no n oh ph w h I P S) (g : sRw n I h s) {ro : Option (List Nat)} (hro : ruX I P S w ro) (hs : sf W no n s) {B : Nat} (hkB : hk s n B) (hB : B < 2 ^ 28) (h37 : ro ≠ none → W 0 37 = 0) (kt : ∀ s2 t I2 P2, pEnd W ro no n s = some s2 → s2 0 = nI t → t ≤ 2399 → sRw n I2 h s2 → sf W no n s2 → hk s2 n (B + 20000) → fH h I I2 → f3 P P2 → Q (.inl (some (.int (nI t)))) I2 L P2 S) (kn : pEnd W ro no n s = none → ∀ I2 P2, fH h I I2 → f3 P P2 → Q (.inl (some (.int (-2)))) I2 L P2 S) : Zm G mX3_end 103 C Sl [.ref h, .ref w] I L P S Q := by
  have hx := e.x
  have hO := e.wd
  have hR := e.wr
  have hT := e.st
  have hPc := e.pc
  have hw := e.hw
  have hf := e.hx
  have hb := e.b
  have hn := e.nn
  have n8 := hw.n8
  have h6 := hw.o6
  have hn8 := hw.n8
  obtain ⟨t0, ht0, h0⟩ := hs.now
  have hE0 : endN W ro no n (2399 - t0) s = pEnd W ro no n s := by unfold pEnd; rw [h0, nI_clamp (by omega)]
  refine Z_entry (lv := [_, _]) (Nat.le_of_ble_eq_true rfl) rfl ?_
  have lp0 : ∀ i, i ≤ 2399 - t0 → ∀ s2 I2 P2, s2 0 = nI (t0 + i) → sf W no n s2 → sRw n I2 h s2 → hk s2 n (B + 8 * i) → fH h I I2 → f3 P P2 → endN W ro no n (2399 - t0 - i) s2 = endN W ro no n (2399 - t0) s → Zj G mX3_end 103 C Sl 0 [.ref h, .ref w] [] I2 L P2 S Q := by
    refine zloop (2399 - t0) (fun i => ∀ s2 I2 P2, s2 0 = nI (t0 + i) → sf W no n s2 → sRw n I2 h s2 → hk s2 n (B + 8 * i) → fH h I I2 → f3 P P2 → endN W ro no n (2399 - t0 - i) s2 = endN W ro no n (2399 - t0) s → Zj G mX3_end 103 C Sl 0 [.ref h, .ref w] [] I2 L P2 S Q) (fun i hi ih => ?_)
    intro s2 I2 P2 e0 hs2 g2 hk2 fI fP hE9
    show Zj _ _ _ _ _ _ _ _ _ _ _ _ _
    have e2 := e.fr fI fP
    have hx := e2.x
    have hO := e2.wd
    have hR := e2.wr
    have hT := e2.st
    have hPc := e2.pc
    have hw := e2.hw
    have hf := e2.hx
    have hb := e2.b
    have hn := e2.nn
    have n8 := hw.n8
    have h6 := hw.o6
    have hn8 := hw.n8
    have hdn := fun (p : Nat) (hp : p < n) => hs2.dn hp
    have hro2 := hro.fH fI fP (by omega) (by omega)
    refine Z_aload_n dX3_end_0 rfl ?_
    refine Z_call0 (d' := 1) (zCal_V gX3_149 nX3_isAllDone (by decide) dX3_end_1) pX3_isAllDone hT.1 zkl2 [] rfl rfl (Nat.le_of_ble_eq_true rfl) (by omega) (c_X3_isAllDone hx hT g2 hn hn8 hdn (fun h1 => ?_) (fun h1 => ?_))
    · refine Z_ifne 43 dX3_end_4 rfl (fun _ => ?_) (fun h => absurd h (by decide))
      refine Z_aload_n dX3_end_43 rfl ?_
      refine Z_call0 (d' := 1) (zCal_V gX3_149 nX3_isAllDone (by decide) dX3_end_44) pX3_isAllDone hT.1 zkl2 [] rfl rfl (Nat.le_of_ble_eq_true rfl) (by omega) (c_X3_isAllDone hx hT g2 hn hn8 hdn (fun h44 => ?_) (fun h44 => ?_))
      · refine Z_ifeq 57 dX3_end_47 rfl (fun h => absurd h (by decide)) (fun _ => ?_)
        refine Z_aload_n dX3_end_50 rfl ?_
        refine Z_getI hT.1 fX3_47_2 dX3_end_51 rfl ?_
        refine Z_re (y := nI ((t0 + i))) (g2.1.1.trans e0) ?_
        refine Z_goto 59 dX3_end_54 rfl ?_
        refine Z_ireturn dX3_end_59 rfl rfl ?_
        exact kt s2 (t0 + i) I2 P2 (by rw [← hE0, ← hE9]; exact endN_dn h1 _) e0 (by omega) g2 hs2 (hk_le hk2 (by omega)) fI fP
      · exact absurd h1 (by rw [h44]; decide)
    · refine Z_ifne 43 dX3_end_4 rfl (fun h => absurd h (by decide)) (fun _ => ?_)
      refine Z_aload_n dX3_end_7 rfl ?_
      refine Z_getI hT.1 fX3_47_2 dX3_end_8 rfl ?_
      refine Z_re (y := nI ((t0 + i))) (g2.1.1.trans e0) ?_
      refine Z_sipush (nI 2399) dX3_end_11 rfl ?_
      refine Z_icmpgeN 43 dX3_end_14 rfl (by omega) (by omega) (fun c14 => ?_) (fun c14 => ?_)
      · refine Z_aload_n dX3_end_43 rfl ?_
        refine Z_call0 (d' := 1) (zCal_V gX3_149 nX3_isAllDone (by decide) dX3_end_44) pX3_isAllDone hT.1 zkl2 [] rfl rfl (Nat.le_of_ble_eq_true rfl) (by omega) (c_X3_isAllDone hx hT g2 hn hn8 hdn (fun h44 => ?_) (fun h44 => ?_))
        · exact absurd h1 (by rw [h44]; decide)
        · refine Z_ifeq 57 dX3_end_47 rfl (fun _ => ?_) (fun h => absurd h (by decide))
          refine Z_bipush (-2) dX3_end_57 rfl ?_
          refine Z_ireturn dX3_end_59 rfl rfl ?_
          exact kn (by rw [← hE0, ← hE9, show 2399 - t0 - i = 0 by omega]; exact endN_0 h1) I2 P2 fI fP
      · rcases ro with _ | er
        · refine Z_aload_n dX3_end_17 rfl ?_
          refine Z_getN hO.1 fX3_153_1 dX3_end_18 rfl hro2 ?_
          refine Z_ifnonnullN dX3_end_21 ?_
          refine Z_aload_n dX3_end_24 rfl ?_
          refine Z_aload_n dX3_end_25 rfl ?_
          refine Z_call0 (d' := 3) (zCal_V gX3_157 nX3_isStuck (by decide) dX3_end_26) pX3_isStuck hT.1 zkl2 [_] rfl rfl (Nat.le_of_ble_eq_true rfl) (by omega) (c_X3_isStuck e2 g2 hs2 (fun p9 hst => ?_) ?_)
          · refine Z_ifeq 35 dX3_end_29 rfl (fun h => absurd h (by decide)) (fun _ => ?_)
            refine Z_bipush (-2) dX3_end_32 rfl ?_
            refine Z_ireturn dX3_end_34 rfl rfl ?_
            exact kn (by rw [← hE0, ← hE9]; exact stk_end hn8 h6 _ _ hst) I2 P2 fI fP
          · refine Z_ifeq 35 dX3_end_29 rfl (fun _ => ?_) (fun h => absurd h (by decide))
            refine Z_aload_n dX3_end_35 rfl ?_
            refine Z_aload_n dX3_end_36 rfl ?_
            refine Z_call0 (d' := 102) (zCal_V gX3_161 nX3_hour (by decide) dX3_end_37) pX3_hour hT.1 zkl2 [_] rfl rfl (Nat.le_of_ble_eq_true rfl) (by omega) (c_X3_hour (ro := none) e2 g2 (hro.fH fI fP (by omega) (by omega)) hs2 hk2 (by omega) h37 e0 (by omega) (fun I3 P3 z37 y37 x37 w37 _ _ => ?_))
            refine Z_goto 0 dX3_end_40 rfl ?_
            have q := ih (by omega) (hrS W none no n s2) I3 P3 (hrS_0 e0) (sf_hrS hs2 hw e0 (by omega)) z37 (hk_le y37 (by omega)) (fI.tr x37) (fP.tr w37) (by rw [← hE9, show 2399 - t0 - i = (2399 - t0 - (i + 1)) + 1 by omega, endN_nd h1]) 
            exact q
        · obtain ⟨r9, f9, hP9, -, -⟩ := hro2
          refine Z_aload_n dX3_end_17 rfl ?_
          refine Z_getR (r := r9) hO.1 fX3_153_1 dX3_end_18 rfl hP9 ?_
          refine Z_ifnonnullR 35 dX3_end_21 rfl ?_
          refine Z_aload_n dX3_end_35 rfl ?_
          refine Z_aload_n dX3_end_36 rfl ?_
          refine Z_call0 (d' := 102) (zCal_V gX3_161 nX3_hour (by decide) dX3_end_37) pX3_hour hT.1 zkl2 [_] rfl rfl (Nat.le_of_ble_eq_true rfl) (by omega) (c_X3_hour (ro := (some er)) e2 g2 (hro.fH fI fP (by omega) (by omega)) hs2 hk2 (by omega) h37 e0 (by omega) (fun I3 P3 z37 y37 x37 w37 _ _ => ?_))
          refine Z_goto 0 dX3_end_40 rfl ?_
          have q := ih (by omega) (hrS W (some er) no n s2) I3 P3 (hrS_0 e0) (sf_hrS hs2 hw e0 (by omega)) z37 (hk_le y37 (by omega)) (fI.tr x37) (fP.tr w37) (by rw [← hE9, show 2399 - t0 - i = (2399 - t0 - (i + 1)) + 1 by omega, endN_nd h1]) 
          exact q
  exact lp0 0 (by omega) s I P h0 hs g (hk_le hkB (by omega)) fH.rf f3.rf (by rw [Nat.sub_zero])
end X7C
