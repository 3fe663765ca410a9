set_option maxRecDepth 100000
/-! THE MODEL, part 27: a rule is set -/
section M27
variable {G : zG} {d C Sl : Nat} {I D W : zI} {R : List Int64} {L : zL} {P : zR} {S : zT} {Q : zQ} {no n np : Nat} {s : zS}
theorem mR_out {a k : Nat} {v : Int32} (h : mR D R I L P S) (ha : dAt a k = false) (hk : ¬ (a = 0 ∧ k = 1)) : mR D R (zw I a k v) L P S := by
  obtain ⟨h1, h2, h3, h4⟩ := h
  refine ⟨h1, h2, (md_out ha).trans h3, ⟨?_, h4.2⟩⟩
  rw [← h4.1]
  by_cases e : a = 0
  · subst e
    rw [zw_a, zu_n _ _ _ (fun e => hk ⟨rfl, e.symm⟩)]
  · rw [zw_n _ _ _ _ (fun q => e q.symm)]
theorem tU_d : ∀ a k, dAt a k = true → tU a k = false := by
  intro a k h
  unfold tU
  by_cases e0 : a = 0
  · subst e0
    have hk : k ≠ 30 ∧ k ≠ 32 := by
      constructor <;> (rintro rfl; exact absurd h (by decide))
    simp [hk.1, hk.2]
  · by_cases e26 : a = 26
    · subst e26
      have hk : k ≠ 1 := by rintro rfl; exact absurd h (by decide)
      simp [hk]
    · by_cases e25 : a = 25
      · subst e25
        have hk : k < 48 := by simpa [dAt, wAt] using h
        simp; omega
      · simp [e0, e26, e25]
theorem mR_U {I2 : zI} (h : mR D R I L P S) (hf : fr tU I I2) : mR D R I2 L P S := by
  obtain ⟨h1, h2, h3, h4⟩ := h
  exact ⟨h1, h2, (md_fr hf tU_d).trans h3, ⟨(hf 0 1 rfl).trans h4.1, h4.2⟩⟩
theorem frM_U {I2 : zI} (hf : fr tU I I2) : frM I L I2 L := frM.of hf fun a k h => by unfold tU; simp; omega
theorem ru_29 {v : Int32} {ro : Option (List Nat)} (h : ruM (wld D) ro) : ruM (wld (zw D 0 29 v)) ro := by
  have e : wld (zw D 0 29 v) = wld D := by
    funext a k
    unfold wld
    split
    · next q =>
      by_cases e : a = 0
      · subst e
        rw [zw_a, zu_n _ _ _ (by rintro rfl; exact absurd q (by decide))]
      · rw [zw_n _ _ _ _ e]
    · rfl
  rw [e]
  exact h
theorem cpyN_s {a b k : Nat} {f : zS} : ∀ m, k < m → cpyN D a b f m a (b + k) = f k := by
  intro m
  induction m with
  | zero => intro h; exact absurd h (Nat.not_lt_zero _)
  | succ m ih =>
    intro h
    rw [cpyN, zw_a]
    by_cases e : k = m
    · subst e; rw [zu_s]
    · rw [zu_n _ _ _ (by omega)]; exact ih (by omega)
theorem cpyN_a {a b c : Nat} {f : zS} (h : c ≠ a) : ∀ m, cpyN D a b f m c = D c := by
  intro m
  induction m with
  | zero => rfl
  | succ m ih => rw [cpyN, zw_n _ _ _ _ h]; exact ih
theorem ru_of {X : zI} {l : List Nat} {g : Nat} (h : isE g l) (h40 : l.length ≤ 40) (h26 : X 26 0 = nI l.length) (hf : ∀ k, k < l.length → X 25 k = nI (l.getD k 0)) : ruM (wld X) (some l) := by
  refine ⟨⟨g, h⟩, ?_, h40, fun k hk => ?_⟩
  · unfold wld
    rw [if_pos (by decide)]
    exact h26
  · unfold wld
    rw [if_pos (by simp [wAt]; omega)]
    exact hf k hk
/-- the new rule is read back -/
theorem ru_new {l : List Nat} {f : zS} {g : Nat} (h : isE g l) (h40 : l.length ≤ 40) (hf : ∀ k, k < l.length → f k = nI (l.getD k 0)) : ruM (wld (cpyN (zw (zw D 0 29 (nI 0)) 26 0 (nI l.length)) 25 0 f 48)) (some l) := by
  refine ru_of h h40 ?_ (fun k hk => ?_)
  · rw [cpyN_a (by decide), zw_s]
  · have e := cpyN_s (D := zw (zw D 0 29 (nI 0)) 26 0 (nI l.length)) (a := 25) (b := 0) (k := k) (f := f) 48 (by omega)
    rw [Nat.zero_add] at e
    rw [e]
    exact hf k hk
theorem far1 {v : Int32} : ∀ a k, a ≠ 25 → (a = 26 → k ≠ 0) → (a = 0 → k ≠ 29) → zw D 0 29 v a k = D a k := by
  intro a k h1 h2 h3
  by_cases e : a = 0
  · subst e; rw [zw_a, zu_n _ _ _ (h3 rfl)]
  · rw [zw_n _ _ _ _ e]
theorem far2 {v u : Int32} : ∀ a k, a ≠ 25 → (a = 26 → k ≠ 0) → (a = 0 → k ≠ 29) → zw (zw D 0 29 v) 26 0 u a k = D a k := by
  intro a k h1 h2 h3
  by_cases e : a = 26
  · subst e; rw [zw_a, zu_n _ _ _ (h2 rfl), zw_n _ _ _ _ (by decide)]
  · rw [zw_n _ _ _ _ e]; exact far1 a k h1 h2 h3
theorem far3 {v u : Int32} {f : zS} : ∀ a k, a ≠ 25 → (a = 26 → k ≠ 0) → (a = 0 → k ≠ 29) → cpyN (zw (zw D 0 29 v) 26 0 u) 25 0 f 48 a k = D a k := by
  intro a k h1 h2 h3
  rw [cpyN_a h1]
  exact far2 a k h1 h2 h3
set_option maxHeartbeats 8000000 in
theorem o_rule (hR : mR D R I L P S) (hX : zTx S) {t : Nat} (ht : D 0 29 = nI t) (ht60 : t ≤ 60) (h28 : ∀ j, j < 60 → ∃ v, v < 256 ∧ D 28 j = nI v) {ro : Option (List Nat)} (hru : ruM (wld D) ro) (k : ∀ D2 I2 L2, mR D2 R I2 L2 P S → frM I L I2 L2 → (∀ a k, a ≠ 25 → (a = 26 → k ≠ 0) → (a = 0 → k ≠ 29) → D2 a k = D a k) → D2 0 29 = nI 0 → ruM (wld D2) (ruN ro (rulV D t).2) → Q (.inl (some (.int (rulV D t).1))) I2 L2 P S) : Zm G mX5_rule 1017 C Sl [.ref 0] I L P S Q := by
  have hM := hR.1
  refine Z_entry (lv := [_, _, _, _, _]) (Nat.le_of_ble_eq_true rfl) rfl ?_
  refine Z_aload_n dX5_rule_0 rfl ?_
  refine Z_iconst (nI 0) dX5_rule_1 rfl ?_
  refine Z_putI hM.1 fX5_3_4 dX5_rule_2 rfl rfl rfl ?_
  refine Z_start hR (fun I1 hR1 f1 h00 => ?_)
  have hM := hR1.1
  have hD : mdat I1 = D := hR1.2.2.1
  refine Z_aload_n dX5_rule_5 rfl ?_
  refine Z_getI hM.1 fX5_170_4 dX5_rule_6 rfl ?_
  refine Z_re (y := nI (t)) ((dr hD rfl).trans ht) ?_
  refine Z_istore_n (lv' := [_, _, _, _, _]) dX5_rule_9 rfl rfl (Nat.le_of_ble_eq_true rfl) ?_
  refine Z_aload_n dX5_rule_10 rfl ?_
  refine Z_iconst (nI 0) dX5_rule_11 rfl ?_
  refine Z_putI hM.1 fX5_170_4 dX5_rule_12 rfl rfl rfl ?_
  refine Z_aload_n dX5_rule_15 rfl ?_
  refine Z_iconst (nI 0) dX5_rule_16 rfl ?_
  refine Z_putI hM.1 fX5_176_4 dX5_rule_17 rfl rfl rfl ?_
  refine Z_aload_n dX5_rule_20 rfl ?_
  refine Z_iconst (nI 0) dX5_rule_21 rfl ?_
  refine Z_putI hM.1 fX5_217_4 dX5_rule_22 rfl rfl rfl ?_
  refine Z_aload_n dX5_rule_25 rfl ?_
  refine Z_iload_n dX5_rule_26 rfl ?_
  refine Z_bipush (nI 40) dX5_rule_27 rfl ?_
  refine Z_callS0 (d' := 0) (zCal_S gX5_95 nJ5_min (by decide) dX5_rule_29) pJ5_min [_, _] rfl rfl (Nat.le_of_ble_eq_true rfl) (by omega) (c_J5_min ?_)
  refine Z_re (y := nI (min t 40)) (mn40 ht60) ?_
  refine Z_putI hM.1 fX5_179_4 dX5_rule_32 rfl rfl rfl ?_
  refine Z_aload_n dX5_rule_35 rfl ?_
  refine Z_getR (r := 26) hM.1 fX5_199_4 dX5_rule_36 rfl (hM.2.2 26 _ rfl rfl) ?_
  refine Z_iconst (nI 1) dX5_rule_39 rfl ?_
  refine Z_iconst (nI 0) dX5_rule_40 rfl ?_
  refine Z_iast (hM.2.1 26 _ rfl) (zix_nI (by omega) (by decide)) dX5_rule_41 ?_
  have gm : mR (zw D 0 29 (nI 0)) R (zw (zw (zw (zw (zw I1 0 29 (nI 0)) 0 30 (nI 0)) 0 32 (nI 0)) 0 31 (nI (min t 40))) 26 1 (nI 0)) L P S := mR_out (mR_out (mR_out (mR_out (hR1.zw rfl) rfl (by decide)) rfl (by decide)) rfl (by decide)) rfl (by decide)
  have fm : frM I L (zw (zw (zw (zw (zw I1 0 29 (nI 0)) 0 30 (nI 0)) 0 32 (nI 0)) 0 31 (nI (min t 40))) 26 1 (nI 0)) L := ((((f1.st (by decide)).st (by decide)).st (by decide)).st (by decide)).st (by decide)
  have hP : pS (tpc D) (min t 40) (zw (zw (zw (zw (zw I1 0 29 (nI 0)) 0 30 (nI 0)) 0 32 (nI 0)) 0 31 (nI (min t 40))) 26 1 (nI 0)) 0 0 := ⟨rfl, rfl, rfl, fun j hj => by
    obtain ⟨v, hv, ev⟩ := h28 j hj
    have e2 : (zw (zw (zw (zw (zw I1 0 29 (nI 0)) 0 30 (nI 0)) 0 32 (nI 0)) 0 31 (nI (min t 40))) 26 1 (nI 0)) 28 j = I1 28 j := rfl
    rw [e2, dr hD rfl, ev]
    unfold tpc
    rw [ev, nI_clamp (by omega), Nat.mod_eq_of_lt hv]⟩
  refine Z_iload_n dX5_rule_42 rfl ?_
  refine Z_ifneN 55 dX5_rule_43 rfl (by omega) (fun c43 => ?_) (fun c43 => ?_)
  · refine Z_aload_n dX5_rule_55 rfl ?_
    refine Z_iconst (nI 0) dX5_rule_56 rfl ?_
    refine Z_call0 (d' := (3 * 336 + 8)) (zCal_V gX5_220 nX5_ranked (by decide) dX5_rule_57) pX5_ranked hM.1 zkl4 [_] rfl rfl (Nat.le_of_ble_eq_true rfl) (by omega) ((PR_all (c := tpc D) (to := min t 40) hM hX (by omega) (fun j => Nat.mod_lt _ (by decide)) 336).1 0 (by omega) _ _ 0 0 0 (by rw [mz]; omega) (by omega) (by omega) (by omega) hP (zw_s _ _ _ _) (fun I2 q l e1 e2 e3 e4 => ?_) (fun I2 q e1 e2 e4 => ?_))
    · have e2q : I2 0 30 = nI q := e2.1
      have b1 := pz_pl _ _ _ _ _ (Nat.zero_le _) e1
      have b2 := b1.2.1
      have b4 := b1.2.2.2
      dsimp only at b2 b4
      have g2 := mR_U gm e4
      have f2 := fm.tr (frM_U e4)
      refine Z_istore_n (lv' := [_, _, _, _, _]) dX5_rule_60 rfl rfl (Nat.le_of_ble_eq_true rfl) ?_
      refine Z_iload_n dX5_rule_61 rfl ?_
      refine Z_ifeq 80 dX5_rule_62 rfl (fun h => absurd h (by decide)) (fun _ => ?_)
      refine Z_aload_n dX5_rule_65 rfl ?_
      refine Z_getI hM.1 fX5_176_4 dX5_rule_66 rfl ?_
      refine Z_re (y := nI (q)) e2q ?_
      refine Z_aload_n dX5_rule_69 rfl ?_
      refine Z_getI hM.1 fX5_179_4 dX5_rule_70 rfl ?_
      refine Z_re (y := nI (min t 40)) ((e4 0 31 rfl).trans rfl) ?_
      refine Z_icmpneN 80 dX5_rule_73 rfl (by omega) (by omega) (fun c73 => ?_) (fun c73 => ?_)
      · refine Z_iconst (nI 0) dX5_rule_80 rfl ?_
        refine Z_istore_n (lv' := [_, _, _, _, _]) dX5_rule_81 rfl rfl (Nat.le_of_ble_eq_true rfl) ?_
        refine Z_iload_n dX5_rule_82 rfl ?_
        refine Z_bipush (nI 40) dX5_rule_83 rfl ?_
        refine Z_icmpleN 104 dX5_rule_85 rfl (by omega) (by omega) (fun c85 => ?_) (fun c85 => ?_)
        · refine Z_iload_n dX5_rule_104 rfl ?_
          refine Z_ifne 115 dX5_rule_105 rfl (fun h => absurd h (by decide)) (fun _ => ?_)
          refine Z_iconst (-1) dX5_rule_108 rfl ?_
          refine Z_aload_n dX5_rule_109 rfl ?_
          refine Z_getI hM.1 fX5_176_4 dX5_rule_110 rfl ?_
          refine Z_re (y := nI (q)) e2q ?_
          refine Z_isub dX5_rule_113 ?_
          refine Z_ireturn dX5_rule_114 rfl rfl ?_
          have er : rulV D t = (-1 - nI q, none) := by
            unfold rulV
            rw [if_neg c43, e1]
            dsimp only
            rw [if_neg c73]
            rw [if_neg (by omega)]
          have k2 := k _ _ _ g2 f2 far1 (zw_s _ _ _ _) (by rw [er]; exact ru_29 hru)
          rw [er] at k2
          exact k2
        · refine Z_iload_n dX5_rule_88 rfl ?_
          refine Z_ifne 101 dX5_rule_89 rfl (fun h => absurd h (by decide)) (fun _ => ?_)
          refine Z_aload_n dX5_rule_92 rfl ?_
          refine Z_getI hM.1 fX5_176_4 dX5_rule_93 rfl ?_
          refine Z_re (y := nI (q)) e2q ?_
          refine Z_bipush (nI 40) dX5_rule_96 rfl ?_
          refine Z_icmpltN 104 dX5_rule_98 rfl (by omega) (by omega) (fun c98 => ?_) (fun c98 => ?_)
          · refine Z_iload_n dX5_rule_104 rfl ?_
            refine Z_ifne 115 dX5_rule_105 rfl (fun h => absurd h (by decide)) (fun _ => ?_)
            refine Z_iconst (-1) dX5_rule_108 rfl ?_
            refine Z_aload_n dX5_rule_109 rfl ?_
            refine Z_getI hM.1 fX5_176_4 dX5_rule_110 rfl ?_
            refine Z_re (y := nI (q)) e2q ?_
            refine Z_isub dX5_rule_113 ?_
            refine Z_ireturn dX5_rule_114 rfl rfl ?_
            have er : rulV D t = (-1 - nI q, none) := by
              unfold rulV
              rw [if_neg c43, e1]
              dsimp only
              rw [if_neg c73]
              rw [if_neg (by omega)]
            have k2 := k _ _ _ g2 f2 far1 (zw_s _ _ _ _) (by rw [er]; exact ru_29 hru)
            rw [er] at k2
            exact k2
          · refine Z_bipush (-41) dX5_rule_101 rfl ?_
            refine Z_ireturn dX5_rule_103 rfl rfl ?_
            have er : rulV D t = (-41, none) := by
              unfold rulV
              rw [if_neg c43, e1]
              dsimp only
              rw [if_neg c73]
              rw [if_pos (by omega)]
            have k2 := k _ _ _ g2 f2 far1 (zw_s _ _ _ _) (by rw [er]; exact ru_29 hru)
            rw [er] at k2
            exact k2
      · refine Z_iconst (nI 1) dX5_rule_76 rfl ?_
        refine Z_goto 81 dX5_rule_77 rfl ?_
        refine Z_istore_n (lv' := [_, _, _, _, _]) dX5_rule_81 rfl rfl (Nat.le_of_ble_eq_true rfl) ?_
        refine Z_iload_n dX5_rule_82 rfl ?_
        refine Z_bipush (nI 40) dX5_rule_83 rfl ?_
        refine Z_icmpleN 104 dX5_rule_85 rfl (by omega) (by omega) (fun c85 => ?_) (fun c85 => ?_)
        · refine Z_iload_n dX5_rule_104 rfl ?_
          refine Z_ifne 115 dX5_rule_105 rfl (fun _ => ?_) (fun h => absurd h (by decide))
          have ht4 : t ≤ 40 := by omega
          obtain ⟨g, hE⟩ := (pz_E _ _ _ _ _ (Or.inl (by omega)) (fun j => Nat.mod_lt _ (by decide)) e1).1 (by omega)
          have hlp := isE_pos hE
          dsimp only at hE hlp
          refine Z_aload_n dX5_rule_115 rfl ?_
          refine Z_getR (r := 26) hM.1 fX5_199_4 dX5_rule_116 rfl (hM.2.2 26 _ rfl rfl) ?_
          refine Z_iconst (nI 0) dX5_rule_119 rfl ?_
          refine Z_aload_n dX5_rule_120 rfl ?_
          refine Z_getR (r := 26) hM.1 fX5_199_4 dX5_rule_121 rfl (hM.2.2 26 _ rfl rfl) ?_
          refine Z_iconst (nI 1) dX5_rule_124 rfl ?_
          refine Z_iald (hM.2.1 26 _ rfl) (zix_nI (by omega) (by decide)) dX5_rule_125 ?_
          refine Z_re (y := nI l.length) (by rw [e3.1, Nat.zero_add]) ?_
          refine Z_iast (hM.2.1 26 _ rfl) (zix_nI (by omega) (by decide)) dX5_rule_126 ?_
          refine Z_iconst (nI 0) dX5_rule_127 rfl ?_
          refine Z_istore (lv' := [_, _, _, _, _]) dX5_rule_128 rfl rfl (Nat.le_of_ble_eq_true rfl) ?_
          have lp130 : ∀ i, i ≤ 48 → ∀ I3, mR (cpyN (zw (zw D 0 29 (nI 0)) 26 0 (nI l.length)) 25 0 (fun j => I2 25 (48 + j)) i) R I3 L P S → (∀ j, 48 ≤ j → I3 25 j = I2 25 j) → frM I L I3 L → Zj G mX5_rule 1017 C Sl 130 [.ref 0, .int (nI t), .int (nI 1), .int (nI 1), .int (nI i)] [] I3 L P S Q := by
            refine zloop (48) (fun i => ∀ I3, mR (cpyN (zw (zw D 0 29 (nI 0)) 26 0 (nI l.length)) 25 0 (fun j => I2 25 (48 + j)) i) R I3 L P S → (∀ j, 48 ≤ j → I3 25 j = I2 25 j) → frM I L I3 L → Zj G mX5_rule 1017 C Sl 130 [.ref 0, .int (nI t), .int (nI 1), .int (nI 1), .int (nI i)] [] I3 L P S Q) (fun i hi ih => ?_)
            intro I3 g3 z3 f3
            show Zj _ _ _ _ _ _ _ _ _ _ _ _ _
            refine Z_iload dX5_rule_130 rfl ?_
            refine Z_bipush (nI 48) dX5_rule_132 rfl ?_
            refine Z_icmpgeN 160 dX5_rule_134 rfl (by omega) (by omega) (fun c134 => ?_) (fun c134 => ?_)
            · have ei : i = 48 := by omega
              rw [ei] at g3
              refine Z_iconst (nI 0) dX5_rule_160 rfl ?_
              refine Z_ireturn dX5_rule_161 rfl rfl ?_
              have er : rulV D t = (nI 0, some l) := by
                unfold rulV
                rw [if_neg c43, e1]
                dsimp only
                rw [if_pos c73, if_neg (by omega)]
              have k2 := k _ _ _ g3 f3 far3 (by rw [cpyN_a (by decide), zw_n _ _ _ _ (by decide), zw_s]) (by rw [er]; show ruM _ (if l = [] then none else some l); rw [if_neg (fun e => by rw [e] at hlp; simp at hlp)]; exact ru_new hE (by omega) (fun j hj => by have := e3.2.2 j hj; rw [Nat.zero_add] at this; exact this))
              rw [er] at k2
              exact k2
            · refine Z_aload_n dX5_rule_137 rfl ?_
              refine Z_getR (r := 25) hM.1 fX5_196_4 dX5_rule_138 rfl (hM.2.2 25 _ rfl rfl) ?_
              refine Z_iload dX5_rule_141 rfl ?_
              refine Z_aload_n dX5_rule_143 rfl ?_
              refine Z_getR (r := 25) hM.1 fX5_196_4 dX5_rule_144 rfl (hM.2.2 25 _ rfl rfl) ?_
              refine Z_bipush (nI 48) dX5_rule_147 rfl ?_
              refine Z_iload dX5_rule_149 rfl ?_
              refine Z_iaddN dX5_rule_151 ?_
              refine Z_iald (hM.2.1 25 _ rfl) (zix_nI (by omega) (by decide)) dX5_rule_152 ?_
              refine Z_re (y := I2 25 (48 + i)) (z3 (48 + i) (by omega)) ?_
              refine Z_iast (hM.2.1 25 _ rfl) (zix_nI (by omega) (by decide)) dX5_rule_153 ?_
              refine Z_iincN (a := _) (k := 1) (lv' := [_, _, _, _, _]) dX5_rule_154 rfl rfl rfl rfl ?_
              refine Z_goto 130 dX5_rule_157 rfl ?_
              refine ih (by omega) _ ?_ (fun j hj => ?_) (f3.st (by decide))
              · have := g3.zw (a := 25) (k := i) (v := I2 25 (48 + i)) (by simp [dAt, wAt]; omega)
                rw [cpyN, Nat.zero_add]; exact this
              · rw [zw_a, zu_n _ _ _ (by omega)]; exact z3 j hj
          exact lp130 0 (by omega) _ (g2.zw rfl) (fun j hj => congrFun (zw_n _ _ _ _ (by decide)) j) (f2.st (by decide))
        · refine Z_iload_n dX5_rule_88 rfl ?_
          refine Z_ifne 101 dX5_rule_89 rfl (fun _ => ?_) (fun h => absurd h (by decide))
          refine Z_bipush (-41) dX5_rule_101 rfl ?_
          refine Z_ireturn dX5_rule_103 rfl rfl ?_
          have er : rulV D t = (-41, none) := by
            unfold rulV
            rw [if_neg c43, e1]
            dsimp only
            rw [if_pos c73, if_pos (by omega)]
          have k2 := k _ _ _ g2 f2 far1 (zw_s _ _ _ _) (by rw [er]; exact ru_29 hru)
          rw [er] at k2
          exact k2
    · have e2q : I2 0 30 = nI q := e2
      have b2 : q ≤ min t 40 := (pz_fl _ _ _ _ _ (Nat.zero_le _) e1).2
      have g2 := mR_U gm e4
      have f2 := fm.tr (frM_U e4)
      refine Z_istore_n (lv' := [_, _, _, _, _]) dX5_rule_60 rfl rfl (Nat.le_of_ble_eq_true rfl) ?_
      refine Z_iload_n dX5_rule_61 rfl ?_
      refine Z_ifeq 80 dX5_rule_62 rfl (fun _ => ?_) (fun h => absurd h (by decide))
      refine Z_iconst (nI 0) dX5_rule_80 rfl ?_
      refine Z_istore_n (lv' := [_, _, _, _, _]) dX5_rule_81 rfl rfl (Nat.le_of_ble_eq_true rfl) ?_
      refine Z_iload_n dX5_rule_82 rfl ?_
      refine Z_bipush (nI 40) dX5_rule_83 rfl ?_
      refine Z_icmpleN 104 dX5_rule_85 rfl (by omega) (by omega) (fun c85 => ?_) (fun c85 => ?_)
      · refine Z_iload_n dX5_rule_104 rfl ?_
        refine Z_ifne 115 dX5_rule_105 rfl (fun h => absurd h (by decide)) (fun _ => ?_)
        refine Z_iconst (-1) dX5_rule_108 rfl ?_
        refine Z_aload_n dX5_rule_109 rfl ?_
        refine Z_getI hM.1 fX5_176_4 dX5_rule_110 rfl ?_
        refine Z_re (y := nI (q)) e2q ?_
        refine Z_isub dX5_rule_113 ?_
        refine Z_ireturn dX5_rule_114 rfl rfl ?_
        have er : rulV D t = (-1 - nI q, none) := by
          unfold rulV
          rw [if_neg c43, e1]
          dsimp only
          rw [if_neg (by omega)]
        have k2 := k _ _ _ g2 f2 far1 (zw_s _ _ _ _) (by rw [er]; exact ru_29 hru)
        rw [er] at k2
        exact k2
      · refine Z_iload_n dX5_rule_88 rfl ?_
        refine Z_ifne 101 dX5_rule_89 rfl (fun h => absurd h (by decide)) (fun _ => ?_)
        refine Z_aload_n dX5_rule_92 rfl ?_
        refine Z_getI hM.1 fX5_176_4 dX5_rule_93 rfl ?_
        refine Z_re (y := nI (q)) e2q ?_
        refine Z_bipush (nI 40) dX5_rule_96 rfl ?_
        refine Z_icmpltN 104 dX5_rule_98 rfl (by omega) (by omega) (fun c98 => ?_) (fun c98 => ?_)
        · refine Z_iload_n dX5_rule_104 rfl ?_
          refine Z_ifne 115 dX5_rule_105 rfl (fun h => absurd h (by decide)) (fun _ => ?_)
          refine Z_iconst (-1) dX5_rule_108 rfl ?_
          refine Z_aload_n dX5_rule_109 rfl ?_
          refine Z_getI hM.1 fX5_176_4 dX5_rule_110 rfl ?_
          refine Z_re (y := nI (q)) e2q ?_
          refine Z_isub dX5_rule_113 ?_
          refine Z_ireturn dX5_rule_114 rfl rfl ?_
          have er : rulV D t = (-1 - nI q, none) := by
            unfold rulV
            rw [if_neg c43, e1]
            dsimp only
            rw [if_neg (by omega)]
          have k2 := k _ _ _ g2 f2 far1 (zw_s _ _ _ _) (by rw [er]; exact ru_29 hru)
          rw [er] at k2
          exact k2
        · refine Z_bipush (-41) dX5_rule_101 rfl ?_
          refine Z_ireturn dX5_rule_103 rfl rfl ?_
          have er : rulV D t = (-41, none) := by
            unfold rulV
            rw [if_neg c43, e1]
            dsimp only
            rw [if_pos (by omega)]
          have k2 := k _ _ _ g2 f2 far1 (zw_s _ _ _ _) (by rw [er]; exact ru_29 hru)
          rw [er] at k2
          exact k2
  · refine Z_aload_n dX5_rule_46 rfl ?_
    refine Z_getR (r := 26) hM.1 fX5_199_4 dX5_rule_47 rfl (hM.2.2 26 _ rfl rfl) ?_
    refine Z_iconst (nI 0) dX5_rule_50 rfl ?_
    refine Z_iconst (nI 0) dX5_rule_51 rfl ?_
    refine Z_iast (hM.2.1 26 _ rfl) (zix_nI (by omega) (by decide)) dX5_rule_52 ?_
    refine Z_iconst (nI 0) dX5_rule_53 rfl ?_
    refine Z_ireturn dX5_rule_54 rfl rfl ?_
    have er : rulV D t = (nI 0, some []) := by rw [rulV, if_pos c43]
    have k2 := k _ _ _ (gm.zw (a := 26) (k := 0) (v := nI 0) rfl) (fm.st (by decide)) far2 (by rw [zw_n _ _ _ _ (by decide), zw_s]) (by rw [er]; show ruM _ (if ([] : List Nat) = [] then none else some []); rw [if_pos rfl]; exact (show zw (zw D 0 29 (nI 0)) 26 0 (nI 0) 26 0 = nI 0 from zw_s _ _ _ _))
    rw [er] at k2
    exact k2
end M27
