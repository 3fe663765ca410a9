set_option maxRecDepth 100000
/-! THE COMPONENT, part 42: the reader of a rule, its ranks -/
section X42C
variable {G : zG} {d C Sl : Nat} {I : zI} {L : zL} {P : zR} {S : zT} {Q : zQ} {c : Nat → Nat} {to r ns p m : Nat}
/-- how many things a reading makes at most -/
def cz (c : Nat → Nat) (to k ns p : Nat) : Nat := match pzz c to k ns p with
  | .inr x => x.2.length
  | .inl q => q - p + 1
theorem cz_r {k q : Nat} {l : List Nat} (h : pzz c to k ns p = .inr (q, l)) : cz c to k ns p = l.length := by unfold cz; rw [h]
theorem cz_l {k q : Nat} (h : pzz c to k ns p = .inl q) : cz c to k ns p = q - p + 1 := by unfold cz; rw [h]
theorem cz_5 {j : Nat} (h : amg c to [33, 45] p = some j) : cz c to 5 ns (p + 1) + 1 ≤ cz c to 5 ns p := by
  have hl := amg_lt h
  have e := z5_s (ns := ns) h
  cases e1 : pzz c to 5 ns (p + 1) with
  | inl q =>
    rw [e1] at e
    have b := pz_fl _ _ _ _ _ (show p + 1 ≤ to by omega) e1
    rw [cz_l e1, cz_l e]; omega
  | inr x =>
    rw [e1] at e
    rw [cz_r (q := x.1) (l := x.2) e1, cz_r e, List.length_append]; exact Nat.le_refl _
theorem cz_56 (hp : p ≤ to) (h : amg c to [33, 45] p = none) : cz c to 5 ns p = cz c to 6 ns p := by unfold cz; rw [z5_n hp h]
theorem cz_6 (hp : p ≤ to) (h : ¬ (p < to ∧ isDg (c p) = true)) (h2 : amg c to sgL p = none) (h3 : ¬ (amg c to [40] p = none ∨ ns = 5)) : cz c to 0 (ns + 1) (p + 1) ≤ cz c to 6 ns p ∧ ∀ q l, pzz c to 0 (ns + 1) (p + 1) = .inr (q, l) → amg c to [41] q = none → cz c to 0 (ns + 1) (p + 1) + 1 ≤ cz c to 6 ns p := by
  have e := z6_sub hp h h2 h3
  have hl : p < to := by
    cases ha : amg c to [40] p with
    | none => exact absurd (Or.inl ha) h3
    | some j => exact amg_lt ha
  cases e1 : pzz c to 0 (ns + 1) (p + 1) with
  | inl q =>
    rw [e1] at e
    have b := pz_fl _ _ _ _ _ (show p + 1 ≤ to by omega) e1
    refine ⟨?_, fun q l h => by cases h⟩
    rw [cz_l e1, cz_l e]; omega
  | inr x =>
    rw [e1] at e
    have b := pz_pl _ _ _ _ _ (show p + 1 ≤ to by omega) e1
    have e2 : cz c to 0 (ns + 1) (p + 1) = x.2.length := cz_r (q := x.1) (l := x.2) e1
    dsimp only at e
    by_cases h9 : amg c to [41] x.1 = none
    · rw [if_pos h9] at e
      rw [cz_l e, e2]
      exact ⟨by omega, fun q l _ _ => by omega⟩
    · rw [if_neg h9] at e
      rw [cz_r e, e2]
      refine ⟨Nat.le_refl _, fun q l h hn => ?_⟩
      cases h
      exact absurd hn h9
theorem cz_k {k : Nat} (hp : p ≤ to) (hk : k < 5) : cz c to (k + 1) ns p ≤ cz c to k ns p := by
  have e := zr_s (c := c) (ns := ns) hp hk
  cases e1 : pzz c to (k + 1) ns p with
  | inl q => rw [e1] at e; rw [cz_l e1, cz_l e]; exact Nat.le_refl _
  | inr x =>
    rw [e1] at e
    dsimp only at e
    have b := pz_pl _ _ _ _ _ hp e1
    rw [cz_r (q := x.1) (l := x.2) e1]
    cases e2 : pzz c to (10 + k) ns x.1 with
    | inl q =>
      rw [e2] at e
      have b2 := pz_fl _ _ _ _ _ b.2.1 e2
      rw [cz_l e]; omega
    | inr y => rw [e2] at e; rw [cz_r e, List.length_append]; omega
/-- behind a rank's first: what is made so far, one more, what follows -/
theorem cz_m {k q j : Nat} {l : List Nat} (hk : k ≤ 4) (hq : q ≤ to) (hl : l.length ≤ q - p) (hpq : p ≤ q) (hj : amg c to (acL k) q = some j) (e : pzz c to k ns p = (match pzz c to (10 + k) ns q with | .inl a => .inl a | .inr y => .inr (y.1, l ++ y.2))) : l.length + 1 + cz c to (k + 1) ns (q + 1) ≤ cz c to k ns p := by
  have hlt := amg_lt hj
  rw [zl_s hk hj] at e
  cases e1 : pzz c to (k + 1) ns (q + 1) with
  | inl a =>
    rw [e1] at e
    have b := pz_fl _ _ _ _ _ (show q + 1 ≤ to by omega) e1
    rw [cz_l e1, cz_l e]; omega
  | inr x =>
    rw [e1] at e
    dsimp only at e
    have b := pz_pl _ _ _ _ _ (show q + 1 ≤ to by omega) e1
    have b1 := b.1
    have b4 := b.2.2.2
    rw [cz_r (q := x.1) (l := x.2) e1]
    by_cases h2 : k = 2
    · rw [if_pos h2] at e
      rw [cz_r e, List.length_append, List.length_append]; show _ ≤ _ + (_ + 1); omega
    · rw [if_neg h2] at e
      cases e2 : pzz c to (10 + k) ns x.1 with
      | inl a =>
        rw [e2] at e
        have b2 := pz_fl _ _ _ _ _ b.2.1 e2
        rw [cz_l e]; omega
      | inr y => rw [e2] at e; rw [cz_r e, List.length_append, List.length_append, List.length_append]; show _ ≤ _ + (_ + 1 + _); omega
/-- a reader of the kind k, for what measures less than m -/
def PRx (G : zG) (c : Nat → Nat) (to r m : Nat) (M : zM) (k : Nat) : Prop := ∀ (I : zI) (L : zL) (P : zR) (S : zT) (Q : zQ) (ns p : Nat), mz to k p < m → p ≤ to → ns ≤ 5 → rdX c to r I P S p → (∀ I2 L2 P2 S2 h q l, pzz c to (k) ns p = .inr (q, l) → rdX c to r I2 P2 S2 q → nQ (fun a => S a = none) I2 P2 S2 l.length h l → fN r I L P S I2 L2 P2 S2 → Q (.inl (some (.ref h))) I2 L2 P2 S2) → (∀ I2 L2 P2 S2 a q, pzz c to (k) ns p = .inl q → S2 a = some (.inl 10) → I2 a 0 = nI q → fN r I L P S I2 L2 P2 S2 → Q (.inr (10, some a)) I2 L2 P2 S2) → Zm G M (m + 8) (cz c to k ns p) (7 * cz c to k ns p) [.ref r, .int (nI ns)] I L P S Q
theorem fN.no {a : Nat} {I2 : zI} {L2 : zL} {P2 : zR} {S2 : zT} (f : fN r I L P S I2 L2 P2 S2) (h : S2 a = none) : S a = none := by
  cases e : S a with
  | none => rfl
  | some x =>
    have := (f.1 a (Or.inr (by rw [e]; simp))).2.2.2
    rw [h, e] at this; cases this
theorem fN.flt {a : Nat} {v : Int32} {I2 : zI} {L2 : zL} {P2 : zR} {S2 : zT} (f : fN r I L P S I2 L2 P2 S2) (ha : 7000 ≤ a) (hs : S2 a = none) (hr : S r ≠ none) : fN r I L P S (zw (zu I2 a fun _ => 0) a 0 v) (zu L2 a fun _ => 0) (zu P2 a fun _ => none) (zu S2 a (some (.inl 10))) :=
  (f.nw (g1 := fun _ => 0) (g2 := fun _ => 0) (g3 := fun _ => none) (x := .inl 10) ha hs hr).wr ha (f.no hs) hr (fun b hb => zw_n _ _ _ _ hb) (fun _ _ => rfl)
theorem ixL_g {l : List Nat} {x : Nat} : ∀ {j : Nat}, ixL l x = some j → l.getD j 0 = x := by
  induction l with
  | nil => intro j h; cases h
  | cons a l ih =>
    intro j h
    rw [ixL] at h
    split at h
    · next e => cases h; exact e
    · cases hq : ixL l x with
      | none => rw [hq] at h; cases h
      | some q => rw [hq] at h; cases h; exact ih hq
theorem sg_i2c : ∀ j, j ≤ 11 → ((sb (sgL.getD j 0)).toUInt32 % 65536).toInt32 = nI (sgL.getD j 0) := by decide +kernel
theorem amg_2 {x y : Nat} (h1 : ¬ (p < to ∧ c p = x)) (h2 : ¬ (p < to ∧ c p = y)) : amg c to [x, y] p = none := by
  unfold amg ixL ixL ixL
  by_cases h : p < to
  · rw [if_pos h, if_neg (fun e => h1 ⟨h, e.symm⟩), if_neg (fun e => h2 ⟨h, e.symm⟩)]; rfl
  · rw [if_neg h]
set_option maxHeartbeats 16000000 in
theorem t_xthing (ih5 : PRx G c to r m mX8_thing 5) (ih0 : PRx G c to r m mX8_either 0) (hc : ∀ j, c j < 256) (hz : mz to (5) p < m + 1) (hp : p ≤ to) (hns : ns ≤ 5) (hP : rdX c to r I P S p) (kt : (∀ I2 L2 P2 S2 h q l, pzz c to (5) ns p = .inr (q, l) → rdX c to r I2 P2 S2 q → nQ (fun a => S a = none) I2 P2 S2 l.length h l → fN r I L P S I2 L2 P2 S2 → Q (.inl (some (.ref h))) I2 L2 P2 S2)) (kf : (∀ I2 L2 P2 S2 a q, pzz c to (5) ns p = .inl q → S2 a = some (.inl 10) → I2 a 0 = nI q → fN r I L P S I2 L2 P2 S2 → Q (.inr (10, some a)) I2 L2 P2 S2)) : Zm G mX8_thing ((m + 9)) (cz c to 5 ns p) (7 * cz c to 5 ns p) [.ref r, .int (nI ns)] I L P S Q := by
  have h40 := hP.2.1.2.2
  have hP0 := hP
  have hnn := hP.nn
  have f0 : fN r I L P S I L P S := fN.rf hP.2.2.2.2
  refine Z_entry (lv := [_, _, _, _]) (Nat.le_of_ble_eq_true rfl) rfl ?_
  refine Z_aload_n dX8_thing_0 rfl ?_
  refine Z_bipush (nI 33) dX8_thing_1 rfl ?_
  refine Z_call0 (d' := 1) (zCal_V gX8_58 nX8_passes (by decide) dX8_thing_3) pX8_passes hP.1.1 zkl7 [_] rfl rfl (Nat.le_of_ble_eq_true rfl) (by omega) (c_X8_passes hP hp hc (y := 33) (by decide) (fun h3a h3b => ?_) (fun n3 => ?_))
  · have j5 : amg c to [33, 45] p = some 0 := by unfold amg; rw [if_pos h3a, h3b]; rfl
    have hcz := cz_5 (ns := ns) j5
    have e5 := z5_s (ns := ns) j5
    have hP := hP.at (q := p + 1)
    have f1 := f0.at (v := nI (p + 1))
    refine Z_ifeq 22 dX8_thing_6 rfl (fun h => absurd h (by decide)) (fun _ => ?_)
    obtain ⟨N1, hN1, hN2⟩ := hP.2.2.2.2
    refine Zj.less (C := cz c to (5) (ns) (p + 1) + 1) (Sl := 7 * cz c to (5) (ns) (p + 1) + 1) ?_ (Nat.le_refl _) (by omega) (by omega)
    refine Z_new N1 (hN2 N1 (Nat.le_refl _)) wX8_79 dX8_thing_9 ?_
    have f2 := f1.nw (g1 := fun _ => 0) (g2 := fun _ => 0) (g3 := fun _ => none) (x := .inl 9) hN1 (hN2 N1 (Nat.le_refl _)) hnn
    have hS1 := f1.no (hN2 N1 (Nat.le_refl _))
    have hP := hP.nw (g1 := fun _ => 0) (g3 := fun _ => none) (x := .inl 9) hN1 (hN2 N1 (Nat.le_refl _))
    refine Z_dup dX8_thing_12 rfl ?_
    refine Z_aload_n dX8_thing_13 rfl ?_
    refine Z_iload_n dX8_thing_14 rfl ?_
    refine Z_call (d' := (m + 8)) (C := 0) (C' := cz c to (5) (ns) (p + 1)) (Sl := 0) (S' := 7 * cz c to (5) (ns) (p + 1)) (zCal_V gX8_76 nX8_thing (by decide) dX8_thing_15) pX8_thing hP.1.1 zkl7 [_] rfl rfl (Nat.le_of_ble_eq_true rfl) (by omega) (by omega) (by omega) (ih5 _ _ _ _ _ (ns) (p + 1) (by have := mz_d (to := to) (k := 5) (k2 := 5) (p := p) (p2 := p + 1) (by omega) (by omega); omega) (by omega) (by omega) hP (fun I2 L2 P2 S2 h2 q2 l2 e2a e2b e2c e2d => ?_) (fun I2 L2 P2 S2 a2 q2 e2a e2b e2c e2d => ?_))
    · have s2 : S2 N1 = some (.inl 9) := ((e2d.1 N1 (Or.inr (by rw [zu_s]; simp))).2.2.2).trans (zu_s _ _ _)
      have hP := e2b
      refine Z_call0 (d' := 2) (zCal_I q673 q98 q671 q672 rfl nX10_init (by decide) dX8_thing_18) pX10_init s2 zkl9 [_] rfl rfl (Nat.le_of_ble_eq_true rfl) (by omega) (c_X10_init s2 ?_)
      refine Z_areturn dX8_thing_21 rfl (by first | exact Or.inl ⟨_, rfl⟩ | exact Or.inr ⟨_, rfl⟩) ?_
      have fw := (f2.tr e2d).wr (I3 := I2) (P3 := zw P2 N1 0 (some h2)) hN1 hS1 hnn (fun _ _ => rfl) (fun b hb => zw_n _ _ _ _ hb)
      have nk : nQ (fun a => S a = none) I2 (zw P2 N1 0 (some h2)) S2 l2.length h2 l2 := e2c.map fun a h7 hT hs => by
        have hne : a ≠ N1 := fun q => by rw [q, zu_s] at hT; cases hT
        rw [zu_n _ _ _ hne] at hT
        exact ⟨hT, rfl, zw_n _ _ _ _ hne, rfl⟩
      exact kt _ _ _ _ N1 q2 (l2 ++ [2033]) (by rw [e5, e2a]; rfl) (hP0.fr fw e2b.2.1.2.1) (by rw [List.length_append]; exact ⟨⟨hN1, hS1⟩, Or.inr (Or.inr (Or.inr (Or.inl ⟨s2, h2, l2, zw_s _ _ _ _, nk, rfl⟩)))⟩) fw
    · exact Zx_out (fun x hx => by cases hx) (kf _ _ _ _ a2 q2 (by rw [e5, e2a]) e2b e2c (f2.tr e2d))
  · refine Z_ifeq 22 dX8_thing_6 rfl (fun _ => ?_) (fun h => absurd h (by decide))
    refine Z_aload_n dX8_thing_22 rfl ?_
    refine Z_bipush (nI 45) dX8_thing_23 rfl ?_
    refine Z_call0 (d' := 1) (zCal_V gX8_58 nX8_passes (by decide) dX8_thing_25) pX8_passes hP.1.1 zkl7 [_] rfl rfl (Nat.le_of_ble_eq_true rfl) (by omega) (c_X8_passes hP hp hc (y := 45) (by decide) (fun h25a h25b => ?_) (fun n25 => ?_))
    · have j5 : amg c to [33, 45] p = some 1 := by unfold amg; rw [if_pos h25a, h25b]; rfl
      have hcz := cz_5 (ns := ns) j5
      have e5 := z5_s (ns := ns) j5
      have hP := hP.at (q := p + 1)
      have f1 := f0.at (v := nI (p + 1))
      refine Z_ifeq 44 dX8_thing_28 rfl (fun h => absurd h (by decide)) (fun _ => ?_)
      obtain ⟨N1, hN1, hN2⟩ := hP.2.2.2.2
      refine Zj.less (C := cz c to (5) (ns) (p + 1) + 1) (Sl := 7 * cz c to (5) (ns) (p + 1) + 1) ?_ (Nat.le_refl _) (by omega) (by omega)
      refine Z_new N1 (hN2 N1 (Nat.le_refl _)) wX8_84 dX8_thing_31 ?_
      have f2 := f1.nw (g1 := fun _ => 0) (g2 := fun _ => 0) (g3 := fun _ => none) (x := .inl 8) hN1 (hN2 N1 (Nat.le_refl _)) hnn
      have hS1 := f1.no (hN2 N1 (Nat.le_refl _))
      have hP := hP.nw (g1 := fun _ => 0) (g3 := fun _ => none) (x := .inl 8) hN1 (hN2 N1 (Nat.le_refl _))
      refine Z_dup dX8_thing_34 rfl ?_
      refine Z_aload_n dX8_thing_35 rfl ?_
      refine Z_iload_n dX8_thing_36 rfl ?_
      refine Z_call (d' := (m + 8)) (C := 0) (C' := cz c to (5) (ns) (p + 1)) (Sl := 0) (S' := 7 * cz c to (5) (ns) (p + 1)) (zCal_V gX8_76 nX8_thing (by decide) dX8_thing_37) pX8_thing hP.1.1 zkl7 [_] rfl rfl (Nat.le_of_ble_eq_true rfl) (by omega) (by omega) (by omega) (ih5 _ _ _ _ _ (ns) (p + 1) (by have := mz_d (to := to) (k := 5) (k2 := 5) (p := p) (p2 := p + 1) (by omega) (by omega); omega) (by omega) (by omega) hP (fun I2 L2 P2 S2 h2 q2 l2 e2a e2b e2c e2d => ?_) (fun I2 L2 P2 S2 a2 q2 e2a e2b e2c e2d => ?_))
      · have s2 : S2 N1 = some (.inl 8) := ((e2d.1 N1 (Or.inr (by rw [zu_s]; simp))).2.2.2).trans (zu_s _ _ _)
        have hP := e2b
        refine Z_call0 (d' := 1) (zCal_I q676 q97 q684 q675 rfl nX9_init (by decide) dX8_thing_40) pX9_init s2 zkl8 [_] rfl rfl (Nat.le_of_ble_eq_true rfl) (by omega) (c_X9_init8 s2 ?_)
        refine Z_areturn dX8_thing_43 rfl (by first | exact Or.inl ⟨_, rfl⟩ | exact Or.inr ⟨_, rfl⟩) ?_
        have fw := (f2.tr e2d).wr (I3 := I2) (P3 := zw P2 N1 0 (some h2)) hN1 hS1 hnn (fun _ _ => rfl) (fun b hb => zw_n _ _ _ _ hb)
        have nk : nQ (fun a => S a = none) I2 (zw P2 N1 0 (some h2)) S2 l2.length h2 l2 := e2c.map fun a h7 hT hs => by
          have hne : a ≠ N1 := fun q => by rw [q, zu_s] at hT; cases hT
          rw [zu_n _ _ _ hne] at hT
          exact ⟨hT, rfl, zw_n _ _ _ _ hne, rfl⟩
        exact kt _ _ _ _ N1 q2 (l2 ++ [2126]) (by rw [e5, e2a]; rfl) (hP0.fr fw e2b.2.1.2.1) (by rw [List.length_append]; exact ⟨⟨hN1, hS1⟩, Or.inr (Or.inr (Or.inl ⟨s2, h2, l2, zw_s _ _ _ _, nk, rfl⟩))⟩) fw
      · exact Zx_out (fun x hx => by cases hx) (kf _ _ _ _ a2 q2 (by rw [e5, e2a]) e2b e2c (f2.tr e2d))
    · refine Z_ifeq 44 dX8_thing_28 rfl (fun _ => ?_) (fun h => absurd h (by decide))
      have j5n := amg_2 n3 n25
      have h56 := cz_56 (ns := ns) hp j5n
      refine Z_aload_n dX8_thing_44 rfl ?_
      refine Z_call0 (d' := 0) (zCal_V gX8_43 nX8_here (by decide) dX8_thing_45) pX8_here hP.1.1 zkl7 [] rfl rfl (Nat.le_of_ble_eq_true rfl) (by omega) (c_X8_here hP hp ?_)
      refine Z_bipush (nI 40) dX8_thing_48 rfl ?_
      refine Z_icmpne 115 dX8_thing_50 rfl (fun c50 => ?_) (fun c50 => ?_)
      · have n50 : ¬ (p < to ∧ c p = 40) := fun q => c50 ((hr_eq hc (by decide)).mpr q)
        refine Z_aload_n dX8_thing_115 rfl ?_
        refine Z_call0 (d' := 0) (zCal_V gX8_43 nX8_here (by decide) dX8_thing_116) pX8_here hP.1.1 zkl7 [] rfl rfl (Nat.le_of_ble_eq_true rfl) (by omega) (c_X8_here hP hp ?_)
        refine Z_bipush (nI 48) dX8_thing_119 rfl ?_
        refine Z_bipush (nI 57) dX8_thing_121 rfl ?_
        refine Z_callS0 (d' := 0) (zCal_SN q328 q83 q713 q327 nX1_in (by decide) dX8_thing_123) pX1_in [_, _, _] rfl rfl (Nat.le_of_ble_eq_true rfl) (by omega) (c_X1_in (fun h123a h123b => ?_) (fun h123n => ?_))
        · have dg := (hr_dg hc).mp ⟨h123a, h123b⟩
          refine Z_ifeq 190 dX8_thing_126 rfl (fun h => absurd h (by decide)) (fun _ => ?_)
          refine Z_iconst (nI 0) dX8_thing_129 rfl ?_
          refine Z_istore_n (lv' := [_, _, _, _]) dX8_thing_130 rfl rfl (Nat.le_of_ble_eq_true rfl) ?_
          refine Z_iconst (nI 0) dX8_thing_131 rfl ?_
          refine Z_istore_n (lv' := [_, _, _, _]) dX8_thing_132 rfl rfl (Nat.le_of_ble_eq_true rfl) ?_
          have lp133 : ∀ q, q ≤ 3 → ∀ I3 p2 v, rdX c to r I3 P S p2 → p2 ≤ to → fN r I L P S I3 L P S → ((q = 0 → v < 1) ∧ (q = 1 → v < 10) ∧ (q = 2 → v < 100) ∧ v < 1000) → nmF c to (3 - q) p2 v = nmF c to 3 p 0 → Zj G mX8_thing (m + 9) (cz c to 5 ns p) (7 * cz c to 5 ns p) 133 [.ref r, .int (nI ns), .int (nI v), .int (nI q)] [] I3 L P S Q := by
            refine zloop (3) (fun q => ∀ I3 p2 v, rdX c to r I3 P S p2 → p2 ≤ to → fN r I L P S I3 L P S → ((q = 0 → v < 1) ∧ (q = 1 → v < 10) ∧ (q = 2 → v < 100) ∧ v < 1000) → nmF c to (3 - q) p2 v = nmF c to 3 p 0 → Zj G mX8_thing (m + 9) (cz c to 5 ns p) (7 * cz c to 5 ns p) 133 [.ref r, .int (nI ns), .int (nI v), .int (nI q)] [] I3 L P S Q) (fun q hq ihq => ?_)
            intro I3 p2 v hP2 hp2 f3 hv e9
            show Zj _ _ _ _ _ _ _ _ _ _ _ _ _
            have hP := hP2
            refine Z_iload_n dX8_thing_133 rfl ?_
            refine Z_iconst (nI 3) dX8_thing_134 rfl ?_
            refine Z_icmpgeN 181 dX8_thing_135 rfl (by omega) (by omega) (fun c135 => ?_) (fun c135 => ?_)
            · have e3q : 3 - q = 0 := by omega
              have en : (p2, v) = nmF c to 3 p 0 := by
                rw [← e9]
                cases hq3 : 3 - q with
                | zero => rfl
                | succ z => first | exact absurd hq3 (by omega) | rw [nmF, if_neg dgq]
              have hcz5 : cz c to (5) (ns) (p) = 1 := by rw [cz_56 hp j5n]; exact cz_r (z6_dig dg)
              obtain ⟨N1, hN1, hN2⟩ := hP2.2.2.2.2
              refine Zj.less (C := 0 + 1) (Sl := 0 + 1) ?_ (Nat.le_refl _) (by omega) (by omega)
              refine Z_new N1 (hN2 N1 (Nat.le_refl _)) wX8_91 dX8_thing_181 ?_
              refine Z_dup dX8_thing_184 rfl ?_
              refine Z_iload_n dX8_thing_185 rfl ?_
              refine Z_call0 (d' := 1) (zCal_I q718 q100 q716 q717 rfl nX12_init (by decide) dX8_thing_186) pX12_init (by simp [zu]) zkl11 [_] rfl rfl (Nat.le_of_ble_eq_true rfl) (by omega) (c_X12_init (zu_s _ _ _) ?_)
              refine Z_areturn dX8_thing_189 rfl (by first | exact Or.inl ⟨_, rfl⟩ | exact Or.inr ⟨_, rfl⟩) ?_
              have fw := (f3.nw (g1 := fun _ => 0) (g2 := fun _ => 0) (g3 := fun _ => none) (x := .inl 11) hN1 (hN2 N1 (Nat.le_refl _)) hnn).wr (I3 := zw (zu I3 N1 fun _ => 0) N1 0 (nI v)) (P3 := zu P N1 fun _ => none) hN1 (f3.no (hN2 N1 (Nat.le_refl _))) hnn (fun b hb => zw_n _ _ _ _ hb) (fun _ _ => rfl)
              have rne : r ≠ N1 := f3.ne (hN2 N1 (Nat.le_refl _)) hN1 (Or.inr hnn)
              exact kt _ _ _ _ N1 p2 [v] (by rw [z5_n hp j5n, z6_dig dg, ← en]) (hP0.fr fw (by rw [zw_n _ _ _ _ rne, zu_n _ _ _ rne]; exact hP2.2.1.2.1)) ⟨⟨hN1, f3.no (hN2 N1 (Nat.le_refl _))⟩, Or.inl ⟨zu_s _ _ _, v, by omega, zw_s _ _ _ _, rfl⟩⟩ fw
            · refine Z_aload_n dX8_thing_138 rfl ?_
              refine Z_call0 (d' := 0) (zCal_V gX8_43 nX8_here (by decide) dX8_thing_139) pX8_here hP.1.1 zkl7 [] rfl rfl (Nat.le_of_ble_eq_true rfl) (by omega) (c_X8_here hP2 hp2 ?_)
              refine Z_bipush (nI 48) dX8_thing_142 rfl ?_
              refine Z_bipush (nI 57) dX8_thing_144 rfl ?_
              refine Z_callS0 (d' := 0) (zCal_SN q328 q83 q713 q327 nX1_in (by decide) dX8_thing_146) pX1_in [_, _, _] rfl rfl (Nat.le_of_ble_eq_true rfl) (by omega) (c_X1_in (fun h146a h146b => ?_) (fun h146n => ?_))
              · have dg2 := (hr_dg hc).mp ⟨h146a, h146b⟩
                refine Z_ifeq 181 dX8_thing_149 rfl (fun h => absurd h (by decide)) (fun _ => ?_)
                refine Z_bipush (nI 10) dX8_thing_152 rfl ?_
                refine Z_iload_n dX8_thing_154 rfl ?_
                refine Z_imulN dX8_thing_155 ?_
                refine Z_aload_n dX8_thing_156 rfl ?_
                refine Z_call0 (d' := 0) (zCal_V gX8_43 nX8_here (by decide) dX8_thing_157) pX8_here hP.1.1 zkl7 [] rfl rfl (Nat.le_of_ble_eq_true rfl) (by omega) (c_X8_here hP2 hp2 ?_)
                obtain ⟨d1, d2⟩ : 48 ≤ c p2 ∧ c p2 ≤ 57 := by have := dg2.2; unfold isDg at this; simpa only [Bool.and_eq_true, decide_eq_true_eq] using this
                refine Z_re (y := nI (c p2)) ((hr_eq hc (by omega)).mpr ⟨dg2.1, rfl⟩) ?_
                refine Z_iaddN dX8_thing_160 ?_
                refine Z_bipush (nI 48) dX8_thing_161 rfl ?_
                refine Z_isubN dX8_thing_163 (by omega) ?_
                refine Z_istore_n (lv' := [_, _, _, _]) dX8_thing_164 rfl rfl (Nat.le_of_ble_eq_true rfl) ?_
                refine Z_aload_n dX8_thing_165 rfl ?_
                refine Z_dup dX8_thing_166 rfl ?_
                refine Z_getI hP.1.1 fX8_31_7 dX8_thing_167 rfl ?_
                refine Z_re (y := nI (p2)) hP2.2.1.2.1 ?_
                refine Z_iconst (nI 1) dX8_thing_170 rfl ?_
                refine Z_iaddN dX8_thing_171 ?_
                refine Z_putI hP.1.1 fX8_31_7 dX8_thing_172 rfl rfl rfl ?_
                refine Z_iincN (a := _) (k := 1) (lv' := [_, _, _, _]) dX8_thing_175 rfl rfl rfl rfl ?_
                refine Z_goto 133 dX8_thing_178 rfl ?_
                exact ihq (by omega) _ (p2 + 1) (10 * v + c p2 - 48) hP2.at (by omega) f3.at (by omega) (by rw [← e9, show 3 - q = (3 - (q + 1)) + 1 by omega, nmF, if_pos dg2])
              · have dgq : ¬ (p2 < to ∧ isDg (c p2) = true) := fun q => h146n ((hr_dg hc).mpr q)
                refine Z_ifeq 181 dX8_thing_149 rfl (fun _ => ?_) (fun h => absurd h (by decide))
                have en : (p2, v) = nmF c to 3 p 0 := by
                  rw [← e9]
                  cases hq3 : 3 - q with
                  | zero => rfl
                  | succ z => first | exact absurd hq3 (by omega) | rw [nmF, if_neg dgq]
                have hcz5 : cz c to (5) (ns) (p) = 1 := by rw [cz_56 hp j5n]; exact cz_r (z6_dig dg)
                obtain ⟨N1, hN1, hN2⟩ := hP2.2.2.2.2
                refine Zj.less (C := 0 + 1) (Sl := 0 + 1) ?_ (Nat.le_refl _) (by omega) (by omega)
                refine Z_new N1 (hN2 N1 (Nat.le_refl _)) wX8_91 dX8_thing_181 ?_
                refine Z_dup dX8_thing_184 rfl ?_
                refine Z_iload_n dX8_thing_185 rfl ?_
                refine Z_call0 (d' := 1) (zCal_I q718 q100 q716 q717 rfl nX12_init (by decide) dX8_thing_186) pX12_init (by simp [zu]) zkl11 [_] rfl rfl (Nat.le_of_ble_eq_true rfl) (by omega) (c_X12_init (zu_s _ _ _) ?_)
                refine Z_areturn dX8_thing_189 rfl (by first | exact Or.inl ⟨_, rfl⟩ | exact Or.inr ⟨_, rfl⟩) ?_
                have fw := (f3.nw (g1 := fun _ => 0) (g2 := fun _ => 0) (g3 := fun _ => none) (x := .inl 11) hN1 (hN2 N1 (Nat.le_refl _)) hnn).wr (I3 := zw (zu I3 N1 fun _ => 0) N1 0 (nI v)) (P3 := zu P N1 fun _ => none) hN1 (f3.no (hN2 N1 (Nat.le_refl _))) hnn (fun b hb => zw_n _ _ _ _ hb) (fun _ _ => rfl)
                have rne : r ≠ N1 := f3.ne (hN2 N1 (Nat.le_refl _)) hN1 (Or.inr hnn)
                exact kt _ _ _ _ N1 p2 [v] (by rw [z5_n hp j5n, z6_dig dg, ← en]) (hP0.fr fw (by rw [zw_n _ _ _ _ rne, zu_n _ _ _ rne]; exact hP2.2.1.2.1)) ⟨⟨hN1, f3.no (hN2 N1 (Nat.le_refl _))⟩, Or.inl ⟨zu_s _ _ _, v, by omega, zw_s _ _ _ _, rfl⟩⟩ fw
          exact lp133 0 (by omega) I p 0 hP hp f0 (by omega) rfl
        · have dgn : ¬ (p < to ∧ isDg (c p) = true) := fun q => h123n ((hr_dg hc).mpr q)
          refine Z_ifeq 190 dX8_thing_126 rfl (fun _ => ?_) (fun h => absurd h (by decide))
          refine Z_aload_n dX8_thing_190 rfl ?_
          refine Z_aload_n dX8_thing_191 rfl ?_
          refine Z_aload_n dX8_thing_192 rfl ?_
          refine Z_call0 (d' := 0) (zCal_V gX8_43 nX8_here (by decide) dX8_thing_193) pX8_here hP.1.1 zkl7 [] rfl rfl (Nat.le_of_ble_eq_true rfl) (by omega) (c_X8_here hP hp ?_)
          refine Z_call0 (d' := 0) (zCal_V gX8_94 nX8_isSign (by decide) dX8_thing_196) pX8_isSign hP.1.1 zkl7 [_] rfl rfl (Nat.le_of_ble_eq_true rfl) (by omega) (c_X8_isSign hc (fun j hj => ?_) (fun n196 => ?_))
          · refine Z_call0 (d' := 7) (zCal_V gX8_51 nX8_need (by decide) dX8_thing_199) pX8_need hP.1.1 zkl7 [_] rfl rfl (Nat.le_of_ble_eq_true rfl) (by omega) (c_X8_need1 ?_)
            have f1 := f0.at (v := nI (p + 1))
            refine Z_aload_n dX8_thing_202 rfl ?_
            refine Z_dup dX8_thing_203 rfl ?_
            refine Z_getI hP.1.1 fX8_31_7 dX8_thing_204 rfl ?_
            refine Z_re (y := nI (p)) hP.2.1.2.1 ?_
            refine Z_iconst (nI 1) dX8_thing_207 rfl ?_
            refine Z_iaddN dX8_thing_208 ?_
            refine Z_putI hP.1.1 fX8_31_7 dX8_thing_209 rfl rfl rfl ?_
            have hP := hP.at (q := p + 1)
            obtain ⟨jl, jm⟩ := ixL_lt (show ixL sgL (c p) = some j from by have := hj; unfold amg at this; rwa [if_pos (amg_lt hj)] at this)
            have j11 : j ≤ 11 := by have := jl; simp [sgL] at this; omega
            have ej : sgL.getD j 0 = c p := ixL_g (show ixL sgL (c p) = some j from by have := hj; unfold amg at this; rwa [if_pos (amg_lt hj)] at this)
            have hlt := amg_lt hj
            have hcz5 : cz c to (5) (ns) (p) = 1 := by rw [cz_56 hp j5n]; exact cz_r (z6_sgn dgn hj)
            obtain ⟨N1, hN1, hN2⟩ := hP.2.2.2.2
            have hS1 := f1.no (hN2 N1 (Nat.le_refl _))
            refine Zj.less (C := 0 + 1) (Sl := 0 + 1) ?_ (Nat.le_refl _) (by omega) (by omega)
            refine Z_new N1 (hN2 N1 (Nat.le_refl _)) wX8_97 dX8_thing_212 ?_
            refine Z_dup dX8_thing_215 rfl ?_
            have hP := hP.nw (g1 := fun _ => 0) (g3 := fun _ => none) (x := .inl 12) hN1 (hN2 N1 (Nat.le_refl _))
            refine Z_aload_n dX8_thing_216 rfl ?_
            refine Z_getR (r := 100) hP.1.1 fX8_3_7 dX8_thing_217 rfl hP.1.2.1 ?_
            refine Z_getRN (r := 301) hP.2.2.1.1 fX8_34_0 dX8_thing_220 rfl hP.2.2.1.2.1 ?_
            refine Z_aload_n dX8_thing_223 rfl ?_
            refine Z_getI hP.1.1 fX8_31_7 dX8_thing_224 rfl ?_
            refine Z_re (y := nI (p + 1)) hP.2.1.2.1 ?_
            refine Z_iconst (nI 1) dX8_thing_227 rfl ?_
            refine Z_isubN dX8_thing_228 (by omega) ?_
            refine Z_bald hP.2.2.1.2.2 (zix_nI (by omega) (by decide)) dX8_thing_229 ?_
            refine Z_re (y := sb (sgL.getD j 0)) ((hP.2.2.2.1 p hlt).trans (by rw [ej])) ?_
            refine Z_i2c dX8_thing_230 ?_
            refine Z_re (y := nI (sgL.getD j 0)) (sg_i2c j j11) ?_
            refine Z_call0 (d' := 1) (zCal_I q732 q101 q730 q731 rfl nX13_init (by decide) dX8_thing_231) pX13_init (by simp [zu]) zkl12 [_] rfl rfl (Nat.le_of_ble_eq_true rfl) (by omega) (c_X13_init (zu_s _ _ _) j11 ?_)
            refine Z_areturn dX8_thing_234 rfl (by first | exact Or.inl ⟨_, rfl⟩ | exact Or.inr ⟨_, rfl⟩) ?_
            have rne : r ≠ N1 := f1.ne (hN2 N1 (Nat.le_refl _)) hN1 (Or.inr hnn)
            have fw := (f1.nw (g1 := fun _ => 0) (g2 := fun _ => 0) (g3 := fun _ => none) (x := .inl 12) hN1 (hN2 N1 (Nat.le_refl _)) hnn).wr (I3 := zw (zu (zw I r 2 (nI (p + 1))) N1 fun _ => 0) N1 0 (nI (sgL.getD j 0))) (P3 := zu P N1 fun _ => none) hN1 hS1 hnn (fun b hb => zw_n _ _ _ _ hb) (fun _ _ => rfl)
            exact kt _ _ _ _ N1 (p + 1) [1000 + j] (by rw [z5_n hp j5n, z6_sgn dgn hj]) (hP0.fr fw (by rw [zw_n _ _ _ _ rne, zu_n _ _ _ rne, zw_s])) ⟨⟨hN1, hS1⟩, Or.inr (Or.inl ⟨zu_s _ _ _, j, j11, zw_s _ _ _ _, rfl⟩)⟩ fw
          · have n40 : amg c to [40] p = none := amg_1.mpr n50
            have hz5 : pzz c to 5 ns p = .inl p := by rw [z5_n hp j5n]; exact z6_no dgn n196 (Or.inl n40)
            have hcz5 := cz_l hz5
            obtain ⟨N9, hN9, hN9b⟩ := hP.2.2.2.2
            refine Zj.less (C := 0 + 1) (Sl := 0 + 7) ?_ (Nat.le_refl _) (by omega) (by omega)
            refine Z_call (d' := 7) (C := 0) (C' := 1) (Sl := 0) (S' := 7) (zCal_V gX8_51 nX8_need (by decide) dX8_thing_199) pX8_need hP.1.1 zkl7 [_] rfl rfl (Nat.le_of_ble_eq_true rfl) (by omega) (by omega) (by omega) (c_X8_need0 (a := N9) hP.1.1 (hN9b N9 (Nat.le_refl _)) ?_)
            exact Zx_out (fun x hx => by cases hx) (kf _ _ _ _ N9 (p) (hz5) (zu_s _ _ _) (by rw [zw_s]; exact hP.2.1.2.1) ((f0).flt hN9 (hN9b N9 (Nat.le_refl _)) hnn))
      · have q50 := (hr_eq hc (by decide)).mp c50
        have dgn : ¬ (p < to ∧ isDg (c p) = true) := fun q => by rw [q50.2] at q; exact absurd q.2 (by decide)
        have sgn : amg c to sgL p = none := by unfold amg; rw [if_pos q50.1, q50.2]; rfl
        refine Z_aload_n dX8_thing_53 rfl ?_
        refine Z_iload_n dX8_thing_54 rfl ?_
        refine Z_iconst (nI 5) dX8_thing_55 rfl ?_
        refine Z_icmpgeN 63 dX8_thing_56 rfl (by omega) (by omega) (fun c56 => ?_) (fun c56 => ?_)
        · refine Z_iconst (nI 0) dX8_thing_63 rfl ?_
          have hz5 : pzz c to 5 ns p = .inl p := by rw [z5_n hp j5n]; exact z6_no dgn sgn (Or.inr (by omega))
          have hcz5 := cz_l hz5
          obtain ⟨N9, hN9, hN9b⟩ := hP.2.2.2.2
          refine Zj.less (C := 0 + 1) (Sl := 0 + 7) ?_ (Nat.le_refl _) (by omega) (by omega)
          refine Z_call (d' := 7) (C := 0) (C' := 1) (Sl := 0) (S' := 7) (zCal_V gX8_51 nX8_need (by decide) dX8_thing_64) pX8_need hP.1.1 zkl7 [_] rfl rfl (Nat.le_of_ble_eq_true rfl) (by omega) (by omega) (by omega) (c_X8_need0 (a := N9) hP.1.1 (hN9b N9 (Nat.le_refl _)) ?_)
          exact Zx_out (fun x hx => by cases hx) (kf _ _ _ _ N9 (p) (hz5) (zu_s _ _ _) (by rw [zw_s]; exact hP.2.1.2.1) ((f0).flt hN9 (hN9b N9 (Nat.le_refl _)) hnn))
        · refine Z_iconst (nI 1) dX8_thing_59 rfl ?_
          refine Z_goto 64 dX8_thing_60 rfl ?_
          refine Z_call0 (d' := 7) (zCal_V gX8_51 nX8_need (by decide) dX8_thing_64) pX8_need hP.1.1 zkl7 [_] rfl rfl (Nat.le_of_ble_eq_true rfl) (by omega) (c_X8_need1 ?_)
          refine Z_aload_n dX8_thing_67 rfl ?_
          refine Z_dup dX8_thing_68 rfl ?_
          refine Z_getI hP.1.1 fX8_31_7 dX8_thing_69 rfl ?_
          refine Z_re (y := nI (p)) hP.2.1.2.1 ?_
          refine Z_iconst (nI 1) dX8_thing_72 rfl ?_
          refine Z_iaddN dX8_thing_73 ?_
          refine Z_putI hP.1.1 fX8_31_7 dX8_thing_74 rfl rfl rfl ?_
          have hsub : ¬ (amg c to [40] p = none ∨ ns = 5) := by
            rintro (q | q)
            · exact amg_1.mp q q50
            · omega
          have e6 := z6_sub hp dgn sgn hsub
          obtain ⟨hcz1, hcz2⟩ := cz_6 hp dgn sgn hsub
          rw [← h56] at hcz1
          have hP := hP.at (q := p + 1)
          have f1 := f0.at (v := nI (p + 1))
          refine Zj.less (C := (cz c to (5) (ns) (p) - cz c to (0) (ns + 1) (p + 1)) + cz c to (0) (ns + 1) (p + 1)) (Sl := 7 * (cz c to (5) (ns) (p) - cz c to (0) (ns + 1) (p + 1)) + 7 * cz c to (0) (ns + 1) (p + 1)) ?_ (Nat.le_refl _) (by omega) (by omega)
          refine Z_aload_n dX8_thing_77 rfl ?_
          refine Z_iload_n dX8_thing_78 rfl ?_
          refine Z_iconst (nI 1) dX8_thing_79 rfl ?_
          refine Z_iaddN dX8_thing_80 ?_
          refine Z_call (d' := (m + 8)) (C := (cz c to (5) (ns) (p) - cz c to (0) (ns + 1) (p + 1))) (C' := cz c to (0) (ns + 1) (p + 1)) (Sl := (7 * (cz c to (5) (ns) (p) - cz c to (0) (ns + 1) (p + 1)))) (S' := 7 * cz c to (0) (ns + 1) (p + 1)) (zCal_V gX8_47 nX8_either (by decide) dX8_thing_81) pX8_either hP.1.1 zkl7 [_] rfl rfl (Nat.le_of_ble_eq_true rfl) (by omega) (by omega) (by omega) (ih0 _ _ _ _ _ (ns + 1) (p + 1) (by have := mz_d (to := to) (k := 5) (k2 := 0) (p := p) (p2 := p + 1) (by omega) (by omega); omega) (by omega) (by omega) hP (fun I3 L3 P3 S3 h3 q3 l3 e3a e3b e3c e3d => ?_) (fun I3 L3 P3 S3 a3 q3 e3a e3b e3c e3d => ?_))
          · have b3 := pz_pl _ _ _ _ _ (show p + 1 ≤ to by omega) e3a
            have b32 := b3.2.1
            dsimp only at b32
            have hP := e3b
            have hcz4 : cz c to (0) (ns + 1) (p + 1) = l3.length := cz_r e3a
            refine Z_astore_n (lv' := [_, _, _, _]) dX8_thing_84 rfl rfl (Nat.le_of_ble_eq_true rfl) ?_
            refine Z_aload_n dX8_thing_85 rfl ?_
            refine Z_aload_n dX8_thing_86 rfl ?_
            refine Z_call0 (d' := 0) (zCal_V gX8_43 nX8_here (by decide) dX8_thing_87) pX8_here hP.1.1 zkl7 [] rfl rfl (Nat.le_of_ble_eq_true rfl) (by omega) (c_X8_here hP b32 ?_)
            refine Z_bipush (nI 41) dX8_thing_90 rfl ?_
            refine Z_icmpne 99 dX8_thing_92 rfl (fun c92 => ?_) (fun c92 => ?_)
            · have c92n : ¬ (q3 < to ∧ c q3 = 41) := fun q => c92 ((hr_eq hc (by decide)).mpr q)
              refine Z_iconst (nI 0) dX8_thing_99 rfl ?_
              have n41 := amg_1.mpr c92n
              have hcz3 := hcz2 q3 l3 e3a n41
              rw [← h56] at hcz3
              obtain ⟨N9, hN9, hN9b⟩ := hP.2.2.2.2
              refine Zj.less (C := (cz c to (5) (ns) (p) - cz c to (0) (ns + 1) (p + 1) - 1) + 1) (Sl := (7 * (cz c to (5) (ns) (p) - cz c to (0) (ns + 1) (p + 1) - 1)) + 7) ?_ (Nat.le_refl _) (by omega) (by omega)
              refine Z_call (d' := 7) (C := (cz c to (5) (ns) (p) - cz c to (0) (ns + 1) (p + 1) - 1)) (C' := 1) (Sl := (7 * (cz c to (5) (ns) (p) - cz c to (0) (ns + 1) (p + 1) - 1))) (S' := 7) (zCal_V gX8_51 nX8_need (by decide) dX8_thing_100) pX8_need hP.1.1 zkl7 [_] rfl rfl (Nat.le_of_ble_eq_true rfl) (by omega) (by omega) (by omega) (c_X8_need0 (a := N9) hP.1.1 (hN9b N9 (Nat.le_refl _)) ?_)
              exact Zx_out (fun x hx => by cases hx) (kf _ _ _ _ N9 (q3) (by rw [z5_n hp j5n, e6, e3a]; exact if_pos n41) (zu_s _ _ _) (by rw [zw_s]; exact hP.2.1.2.1) ((f1.tr e3d).flt hN9 (hN9b N9 (Nat.le_refl _)) hnn))
            · have c92q := (hr_eq hc (by decide)).mp c92
              refine Z_iconst (nI 1) dX8_thing_95 rfl ?_
              refine Z_goto 100 dX8_thing_96 rfl ?_
              refine Z_call0 (d' := 7) (zCal_V gX8_51 nX8_need (by decide) dX8_thing_100) pX8_need hP.1.1 zkl7 [_] rfl rfl (Nat.le_of_ble_eq_true rfl) (by omega) (c_X8_need1 ?_)
              refine Z_aload_n dX8_thing_103 rfl ?_
              refine Z_dup dX8_thing_104 rfl ?_
              refine Z_getI hP.1.1 fX8_31_7 dX8_thing_105 rfl ?_
              refine Z_re (y := nI (q3)) hP.2.1.2.1 ?_
              refine Z_iconst (nI 1) dX8_thing_108 rfl ?_
              refine Z_iaddN dX8_thing_109 ?_
              refine Z_putI hP.1.1 fX8_31_7 dX8_thing_110 rfl rfl rfl ?_
              refine Z_aload_n dX8_thing_113 rfl ?_
              refine Z_areturn dX8_thing_114 rfl (by first | exact Or.inl ⟨_, rfl⟩ | exact Or.inr ⟨_, rfl⟩) ?_
              exact kt _ _ _ _ h3 (q3 + 1) l3 (by rw [z5_n hp j5n, e6, e3a]; exact if_neg (fun q => (amg_1.mp q) c92q)) (e3b.at) (e3c.map fun a h7 hT hs => ⟨hT, (zw_n _ _ _ _ (fun q => hnn (by rw [← q]; exact hT))), rfl, rfl⟩) ((f1.tr e3d).at)
          · exact Zx_out (fun x hx => by cases hx) (kf _ _ _ _ a3 q3 (by rw [z5_n hp j5n, e6, e3a]) e3b e3c (f1.tr e3d))
end X42C
