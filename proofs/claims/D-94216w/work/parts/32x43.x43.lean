set_option maxRecDepth 100000
/-! THE COMPONENT, part 43: the ranks of the reader -/
section X43C
variable {G : zG} {d C Sl : Nat} {I : zI} {L : zL} {P : zR} {S : zT} {Q : zQ} {c : Nat → Nat} {to r ns p m : Nat}
theorem amg_3 {x y z : Nat} (h1 : ¬ (p < to ∧ c p = x)) (h2 : ¬ (p < to ∧ c p = y)) (h3 : ¬ (p < to ∧ c p = z)) : amg c to [x, y, z] p = none := by
  unfold amg ixL ixL ixL ixL
  by_cases h : p < to
  · rw [if_pos h, if_neg (fun e => h1 ⟨h, e.symm⟩), if_neg (fun e => h2 ⟨h, e.symm⟩), if_neg (fun e => h3 ⟨h, e.symm⟩)]; rfl
  · rw [if_neg h]
/-- a node of two: its tree -/
theorem nQ.join {T : Nat → Prop} {a op h g : Nat} {l l4 : List Nat} (ha : 7000 ≤ a) (hT : T a) (hS : S a = some (.inl 13)) (ho : op = 124 ∨ op = 38 ∨ op = 60 ∨ op = 62 ∨ op = 61 ∨ op = 43 ∨ op = 45 ∨ op = 42) (h0 : I a 0 = nI op) (h1 : P a 1 = some h) (h2 : P a 2 = some g) (n1 : nQ T I P S l.length h l) (n2 : nQ T I P S l4.length g l4) : nQ T I P S (l ++ l4 ++ [2000 + op]).length a (l ++ l4 ++ [2000 + op]) := by
  have e : (l ++ l4 ++ [2000 + op]).length = l.length + l4.length + 1 := by rw [List.length_append, List.length_append]; rfl
  rw [e]
  exact ⟨⟨ha, hT⟩, Or.inr (Or.inr (Or.inr (Or.inr ⟨hS, op, h, g, l, l4, ho, h0, h1, h2, n1.le (by omega), n2.le (by omega), rfl⟩)))⟩
set_option maxHeartbeats 16000000 in
theorem t_xproduct (ihs : PRx G c to r m mX8_thing 5) (hc : ∀ j, c j < 256) (hz : mz to (4) p < m + 1) (hp : p ≤ to) (hns : ns ≤ 5) (hP : rdX c to r I P S p) (kt : (∀ I2 L2 P2 S2 h q l, pzz c to (4) ns p = .inr (q, l) → rdX c to r I2 P2 S2 q → nQ (fun a => S a = none) I2 P2 S2 l.length h l → fN r I L P S I2 L2 P2 S2 → Q (.inl (some (.ref h))) I2 L2 P2 S2)) (kf : (∀ I2 L2 P2 S2 a q, pzz c to (4) ns p = .inl q → S2 a = some (.inl 10) → I2 a 0 = nI q → fN r I L P S I2 L2 P2 S2 → Q (.inr (10, some a)) I2 L2 P2 S2)) : Zm G mX8_product ((m + 9)) (cz c to 4 ns p) (7 * cz c to 4 ns p) [.ref r, .int (nI ns)] I L P S Q := by
  have h40 := hP.2.1.2.2
  have hP0 := hP
  have hnn := hP.nn
  have f0 : fN r I L P S I L P S := fN.rf hP.2.2.2.2
  refine Z_entry (lv := [_, _, _]) (Nat.le_of_ble_eq_true rfl) rfl ?_
  have hck : cz c to (5) (ns) (p) ≤ cz c to 4 ns p := cz_k (c := c) (ns := ns) (k := 4) hp (by decide)
  refine Zj.less (C := (cz c to 4 ns p - cz c to (5) (ns) (p)) + cz c to (5) (ns) (p)) (Sl := 7 * (cz c to 4 ns p - cz c to (5) (ns) (p)) + 7 * cz c to (5) (ns) (p)) ?_ (Nat.le_refl _) (by omega) (by omega)
  refine Z_aload_n dX8_product_0 rfl ?_
  refine Z_iload_n dX8_product_1 rfl ?_
  refine Z_call (d' := (m + 8)) (C := (cz c to 4 ns p - cz c to (5) (ns) (p))) (C' := cz c to (5) (ns) (p)) (Sl := (7 * (cz c to 4 ns p - cz c to (5) (ns) (p)))) (S' := 7 * cz c to (5) (ns) (p)) (zCal_V gX8_76 nX8_thing (by decide) dX8_product_2) pX8_thing hP.1.1 zkl7 [_] rfl rfl (Nat.le_of_ble_eq_true rfl) (by omega) (by omega) (by omega) (ihs _ _ _ _ _ (ns) (p) (by have := mz_k (to := to) (k := 4) (k2 := 5) (p := p) (by omega) (by omega); omega) (by omega) (by omega) hP (fun I2 L2 P2 S2 h2 q2 l2 e2a e2b e2c e2d => ?_) (fun I2 L2 P2 S2 a2 q2 e2a e2b e2c e2d => ?_))
  · have b2 := pz_pl _ _ _ _ _ hp e2a
    have b21 := b2.1
    have b22 := b2.2.1
    have b24 := b2.2.2.2
    dsimp only at b21 b22 b24
    have hY : cz c to (5) (ns) (p) = l2.length := cz_r e2a
    refine Z_astore_n (lv' := [_, _, _]) dX8_product_5 rfl rfl (Nat.le_of_ble_eq_true rfl) ?_
    have lp6 : ∀ f : Nat, ∀ q I3 L3 P3 S3 h l, to - q < f → rdX c to r I3 P3 S3 q → q ≤ to → p ≤ q → nQ (fun a => S a = none) I3 P3 S3 l.length h l → fN r I L P S I3 L3 P3 S3 → l.length ≤ q - p → l.length ≤ cz c to 4 ns p → pzz c to 4 ns p = (match pzz c to (10 + 4) ns q with | .inl a => .inl a | .inr y => .inr (y.1, l ++ y.2)) → Zj G mX8_product (m + 9) (cz c to 4 ns p - l.length) (7 * (cz c to 4 ns p - l.length)) 6 [.ref r, .int (nI ns), .ref h] [] I3 L3 P3 S3 Q := by
      refine fun f => Nat.rec (motive := fun f => ∀ q I3 L3 P3 S3 h l, to - q < f → rdX c to r I3 P3 S3 q → q ≤ to → p ≤ q → nQ (fun a => S a = none) I3 P3 S3 l.length h l → fN r I L P S I3 L3 P3 S3 → l.length ≤ q - p → l.length ≤ cz c to 4 ns p → pzz c to 4 ns p = (match pzz c to (10 + 4) ns q with | .inl a => .inl a | .inr y => .inr (y.1, l ++ y.2)) → Zj G mX8_product (m + 9) (cz c to 4 ns p - l.length) (7 * (cz c to 4 ns p - l.length)) 6 [.ref r, .int (nI ns), .ref h] [] I3 L3 P3 S3 Q) (fun q I3 L3 P3 S3 h l g => absurd g (Nat.not_lt_zero _)) (fun f ih => ?_) f
      intro q I3 L3 P3 S3 h l gf hP hq hpq g3 g4 hl hlX e
      show Zj _ _ _ _ _ _ _ _ _ _ _ _ _
      refine Z_aload_n dX8_product_6 rfl ?_
      refine Z_bipush (nI 42) dX8_product_7 rfl ?_
      refine Z_call0 (d' := 1) (zCal_V gX8_58 nX8_passes (by decide) dX8_product_9) pX8_passes hP.1.1 zkl7 [_] rfl rfl (Nat.le_of_ble_eq_true rfl) (by omega) (c_X8_passes hP hq hc (y := 42) (by decide) (fun h9a h9b => ?_) (fun n9 => ?_))
      · have hj : amg c to (acL 4) q = some 0 := by unfold amg; rw [if_pos h9a, h9b]; rfl
        have hcm : l.length + 1 + cz c to (5) (ns) (q + 1) ≤ cz c to 4 ns p := cz_m (k := 4) (by decide) hq hl hpq hj e
        have hP := hP.at (q := q + 1)
        have f1 := g4.at (v := nI (q + 1))
        refine Z_ifeq 34 dX8_product_12 rfl (fun h => absurd h (by decide)) (fun _ => ?_)
        obtain ⟨N1, hN1, hN2⟩ := hP.2.2.2.2
        refine Zj.less (C := (cz c to 4 ns p - l.length - 1 - cz c to (5) (ns) (q + 1)) + cz c to (5) (ns) (q + 1) + 1) (Sl := 7 * (cz c to 4 ns p - l.length - 1 - cz c to (5) (ns) (q + 1)) + 7 * cz c to (5) (ns) (q + 1) + 3) ?_ (Nat.le_refl _) (by omega) (by omega)
        refine Z_new N1 (hN2 N1 (Nat.le_refl _)) wX8_62 dX8_product_15 ?_
        have f2 := f1.nw (g1 := fun _ => 0) (g2 := fun _ => 0) (g3 := fun _ => none) (x := .inl 13) hN1 (hN2 N1 (Nat.le_refl _)) hnn
        have hS1 := f1.no (hN2 N1 (Nat.le_refl _))
        have hP := hP.nw (g1 := fun _ => 0) (g3 := fun _ => none) (x := .inl 13) hN1 (hN2 N1 (Nat.le_refl _))
        refine Z_dup dX8_product_18 rfl ?_
        refine Z_bipush (nI 42) dX8_product_19 rfl ?_
        refine Z_aload_n dX8_product_21 rfl ?_
        refine Z_aload_n dX8_product_22 rfl ?_
        refine Z_iload_n dX8_product_23 rfl ?_
        refine Z_call (d' := (m + 8)) (C := (cz c to 4 ns p - l.length - 1 - cz c to (5) (ns) (q + 1))) (C' := cz c to (5) (ns) (q + 1)) (Sl := (7 * (cz c to 4 ns p - l.length - 1 - cz c to (5) (ns) (q + 1)))) (S' := 7 * cz c to (5) (ns) (q + 1)) (zCal_V gX8_76 nX8_thing (by decide) dX8_product_24) pX8_thing hP.1.1 zkl7 [_] rfl rfl (Nat.le_of_ble_eq_true rfl) (by omega) (by omega) (by omega) (ihs _ _ _ _ _ (ns) (q + 1) (by have := mz_d (to := to) (k := 4) (k2 := 5) (p := p) (p2 := q + 1) (by have := amg_lt hj; omega) (by omega); omega) (by omega) (by omega) hP (fun I4 L4 P4 S4 h4 q4 l4 e4a e4b e4c e4d => ?_) (fun I4 L4 P4 S4 a4 q4 e4a e4b e4c e4d => ?_))
        · have b4 := pz_pl _ _ _ _ _ (show q + 1 ≤ to by have := amg_lt hj; omega) e4a
          have b41 := b4.1
          have b42 := b4.2.1
          have b44 := b4.2.2.2
          dsimp only at b41 b42 b44
          have s4 : S4 N1 = some (.inl 13) := ((e4d.1 N1 (Or.inr (by rw [zu_s]; simp))).2.2.2).trans (zu_s _ _ _)
          have hY4 := cz_r e4a
          refine Z_call0 (d' := 1) (zCal_I q742 q102 q740 q741 rfl nX14_init (by decide) dX8_product_27) pX14_init s4 zkl13 [_, _, _] rfl rfl (Nat.le_of_ble_eq_true rfl) (by omega) (c_X14_init s4 ?_)
          refine Z_astore_n (lv' := [_, _, _]) dX8_product_30 rfl rfl (Nat.le_of_ble_eq_true rfl) ?_
          refine Z_goto 6 dX8_product_31 rfl ?_
          have hrne : r ≠ N1 := (fN.rf (I := I) (L := L) (P := P) (S := S) (r := r) hP0.2.2.2.2).ne hS1 hN1 (Or.inr hnn)
          have fw := (f2.tr e4d).wr (I3 := zw I4 N1 0 (nI 42)) (P3 := zw (zw P4 N1 1 (some h)) N1 2 (some h4)) hN1 hS1 hnn (fun b hb => zw_n _ _ _ _ hb) (fun b hb => (zw_n _ _ _ _ hb).trans (zw_n _ _ _ _ hb))
          have hPf := hP0.fr fw (q := q4) ((congrFun (zw_n _ _ _ _ hrne) 2).trans e4b.2.1.2.1)
          have nk1 : nQ (fun a => S a = none) (zw I4 N1 0 (nI 42)) (zw (zw P4 N1 1 (some h)) N1 2 (some h4)) S4 l.length h l := g3.map fun a h7 hT hs => by
            have hne : a ≠ N1 := fun q => hs (by rw [q]; exact hN2 N1 (Nat.le_refl _))
            have hr9 : a ≠ r := fun q => hnn (by rw [← q]; exact hT)
            obtain ⟨x1, x2, x3, x4⟩ := e4d.1 a (Or.inr (by rw [zu_n _ _ _ hne]; exact hs))
            exact ⟨hT, (zw_n _ _ _ _ hne).trans ((x1 hr9).trans ((zu_n _ _ _ hne).trans (zw_n _ _ _ _ hr9))), (zw_n _ _ _ _ hne).trans ((zw_n _ _ _ _ hne).trans (x3.trans (zu_n _ _ _ hne))), x4.trans (zu_n _ _ _ hne)⟩
          have nk2 : nQ (fun a => S a = none) (zw I4 N1 0 (nI 42)) (zw (zw P4 N1 1 (some h)) N1 2 (some h4)) S4 l4.length h4 l4 := e4c.map fun a h7 hT hs => by
            have hne : a ≠ N1 := fun q => by rw [q, zu_s] at hT; cases hT
            rw [zu_n _ _ _ hne] at hT
            exact ⟨g4.no hT, zw_n _ _ _ _ hne, (zw_n _ _ _ _ hne).trans (zw_n _ _ _ _ hne), rfl⟩
          have nk := nQ.join (op := 42) hN1 hS1 s4 (by decide) (zw_s _ _ _ _) (by rw [zw_a, zu_n _ _ _ (by decide), zw_s]) (zw_s _ _ _ _) nk1 nk2
          have ll : (l ++ l4 ++ [2000 + 42]).length = l.length + l4.length + 1 := by rw [List.length_append, List.length_append]; rfl
          have ih2 := ih q4 _ L4 _ S4 N1 (l ++ l4 ++ [2000 + 42]) (by omega) hPf b42 (by omega) nk fw (by omega) (by omega) (by
            rw [e, zl_s (by decide) hj, e4a]
            dsimp only
            rw [if_neg (by decide), h9b]
            cases pzz c to (10 + 4) ns q4 with
            | inl a => rfl
            | inr y => simp [List.append_assoc])
          exact Zj.less (Z_fgt ih2 (by repeat first | exact zwk_n | refine zwk_f ?_ | refine zwk_c rfl ?_)) (Nat.le_refl _) (by rw [ll]; omega) (by rw [ll]; omega)
        · exact Zx_out (fun x hx => by cases hx) (kf _ _ _ _ a4 q4 (by rw [e, zl_s (by decide) hj, e4a]) e4b e4c (f2.tr e4d))
      · refine Z_ifeq 34 dX8_product_12 rfl (fun _ => ?_) (fun h => absurd h (by decide))
        refine Z_aload_n dX8_product_34 rfl ?_
        refine Z_areturn dX8_product_35 rfl (by first | exact Or.inl ⟨_, rfl⟩ | exact Or.inr ⟨_, rfl⟩) ?_
        exact kt I3 L3 P3 S3 h q l (by rw [e, zl_n (by decide) (amg_1.mpr n9)]; simp) hP g3 g4
    exact Zj.less (Z_fgt (lp6 (to - q2 + 1) q2 I2 L2 P2 S2 h2 l2 (by omega) e2b (by omega) (by omega) e2c e2d (by omega) (by omega) (by rw [zr_s hp (by decide), e2a]; rfl)) (by repeat first | exact zwk_n | refine zwk_f ?_ | refine zwk_c rfl ?_)) (Nat.le_refl _) (by omega) (by omega)
  · exact Zx_out (fun x hx => by cases hx) (kf _ _ _ _ a2 q2 (by rw [zr_s hp (by decide), e2a]) e2b e2c (f0.tr e2d))
set_option maxHeartbeats 16000000 in
theorem t_xboth (ihs : PRx G c to r m mX8_held 2) (hc : ∀ j, c j < 256) (hz : mz to (1) p < m + 1) (hp : p ≤ to) (hns : ns ≤ 5) (hP : rdX c to r I P S p) (kt : (∀ I2 L2 P2 S2 h q l, pzz c to (1) ns p = .inr (q, l) → rdX c to r I2 P2 S2 q → nQ (fun a => S a = none) I2 P2 S2 l.length h l → fN r I L P S I2 L2 P2 S2 → Q (.inl (some (.ref h))) I2 L2 P2 S2)) (kf : (∀ I2 L2 P2 S2 a q, pzz c to (1) ns p = .inl q → S2 a = some (.inl 10) → I2 a 0 = nI q → fN r I L P S I2 L2 P2 S2 → Q (.inr (10, some a)) I2 L2 P2 S2)) : Zm G mX8_both ((m + 9)) (cz c to 1 ns p) (7 * cz c to 1 ns p) [.ref r, .int (nI ns)] I L P S Q := by
  have h40 := hP.2.1.2.2
  have hP0 := hP
  have hnn := hP.nn
  have f0 : fN r I L P S I L P S := fN.rf hP.2.2.2.2
  refine Z_entry (lv := [_, _, _]) (Nat.le_of_ble_eq_true rfl) rfl ?_
  have hck : cz c to (2) (ns) (p) ≤ cz c to 1 ns p := cz_k (c := c) (ns := ns) (k := 1) hp (by decide)
  refine Zj.less (C := (cz c to 1 ns p - cz c to (2) (ns) (p)) + cz c to (2) (ns) (p)) (Sl := 7 * (cz c to 1 ns p - cz c to (2) (ns) (p)) + 7 * cz c to (2) (ns) (p)) ?_ (Nat.le_refl _) (by omega) (by omega)
  refine Z_aload_n dX8_both_0 rfl ?_
  refine Z_iload_n dX8_both_1 rfl ?_
  refine Z_call (d' := (m + 8)) (C := (cz c to 1 ns p - cz c to (2) (ns) (p))) (C' := cz c to (2) (ns) (p)) (Sl := (7 * (cz c to 1 ns p - cz c to (2) (ns) (p)))) (S' := 7 * cz c to (2) (ns) (p)) (zCal_V gX8_67 nX8_held (by decide) dX8_both_2) pX8_held hP.1.1 zkl7 [_] rfl rfl (Nat.le_of_ble_eq_true rfl) (by omega) (by omega) (by omega) (ihs _ _ _ _ _ (ns) (p) (by have := mz_k (to := to) (k := 1) (k2 := 2) (p := p) (by omega) (by omega); omega) (by omega) (by omega) hP (fun I2 L2 P2 S2 h2 q2 l2 e2a e2b e2c e2d => ?_) (fun I2 L2 P2 S2 a2 q2 e2a e2b e2c e2d => ?_))
  · have b2 := pz_pl _ _ _ _ _ hp e2a
    have b21 := b2.1
    have b22 := b2.2.1
    have b24 := b2.2.2.2
    dsimp only at b21 b22 b24
    have hY : cz c to (2) (ns) (p) = l2.length := cz_r e2a
    refine Z_astore_n (lv' := [_, _, _]) dX8_both_5 rfl rfl (Nat.le_of_ble_eq_true rfl) ?_
    have lp6 : ∀ f : Nat, ∀ q I3 L3 P3 S3 h l, to - q < f → rdX c to r I3 P3 S3 q → q ≤ to → p ≤ q → nQ (fun a => S a = none) I3 P3 S3 l.length h l → fN r I L P S I3 L3 P3 S3 → l.length ≤ q - p → l.length ≤ cz c to 1 ns p → pzz c to 1 ns p = (match pzz c to (10 + 1) ns q with | .inl a => .inl a | .inr y => .inr (y.1, l ++ y.2)) → Zj G mX8_both (m + 9) (cz c to 1 ns p - l.length) (7 * (cz c to 1 ns p - l.length)) 6 [.ref r, .int (nI ns), .ref h] [] I3 L3 P3 S3 Q := by
      refine fun f => Nat.rec (motive := fun f => ∀ q I3 L3 P3 S3 h l, to - q < f → rdX c to r I3 P3 S3 q → q ≤ to → p ≤ q → nQ (fun a => S a = none) I3 P3 S3 l.length h l → fN r I L P S I3 L3 P3 S3 → l.length ≤ q - p → l.length ≤ cz c to 1 ns p → pzz c to 1 ns p = (match pzz c to (10 + 1) ns q with | .inl a => .inl a | .inr y => .inr (y.1, l ++ y.2)) → Zj G mX8_both (m + 9) (cz c to 1 ns p - l.length) (7 * (cz c to 1 ns p - l.length)) 6 [.ref r, .int (nI ns), .ref h] [] I3 L3 P3 S3 Q) (fun q I3 L3 P3 S3 h l g => absurd g (Nat.not_lt_zero _)) (fun f ih => ?_) f
      intro q I3 L3 P3 S3 h l gf hP hq hpq g3 g4 hl hlX e
      show Zj _ _ _ _ _ _ _ _ _ _ _ _ _
      refine Z_aload_n dX8_both_6 rfl ?_
      refine Z_bipush (nI 38) dX8_both_7 rfl ?_
      refine Z_call0 (d' := 1) (zCal_V gX8_58 nX8_passes (by decide) dX8_both_9) pX8_passes hP.1.1 zkl7 [_] rfl rfl (Nat.le_of_ble_eq_true rfl) (by omega) (c_X8_passes hP hq hc (y := 38) (by decide) (fun h9a h9b => ?_) (fun n9 => ?_))
      · have hj : amg c to (acL 1) q = some 0 := by unfold amg; rw [if_pos h9a, h9b]; rfl
        have hcm : l.length + 1 + cz c to (2) (ns) (q + 1) ≤ cz c to 1 ns p := cz_m (k := 1) (by decide) hq hl hpq hj e
        have hP := hP.at (q := q + 1)
        have f1 := g4.at (v := nI (q + 1))
        refine Z_ifeq 34 dX8_both_12 rfl (fun h => absurd h (by decide)) (fun _ => ?_)
        obtain ⟨N1, hN1, hN2⟩ := hP.2.2.2.2
        refine Zj.less (C := (cz c to 1 ns p - l.length - 1 - cz c to (2) (ns) (q + 1)) + cz c to (2) (ns) (q + 1) + 1) (Sl := 7 * (cz c to 1 ns p - l.length - 1 - cz c to (2) (ns) (q + 1)) + 7 * cz c to (2) (ns) (q + 1) + 3) ?_ (Nat.le_refl _) (by omega) (by omega)
        refine Z_new N1 (hN2 N1 (Nat.le_refl _)) wX8_62 dX8_both_15 ?_
        have f2 := f1.nw (g1 := fun _ => 0) (g2 := fun _ => 0) (g3 := fun _ => none) (x := .inl 13) hN1 (hN2 N1 (Nat.le_refl _)) hnn
        have hS1 := f1.no (hN2 N1 (Nat.le_refl _))
        have hP := hP.nw (g1 := fun _ => 0) (g3 := fun _ => none) (x := .inl 13) hN1 (hN2 N1 (Nat.le_refl _))
        refine Z_dup dX8_both_18 rfl ?_
        refine Z_bipush (nI 38) dX8_both_19 rfl ?_
        refine Z_aload_n dX8_both_21 rfl ?_
        refine Z_aload_n dX8_both_22 rfl ?_
        refine Z_iload_n dX8_both_23 rfl ?_
        refine Z_call (d' := (m + 8)) (C := (cz c to 1 ns p - l.length - 1 - cz c to (2) (ns) (q + 1))) (C' := cz c to (2) (ns) (q + 1)) (Sl := (7 * (cz c to 1 ns p - l.length - 1 - cz c to (2) (ns) (q + 1)))) (S' := 7 * cz c to (2) (ns) (q + 1)) (zCal_V gX8_67 nX8_held (by decide) dX8_both_24) pX8_held hP.1.1 zkl7 [_] rfl rfl (Nat.le_of_ble_eq_true rfl) (by omega) (by omega) (by omega) (ihs _ _ _ _ _ (ns) (q + 1) (by have := mz_d (to := to) (k := 1) (k2 := 2) (p := p) (p2 := q + 1) (by have := amg_lt hj; omega) (by omega); omega) (by omega) (by omega) hP (fun I4 L4 P4 S4 h4 q4 l4 e4a e4b e4c e4d => ?_) (fun I4 L4 P4 S4 a4 q4 e4a e4b e4c e4d => ?_))
        · have b4 := pz_pl _ _ _ _ _ (show q + 1 ≤ to by have := amg_lt hj; omega) e4a
          have b41 := b4.1
          have b42 := b4.2.1
          have b44 := b4.2.2.2
          dsimp only at b41 b42 b44
          have s4 : S4 N1 = some (.inl 13) := ((e4d.1 N1 (Or.inr (by rw [zu_s]; simp))).2.2.2).trans (zu_s _ _ _)
          have hY4 := cz_r e4a
          refine Z_call0 (d' := 1) (zCal_I q742 q102 q740 q741 rfl nX14_init (by decide) dX8_both_27) pX14_init s4 zkl13 [_, _, _] rfl rfl (Nat.le_of_ble_eq_true rfl) (by omega) (c_X14_init s4 ?_)
          refine Z_astore_n (lv' := [_, _, _]) dX8_both_30 rfl rfl (Nat.le_of_ble_eq_true rfl) ?_
          refine Z_goto 6 dX8_both_31 rfl ?_
          have hrne : r ≠ N1 := (fN.rf (I := I) (L := L) (P := P) (S := S) (r := r) hP0.2.2.2.2).ne hS1 hN1 (Or.inr hnn)
          have fw := (f2.tr e4d).wr (I3 := zw I4 N1 0 (nI 38)) (P3 := zw (zw P4 N1 1 (some h)) N1 2 (some h4)) hN1 hS1 hnn (fun b hb => zw_n _ _ _ _ hb) (fun b hb => (zw_n _ _ _ _ hb).trans (zw_n _ _ _ _ hb))
          have hPf := hP0.fr fw (q := q4) ((congrFun (zw_n _ _ _ _ hrne) 2).trans e4b.2.1.2.1)
          have nk1 : nQ (fun a => S a = none) (zw I4 N1 0 (nI 38)) (zw (zw P4 N1 1 (some h)) N1 2 (some h4)) S4 l.length h l := g3.map fun a h7 hT hs => by
            have hne : a ≠ N1 := fun q => hs (by rw [q]; exact hN2 N1 (Nat.le_refl _))
            have hr9 : a ≠ r := fun q => hnn (by rw [← q]; exact hT)
            obtain ⟨x1, x2, x3, x4⟩ := e4d.1 a (Or.inr (by rw [zu_n _ _ _ hne]; exact hs))
            exact ⟨hT, (zw_n _ _ _ _ hne).trans ((x1 hr9).trans ((zu_n _ _ _ hne).trans (zw_n _ _ _ _ hr9))), (zw_n _ _ _ _ hne).trans ((zw_n _ _ _ _ hne).trans (x3.trans (zu_n _ _ _ hne))), x4.trans (zu_n _ _ _ hne)⟩
          have nk2 : nQ (fun a => S a = none) (zw I4 N1 0 (nI 38)) (zw (zw P4 N1 1 (some h)) N1 2 (some h4)) S4 l4.length h4 l4 := e4c.map fun a h7 hT hs => by
            have hne : a ≠ N1 := fun q => by rw [q, zu_s] at hT; cases hT
            rw [zu_n _ _ _ hne] at hT
            exact ⟨g4.no hT, zw_n _ _ _ _ hne, (zw_n _ _ _ _ hne).trans (zw_n _ _ _ _ hne), rfl⟩
          have nk := nQ.join (op := 38) hN1 hS1 s4 (by decide) (zw_s _ _ _ _) (by rw [zw_a, zu_n _ _ _ (by decide), zw_s]) (zw_s _ _ _ _) nk1 nk2
          have ll : (l ++ l4 ++ [2000 + 38]).length = l.length + l4.length + 1 := by rw [List.length_append, List.length_append]; rfl
          have ih2 := ih q4 _ L4 _ S4 N1 (l ++ l4 ++ [2000 + 38]) (by omega) hPf b42 (by omega) nk fw (by omega) (by omega) (by
            rw [e, zl_s (by decide) hj, e4a]
            dsimp only
            rw [if_neg (by decide), h9b]
            cases pzz c to (10 + 1) ns q4 with
            | inl a => rfl
            | inr y => simp [List.append_assoc])
          exact Zj.less (Z_fgt ih2 (by repeat first | exact zwk_n | refine zwk_f ?_ | refine zwk_c rfl ?_)) (Nat.le_refl _) (by rw [ll]; omega) (by rw [ll]; omega)
        · exact Zx_out (fun x hx => by cases hx) (kf _ _ _ _ a4 q4 (by rw [e, zl_s (by decide) hj, e4a]) e4b e4c (f2.tr e4d))
      · refine Z_ifeq 34 dX8_both_12 rfl (fun _ => ?_) (fun h => absurd h (by decide))
        refine Z_aload_n dX8_both_34 rfl ?_
        refine Z_areturn dX8_both_35 rfl (by first | exact Or.inl ⟨_, rfl⟩ | exact Or.inr ⟨_, rfl⟩) ?_
        exact kt I3 L3 P3 S3 h q l (by rw [e, zl_n (by decide) (amg_1.mpr n9)]; simp) hP g3 g4
    exact Zj.less (Z_fgt (lp6 (to - q2 + 1) q2 I2 L2 P2 S2 h2 l2 (by omega) e2b (by omega) (by omega) e2c e2d (by omega) (by omega) (by rw [zr_s hp (by decide), e2a]; rfl)) (by repeat first | exact zwk_n | refine zwk_f ?_ | refine zwk_c rfl ?_)) (Nat.le_refl _) (by omega) (by omega)
  · exact Zx_out (fun x hx => by cases hx) (kf _ _ _ _ a2 q2 (by rw [zr_s hp (by decide), e2a]) e2b e2c (f0.tr e2d))
set_option maxHeartbeats 16000000 in
theorem t_xeither (ihs : PRx G c to r m mX8_both 1) (hc : ∀ j, c j < 256) (hz : mz to (0) p < m + 1) (hp : p ≤ to) (hns : ns ≤ 5) (hP : rdX c to r I P S p) (kt : (∀ I2 L2 P2 S2 h q l, pzz c to (0) ns p = .inr (q, l) → rdX c to r I2 P2 S2 q → nQ (fun a => S a = none) I2 P2 S2 l.length h l → fN r I L P S I2 L2 P2 S2 → Q (.inl (some (.ref h))) I2 L2 P2 S2)) (kf : (∀ I2 L2 P2 S2 a q, pzz c to (0) ns p = .inl q → S2 a = some (.inl 10) → I2 a 0 = nI q → fN r I L P S I2 L2 P2 S2 → Q (.inr (10, some a)) I2 L2 P2 S2)) : Zm G mX8_either ((m + 9)) (cz c to 0 ns p) (7 * cz c to 0 ns p) [.ref r, .int (nI ns)] I L P S Q := by
  have h40 := hP.2.1.2.2
  have hP0 := hP
  have hnn := hP.nn
  have f0 : fN r I L P S I L P S := fN.rf hP.2.2.2.2
  refine Z_entry (lv := [_, _, _]) (Nat.le_of_ble_eq_true rfl) rfl ?_
  have hck : cz c to (1) (ns) (p) ≤ cz c to 0 ns p := cz_k (c := c) (ns := ns) (k := 0) hp (by decide)
  refine Zj.less (C := (cz c to 0 ns p - cz c to (1) (ns) (p)) + cz c to (1) (ns) (p)) (Sl := 7 * (cz c to 0 ns p - cz c to (1) (ns) (p)) + 7 * cz c to (1) (ns) (p)) ?_ (Nat.le_refl _) (by omega) (by omega)
  refine Z_aload_n dX8_either_0 rfl ?_
  refine Z_iload_n dX8_either_1 rfl ?_
  refine Z_call (d' := (m + 8)) (C := (cz c to 0 ns p - cz c to (1) (ns) (p))) (C' := cz c to (1) (ns) (p)) (Sl := (7 * (cz c to 0 ns p - cz c to (1) (ns) (p)))) (S' := 7 * cz c to (1) (ns) (p)) (zCal_V gX8_55 nX8_both (by decide) dX8_either_2) pX8_both hP.1.1 zkl7 [_] rfl rfl (Nat.le_of_ble_eq_true rfl) (by omega) (by omega) (by omega) (ihs _ _ _ _ _ (ns) (p) (by have := mz_k (to := to) (k := 0) (k2 := 1) (p := p) (by omega) (by omega); omega) (by omega) (by omega) hP (fun I2 L2 P2 S2 h2 q2 l2 e2a e2b e2c e2d => ?_) (fun I2 L2 P2 S2 a2 q2 e2a e2b e2c e2d => ?_))
  · have b2 := pz_pl _ _ _ _ _ hp e2a
    have b21 := b2.1
    have b22 := b2.2.1
    have b24 := b2.2.2.2
    dsimp only at b21 b22 b24
    have hY : cz c to (1) (ns) (p) = l2.length := cz_r e2a
    refine Z_astore_n (lv' := [_, _, _]) dX8_either_5 rfl rfl (Nat.le_of_ble_eq_true rfl) ?_
    have lp6 : ∀ f : Nat, ∀ q I3 L3 P3 S3 h l, to - q < f → rdX c to r I3 P3 S3 q → q ≤ to → p ≤ q → nQ (fun a => S a = none) I3 P3 S3 l.length h l → fN r I L P S I3 L3 P3 S3 → l.length ≤ q - p → l.length ≤ cz c to 0 ns p → pzz c to 0 ns p = (match pzz c to (10 + 0) ns q with | .inl a => .inl a | .inr y => .inr (y.1, l ++ y.2)) → Zj G mX8_either (m + 9) (cz c to 0 ns p - l.length) (7 * (cz c to 0 ns p - l.length)) 6 [.ref r, .int (nI ns), .ref h] [] I3 L3 P3 S3 Q := by
      refine fun f => Nat.rec (motive := fun f => ∀ q I3 L3 P3 S3 h l, to - q < f → rdX c to r I3 P3 S3 q → q ≤ to → p ≤ q → nQ (fun a => S a = none) I3 P3 S3 l.length h l → fN r I L P S I3 L3 P3 S3 → l.length ≤ q - p → l.length ≤ cz c to 0 ns p → pzz c to 0 ns p = (match pzz c to (10 + 0) ns q with | .inl a => .inl a | .inr y => .inr (y.1, l ++ y.2)) → Zj G mX8_either (m + 9) (cz c to 0 ns p - l.length) (7 * (cz c to 0 ns p - l.length)) 6 [.ref r, .int (nI ns), .ref h] [] I3 L3 P3 S3 Q) (fun q I3 L3 P3 S3 h l g => absurd g (Nat.not_lt_zero _)) (fun f ih => ?_) f
      intro q I3 L3 P3 S3 h l gf hP hq hpq g3 g4 hl hlX e
      show Zj _ _ _ _ _ _ _ _ _ _ _ _ _
      refine Z_aload_n dX8_either_6 rfl ?_
      refine Z_bipush (nI 124) dX8_either_7 rfl ?_
      refine Z_call0 (d' := 1) (zCal_V gX8_58 nX8_passes (by decide) dX8_either_9) pX8_passes hP.1.1 zkl7 [_] rfl rfl (Nat.le_of_ble_eq_true rfl) (by omega) (c_X8_passes hP hq hc (y := 124) (by decide) (fun h9a h9b => ?_) (fun n9 => ?_))
      · have hj : amg c to (acL 0) q = some 0 := by unfold amg; rw [if_pos h9a, h9b]; rfl
        have hcm : l.length + 1 + cz c to (1) (ns) (q + 1) ≤ cz c to 0 ns p := cz_m (k := 0) (by decide) hq hl hpq hj e
        have hP := hP.at (q := q + 1)
        have f1 := g4.at (v := nI (q + 1))
        refine Z_ifeq 34 dX8_either_12 rfl (fun h => absurd h (by decide)) (fun _ => ?_)
        obtain ⟨N1, hN1, hN2⟩ := hP.2.2.2.2
        refine Zj.less (C := (cz c to 0 ns p - l.length - 1 - cz c to (1) (ns) (q + 1)) + cz c to (1) (ns) (q + 1) + 1) (Sl := 7 * (cz c to 0 ns p - l.length - 1 - cz c to (1) (ns) (q + 1)) + 7 * cz c to (1) (ns) (q + 1) + 3) ?_ (Nat.le_refl _) (by omega) (by omega)
        refine Z_new N1 (hN2 N1 (Nat.le_refl _)) wX8_62 dX8_either_15 ?_
        have f2 := f1.nw (g1 := fun _ => 0) (g2 := fun _ => 0) (g3 := fun _ => none) (x := .inl 13) hN1 (hN2 N1 (Nat.le_refl _)) hnn
        have hS1 := f1.no (hN2 N1 (Nat.le_refl _))
        have hP := hP.nw (g1 := fun _ => 0) (g3 := fun _ => none) (x := .inl 13) hN1 (hN2 N1 (Nat.le_refl _))
        refine Z_dup dX8_either_18 rfl ?_
        refine Z_bipush (nI 124) dX8_either_19 rfl ?_
        refine Z_aload_n dX8_either_21 rfl ?_
        refine Z_aload_n dX8_either_22 rfl ?_
        refine Z_iload_n dX8_either_23 rfl ?_
        refine Z_call (d' := (m + 8)) (C := (cz c to 0 ns p - l.length - 1 - cz c to (1) (ns) (q + 1))) (C' := cz c to (1) (ns) (q + 1)) (Sl := (7 * (cz c to 0 ns p - l.length - 1 - cz c to (1) (ns) (q + 1)))) (S' := 7 * cz c to (1) (ns) (q + 1)) (zCal_V gX8_55 nX8_both (by decide) dX8_either_24) pX8_both hP.1.1 zkl7 [_] rfl rfl (Nat.le_of_ble_eq_true rfl) (by omega) (by omega) (by omega) (ihs _ _ _ _ _ (ns) (q + 1) (by have := mz_d (to := to) (k := 0) (k2 := 1) (p := p) (p2 := q + 1) (by have := amg_lt hj; omega) (by omega); omega) (by omega) (by omega) hP (fun I4 L4 P4 S4 h4 q4 l4 e4a e4b e4c e4d => ?_) (fun I4 L4 P4 S4 a4 q4 e4a e4b e4c e4d => ?_))
        · have b4 := pz_pl _ _ _ _ _ (show q + 1 ≤ to by have := amg_lt hj; omega) e4a
          have b41 := b4.1
          have b42 := b4.2.1
          have b44 := b4.2.2.2
          dsimp only at b41 b42 b44
          have s4 : S4 N1 = some (.inl 13) := ((e4d.1 N1 (Or.inr (by rw [zu_s]; simp))).2.2.2).trans (zu_s _ _ _)
          have hY4 := cz_r e4a
          refine Z_call0 (d' := 1) (zCal_I q742 q102 q740 q741 rfl nX14_init (by decide) dX8_either_27) pX14_init s4 zkl13 [_, _, _] rfl rfl (Nat.le_of_ble_eq_true rfl) (by omega) (c_X14_init s4 ?_)
          refine Z_astore_n (lv' := [_, _, _]) dX8_either_30 rfl rfl (Nat.le_of_ble_eq_true rfl) ?_
          refine Z_goto 6 dX8_either_31 rfl ?_
          have hrne : r ≠ N1 := (fN.rf (I := I) (L := L) (P := P) (S := S) (r := r) hP0.2.2.2.2).ne hS1 hN1 (Or.inr hnn)
          have fw := (f2.tr e4d).wr (I3 := zw I4 N1 0 (nI 124)) (P3 := zw (zw P4 N1 1 (some h)) N1 2 (some h4)) hN1 hS1 hnn (fun b hb => zw_n _ _ _ _ hb) (fun b hb => (zw_n _ _ _ _ hb).trans (zw_n _ _ _ _ hb))
          have hPf := hP0.fr fw (q := q4) ((congrFun (zw_n _ _ _ _ hrne) 2).trans e4b.2.1.2.1)
          have nk1 : nQ (fun a => S a = none) (zw I4 N1 0 (nI 124)) (zw (zw P4 N1 1 (some h)) N1 2 (some h4)) S4 l.length h l := g3.map fun a h7 hT hs => by
            have hne : a ≠ N1 := fun q => hs (by rw [q]; exact hN2 N1 (Nat.le_refl _))
            have hr9 : a ≠ r := fun q => hnn (by rw [← q]; exact hT)
            obtain ⟨x1, x2, x3, x4⟩ := e4d.1 a (Or.inr (by rw [zu_n _ _ _ hne]; exact hs))
            exact ⟨hT, (zw_n _ _ _ _ hne).trans ((x1 hr9).trans ((zu_n _ _ _ hne).trans (zw_n _ _ _ _ hr9))), (zw_n _ _ _ _ hne).trans ((zw_n _ _ _ _ hne).trans (x3.trans (zu_n _ _ _ hne))), x4.trans (zu_n _ _ _ hne)⟩
          have nk2 : nQ (fun a => S a = none) (zw I4 N1 0 (nI 124)) (zw (zw P4 N1 1 (some h)) N1 2 (some h4)) S4 l4.length h4 l4 := e4c.map fun a h7 hT hs => by
            have hne : a ≠ N1 := fun q => by rw [q, zu_s] at hT; cases hT
            rw [zu_n _ _ _ hne] at hT
            exact ⟨g4.no hT, zw_n _ _ _ _ hne, (zw_n _ _ _ _ hne).trans (zw_n _ _ _ _ hne), rfl⟩
          have nk := nQ.join (op := 124) hN1 hS1 s4 (by decide) (zw_s _ _ _ _) (by rw [zw_a, zu_n _ _ _ (by decide), zw_s]) (zw_s _ _ _ _) nk1 nk2
          have ll : (l ++ l4 ++ [2000 + 124]).length = l.length + l4.length + 1 := by rw [List.length_append, List.length_append]; rfl
          have ih2 := ih q4 _ L4 _ S4 N1 (l ++ l4 ++ [2000 + 124]) (by omega) hPf b42 (by omega) nk fw (by omega) (by omega) (by
            rw [e, zl_s (by decide) hj, e4a]
            dsimp only
            rw [if_neg (by decide), h9b]
            cases pzz c to (10 + 0) ns q4 with
            | inl a => rfl
            | inr y => simp [List.append_assoc])
          exact Zj.less (Z_fgt ih2 (by repeat first | exact zwk_n | refine zwk_f ?_ | refine zwk_c rfl ?_)) (Nat.le_refl _) (by rw [ll]; omega) (by rw [ll]; omega)
        · exact Zx_out (fun x hx => by cases hx) (kf _ _ _ _ a4 q4 (by rw [e, zl_s (by decide) hj, e4a]) e4b e4c (f2.tr e4d))
      · refine Z_ifeq 34 dX8_either_12 rfl (fun _ => ?_) (fun h => absurd h (by decide))
        refine Z_aload_n dX8_either_34 rfl ?_
        refine Z_areturn dX8_either_35 rfl (by first | exact Or.inl ⟨_, rfl⟩ | exact Or.inr ⟨_, rfl⟩) ?_
        exact kt I3 L3 P3 S3 h q l (by rw [e, zl_n (by decide) (amg_1.mpr n9)]; simp) hP g3 g4
    exact Zj.less (Z_fgt (lp6 (to - q2 + 1) q2 I2 L2 P2 S2 h2 l2 (by omega) e2b (by omega) (by omega) e2c e2d (by omega) (by omega) (by rw [zr_s hp (by decide), e2a]; rfl)) (by repeat first | exact zwk_n | refine zwk_f ?_ | refine zwk_c rfl ?_)) (Nat.le_refl _) (by omega) (by omega)
  · exact Zx_out (fun x hx => by cases hx) (kf _ _ _ _ a2 q2 (by rw [zr_s hp (by decide), e2a]) e2b e2c (f0.tr e2d))
set_option maxHeartbeats 16000000 in
theorem t_xsum (ihs : PRx G c to r m mX8_product 4) (hc : ∀ j, c j < 256) (hz : mz to (3) p < m + 1) (hp : p ≤ to) (hns : ns ≤ 5) (hP : rdX c to r I P S p) (kt : (∀ I2 L2 P2 S2 h q l, pzz c to (3) ns p = .inr (q, l) → rdX c to r I2 P2 S2 q → nQ (fun a => S a = none) I2 P2 S2 l.length h l → fN r I L P S I2 L2 P2 S2 → Q (.inl (some (.ref h))) I2 L2 P2 S2)) (kf : (∀ I2 L2 P2 S2 a q, pzz c to (3) ns p = .inl q → S2 a = some (.inl 10) → I2 a 0 = nI q → fN r I L P S I2 L2 P2 S2 → Q (.inr (10, some a)) I2 L2 P2 S2)) : Zm G mX8_sum ((m + 9)) (cz c to 3 ns p) (7 * cz c to 3 ns p) [.ref r, .int (nI ns)] I L P S Q := by
  have h40 := hP.2.1.2.2
  have hP0 := hP
  have hnn := hP.nn
  have f0 : fN r I L P S I L P S := fN.rf hP.2.2.2.2
  refine Z_entry (lv := [_, _, _, _]) (Nat.le_of_ble_eq_true rfl) rfl ?_
  have hck : cz c to (4) (ns) (p) ≤ cz c to 3 ns p := cz_k (c := c) (ns := ns) (k := 3) hp (by decide)
  refine Zj.less (C := (cz c to 3 ns p - cz c to (4) (ns) (p)) + cz c to (4) (ns) (p)) (Sl := 7 * (cz c to 3 ns p - cz c to (4) (ns) (p)) + 7 * cz c to (4) (ns) (p)) ?_ (Nat.le_refl _) (by omega) (by omega)
  refine Z_aload_n dX8_sum_0 rfl ?_
  refine Z_iload_n dX8_sum_1 rfl ?_
  refine Z_call (d' := (m + 8)) (C := (cz c to 3 ns p - cz c to (4) (ns) (p))) (C' := cz c to (4) (ns) (p)) (Sl := (7 * (cz c to 3 ns p - cz c to (4) (ns) (p)))) (S' := 7 * cz c to (4) (ns) (p)) (zCal_V gX8_73 nX8_product (by decide) dX8_sum_2) pX8_product hP.1.1 zkl7 [_] rfl rfl (Nat.le_of_ble_eq_true rfl) (by omega) (by omega) (by omega) (ihs _ _ _ _ _ (ns) (p) (by have := mz_k (to := to) (k := 3) (k2 := 4) (p := p) (by omega) (by omega); omega) (by omega) (by omega) hP (fun I2 L2 P2 S2 h2 q2 l2 e2a e2b e2c e2d => ?_) (fun I2 L2 P2 S2 a2 q2 e2a e2b e2c e2d => ?_))
  · have b2 := pz_pl _ _ _ _ _ hp e2a
    have b21 := b2.1
    have b22 := b2.2.1
    have b24 := b2.2.2.2
    dsimp only at b21 b22 b24
    have hY : cz c to (4) (ns) (p) = l2.length := cz_r e2a
    refine Z_astore_n (lv' := [_, _, _, _]) dX8_sum_5 rfl rfl (Nat.le_of_ble_eq_true rfl) ?_
    have lp6 : ∀ f : Nat, ∀ q I3 L3 P3 S3 h l, to - q < f → rdX c to r I3 P3 S3 q → q ≤ to → p ≤ q → nQ (fun a => S a = none) I3 P3 S3 l.length h l → fN r I L P S I3 L3 P3 S3 → l.length ≤ q - p → l.length ≤ cz c to 3 ns p → pzz c to 3 ns p = (match pzz c to (10 + 3) ns q with | .inl a => .inl a | .inr y => .inr (y.1, l ++ y.2)) → Zj G mX8_sum (m + 9) (cz c to 3 ns p - l.length) (7 * (cz c to 3 ns p - l.length)) 6 [.ref r, .int (nI ns), .ref h, .retAddr 0] [] I3 L3 P3 S3 Q := by
      refine fun f => Nat.rec (motive := fun f => ∀ q I3 L3 P3 S3 h l, to - q < f → rdX c to r I3 P3 S3 q → q ≤ to → p ≤ q → nQ (fun a => S a = none) I3 P3 S3 l.length h l → fN r I L P S I3 L3 P3 S3 → l.length ≤ q - p → l.length ≤ cz c to 3 ns p → pzz c to 3 ns p = (match pzz c to (10 + 3) ns q with | .inl a => .inl a | .inr y => .inr (y.1, l ++ y.2)) → Zj G mX8_sum (m + 9) (cz c to 3 ns p - l.length) (7 * (cz c to 3 ns p - l.length)) 6 [.ref r, .int (nI ns), .ref h, .retAddr 0] [] I3 L3 P3 S3 Q) (fun q I3 L3 P3 S3 h l g => absurd g (Nat.not_lt_zero _)) (fun f ih => ?_) f
      intro q I3 L3 P3 S3 h l gf hP hq hpq g3 g4 hl hlX e
      show Zj _ _ _ _ _ _ _ _ _ _ _ _ _
      refine Z_aload_n dX8_sum_6 rfl ?_
      refine Z_call0 (d' := 0) (zCal_V gX8_43 nX8_here (by decide) dX8_sum_7) pX8_here hP.1.1 zkl7 [] rfl rfl (Nat.le_of_ble_eq_true rfl) (by omega) (c_X8_here hP hq ?_)
      refine Z_bipush (nI 43) dX8_sum_10 rfl ?_
      refine Z_icmpeq 24 dX8_sum_12 rfl (fun c12 => ?_) (fun c12 => ?_)
      · have hq9 := (hr_eq hc (by decide)).mp c12
        have hj : amg c to (acL 3) q = some 0 := by unfold amg; rw [if_pos hq9.1, hq9.2]; rfl
        have hcm : l.length + 1 + cz c to (4) (ns) (q + 1) ≤ cz c to 3 ns p := cz_m (k := 3) (by decide) hq hl hpq hj e
        refine Z_aload_n dX8_sum_24 rfl ?_
        refine Z_call0 (d' := 0) (zCal_V gX8_43 nX8_here (by decide) dX8_sum_25) pX8_here hP.1.1 zkl7 [] rfl rfl (Nat.le_of_ble_eq_true rfl) (by omega) (c_X8_here hP hq ?_)
        refine Z_re (y := nI 43) ((hr_eq hc (by decide)).mpr hq9) ?_
        refine Z_istore_n (lv' := [_, _, _, _]) dX8_sum_28 rfl rfl (Nat.le_of_ble_eq_true rfl) ?_
        refine Z_aload_n dX8_sum_29 rfl ?_
        refine Z_dup dX8_sum_30 rfl ?_
        refine Z_getI hP.1.1 fX8_31_7 dX8_sum_31 rfl ?_
        refine Z_re (y := nI (q)) hP.2.1.2.1 ?_
        refine Z_iconst (nI 1) dX8_sum_34 rfl ?_
        refine Z_iaddN dX8_sum_35 ?_
        refine Z_putI hP.1.1 fX8_31_7 dX8_sum_36 rfl rfl rfl ?_
        have hP := hP.at (q := q + 1)
        have f1 := g4.at (v := nI (q + 1))
        obtain ⟨N1, hN1, hN2⟩ := hP.2.2.2.2
        refine Zj.less (C := (cz c to 3 ns p - l.length - 1 - cz c to (4) (ns) (q + 1)) + cz c to (4) (ns) (q + 1) + 1) (Sl := 7 * (cz c to 3 ns p - l.length - 1 - cz c to (4) (ns) (q + 1)) + 7 * cz c to (4) (ns) (q + 1) + 3) ?_ (Nat.le_refl _) (by omega) (by omega)
        refine Z_new N1 (hN2 N1 (Nat.le_refl _)) wX8_62 dX8_sum_39 ?_
        have f2 := f1.nw (g1 := fun _ => 0) (g2 := fun _ => 0) (g3 := fun _ => none) (x := .inl 13) hN1 (hN2 N1 (Nat.le_refl _)) hnn
        have hS1 := f1.no (hN2 N1 (Nat.le_refl _))
        have hP := hP.nw (g1 := fun _ => 0) (g3 := fun _ => none) (x := .inl 13) hN1 (hN2 N1 (Nat.le_refl _))
        refine Z_dup dX8_sum_42 rfl ?_
        refine Z_iload_n dX8_sum_43 rfl ?_
        refine Z_aload_n dX8_sum_44 rfl ?_
        refine Z_aload_n dX8_sum_45 rfl ?_
        refine Z_iload_n dX8_sum_46 rfl ?_
        refine Z_call (d' := (m + 8)) (C := (cz c to 3 ns p - l.length - 1 - cz c to (4) (ns) (q + 1))) (C' := cz c to (4) (ns) (q + 1)) (Sl := (7 * (cz c to 3 ns p - l.length - 1 - cz c to (4) (ns) (q + 1)))) (S' := 7 * cz c to (4) (ns) (q + 1)) (zCal_V gX8_73 nX8_product (by decide) dX8_sum_47) pX8_product hP.1.1 zkl7 [_] rfl rfl (Nat.le_of_ble_eq_true rfl) (by omega) (by omega) (by omega) (ihs _ _ _ _ _ (ns) (q + 1) (by have := mz_d (to := to) (k := 3) (k2 := 4) (p := p) (p2 := q + 1) (by have := amg_lt hj; omega) (by omega); omega) (by omega) (by omega) hP (fun I4 L4 P4 S4 h4 q4 l4 e4a e4b e4c e4d => ?_) (fun I4 L4 P4 S4 a4 q4 e4a e4b e4c e4d => ?_))
        · have b4 := pz_pl _ _ _ _ _ (show q + 1 ≤ to by have := amg_lt hj; omega) e4a
          have b41 := b4.1
          have b42 := b4.2.1
          have b44 := b4.2.2.2
          dsimp only at b41 b42 b44
          have s4 : S4 N1 = some (.inl 13) := ((e4d.1 N1 (Or.inr (by rw [zu_s]; simp))).2.2.2).trans (zu_s _ _ _)
          have hY4 := cz_r e4a
          refine Z_call0 (d' := 1) (zCal_I q742 q102 q740 q741 rfl nX14_init (by decide) dX8_sum_50) pX14_init s4 zkl13 [_, _, _] rfl rfl (Nat.le_of_ble_eq_true rfl) (by omega) (c_X14_init s4 ?_)
          refine Z_astore_n (lv' := [_, _, _, _]) dX8_sum_53 rfl rfl (Nat.le_of_ble_eq_true rfl) ?_
          refine Z_goto 6 dX8_sum_54 rfl ?_
          have hrne : r ≠ N1 := (fN.rf (I := I) (L := L) (P := P) (S := S) (r := r) hP0.2.2.2.2).ne hS1 hN1 (Or.inr hnn)
          have fw := (f2.tr e4d).wr (I3 := zw I4 N1 0 (nI 43)) (P3 := zw (zw P4 N1 1 (some h)) N1 2 (some h4)) hN1 hS1 hnn (fun b hb => zw_n _ _ _ _ hb) (fun b hb => (zw_n _ _ _ _ hb).trans (zw_n _ _ _ _ hb))
          have hPf := hP0.fr fw (q := q4) ((congrFun (zw_n _ _ _ _ hrne) 2).trans e4b.2.1.2.1)
          have nk1 : nQ (fun a => S a = none) (zw I4 N1 0 (nI 43)) (zw (zw P4 N1 1 (some h)) N1 2 (some h4)) S4 l.length h l := g3.map fun a h7 hT hs => by
            have hne : a ≠ N1 := fun q => hs (by rw [q]; exact hN2 N1 (Nat.le_refl _))
            have hr9 : a ≠ r := fun q => hnn (by rw [← q]; exact hT)
            obtain ⟨x1, x2, x3, x4⟩ := e4d.1 a (Or.inr (by rw [zu_n _ _ _ hne]; exact hs))
            exact ⟨hT, (zw_n _ _ _ _ hne).trans ((x1 hr9).trans ((zu_n _ _ _ hne).trans (zw_n _ _ _ _ hr9))), (zw_n _ _ _ _ hne).trans ((zw_n _ _ _ _ hne).trans (x3.trans (zu_n _ _ _ hne))), x4.trans (zu_n _ _ _ hne)⟩
          have nk2 : nQ (fun a => S a = none) (zw I4 N1 0 (nI 43)) (zw (zw P4 N1 1 (some h)) N1 2 (some h4)) S4 l4.length h4 l4 := e4c.map fun a h7 hT hs => by
            have hne : a ≠ N1 := fun q => by rw [q, zu_s] at hT; cases hT
            rw [zu_n _ _ _ hne] at hT
            exact ⟨g4.no hT, zw_n _ _ _ _ hne, (zw_n _ _ _ _ hne).trans (zw_n _ _ _ _ hne), rfl⟩
          have nk := nQ.join (op := 43) hN1 hS1 s4 (by decide) (zw_s _ _ _ _) (by rw [zw_a, zu_n _ _ _ (by decide), zw_s]) (zw_s _ _ _ _) nk1 nk2
          have ll : (l ++ l4 ++ [2000 + 43]).length = l.length + l4.length + 1 := by rw [List.length_append, List.length_append]; rfl
          have ih2 := ih q4 _ L4 _ S4 N1 (l ++ l4 ++ [2000 + 43]) (by omega) hPf b42 (by omega) nk fw (by omega) (by omega) (by
            rw [e, zl_s (by decide) hj, e4a]
            dsimp only
            rw [if_neg (by decide), hq9.2]
            cases pzz c to (10 + 3) ns q4 with
            | inl a => rfl
            | inr y => simp [List.append_assoc])
          exact Zj.less (Z_fgt ih2 (by repeat first | exact zwk_n | refine zwk_f ?_ | refine zwk_c rfl ?_)) (Nat.le_refl _) (by rw [ll]; omega) (by rw [ll]; omega)
        · exact Zx_out (fun x hx => by cases hx) (kf _ _ _ _ a4 q4 (by rw [e, zl_s (by decide) hj, e4a]) e4b e4c (f2.tr e4d))
      · have n12 : ¬ (q < to ∧ c q = 43) := fun z => c12 ((hr_eq hc (by decide)).mpr z)
        refine Z_aload_n dX8_sum_15 rfl ?_
        refine Z_call0 (d' := 0) (zCal_V gX8_43 nX8_here (by decide) dX8_sum_16) pX8_here hP.1.1 zkl7 [] rfl rfl (Nat.le_of_ble_eq_true rfl) (by omega) (c_X8_here hP hq ?_)
        refine Z_bipush (nI 45) dX8_sum_19 rfl ?_
        refine Z_icmpne 57 dX8_sum_21 rfl (fun c21 => ?_) (fun c21 => ?_)
        · have n21 : ¬ (q < to ∧ c q = 45) := fun z => c21 ((hr_eq hc (by decide)).mpr z)
          refine Z_aload_n dX8_sum_57 rfl ?_
          refine Z_areturn dX8_sum_58 rfl (by first | exact Or.inl ⟨_, rfl⟩ | exact Or.inr ⟨_, rfl⟩) ?_
          exact kt I3 L3 P3 S3 h q l (by rw [e, zl_n (by decide) (amg_2 n12 n21)]; simp) hP g3 g4
        · have c21q := c21
          have hq9 := (hr_eq hc (by decide)).mp c21q
          have hj : amg c to (acL 3) q = some 1 := by unfold amg; rw [if_pos hq9.1, hq9.2]; rfl
          have hcm : l.length + 1 + cz c to (4) (ns) (q + 1) ≤ cz c to 3 ns p := cz_m (k := 3) (by decide) hq hl hpq hj e
          refine Z_aload_n dX8_sum_24 rfl ?_
          refine Z_call0 (d' := 0) (zCal_V gX8_43 nX8_here (by decide) dX8_sum_25) pX8_here hP.1.1 zkl7 [] rfl rfl (Nat.le_of_ble_eq_true rfl) (by omega) (c_X8_here hP hq ?_)
          refine Z_re (y := nI 45) ((hr_eq hc (by decide)).mpr hq9) ?_
          refine Z_istore_n (lv' := [_, _, _, _]) dX8_sum_28 rfl rfl (Nat.le_of_ble_eq_true rfl) ?_
          refine Z_aload_n dX8_sum_29 rfl ?_
          refine Z_dup dX8_sum_30 rfl ?_
          refine Z_getI hP.1.1 fX8_31_7 dX8_sum_31 rfl ?_
          refine Z_re (y := nI (q)) hP.2.1.2.1 ?_
          refine Z_iconst (nI 1) dX8_sum_34 rfl ?_
          refine Z_iaddN dX8_sum_35 ?_
          refine Z_putI hP.1.1 fX8_31_7 dX8_sum_36 rfl rfl rfl ?_
          have hP := hP.at (q := q + 1)
          have f1 := g4.at (v := nI (q + 1))
          obtain ⟨N1, hN1, hN2⟩ := hP.2.2.2.2
          refine Zj.less (C := (cz c to 3 ns p - l.length - 1 - cz c to (4) (ns) (q + 1)) + cz c to (4) (ns) (q + 1) + 1) (Sl := 7 * (cz c to 3 ns p - l.length - 1 - cz c to (4) (ns) (q + 1)) + 7 * cz c to (4) (ns) (q + 1) + 3) ?_ (Nat.le_refl _) (by omega) (by omega)
          refine Z_new N1 (hN2 N1 (Nat.le_refl _)) wX8_62 dX8_sum_39 ?_
          have f2 := f1.nw (g1 := fun _ => 0) (g2 := fun _ => 0) (g3 := fun _ => none) (x := .inl 13) hN1 (hN2 N1 (Nat.le_refl _)) hnn
          have hS1 := f1.no (hN2 N1 (Nat.le_refl _))
          have hP := hP.nw (g1 := fun _ => 0) (g3 := fun _ => none) (x := .inl 13) hN1 (hN2 N1 (Nat.le_refl _))
          refine Z_dup dX8_sum_42 rfl ?_
          refine Z_iload_n dX8_sum_43 rfl ?_
          refine Z_aload_n dX8_sum_44 rfl ?_
          refine Z_aload_n dX8_sum_45 rfl ?_
          refine Z_iload_n dX8_sum_46 rfl ?_
          refine Z_call (d' := (m + 8)) (C := (cz c to 3 ns p - l.length - 1 - cz c to (4) (ns) (q + 1))) (C' := cz c to (4) (ns) (q + 1)) (Sl := (7 * (cz c to 3 ns p - l.length - 1 - cz c to (4) (ns) (q + 1)))) (S' := 7 * cz c to (4) (ns) (q + 1)) (zCal_V gX8_73 nX8_product (by decide) dX8_sum_47) pX8_product hP.1.1 zkl7 [_] rfl rfl (Nat.le_of_ble_eq_true rfl) (by omega) (by omega) (by omega) (ihs _ _ _ _ _ (ns) (q + 1) (by have := mz_d (to := to) (k := 3) (k2 := 4) (p := p) (p2 := q + 1) (by have := amg_lt hj; omega) (by omega); omega) (by omega) (by omega) hP (fun I4 L4 P4 S4 h4 q4 l4 e4a e4b e4c e4d => ?_) (fun I4 L4 P4 S4 a4 q4 e4a e4b e4c e4d => ?_))
          · have b4 := pz_pl _ _ _ _ _ (show q + 1 ≤ to by have := amg_lt hj; omega) e4a
            have b41 := b4.1
            have b42 := b4.2.1
            have b44 := b4.2.2.2
            dsimp only at b41 b42 b44
            have s4 : S4 N1 = some (.inl 13) := ((e4d.1 N1 (Or.inr (by rw [zu_s]; simp))).2.2.2).trans (zu_s _ _ _)
            have hY4 := cz_r e4a
            refine Z_call0 (d' := 1) (zCal_I q742 q102 q740 q741 rfl nX14_init (by decide) dX8_sum_50) pX14_init s4 zkl13 [_, _, _] rfl rfl (Nat.le_of_ble_eq_true rfl) (by omega) (c_X14_init s4 ?_)
            refine Z_astore_n (lv' := [_, _, _, _]) dX8_sum_53 rfl rfl (Nat.le_of_ble_eq_true rfl) ?_
            refine Z_goto 6 dX8_sum_54 rfl ?_
            have hrne : r ≠ N1 := (fN.rf (I := I) (L := L) (P := P) (S := S) (r := r) hP0.2.2.2.2).ne hS1 hN1 (Or.inr hnn)
            have fw := (f2.tr e4d).wr (I3 := zw I4 N1 0 (nI 45)) (P3 := zw (zw P4 N1 1 (some h)) N1 2 (some h4)) hN1 hS1 hnn (fun b hb => zw_n _ _ _ _ hb) (fun b hb => (zw_n _ _ _ _ hb).trans (zw_n _ _ _ _ hb))
            have hPf := hP0.fr fw (q := q4) ((congrFun (zw_n _ _ _ _ hrne) 2).trans e4b.2.1.2.1)
            have nk1 : nQ (fun a => S a = none) (zw I4 N1 0 (nI 45)) (zw (zw P4 N1 1 (some h)) N1 2 (some h4)) S4 l.length h l := g3.map fun a h7 hT hs => by
              have hne : a ≠ N1 := fun q => hs (by rw [q]; exact hN2 N1 (Nat.le_refl _))
              have hr9 : a ≠ r := fun q => hnn (by rw [← q]; exact hT)
              obtain ⟨x1, x2, x3, x4⟩ := e4d.1 a (Or.inr (by rw [zu_n _ _ _ hne]; exact hs))
              exact ⟨hT, (zw_n _ _ _ _ hne).trans ((x1 hr9).trans ((zu_n _ _ _ hne).trans (zw_n _ _ _ _ hr9))), (zw_n _ _ _ _ hne).trans ((zw_n _ _ _ _ hne).trans (x3.trans (zu_n _ _ _ hne))), x4.trans (zu_n _ _ _ hne)⟩
            have nk2 : nQ (fun a => S a = none) (zw I4 N1 0 (nI 45)) (zw (zw P4 N1 1 (some h)) N1 2 (some h4)) S4 l4.length h4 l4 := e4c.map fun a h7 hT hs => by
              have hne : a ≠ N1 := fun q => by rw [q, zu_s] at hT; cases hT
              rw [zu_n _ _ _ hne] at hT
              exact ⟨g4.no hT, zw_n _ _ _ _ hne, (zw_n _ _ _ _ hne).trans (zw_n _ _ _ _ hne), rfl⟩
            have nk := nQ.join (op := 45) hN1 hS1 s4 (by decide) (zw_s _ _ _ _) (by rw [zw_a, zu_n _ _ _ (by decide), zw_s]) (zw_s _ _ _ _) nk1 nk2
            have ll : (l ++ l4 ++ [2000 + 45]).length = l.length + l4.length + 1 := by rw [List.length_append, List.length_append]; rfl
            have ih2 := ih q4 _ L4 _ S4 N1 (l ++ l4 ++ [2000 + 45]) (by omega) hPf b42 (by omega) nk fw (by omega) (by omega) (by
              rw [e, zl_s (by decide) hj, e4a]
              dsimp only
              rw [if_neg (by decide), hq9.2]
              cases pzz c to (10 + 3) ns q4 with
              | inl a => rfl
              | inr y => simp [List.append_assoc])
            exact Zj.less (Z_fgt ih2 (by repeat first | exact zwk_n | refine zwk_f ?_ | refine zwk_c rfl ?_)) (Nat.le_refl _) (by rw [ll]; omega) (by rw [ll]; omega)
          · exact Zx_out (fun x hx => by cases hx) (kf _ _ _ _ a4 q4 (by rw [e, zl_s (by decide) hj, e4a]) e4b e4c (f2.tr e4d))
    exact Zj.less (Z_fgt (lp6 (to - q2 + 1) q2 I2 L2 P2 S2 h2 l2 (by omega) e2b (by omega) (by omega) e2c e2d (by omega) (by omega) (by rw [zr_s hp (by decide), e2a]; rfl)) (by repeat first | exact zwk_n | refine zwk_f ?_ | refine zwk_c rfl ?_)) (Nat.le_refl _) (by omega) (by omega)
  · exact Zx_out (fun x hx => by cases hx) (kf _ _ _ _ a2 q2 (by rw [zr_s hp (by decide), e2a]) e2b e2c (f0.tr e2d))
set_option maxHeartbeats 16000000 in
theorem t_xheld (ihs : PRx G c to r m mX8_sum 3) (hc : ∀ j, c j < 256) (hz : mz to (2) p < m + 1) (hp : p ≤ to) (hns : ns ≤ 5) (hP : rdX c to r I P S p) (kt : (∀ I2 L2 P2 S2 h q l, pzz c to (2) ns p = .inr (q, l) → rdX c to r I2 P2 S2 q → nQ (fun a => S a = none) I2 P2 S2 l.length h l → fN r I L P S I2 L2 P2 S2 → Q (.inl (some (.ref h))) I2 L2 P2 S2)) (kf : (∀ I2 L2 P2 S2 a q, pzz c to (2) ns p = .inl q → S2 a = some (.inl 10) → I2 a 0 = nI q → fN r I L P S I2 L2 P2 S2 → Q (.inr (10, some a)) I2 L2 P2 S2)) : Zm G mX8_held ((m + 9)) (cz c to 2 ns p) (7 * cz c to 2 ns p) [.ref r, .int (nI ns)] I L P S Q := by
  have h40 := hP.2.1.2.2
  have hP0 := hP
  have hnn := hP.nn
  have f0 : fN r I L P S I L P S := fN.rf hP.2.2.2.2
  refine Z_entry (lv := [_, _, _, _]) (Nat.le_of_ble_eq_true rfl) rfl ?_
  have hck : cz c to (3) (ns) (p) ≤ cz c to 2 ns p := cz_k (c := c) (ns := ns) (k := 2) hp (by decide)
  refine Zj.less (C := (cz c to 2 ns p - cz c to (3) (ns) (p)) + cz c to (3) (ns) (p)) (Sl := 7 * (cz c to 2 ns p - cz c to (3) (ns) (p)) + 7 * cz c to (3) (ns) (p)) ?_ (Nat.le_refl _) (by omega) (by omega)
  refine Z_aload_n dX8_held_0 rfl ?_
  refine Z_iload_n dX8_held_1 rfl ?_
  refine Z_call (d' := (m + 8)) (C := (cz c to 2 ns p - cz c to (3) (ns) (p))) (C' := cz c to (3) (ns) (p)) (Sl := (7 * (cz c to 2 ns p - cz c to (3) (ns) (p)))) (S' := 7 * cz c to (3) (ns) (p)) (zCal_V gX8_70 nX8_sum (by decide) dX8_held_2) pX8_sum hP.1.1 zkl7 [_] rfl rfl (Nat.le_of_ble_eq_true rfl) (by omega) (by omega) (by omega) (ihs _ _ _ _ _ (ns) (p) (by have := mz_k (to := to) (k := 2) (k2 := 3) (p := p) (by omega) (by omega); omega) (by omega) (by omega) hP (fun I2 L2 P2 S2 h2 q2 l2 e2a e2b e2c e2d => ?_) (fun I2 L2 P2 S2 a2 q2 e2a e2b e2c e2d => ?_))
  · have b2 := pz_pl _ _ _ _ _ hp e2a
    have b21 := b2.1
    have b22 := b2.2.1
    have b24 := b2.2.2.2
    dsimp only at b21 b22 b24
    have hY : cz c to (3) (ns) (p) = l2.length := cz_r e2a
    have hP := e2b
    refine Z_astore_n (lv' := [_, _, _, _]) dX8_held_5 rfl rfl (Nat.le_of_ble_eq_true rfl) ?_
    refine Z_aload_n dX8_held_6 rfl ?_
    refine Z_call0 (d' := 0) (zCal_V gX8_43 nX8_here (by decide) dX8_held_7) pX8_here hP.1.1 zkl7 [] rfl rfl (Nat.le_of_ble_eq_true rfl) (by omega) (c_X8_here hP b22 ?_)
    refine Z_istore_n (lv' := [_, _, _, _]) dX8_held_10 rfl rfl (Nat.le_of_ble_eq_true rfl) ?_
    refine Z_iload_n dX8_held_11 rfl ?_
    refine Z_bipush (nI 60) dX8_held_12 rfl ?_
    refine Z_icmpeq 31 dX8_held_14 rfl (fun c14 => ?_) (fun c14 => ?_)
    · have hq9 := (hr_eq hc (by decide)).mp c14
      rw [c14]
      have hj : amg c to (acL 2) q2 = some 0 := by unfold amg; rw [if_pos hq9.1, hq9.2]; rfl
      have e : pzz c to 2 ns p = (match pzz c to (10 + 2) ns q2 with | .inl a => .inl a | .inr y => .inr (y.1, l2 ++ y.2)) := by rw [zr_s hp (by decide), e2a]; rfl
      have hcm : l2.length + 1 + cz c to (3) (ns) (q2 + 1) ≤ cz c to 2 ns p := cz_m (k := 2) (by decide) b22 b24 (by omega) hj e
      refine Z_aload_n dX8_held_31 rfl ?_
      refine Z_dup dX8_held_32 rfl ?_
      refine Z_getI hP.1.1 fX8_31_7 dX8_held_33 rfl ?_
      refine Z_re (y := nI (q2)) hP.2.1.2.1 ?_
      refine Z_iconst (nI 1) dX8_held_36 rfl ?_
      refine Z_iaddN dX8_held_37 ?_
      refine Z_putI hP.1.1 fX8_31_7 dX8_held_38 rfl rfl rfl ?_
      have hP := hP.at (q := q2 + 1)
      have f1 := e2d.at (v := nI (q2 + 1))
      obtain ⟨N1, hN1, hN2⟩ := hP.2.2.2.2
      refine Zj.less (C := (cz c to 2 ns p - l2.length - 1 - cz c to (3) (ns) (q2 + 1)) + cz c to (3) (ns) (q2 + 1) + 1) (Sl := 7 * (cz c to 2 ns p - l2.length - 1 - cz c to (3) (ns) (q2 + 1)) + 7 * cz c to (3) (ns) (q2 + 1) + 3) ?_ (Nat.le_refl _) (by omega) (by omega)
      refine Z_new N1 (hN2 N1 (Nat.le_refl _)) wX8_62 dX8_held_41 ?_
      have f2 := f1.nw (g1 := fun _ => 0) (g2 := fun _ => 0) (g3 := fun _ => none) (x := .inl 13) hN1 (hN2 N1 (Nat.le_refl _)) hnn
      have hS1 := f1.no (hN2 N1 (Nat.le_refl _))
      have hP := hP.nw (g1 := fun _ => 0) (g3 := fun _ => none) (x := .inl 13) hN1 (hN2 N1 (Nat.le_refl _))
      refine Z_dup dX8_held_44 rfl ?_
      refine Z_iload_n dX8_held_45 rfl ?_
      refine Z_aload_n dX8_held_46 rfl ?_
      refine Z_aload_n dX8_held_47 rfl ?_
      refine Z_iload_n dX8_held_48 rfl ?_
      refine Z_call (d' := (m + 8)) (C := (cz c to 2 ns p - l2.length - 1 - cz c to (3) (ns) (q2 + 1))) (C' := cz c to (3) (ns) (q2 + 1)) (Sl := (7 * (cz c to 2 ns p - l2.length - 1 - cz c to (3) (ns) (q2 + 1)))) (S' := 7 * cz c to (3) (ns) (q2 + 1)) (zCal_V gX8_70 nX8_sum (by decide) dX8_held_49) pX8_sum hP.1.1 zkl7 [_] rfl rfl (Nat.le_of_ble_eq_true rfl) (by omega) (by omega) (by omega) (ihs _ _ _ _ _ (ns) (q2 + 1) (by have := mz_d (to := to) (k := 2) (k2 := 3) (p := p) (p2 := q2 + 1) (by have := amg_lt hj; omega) (by omega); omega) (by omega) (by omega) hP (fun I4 L4 P4 S4 h4 q4 l4 e4a e4b e4c e4d => ?_) (fun I4 L4 P4 S4 a4 q4 e4a e4b e4c e4d => ?_))
      · have b4 := pz_pl _ _ _ _ _ (show q2 + 1 ≤ to by have := amg_lt hj; omega) e4a
        have b41 := b4.1
        have b42 := b4.2.1
        have b44 := b4.2.2.2
        dsimp only at b41 b42 b44
        have s4 : S4 N1 = some (.inl 13) := ((e4d.1 N1 (Or.inr (by rw [zu_s]; simp))).2.2.2).trans (zu_s _ _ _)
        have hY4 := cz_r e4a
        refine Z_call0 (d' := 1) (zCal_I q742 q102 q740 q741 rfl nX14_init (by decide) dX8_held_52) pX14_init s4 zkl13 [_, _, _] rfl rfl (Nat.le_of_ble_eq_true rfl) (by omega) (c_X14_init s4 ?_)
        refine Z_areturn dX8_held_55 rfl (by first | exact Or.inl ⟨_, rfl⟩ | exact Or.inr ⟨_, rfl⟩) ?_
        have hrne : r ≠ N1 := (fN.rf (I := I) (L := L) (P := P) (S := S) (r := r) hP0.2.2.2.2).ne hS1 hN1 (Or.inr hnn)
        have fw := (f2.tr e4d).wr (I3 := zw I4 N1 0 (nI 60)) (P3 := zw (zw P4 N1 1 (some h2)) N1 2 (some h4)) hN1 hS1 hnn (fun b hb => zw_n _ _ _ _ hb) (fun b hb => (zw_n _ _ _ _ hb).trans (zw_n _ _ _ _ hb))
        have hPf := hP0.fr fw (q := q4) ((congrFun (zw_n _ _ _ _ hrne) 2).trans e4b.2.1.2.1)
        have nk1 : nQ (fun a => S a = none) (zw I4 N1 0 (nI 60)) (zw (zw P4 N1 1 (some h2)) N1 2 (some h4)) S4 l2.length h2 l2 := e2c.map fun a h7 hT hs => by
          have hne : a ≠ N1 := fun q => hs (by rw [q]; exact hN2 N1 (Nat.le_refl _))
          have hr9 : a ≠ r := fun q => hnn (by rw [← q]; exact hT)
          obtain ⟨x1, x2, x3, x4⟩ := e4d.1 a (Or.inr (by rw [zu_n _ _ _ hne]; exact hs))
          exact ⟨hT, (zw_n _ _ _ _ hne).trans ((x1 hr9).trans ((zu_n _ _ _ hne).trans (zw_n _ _ _ _ hr9))), (zw_n _ _ _ _ hne).trans ((zw_n _ _ _ _ hne).trans (x3.trans (zu_n _ _ _ hne))), x4.trans (zu_n _ _ _ hne)⟩
        have nk2 : nQ (fun a => S a = none) (zw I4 N1 0 (nI 60)) (zw (zw P4 N1 1 (some h2)) N1 2 (some h4)) S4 l4.length h4 l4 := e4c.map fun a h7 hT hs => by
          have hne : a ≠ N1 := fun q => by rw [q, zu_s] at hT; cases hT
          rw [zu_n _ _ _ hne] at hT
          exact ⟨e2d.no hT, zw_n _ _ _ _ hne, (zw_n _ _ _ _ hne).trans (zw_n _ _ _ _ hne), rfl⟩
        have nk := nQ.join (op := 60) hN1 hS1 s4 (by decide) (zw_s _ _ _ _) (by rw [zw_a, zu_n _ _ _ (by decide), zw_s]) (zw_s _ _ _ _) nk1 nk2
        exact kt _ L4 _ S4 N1 q4 (l2 ++ l4 ++ [2000 + 60]) (by rw [e, zl_s (by decide) hj, e4a]; dsimp only; rw [if_pos rfl, hq9.2, List.append_assoc]) hPf nk fw
      · exact Zx_out (fun x hx => by cases hx) (kf _ _ _ _ a4 q4 (by rw [e, zl_s (by decide) hj, e4a]) e4b e4c (f2.tr e4d))
    · have n14 : ¬ (q2 < to ∧ c q2 = 60) := fun z => c14 ((hr_eq hc (by decide)).mpr z)
      refine Z_iload_n dX8_held_17 rfl ?_
      refine Z_bipush (nI 62) dX8_held_18 rfl ?_
      refine Z_icmpeq 31 dX8_held_20 rfl (fun c20 => ?_) (fun c20 => ?_)
      · have hq9 := (hr_eq hc (by decide)).mp c20
        rw [c20]
        have hj : amg c to (acL 2) q2 = some 1 := by unfold amg; rw [if_pos hq9.1, hq9.2]; rfl
        have e : pzz c to 2 ns p = (match pzz c to (10 + 2) ns q2 with | .inl a => .inl a | .inr y => .inr (y.1, l2 ++ y.2)) := by rw [zr_s hp (by decide), e2a]; rfl
        have hcm : l2.length + 1 + cz c to (3) (ns) (q2 + 1) ≤ cz c to 2 ns p := cz_m (k := 2) (by decide) b22 b24 (by omega) hj e
        refine Z_aload_n dX8_held_31 rfl ?_
        refine Z_dup dX8_held_32 rfl ?_
        refine Z_getI hP.1.1 fX8_31_7 dX8_held_33 rfl ?_
        refine Z_re (y := nI (q2)) hP.2.1.2.1 ?_
        refine Z_iconst (nI 1) dX8_held_36 rfl ?_
        refine Z_iaddN dX8_held_37 ?_
        refine Z_putI hP.1.1 fX8_31_7 dX8_held_38 rfl rfl rfl ?_
        have hP := hP.at (q := q2 + 1)
        have f1 := e2d.at (v := nI (q2 + 1))
        obtain ⟨N1, hN1, hN2⟩ := hP.2.2.2.2
        refine Zj.less (C := (cz c to 2 ns p - l2.length - 1 - cz c to (3) (ns) (q2 + 1)) + cz c to (3) (ns) (q2 + 1) + 1) (Sl := 7 * (cz c to 2 ns p - l2.length - 1 - cz c to (3) (ns) (q2 + 1)) + 7 * cz c to (3) (ns) (q2 + 1) + 3) ?_ (Nat.le_refl _) (by omega) (by omega)
        refine Z_new N1 (hN2 N1 (Nat.le_refl _)) wX8_62 dX8_held_41 ?_
        have f2 := f1.nw (g1 := fun _ => 0) (g2 := fun _ => 0) (g3 := fun _ => none) (x := .inl 13) hN1 (hN2 N1 (Nat.le_refl _)) hnn
        have hS1 := f1.no (hN2 N1 (Nat.le_refl _))
        have hP := hP.nw (g1 := fun _ => 0) (g3 := fun _ => none) (x := .inl 13) hN1 (hN2 N1 (Nat.le_refl _))
        refine Z_dup dX8_held_44 rfl ?_
        refine Z_iload_n dX8_held_45 rfl ?_
        refine Z_aload_n dX8_held_46 rfl ?_
        refine Z_aload_n dX8_held_47 rfl ?_
        refine Z_iload_n dX8_held_48 rfl ?_
        refine Z_call (d' := (m + 8)) (C := (cz c to 2 ns p - l2.length - 1 - cz c to (3) (ns) (q2 + 1))) (C' := cz c to (3) (ns) (q2 + 1)) (Sl := (7 * (cz c to 2 ns p - l2.length - 1 - cz c to (3) (ns) (q2 + 1)))) (S' := 7 * cz c to (3) (ns) (q2 + 1)) (zCal_V gX8_70 nX8_sum (by decide) dX8_held_49) pX8_sum hP.1.1 zkl7 [_] rfl rfl (Nat.le_of_ble_eq_true rfl) (by omega) (by omega) (by omega) (ihs _ _ _ _ _ (ns) (q2 + 1) (by have := mz_d (to := to) (k := 2) (k2 := 3) (p := p) (p2 := q2 + 1) (by have := amg_lt hj; omega) (by omega); omega) (by omega) (by omega) hP (fun I4 L4 P4 S4 h4 q4 l4 e4a e4b e4c e4d => ?_) (fun I4 L4 P4 S4 a4 q4 e4a e4b e4c e4d => ?_))
        · have b4 := pz_pl _ _ _ _ _ (show q2 + 1 ≤ to by have := amg_lt hj; omega) e4a
          have b41 := b4.1
          have b42 := b4.2.1
          have b44 := b4.2.2.2
          dsimp only at b41 b42 b44
          have s4 : S4 N1 = some (.inl 13) := ((e4d.1 N1 (Or.inr (by rw [zu_s]; simp))).2.2.2).trans (zu_s _ _ _)
          have hY4 := cz_r e4a
          refine Z_call0 (d' := 1) (zCal_I q742 q102 q740 q741 rfl nX14_init (by decide) dX8_held_52) pX14_init s4 zkl13 [_, _, _] rfl rfl (Nat.le_of_ble_eq_true rfl) (by omega) (c_X14_init s4 ?_)
          refine Z_areturn dX8_held_55 rfl (by first | exact Or.inl ⟨_, rfl⟩ | exact Or.inr ⟨_, rfl⟩) ?_
          have hrne : r ≠ N1 := (fN.rf (I := I) (L := L) (P := P) (S := S) (r := r) hP0.2.2.2.2).ne hS1 hN1 (Or.inr hnn)
          have fw := (f2.tr e4d).wr (I3 := zw I4 N1 0 (nI 62)) (P3 := zw (zw P4 N1 1 (some h2)) N1 2 (some h4)) hN1 hS1 hnn (fun b hb => zw_n _ _ _ _ hb) (fun b hb => (zw_n _ _ _ _ hb).trans (zw_n _ _ _ _ hb))
          have hPf := hP0.fr fw (q := q4) ((congrFun (zw_n _ _ _ _ hrne) 2).trans e4b.2.1.2.1)
          have nk1 : nQ (fun a => S a = none) (zw I4 N1 0 (nI 62)) (zw (zw P4 N1 1 (some h2)) N1 2 (some h4)) S4 l2.length h2 l2 := e2c.map fun a h7 hT hs => by
            have hne : a ≠ N1 := fun q => hs (by rw [q]; exact hN2 N1 (Nat.le_refl _))
            have hr9 : a ≠ r := fun q => hnn (by rw [← q]; exact hT)
            obtain ⟨x1, x2, x3, x4⟩ := e4d.1 a (Or.inr (by rw [zu_n _ _ _ hne]; exact hs))
            exact ⟨hT, (zw_n _ _ _ _ hne).trans ((x1 hr9).trans ((zu_n _ _ _ hne).trans (zw_n _ _ _ _ hr9))), (zw_n _ _ _ _ hne).trans ((zw_n _ _ _ _ hne).trans (x3.trans (zu_n _ _ _ hne))), x4.trans (zu_n _ _ _ hne)⟩
          have nk2 : nQ (fun a => S a = none) (zw I4 N1 0 (nI 62)) (zw (zw P4 N1 1 (some h2)) N1 2 (some h4)) S4 l4.length h4 l4 := e4c.map fun a h7 hT hs => by
            have hne : a ≠ N1 := fun q => by rw [q, zu_s] at hT; cases hT
            rw [zu_n _ _ _ hne] at hT
            exact ⟨e2d.no hT, zw_n _ _ _ _ hne, (zw_n _ _ _ _ hne).trans (zw_n _ _ _ _ hne), rfl⟩
          have nk := nQ.join (op := 62) hN1 hS1 s4 (by decide) (zw_s _ _ _ _) (by rw [zw_a, zu_n _ _ _ (by decide), zw_s]) (zw_s _ _ _ _) nk1 nk2
          exact kt _ L4 _ S4 N1 q4 (l2 ++ l4 ++ [2000 + 62]) (by rw [e, zl_s (by decide) hj, e4a]; dsimp only; rw [if_pos rfl, hq9.2, List.append_assoc]) hPf nk fw
        · exact Zx_out (fun x hx => by cases hx) (kf _ _ _ _ a4 q4 (by rw [e, zl_s (by decide) hj, e4a]) e4b e4c (f2.tr e4d))
      · have n20 : ¬ (q2 < to ∧ c q2 = 62) := fun z => c20 ((hr_eq hc (by decide)).mpr z)
        refine Z_iload_n dX8_held_23 rfl ?_
        refine Z_bipush (nI 61) dX8_held_24 rfl ?_
        refine Z_icmpeq 31 dX8_held_26 rfl (fun c26 => ?_) (fun c26 => ?_)
        · have hq9 := (hr_eq hc (by decide)).mp c26
          rw [c26]
          have hj : amg c to (acL 2) q2 = some 2 := by unfold amg; rw [if_pos hq9.1, hq9.2]; rfl
          have e : pzz c to 2 ns p = (match pzz c to (10 + 2) ns q2 with | .inl a => .inl a | .inr y => .inr (y.1, l2 ++ y.2)) := by rw [zr_s hp (by decide), e2a]; rfl
          have hcm : l2.length + 1 + cz c to (3) (ns) (q2 + 1) ≤ cz c to 2 ns p := cz_m (k := 2) (by decide) b22 b24 (by omega) hj e
          refine Z_aload_n dX8_held_31 rfl ?_
          refine Z_dup dX8_held_32 rfl ?_
          refine Z_getI hP.1.1 fX8_31_7 dX8_held_33 rfl ?_
          refine Z_re (y := nI (q2)) hP.2.1.2.1 ?_
          refine Z_iconst (nI 1) dX8_held_36 rfl ?_
          refine Z_iaddN dX8_held_37 ?_
          refine Z_putI hP.1.1 fX8_31_7 dX8_held_38 rfl rfl rfl ?_
          have hP := hP.at (q := q2 + 1)
          have f1 := e2d.at (v := nI (q2 + 1))
          obtain ⟨N1, hN1, hN2⟩ := hP.2.2.2.2
          refine Zj.less (C := (cz c to 2 ns p - l2.length - 1 - cz c to (3) (ns) (q2 + 1)) + cz c to (3) (ns) (q2 + 1) + 1) (Sl := 7 * (cz c to 2 ns p - l2.length - 1 - cz c to (3) (ns) (q2 + 1)) + 7 * cz c to (3) (ns) (q2 + 1) + 3) ?_ (Nat.le_refl _) (by omega) (by omega)
          refine Z_new N1 (hN2 N1 (Nat.le_refl _)) wX8_62 dX8_held_41 ?_
          have f2 := f1.nw (g1 := fun _ => 0) (g2 := fun _ => 0) (g3 := fun _ => none) (x := .inl 13) hN1 (hN2 N1 (Nat.le_refl _)) hnn
          have hS1 := f1.no (hN2 N1 (Nat.le_refl _))
          have hP := hP.nw (g1 := fun _ => 0) (g3 := fun _ => none) (x := .inl 13) hN1 (hN2 N1 (Nat.le_refl _))
          refine Z_dup dX8_held_44 rfl ?_
          refine Z_iload_n dX8_held_45 rfl ?_
          refine Z_aload_n dX8_held_46 rfl ?_
          refine Z_aload_n dX8_held_47 rfl ?_
          refine Z_iload_n dX8_held_48 rfl ?_
          refine Z_call (d' := (m + 8)) (C := (cz c to 2 ns p - l2.length - 1 - cz c to (3) (ns) (q2 + 1))) (C' := cz c to (3) (ns) (q2 + 1)) (Sl := (7 * (cz c to 2 ns p - l2.length - 1 - cz c to (3) (ns) (q2 + 1)))) (S' := 7 * cz c to (3) (ns) (q2 + 1)) (zCal_V gX8_70 nX8_sum (by decide) dX8_held_49) pX8_sum hP.1.1 zkl7 [_] rfl rfl (Nat.le_of_ble_eq_true rfl) (by omega) (by omega) (by omega) (ihs _ _ _ _ _ (ns) (q2 + 1) (by have := mz_d (to := to) (k := 2) (k2 := 3) (p := p) (p2 := q2 + 1) (by have := amg_lt hj; omega) (by omega); omega) (by omega) (by omega) hP (fun I4 L4 P4 S4 h4 q4 l4 e4a e4b e4c e4d => ?_) (fun I4 L4 P4 S4 a4 q4 e4a e4b e4c e4d => ?_))
          · have b4 := pz_pl _ _ _ _ _ (show q2 + 1 ≤ to by have := amg_lt hj; omega) e4a
            have b41 := b4.1
            have b42 := b4.2.1
            have b44 := b4.2.2.2
            dsimp only at b41 b42 b44
            have s4 : S4 N1 = some (.inl 13) := ((e4d.1 N1 (Or.inr (by rw [zu_s]; simp))).2.2.2).trans (zu_s _ _ _)
            have hY4 := cz_r e4a
            refine Z_call0 (d' := 1) (zCal_I q742 q102 q740 q741 rfl nX14_init (by decide) dX8_held_52) pX14_init s4 zkl13 [_, _, _] rfl rfl (Nat.le_of_ble_eq_true rfl) (by omega) (c_X14_init s4 ?_)
            refine Z_areturn dX8_held_55 rfl (by first | exact Or.inl ⟨_, rfl⟩ | exact Or.inr ⟨_, rfl⟩) ?_
            have hrne : r ≠ N1 := (fN.rf (I := I) (L := L) (P := P) (S := S) (r := r) hP0.2.2.2.2).ne hS1 hN1 (Or.inr hnn)
            have fw := (f2.tr e4d).wr (I3 := zw I4 N1 0 (nI 61)) (P3 := zw (zw P4 N1 1 (some h2)) N1 2 (some h4)) hN1 hS1 hnn (fun b hb => zw_n _ _ _ _ hb) (fun b hb => (zw_n _ _ _ _ hb).trans (zw_n _ _ _ _ hb))
            have hPf := hP0.fr fw (q := q4) ((congrFun (zw_n _ _ _ _ hrne) 2).trans e4b.2.1.2.1)
            have nk1 : nQ (fun a => S a = none) (zw I4 N1 0 (nI 61)) (zw (zw P4 N1 1 (some h2)) N1 2 (some h4)) S4 l2.length h2 l2 := e2c.map fun a h7 hT hs => by
              have hne : a ≠ N1 := fun q => hs (by rw [q]; exact hN2 N1 (Nat.le_refl _))
              have hr9 : a ≠ r := fun q => hnn (by rw [← q]; exact hT)
              obtain ⟨x1, x2, x3, x4⟩ := e4d.1 a (Or.inr (by rw [zu_n _ _ _ hne]; exact hs))
              exact ⟨hT, (zw_n _ _ _ _ hne).trans ((x1 hr9).trans ((zu_n _ _ _ hne).trans (zw_n _ _ _ _ hr9))), (zw_n _ _ _ _ hne).trans ((zw_n _ _ _ _ hne).trans (x3.trans (zu_n _ _ _ hne))), x4.trans (zu_n _ _ _ hne)⟩
            have nk2 : nQ (fun a => S a = none) (zw I4 N1 0 (nI 61)) (zw (zw P4 N1 1 (some h2)) N1 2 (some h4)) S4 l4.length h4 l4 := e4c.map fun a h7 hT hs => by
              have hne : a ≠ N1 := fun q => by rw [q, zu_s] at hT; cases hT
              rw [zu_n _ _ _ hne] at hT
              exact ⟨e2d.no hT, zw_n _ _ _ _ hne, (zw_n _ _ _ _ hne).trans (zw_n _ _ _ _ hne), rfl⟩
            have nk := nQ.join (op := 61) hN1 hS1 s4 (by decide) (zw_s _ _ _ _) (by rw [zw_a, zu_n _ _ _ (by decide), zw_s]) (zw_s _ _ _ _) nk1 nk2
            exact kt _ L4 _ S4 N1 q4 (l2 ++ l4 ++ [2000 + 61]) (by rw [e, zl_s (by decide) hj, e4a]; dsimp only; rw [if_pos rfl, hq9.2, List.append_assoc]) hPf nk fw
          · exact Zx_out (fun x hx => by cases hx) (kf _ _ _ _ a4 q4 (by rw [e, zl_s (by decide) hj, e4a]) e4b e4c (f2.tr e4d))
        · have n26 : ¬ (q2 < to ∧ c q2 = 61) := fun z => c26 ((hr_eq hc (by decide)).mpr z)
          refine Z_aload_n dX8_held_29 rfl ?_
          refine Z_areturn dX8_held_30 rfl (by first | exact Or.inl ⟨_, rfl⟩ | exact Or.inr ⟨_, rfl⟩) ?_
          exact kt I2 L2 P2 S2 h2 q2 l2 (by rw [zr_s hp (by decide), e2a]; dsimp only; rw [zl_n (by decide) (amg_3 n14 n20 n26)]; simp) hP e2c e2d
  · exact Zx_out (fun x hx => by cases hx) (kf _ _ _ _ a2 q2 (by rw [zr_s hp (by decide), e2a]) e2b e2c (f0.tr e2d))
/-- all readers -/
theorem PRx_all (hc : ∀ j, c j < 256) : ∀ m, PRx G c to r m mX8_thing 5 ∧ PRx G c to r m mX8_product 4 ∧ PRx G c to r m mX8_sum 3 ∧ PRx G c to r m mX8_held 2 ∧ PRx G c to r m mX8_both 1 ∧ PRx G c to r m mX8_either 0 := by
  intro m
  induction m with
  | zero => exact ⟨fun I L P S Q ns p h => absurd h (by omega), fun I L P S Q ns p h => absurd h (by omega), fun I L P S Q ns p h => absurd h (by omega), fun I L P S Q ns p h => absurd h (by omega), fun I L P S Q ns p h => absurd h (by omega), fun I L P S Q ns p h => absurd h (by omega)⟩
  | succ m ih =>
    obtain ⟨i5, i4, i3, i2, i1, i0⟩ := ih
    exact ⟨fun I L P S Q ns p a b c d e f => t_xthing i5 i0 hc a b c d e f, fun I L P S Q ns p a b c d e f => t_xproduct i5 hc a b c d e f, fun I L P S Q ns p a b c d e f => t_xsum i4 hc a b c d e f, fun I L P S Q ns p a b c d e f => t_xheld i3 hc a b c d e f, fun I L P S Q ns p a b c d e f => t_xboth i2 hc a b c d e f, fun I L P S Q ns p a b c d e f => t_xeither i1 hc a b c d e f⟩
end X43C
