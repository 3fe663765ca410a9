set_option maxRecDepth 100000
/-! THE MODEL, part 41: one, edge, cheap -/
section M41
variable {G : zG} {d C Sl : Nat} {I D W : zI} {R : List Int64} {L : zL} {P : zR} {S : zT} {Q : zQ} {no n : Nat}
theorem sl_12 : ∀ n, n < 12 → ((nI n &&& 31).toBitVec.smod 32).toNat = n := by decide
theorem shr_8 {c k : Nat} (hc : c < 2 ^ 31) (hk : k < 4) : (nI c >>> (nI (3 * k) &&& 31)) &&& nI 7 = nI (c / 8 ^ k % 8) := by
  have e : 2 ^ (3 * k) = 8 ^ k := by rw [Nat.pow_mul]
  rw [pk_shrN hc _ (3 * k) (sl_12 (3 * k) (by omega)), e, pk_andN (Nat.lt_of_le_of_lt (Nat.div_le_self _ _) (by omega)) (m := nI 7) 3 (by decide)]
theorem mR_e {R2 : List Int64} (h : mR D R I L P S) (e : R = R2) : mR D R2 I L P S := by rw [← e]; exact h
theorem xf.len {p : Nat} (h : xf W n) (hp : p < n) : ∃ l, (0 < l ∧ l ≤ 60) ∧ W 18 p = nI l := by
  obtain ⟨-, ⟨l, h1, h2, e⟩, -⟩ := h p hp
  exact ⟨l, ⟨h1, h2⟩, e⟩
/-- the searches leave the data alone -/
theorem tO_d {a k : Nat} (h : dAt a k = true) : tO a k = false := by
  unfold tO
  by_cases e : a = 0
  · subst e
    by_cases e1 : k = 41
    · subst e1; exact absurd h (by decide)
    by_cases e2 : k = 42
    · subst e2; exact absurd h (by decide)
    simp [e1, e2]
  by_cases e1 : a = 38
  · subst e1; exact absurd h (by simp [dAt, wAt])
  by_cases e2 : a = 39
  · subst e2; exact absurd h (by simp [dAt, wAt])
  by_cases e3 : a = 40
  · subst e3; exact absurd h (by simp [dAt, wAt])
  simp [e, e1, e2, e3]
theorem tChp_d {a k : Nat} (h : dAt a k = true) : tChp a k = false := by
  unfold tChp
  by_cases e : a = 0
  · subst e
    by_cases e1 : k = 46
    · subst e1; exact absurd h (by decide)
    simp [e1]
  by_cases e3 : a = 40
  · subst e3; exact absurd h (by simp [dAt, wAt])
  simp [e, e3]
theorem tO_hi {a k : Nat} (h : 100 ≤ a) : tO a k = false := by
  unfold tO
  simp [show ¬ a = 38 by omega, show ¬ a = 39 by omega, show ¬ a = 40 by omega, show ¬ a = 0 by omega]
theorem tChp_hi {a k : Nat} (h : 100 ≤ a) : tChp a k = false := by
  unfold tChp
  simp [show ¬ a = 40 by omega, show ¬ a = 0 by omega]
theorem mR_tO {I2 : zI} {P2 : zR} {a b : Nat} (h : mR D R I L P S) (f : fr tO I I2) (hM : mOk P2 S) (hP : ∀ x k, ¬ (x = 0 ∧ (k = 38 ∨ k = 39)) → P2 x k = P x k) (hab : (a = 38 ∧ b = 39) ∨ (a = 39 ∧ b = 38)) (ha : P2 0 38 = some a) (hb : P2 0 39 = some b) : mR D R I2 L P2 S := by
  obtain ⟨h1, h2, h3, h4⟩ := h
  refine ⟨hM, ⟨?_, ?_⟩, (md_fr f (fun _ _ => tO_d)).trans h3, ⟨(f 0 1 rfl).trans h4.1, h4.2⟩⟩
  · rcases hab with ⟨rfl, rfl⟩ | ⟨rfl, rfl⟩
    · exact Or.inl ⟨ha, hb⟩
    · exact Or.inr ⟨ha, hb⟩
  · rw [hP 0 43 (by omega), hP 0 44 (by omega)]
    exact h2.2
theorem mR_tChp {I2 : zI} {L2 : zL} {P2 : zR} {a b : Nat} (h : mR D R I L P S) (f : fr tChp I I2) (g : frCh L L2) (hM : mOk P2 S) (hP : ∀ x k, ¬ (x = 0 ∧ (k = 43 ∨ k = 44)) → P2 x k = P x k) (hab : (a = 43 ∧ b = 44) ∨ (a = 44 ∧ b = 43)) (ha : P2 0 43 = some a) (hb : P2 0 44 = some b) : mR D R I2 L2 P2 S := by
  obtain ⟨h1, h2, h3, h4⟩ := h
  refine ⟨hM, ⟨?_, ?_⟩, (md_fr f (fun _ _ => tChp_d)).trans h3, ⟨(f 0 1 rfl).trans h4.1, fun k hk => (g 2 k (by omega)).trans (h4.2 k hk)⟩⟩
  · rw [hP 0 38 (by omega), hP 0 39 (by omega)]
    exact h2.1
  · rcases hab with ⟨rfl, rfl⟩ | ⟨rfl, rfl⟩
    · exact Or.inl ⟨ha, hb⟩
    · exact Or.inr ⟨ha, hb⟩
theorem frM_tChp {I2 : zI} {L2 : zL} (f : fr tChp I I2) (g : frCh L L2) : frM I L I2 L2 := fun a ha => ⟨funext fun k => f a k (tChp_hi ha), funext fun k => g a k (by omega)⟩
/-- the references that the model's searches leave -/
def frP (P P2 : zR) : Prop := ∀ x, x ≠ 0 → P2 x = P x
theorem frP.rf : frP P P := fun _ _ => rfl
theorem frP.tr {P2 P3 : zR} (f : frP P P2) (g : frP P2 P3) : frP P P3 := fun x hx => (g x hx).trans (f x hx)
theorem frP.of {P2 : zR} {X : Nat → Prop} (h : ∀ x k, ¬ (x = 0 ∧ X k) → P2 x k = P x k) : frP P P2 := fun x hx => funext fun k => h x k (fun q => hx q.1)
theorem zP_k {I2 : zI} {L2 : zL} {P2 : zR} {f : zO} {v : Int32} {D2 : zI} {R2 : List Int64} (h : f = (v, D2, R2)) (k : ∀ I2 L2 P2, mR f.2.1 f.2.2 I2 L2 P2 S → frM I L I2 L2 → frP P P2 → Q (.inl (some (.int f.1))) I2 L2 P2 S) (hm : mR D2 R2 I2 L2 P2 S) (hf : frM I L I2 L2) (hp : frP P P2) : Q (.inl (some (.int v))) I2 L2 P2 S := by
  subst h
  exact k _ _ _ hm hf hp
theorem sonF_bw {p h0 most : Nat} {x : Nat × Nat × Nat} (h : sonF W p h0 most no = some x) : soon W p h0 most no x.1 x.2.1 x.2.2 := by
  unfold sonF at h
  by_cases e : ∃ x : Nat × Nat × Nat, x.1 < 2399 - h0 ∧ soon W p h0 most no x.1 x.2.1 x.2.2
  · rw [dif_pos e] at h
    cases h
    exact e.choose_spec.2
  · rw [dif_neg e] at h
    cases h
theorem soon_b {p h0 most i n1 c1 b0 len : Nat} (h : soon W p h0 most no i n1 c1) (hk : knf W no) (hb : b0 < no) (h6 : no ≤ 6) (e20 : W 20 p = nI b0) (e18 : W 18 p = nI len) (hl0 : 0 < len) (hl : len ≤ 60) (hm : most ≤ 3) : n1 ≤ 3 ∧ c1 < 2 ^ 31 := by
  obtain ⟨⟨o, q, -⟩, -⟩ := h
  have := rch_bd hk hb h6 e20 e18 hl0 hl hm i _ _ _ _ q
  exact ⟨by omega, by omega⟩
set_option maxHeartbeats 4000000 in
theorem c_X5_entersRoute {K c : Nat} (hR : mR D (rowT K c 0) I L P S) (hK : K ≤ 3) (hc : c < 2 ^ 31) (k : ∀ I2 L2, mR D (rowT K c K) I2 L2 P S → frM I L I2 L2 → (∀ h, h ≠ 2 → L2 h = L h) → Q (.inl none) I2 L2 P S) : Zm G mX5_entersRoute 1 C Sl [.ref 0, .int (nI K), .int (nI c)] I L P S Q := by
  have hM := hR.1
  refine Z_entry (lv := [_, _, _, _]) (Nat.le_of_ble_eq_true rfl) rfl ?_
  refine Z_iload_n dX5_entersRoute_0 rfl ?_
  refine Z_iconst (nI 1) dX5_entersRoute_1 rfl ?_
  refine Z_isub dX5_entersRoute_2 ?_
  rw [show nI K - nI 1 = nI K + -1 from by rw [Int32.sub_eq_add_neg]; rfl]
  refine Z_istore_n (lv' := [_, _, _, _]) dX5_entersRoute_3 rfl rfl (Nat.le_of_ble_eq_true rfl) ?_
  have lp4 : ∀ t, t ≤ K → ∀ I2 L2, mR D (rowT K c t) I2 L2 P S → frM I L I2 L2 → (∀ h, h ≠ 2 → L2 h = L h) → Zj G mX5_entersRoute 1 C Sl 4 [.ref 0, .int (nI K), .int (nI c), .int (nI (K - t) + -1)] [] I2 L2 P S Q := by
    refine zloop (K) (fun t => ∀ I2 L2, mR D (rowT K c t) I2 L2 P S → frM I L I2 L2 → (∀ h, h ≠ 2 → L2 h = L h) → Zj G mX5_entersRoute 1 C Sl 4 [.ref 0, .int (nI K), .int (nI c), .int (nI (K - t) + -1)] [] I2 L2 P S Q) (fun t ht ih => ?_)
    intro I2 L2 g1 g2 g3
    show Zj _ _ _ _ _ _ _ _ _ _ _ _ _
    refine Z_iload_n dX5_entersRoute_4 rfl ?_
    refine Z_iflt 27 dX5_entersRoute_5 rfl (fun c5 => ?_) (fun c5 => ?_)
    · have et : t = K := by
        refine Decidable.byContradiction fun hq => ?_
        obtain ⟨u, hu⟩ : ∃ u, K - t = u + 1 := ⟨K - t - 1, by omega⟩
        rw [hu, pk_m1] at c5
        exact nI_pos (by omega) c5
      rw [et] at g1
      refine Z_return dX5_entersRoute_27 rfl ?_
      exact k _ _ g1 g2 g3
    · obtain ⟨u, hu⟩ : ∃ u, K - t = u + 1 := by
        refine ⟨K - t - 1, ?_⟩
        have : K - t ≠ 0 := fun e => by rw [e] at c5; exact absurd (by decide) c5
        omega
      rw [hu, pk_m1]
      refine Z_aload_n dX5_entersRoute_8 rfl ?_
      refine Z_iload_n dX5_entersRoute_9 rfl ?_
      refine Z_iconst (nI 3) dX5_entersRoute_10 rfl ?_
      refine Z_iload_n dX5_entersRoute_11 rfl ?_
      refine Z_imulN dX5_entersRoute_12 ?_
      refine Z_ishr dX5_entersRoute_13 ?_
      refine Z_bipush (nI 7) dX5_entersRoute_14 rfl ?_
      refine Z_iand dX5_entersRoute_16 ?_
      refine Z_re (shr_8 hc (by omega)) ?_
      refine Z_i2l dX5_entersRoute_17 ?_
      refine Z_call0 (d' := 0) (zCal_V gX5_18 nX5_enters (by decide) dX5_entersRoute_18) pX5_enters hM.1 zkl4 [_] rfl rfl (Nat.le_of_ble_eq_true rfl) (by omega) (c_X5_enters hM (show (rowT K c t).length < 24 by rw [rowT_l]; omega) g1.2.2.2.1 ?_)
      refine Z_iinc (lv' := [_, _, _, _]) dX5_entersRoute_21 rfl rfl rfl ?_
      refine Z_goto 4 dX5_entersRoute_24 rfl ?_
      have e9 : rowT K c t ++ [(nI (c / 8 ^ u % 8)).toInt64] = rowT K c (t + 1) := by
        rw [rowT]
        unfold dgR
        rw [if_neg (by omega), show K - (t + 1) = u by omega]
      have ih2 := ih (by omega) _ _ (mR_e (mR_tl g1 (nI (c / 8 ^ u % 8)).toInt64) e9) ((g2.st (by decide)).sl (by decide)) (fun h hh => (zw_n _ _ _ _ hh).trans (g3 h hh))
      rw [show K - (t + 1) = u by omega] at ih2
      exact ih2
  have u9 := lp4 0 (by omega) _ _ hR frM.rf (fun _ _ => rfl)
  rw [Nat.sub_zero] at u9
  exact u9
theorem c_sonV (hR : mR D R I L P S) (hw : wf (wld D) no n) (hkn : knf (wld D) no) (hxf : xf (wld D) n) {p h0 most : Nat} (hp : p < n) (hh : h0 ≤ 2399) (hm : most ≤ 3) (k : ∀ I2 P2, mR D R I2 L P2 S → fr tO I I2 → frP P P2 → (∀ x, sonF (wld D) p h0 most no = some x → (I2 0 41 = nI x.2.1 ∧ I2 0 42 = nI x.2.2) ∧ (x.2.1 ≤ 3 ∧ x.2.2 < 2 ^ 31) ∧ x.1 < 2399 - h0) → Q (.inl (some (.int (sonV h0 (sonF (wld D) p h0 most no))))) I2 L P2 S) : Zm G mX5_soonest 6 C Sl [.ref 0, .int (nI p), .int (nI h0), .int (nI most)] I L P S Q := by
  obtain ⟨b0, hb0n, e20⟩ := hw.born hp
  obtain ⟨len, ⟨hl0, hl6⟩, e18⟩ := hxf.len hp
  refine c_X5_soonest hR.1 hR.2.1.1 (wld_mdat hR.2.2.1) hw hkn hp hb0n e20 e18 hl0 hl6 hh hm (fun i n1 c1 I2 P2 hi hso e41 e42 hM2 hPf => fun hab hPa hPb f2 => ?_) (fun hno2 I2 P2 hM2 hPf => fun hab hPa hPb f2 => ?_)
  · have hF : sonF (wld D) p h0 most no = some (i, n1, c1) := sonF_s hso (by omega)
    have g1 : mR D R I2 L P2 S := mR_tO hR f2 hM2 hPf hab hPa hPb
    have hb := soon_b hso hkn hb0n hw.o6 e20 e18 hl0 hl6 hm
    have k2 := k I2 P2 g1 f2 (frP.of hPf) (fun x hx => by rw [hF] at hx; cases hx; exact ⟨⟨e41, e42⟩, hb, by omega⟩)
    rw [hF] at k2
    exact k2
  · have hF : sonF (wld D) p h0 most no = none := sonF_n (fun i hi => hno2 i (by omega))
    have g1 : mR D R I2 L P2 S := mR_tO hR f2 hM2 hPf hab hPa hPb
    have k2 := k I2 P2 g1 f2 (frP.of hPf) (fun x hx => by rw [hF] at hx; cases hx)
    rw [hF] at k2
    exact k2
theorem wz_a {a k : Nat} {v : Int32} (ha : a ≠ 0) : wld (zw D 0 14 v) a k = wld D a k := by
  unfold wld
  rw [zw_n _ _ _ _ ha]
theorem wz_0 {k : Nat} {v : Int32} (hk : k ≠ 14) : wld (zw D 0 14 v) 0 k = wld D 0 k := by
  unfold wld
  rw [zw_a, zu_n _ _ _ hk]
theorem wf_z {v : Int32} (h : wf (wld D) no n) : wf (wld (zw D 0 14 v)) no n := by
  obtain ⟨⟨h1, h2⟩, ⟨h3, h4⟩, h5, h6⟩ := h
  refine ⟨⟨(wz_0 (by decide)).trans h1, h2⟩, ⟨(wz_0 (by decide)).trans h3, h4⟩, fun p hp => ?_, fun p hp => ?_⟩
  · rw [wz_a (by decide)]; exact h5 p hp
  · rw [wz_a (by decide)]; exact h6 p hp
theorem xf_z {v : Int32} (h : xf (wld D) n) : xf (wld (zw D 0 14 v)) n := fun p hp => by
  rw [wz_a (by decide), wz_a (by decide), wz_a (by decide), wz_a (by decide)]
  exact h p hp
set_option maxHeartbeats 4000000 in
theorem o_one (hR : mR D R I L P S) (hw : wf (wld D) no n) (hkn : knf (wld D) no) (hxf : xf (wld D) n) {p h q : Int32} (k : ∀ I2 L2 P2, mR (fOne D R p h q).2.1 (fOne D R p h q).2.2 I2 L2 P2 S → frM I L I2 L2 → frP P P2 → Q (.inl (some (.int (fOne D R p h q).1))) I2 L2 P2 S) : Zm G mX5_one 7 C Sl [.ref 0, .int p, .int h, .int q] I L P S Q := by
  have hM := hR.1
  refine Z_entry (lv := [_, _, _, _, _]) (Nat.le_of_ble_eq_true rfl) rfl ?_
  refine Z_aload_n dX5_one_0 rfl ?_
  refine Z_iconst (nI 0) dX5_one_1 rfl ?_
  refine Z_putI hM.1 fX5_3_4 dX5_one_2 rfl rfl rfl ?_
  refine Z_start hR (fun I1 hR1 f1 h00 => ?_)
  have hw8 := hw.n8
  have hw6 := hw.o6
  have hM := hR1.1
  have hD : mdat I1 = D := hR1.2.2.1
  have hW : wld I1 = wld D := wld_mdat hD
  have hs : I1 23 = D 23 := funext fun j => dr hD rfl
  have hno : noD D = no := by rw [noD, show D 0 3 = nI no from hw.o3, nI_clamp (by omega)]
  have hnn : nD D = n := by rw [nD, show D 0 16 = nI n from hw.n16, nI_clamp (by omega)]
  have hI3 : I1 0 3 = nI no := (wr hW rfl).trans hw.o3
  have hI16 : I1 0 16 = nI n := (wr hW rfl).trans hw.n16
  refine Z_aload_n dX5_one_5 rfl ?_
  refine Z_iload_n dX5_one_6 rfl ?_
  refine Z_call0 (d' := 1) (zCal_V gX5_256 nX5_isPiece (by decide) dX5_one_7) pX5_isPiece hM.1 zkl4 [_] rfl rfl (Nat.le_of_ble_eq_true rfl) (by omega) (c_X5_isPiece hM (by omega) hI16 (fun k7 hk7 e7 => ?_) (fun h7 => ?_))
  · subst e7
    have r7 : pB D (nI k7) = true := rB_t (by rw [z_ti (by omega)]; omega) (by rw [z_ti (by omega), hnn]; omega)
    have v7 : (nI k7).toNatClampNeg = k7 := nI_clamp (by omega)
    refine Z_ifeq 32 dX5_one_10 rfl (fun h => absurd h (by decide)) (fun _ => ?_)
    refine Z_iload_n dX5_one_13 rfl ?_
    refine Z_callS0 (d' := 1) (zCal_S gX5_81 nX5_isHour (by decide) dX5_one_14) pX5_isHour [_] rfl rfl (Nat.le_of_ble_eq_true rfl) (by omega) (c_X5_isHour (fun h14a h14b => ?_) (fun h14 => ?_))
    · have r14 : rB h 0 2399 = true := rB_t h14a h14b
      obtain ⟨k14, hk14, e14⟩ := z_rng (n := 2399) h14a h14b (by omega)
      subst e14
      have v14 : (nI k14).toNatClampNeg = k14 := nI_clamp (by omega)
      refine Z_ifeq 32 dX5_one_17 rfl (fun h => absurd h (by decide)) (fun _ => ?_)
      refine Z_iload_n dX5_one_20 rfl ?_
      refine Z_i2l dX5_one_21 ?_
      refine Z_lconst (0) dX5_one_22 rfl ?_
      refine Z_ldc2 q1284 dX5_one_23 ?_
      refine Z_callS0 (d' := 0) (zCal_S gX5_25 nX5_in (by decide) dX5_one_26) pX5_in [_, _, _] rfl rfl (Nat.le_of_ble_eq_true rfl) (by omega) (c_X5_in (fun h26a h26b => ?_) (fun h26 => ?_))
      · rw [z_i64] at h26a h26b
        have r26 : rB q 0 3 = true := rB_t h26a h26b
        obtain ⟨k26, hk26, e26⟩ := z_rng (n := 3) h26a h26b (by omega)
        subst e26
        have v26 : (nI k26).toNatClampNeg = k26 := nI_clamp (by omega)
        refine Z_ifne 34 dX5_one_29 rfl (fun _ => ?_) (fun h => absurd h (by decide))
        refine Z_aload_n dX5_one_34 rfl ?_
        refine Z_iload_n dX5_one_35 rfl ?_
        refine Z_iload_n dX5_one_36 rfl ?_
        refine Z_iload_n dX5_one_37 rfl ?_
        refine Z_call0 (d' := 6) (zCal_V gX5_367 nX5_soonest (by decide) dX5_one_38) pX5_soonest hM.1 zkl4 [_, _, _] rfl rfl (Nat.le_of_ble_eq_true rfl) (by omega) (c_sonV hR1 hw hkn hxf hk7 hk14 hk26 (fun I2 P2 g1 f2 hP9 hx9 => ?_))
        have hM := g1.1
        obtain ⟨x0, hF⟩ : ∃ x0, sonF (wld D) k7 k14 k26 no = x0 := ⟨_, rfl⟩
        rw [hF]
        rcases x0 with _ | x
        · dsimp only [sonV]
          refine Z_istore (lv' := [_, _, _, _, _]) dX5_one_41 rfl rfl (Nat.le_of_ble_eq_true rfl) ?_
          refine Z_iload dX5_one_43 rfl ?_
          refine Z_ifge 51 dX5_one_45 rfl (fun c45 => ?_) (fun c45 => ?_)
          · exact absurd c45 (by decide)
          · refine Z_bipush (-2) dX5_one_48 rfl ?_
            refine Z_ireturn dX5_one_50 rfl rfl ?_
            exact zP_k (D2 := D) (R2 := R) (by unfold fOne; rw [if_pos (by rw [r7, r14, r26]; rfl), v7, v14, v26, hno, hF]) k g1 (f1.tr (frM.of f2 (fun _ _ h => tO_hi h))) hP9
        · dsimp only [sonV]
          obtain ⟨⟨e41, e42⟩, ⟨b1, b2⟩, b3⟩ := hx9 x hF
          refine Z_istore (lv' := [_, _, _, _, _]) dX5_one_41 rfl rfl (Nat.le_of_ble_eq_true rfl) ?_
          refine Z_iload dX5_one_43 rfl ?_
          refine Z_ifgeN 51 dX5_one_45 rfl (by omega) ?_
          refine Z_aload_n dX5_one_51 rfl ?_
          refine Z_iconst (nI 0) dX5_one_52 rfl ?_
          refine Z_putI hM.1 fX5_11_4 dX5_one_53 rfl rfl rfl ?_
          refine Z_aload_n dX5_one_56 rfl ?_
          refine Z_aload_n dX5_one_57 rfl ?_
          refine Z_getI hM.1 fX5_350_4 dX5_one_58 rfl ?_
          refine Z_re (y := nI (x.2.1)) (by rw [zw_a, zu_n _ _ _ (by decide)]; exact e41) ?_
          refine Z_i2l dX5_one_61 ?_
          refine Z_call0 (d' := 0) (zCal_V gX5_18 nX5_enters (by decide) dX5_one_62) pX5_enters hM.1 zkl4 [_] rfl rfl (Nat.le_of_ble_eq_true rfl) (by omega) (c_X5_enters hM (show ([] : List Int64).length < 24 by decide) (mR_t0 g1).2.2.2.1 ?_)
          refine Z_aload_n dX5_one_65 rfl ?_
          refine Z_aload_n dX5_one_66 rfl ?_
          refine Z_getI hM.1 fX5_350_4 dX5_one_67 rfl ?_
          refine Z_re (y := nI (x.2.1)) (by rw [zw_a, zu_n _ _ _ (by decide), zw_a, zu_n _ _ _ (by decide)]; exact e41) ?_
          refine Z_aload_n dX5_one_70 rfl ?_
          refine Z_getI hM.1 fX5_360_4 dX5_one_71 rfl ?_
          refine Z_re (y := nI (x.2.2)) (by rw [zw_a, zu_n _ _ _ (by decide), zw_a, zu_n _ _ _ (by decide)]; exact e42) ?_
          refine Z_call0 (d' := 1) (zCal_V gX5_370 nX5_entersRoute (by decide) dX5_one_74) pX5_entersRoute hM.1 zkl4 [_, _] rfl rfl (Nat.le_of_ble_eq_true rfl) (by omega) (c_X5_entersRoute (K := x.2.1) (c := x.2.2) (mR_tl (mR_t0 g1) (nI x.2.1).toInt64) b1 b2 (fun I4 L4 g5 g6 g7 => ?_))
          refine Z_iload dX5_one_77 rfl ?_
          refine Z_ireturn dX5_one_79 rfl rfl ?_
          exact zP_k (D2 := D) (R2 := rowT x.2.1 x.2.2 x.2.1) (by unfold fOne; rw [if_pos (by rw [r7, r14, r26]; rfl), v7, v14, v26, hno, hF]) k g5 (((((f1.tr (frM.of f2 (fun _ _ h => tO_hi h))).st (by decide)).st (by decide)).sl (by decide)).tr g6) hP9
      · rw [z_i64] at h26
        have r26 : rB q 0 3 = false := rB_f h26
        refine Z_ifne 34 dX5_one_29 rfl (fun h => absurd h (by decide)) (fun _ => ?_)
        refine Z_iconst (-1) dX5_one_32 rfl ?_
        refine Z_ireturn dX5_one_33 rfl rfl ?_
        exact zP_k (D2 := D) (R2 := R) (by simp [fOne, r7, r14, r26]) k hR1 f1 frP.rf
    · have r14 : rB h 0 2399 = false := rB_f h14
      refine Z_ifeq 32 dX5_one_17 rfl (fun _ => ?_) (fun h => absurd h (by decide))
      refine Z_iconst (-1) dX5_one_32 rfl ?_
      refine Z_ireturn dX5_one_33 rfl rfl ?_
      exact zP_k (D2 := D) (R2 := R) (by simp [fOne, r7, r14]) k hR1 f1 frP.rf
  · have r7 : pB D p = false := rB_f (fun q => h7 ⟨q.1, by have := q.2; rw [hnn] at this; omega⟩)
    refine Z_ifeq 32 dX5_one_10 rfl (fun _ => ?_) (fun h => absurd h (by decide))
    refine Z_iconst (-1) dX5_one_32 rfl ?_
    refine Z_ireturn dX5_one_33 rfl rfl ?_
    exact zP_k (D2 := D) (R2 := R) (by simp [fOne, r7]) k hR1 f1 frP.rf
set_option maxHeartbeats 8000000 in
theorem o_edge (hR : mR D R I L P S) (hw : wf (wld D) no n) (hkn : knf (wld D) no) (hxf : xf (wld D) n) {p h q : Int32} (k : ∀ I2 L2 P2, mR (fEdge D R p h q).2.1 (fEdge D R p h q).2.2 I2 L2 P2 S → frM I L I2 L2 → frP P P2 → Q (.inl (some (.int (fEdge D R p h q).1))) I2 L2 P2 S) : Zm G mX5_edge 7 C Sl [.ref 0, .int p, .int h, .int q] I L P S Q := by
  have hM := hR.1
  refine Z_entry (lv := [_, _, _, _, _, _, _, _, _]) (Nat.le_of_ble_eq_true rfl) rfl ?_
  refine Z_aload_n dX5_edge_0 rfl ?_
  refine Z_iconst (nI 0) dX5_edge_1 rfl ?_
  refine Z_putI hM.1 fX5_3_4 dX5_edge_2 rfl rfl rfl ?_
  refine Z_start hR (fun I1 hR1 f1 h00 => ?_)
  have hw8 := hw.n8
  have hw6 := hw.o6
  have hM := hR1.1
  have hD : mdat I1 = D := hR1.2.2.1
  have hW : wld I1 = wld D := wld_mdat hD
  have hs : I1 23 = D 23 := funext fun j => dr hD rfl
  have hno : noD D = no := by rw [noD, show D 0 3 = nI no from hw.o3, nI_clamp (by omega)]
  have hnn : nD D = n := by rw [nD, show D 0 16 = nI n from hw.n16, nI_clamp (by omega)]
  have hI3 : I1 0 3 = nI no := (wr hW rfl).trans hw.o3
  have hI16 : I1 0 16 = nI n := (wr hW rfl).trans hw.n16
  refine Z_aload_n dX5_edge_5 rfl ?_
  refine Z_iload_n dX5_edge_6 rfl ?_
  refine Z_call0 (d' := 1) (zCal_V gX5_256 nX5_isPiece (by decide) dX5_edge_7) pX5_isPiece hM.1 zkl4 [_] rfl rfl (Nat.le_of_ble_eq_true rfl) (by omega) (c_X5_isPiece hM (by omega) hI16 (fun k7 hk7 e7 => ?_) (fun h7 => ?_))
  · subst e7
    have r7 : pB D (nI k7) = true := rB_t (by rw [z_ti (by omega)]; omega) (by rw [z_ti (by omega), hnn]; omega)
    have v7 : (nI k7).toNatClampNeg = k7 := nI_clamp (by omega)
    refine Z_ifeq 32 dX5_edge_10 rfl (fun h => absurd h (by decide)) (fun _ => ?_)
    refine Z_iload_n dX5_edge_13 rfl ?_
    refine Z_callS0 (d' := 1) (zCal_S gX5_81 nX5_isHour (by decide) dX5_edge_14) pX5_isHour [_] rfl rfl (Nat.le_of_ble_eq_true rfl) (by omega) (c_X5_isHour (fun h14a h14b => ?_) (fun h14 => ?_))
    · have r14 : rB h 0 2399 = true := rB_t h14a h14b
      obtain ⟨k14, hk14, e14⟩ := z_rng (n := 2399) h14a h14b (by omega)
      subst e14
      have v14 : (nI k14).toNatClampNeg = k14 := nI_clamp (by omega)
      refine Z_ifeq 32 dX5_edge_17 rfl (fun h => absurd h (by decide)) (fun _ => ?_)
      refine Z_iload_n dX5_edge_20 rfl ?_
      refine Z_i2l dX5_edge_21 ?_
      refine Z_lconst (1) dX5_edge_22 rfl ?_
      refine Z_ldc2 q1284 dX5_edge_23 ?_
      refine Z_callS0 (d' := 0) (zCal_S gX5_25 nX5_in (by decide) dX5_edge_26) pX5_in [_, _, _] rfl rfl (Nat.le_of_ble_eq_true rfl) (by omega) (c_X5_in (fun h26a h26b => ?_) (fun h26 => ?_))
      · rw [z_i64] at h26a h26b
        have r26 : rB q 1 3 = true := rB_t h26a h26b
        have h26c : 1 ≤ q.toInt := h26a
        obtain ⟨k26, hk26, e26⟩ := z_rng (n := 3) (by omega) h26b (by omega)
        subst e26
        have v26 : (nI k26).toNatClampNeg = k26 := nI_clamp (by omega)
        refine Z_ifne 34 dX5_edge_29 rfl (fun _ => ?_) (fun h => absurd h (by decide))
        refine Z_aload_n dX5_edge_34 rfl ?_
        refine Z_iload_n dX5_edge_35 rfl ?_
        refine Z_iload_n dX5_edge_36 rfl ?_
        refine Z_iconst (nI 0) dX5_edge_37 rfl ?_
        refine Z_call0 (d' := 6) (zCal_V gX5_367 nX5_soonest (by decide) dX5_edge_38) pX5_soonest hM.1 zkl4 [_, _, _] rfl rfl (Nat.le_of_ble_eq_true rfl) (by omega) (c_sonV (most := 0) hR1 hw hkn hxf hk7 hk14 (by decide) (fun I2 P2 g1 f2 hP9 hx9 => ?_))
        have hM := g1.1
        obtain ⟨x0, hF⟩ : ∃ x0, sonF (wld D) k7 k14 0 no = x0 := ⟨_, rfl⟩
        rw [hF]
        rcases x0 with _ | x
        · dsimp only [sonV]
          refine Z_istore (lv' := [_, _, _, _, _, _, _, _, _]) dX5_edge_41 rfl rfl (Nat.le_of_ble_eq_true rfl) ?_
          refine Z_iload dX5_edge_43 rfl ?_
          refine Z_ifge 50 dX5_edge_45 rfl (fun c45 => ?_) (fun c45 => ?_)
          · exact absurd c45 (by decide)
          · refine Z_iconst (-1) dX5_edge_48 rfl ?_
            refine Z_ireturn dX5_edge_49 rfl rfl ?_
            exact zP_k (D2 := D) (R2 := R) (by unfold fEdge; rw [if_pos (by rw [r7, r14, r26]; rfl), v7, v14, v26, hno, hF]) k g1 (f1.tr (frM.of f2 (fun _ _ h => tO_hi h))) hP9
        · dsimp only [sonV]
          obtain ⟨-, -, b3⟩ := hx9 x hF
          refine Z_istore (lv' := [_, _, _, _, _, _, _, _, _]) dX5_edge_41 rfl rfl (Nat.le_of_ble_eq_true rfl) ?_
          refine Z_iload dX5_edge_43 rfl ?_
          refine Z_ifgeN 50 dX5_edge_45 rfl (by omega) ?_
          refine Z_aload_n dX5_edge_50 rfl ?_
          refine Z_getI hM.1 fX5_108_4 dX5_edge_51 rfl ?_
          refine Z_re (y := D 0 14) (dr g1.2.2.1 rfl) ?_
          refine Z_istore (lv' := [_, _, _, _, _, _, _, _, _]) dX5_edge_54 rfl rfl (Nat.le_of_ble_eq_true rfl) ?_
          refine Z_bipush (-2) dX5_edge_56 rfl ?_
          refine Z_istore (lv' := [_, _, _, _, _, _, _, _, _]) dX5_edge_58 rfl rfl (Nat.le_of_ble_eq_true rfl) ?_
          refine Z_iconst (nI 1) dX5_edge_60 rfl ?_
          refine Z_istore (lv' := [_, _, _, _, _, _, _, _, _]) dX5_edge_61 rfl rfl (Nat.le_of_ble_eq_true rfl) ?_
          refine Z_bipush (nI 20) dX5_edge_63 rfl ?_
          refine Z_istore (lv' := [_, _, _, _, _, _, _, _, _]) dX5_edge_65 rfl rfl (Nat.le_of_ble_eq_true rfl) ?_
          have lp67 : ∀ i, i ≤ 21 → ∀ I3 P3 l3, mR (zw D 0 14 l3) R I3 L P3 S → frM I L I3 L → frP P P3 → edL (edG D k7 k14 k26 no (nI (k14 + x.1 + 1))) 21 = edL (edG D k7 k14 k26 no (nI (k14 + x.1 + 1))) (21 - i) → Zj G mX5_edge 7 C Sl 67 [.ref 0, .int (nI k7), .int (nI k14), .int (nI k26), .int (nI (k14 + x.1 + 1)), .int (D 0 14), .int (edV (21 - i)), .int (nI 1), .int (nI (21 - i) + -1)] [] I3 L P3 S Q := by
            refine zloop (21) (fun i => ∀ I3 P3 l3, mR (zw D 0 14 l3) R I3 L P3 S → frM I L I3 L → frP P P3 → edL (edG D k7 k14 k26 no (nI (k14 + x.1 + 1))) 21 = edL (edG D k7 k14 k26 no (nI (k14 + x.1 + 1))) (21 - i) → Zj G mX5_edge 7 C Sl 67 [.ref 0, .int (nI k7), .int (nI k14), .int (nI k26), .int (nI (k14 + x.1 + 1)), .int (D 0 14), .int (edV (21 - i)), .int (nI 1), .int (nI (21 - i) + -1)] [] I3 L P3 S Q) (fun i hi ih => ?_)
            intro I3 P3 l3 g3 hf3 hP3 hE8
            show Zj _ _ _ _ _ _ _ _ _ _ _ _ _
            have hM := g3.1
            refine Z_iload dX5_edge_67 rfl ?_
            refine Z_iflt 122 dX5_edge_69 rfl (fun c69 => ?_) (fun c69 => ?_)
            · have ei : 21 - i = 0 := by
                refine Decidable.byContradiction fun hq => ?_
                obtain ⟨u, hu⟩ : ∃ u, 21 - i = u + 1 := ⟨20 - i, by omega⟩
                rw [hu, pk_m1] at c69
                exact nI_pos (by omega) c69
              have hE9 : edL (edG D k7 k14 k26 no (nI (k14 + x.1 + 1))) 21 = 21 - i := by rw [hE8, ei]; rfl
              refine Z_aload_n dX5_edge_122 rfl ?_
              refine Z_iload dX5_edge_123 rfl ?_
              refine Z_putI hM.1 fX5_108_4 dX5_edge_125 rfl rfl rfl ?_
              have g9 := g3.zw (a := 0) (k := 14) (v := D 0 14) rfl
              rw [zw_zw, zw_self] at g9
              refine Z_aload_n dX5_edge_128 rfl ?_
              refine Z_iconst (nI 0) dX5_edge_129 rfl ?_
              refine Z_putI hM.1 fX5_11_4 dX5_edge_130 rfl rfl rfl ?_
              refine Z_aload_n dX5_edge_133 rfl ?_
              refine Z_iload dX5_edge_134 rfl ?_
              refine Z_i2l dX5_edge_136 ?_
              refine Z_call0 (d' := 0) (zCal_V gX5_18 nX5_enters (by decide) dX5_edge_137) pX5_enters hM.1 zkl4 [_] rfl rfl (Nat.le_of_ble_eq_true rfl) (by omega) (c_X5_enters hM (show ([] : List Int64).length < 24 by decide) (mR_t0 g9).2.2.2.1 ?_)
              refine Z_iload dX5_edge_140 rfl ?_
              refine Z_ireturn dX5_edge_142 rfl rfl ?_
              exact zP_k (D2 := D) (R2 := [(nI (k14 + x.1 + 1)).toInt64]) (by unfold fEdge; rw [if_pos (by rw [r7, r14, r26]; rfl), v7, v14, v26, hno, hF]; dsimp only; rw [hE9]) k (mR_tl (mR_t0 g9) (nI (k14 + x.1 + 1)).toInt64) (((hf3.st (by decide)).st (by decide)).st (by decide) |>.sl (by decide)) hP3
            · obtain ⟨u, hu⟩ : ∃ u, 21 - i = u + 1 := by
                refine ⟨20 - i, ?_⟩
                have : 21 - i ≠ 0 := fun e => by rw [e] at c69; exact absurd (by decide) c69
                omega
              rw [hu, pk_m1]
              rw [hu] at hE8
              refine Z_iload dX5_edge_72 rfl ?_
              refine Z_ifeq 122 dX5_edge_74 rfl (fun h => absurd h (by decide)) (fun _ => ?_)
              refine Z_aload_n dX5_edge_77 rfl ?_
              refine Z_iload dX5_edge_78 rfl ?_
              refine Z_putI hM.1 fX5_108_4 dX5_edge_80 rfl rfl rfl ?_
              have g4 := g3.zw (a := 0) (k := 14) (v := nI u) rfl
              rw [zw_zw] at g4
              refine Z_aload_n dX5_edge_83 rfl ?_
              refine Z_iload_n dX5_edge_84 rfl ?_
              refine Z_iload_n dX5_edge_85 rfl ?_
              refine Z_iload_n dX5_edge_86 rfl ?_
              refine Z_call0 (d' := 6) (zCal_V gX5_367 nX5_soonest (by decide) dX5_edge_87) pX5_soonest hM.1 zkl4 [_, _, _] rfl rfl (Nat.le_of_ble_eq_true rfl) (by omega) (c_sonV g4 (wf_z hw) (knf_z hkn (by omega)) (xf_z hxf) hk7 hk14 hk26 (fun I6 P6 g6 f6 hP6 hx6 => ?_))
              have hM := g6.1
              have hf6 := (hf3.st (a := 0) (k := 14) (v := nI u) (by decide)).tr (frM.of f6 (fun _ _ h => tO_hi h))
              refine Z_iload dX5_edge_90 rfl ?_
              refine Z_icmplt 99 dX5_edge_92 rfl (fun c92 => ?_) (fun c92 => ?_)
              · have hE9 : edL (edG D k7 k14 k26 no (nI (k14 + x.1 + 1))) 21 = u + 1 := by rw [hE8, edL, if_neg (fun (q : (edG D k7 k14 k26 no (nI (k14 + x.1 + 1))) u = true) => absurd (of_decide_eq_true q) (Int32.not_le.mpr c92))]
                have g3 := g6
                have hf3 := hf6
                have hP3 := hP3.tr hP6
                refine Z_iconst (nI 0) dX5_edge_99 rfl ?_
                refine Z_istore (lv' := [_, _, _, _, _, _, _, _, _]) dX5_edge_100 rfl rfl (Nat.le_of_ble_eq_true rfl) ?_
                refine Z_iload dX5_edge_102 rfl ?_
                refine Z_ifeq 112 dX5_edge_104 rfl (fun _ => ?_) (fun h => absurd h (by decide))
                refine Z_iload dX5_edge_112 rfl ?_
                refine Z_istore (lv' := [_, _, _, _, _, _, _, _, _]) dX5_edge_114 rfl rfl (Nat.le_of_ble_eq_true rfl) ?_
                refine Z_iinc (lv' := [_, _, _, _, _, _, _, _, _]) dX5_edge_116 rfl rfl rfl ?_
                refine Z_goto 67 dX5_edge_119 rfl ?_
                refine Z_iload dX5_edge_67 rfl ?_
                refine Z_iflt 122 dX5_edge_69 rfl (fun c69 => ?_) (fun c69 => ?_)
                · refine Z_aload_n dX5_edge_122 rfl ?_
                  refine Z_iload dX5_edge_123 rfl ?_
                  refine Z_putI hM.1 fX5_108_4 dX5_edge_125 rfl rfl rfl ?_
                  have g9 := g3.zw (a := 0) (k := 14) (v := D 0 14) rfl
                  rw [zw_zw, zw_self] at g9
                  refine Z_aload_n dX5_edge_128 rfl ?_
                  refine Z_iconst (nI 0) dX5_edge_129 rfl ?_
                  refine Z_putI hM.1 fX5_11_4 dX5_edge_130 rfl rfl rfl ?_
                  refine Z_aload_n dX5_edge_133 rfl ?_
                  refine Z_iload dX5_edge_134 rfl ?_
                  refine Z_i2l dX5_edge_136 ?_
                  refine Z_call0 (d' := 0) (zCal_V gX5_18 nX5_enters (by decide) dX5_edge_137) pX5_enters hM.1 zkl4 [_] rfl rfl (Nat.le_of_ble_eq_true rfl) (by omega) (c_X5_enters hM (show ([] : List Int64).length < 24 by decide) (mR_t0 g9).2.2.2.1 ?_)
                  refine Z_iload dX5_edge_140 rfl ?_
                  refine Z_ireturn dX5_edge_142 rfl rfl ?_
                  exact zP_k (D2 := D) (R2 := [(nI (k14 + x.1 + 1)).toInt64]) (by unfold fEdge; rw [if_pos (by rw [r7, r14, r26]; rfl), v7, v14, v26, hno, hF]; dsimp only; rw [hE9]) k (mR_tl (mR_t0 g9) (nI (k14 + x.1 + 1)).toInt64) (((hf3.st (by decide)).st (by decide)).st (by decide) |>.sl (by decide)) hP3
                · refine Z_iload dX5_edge_72 rfl ?_
                  refine Z_ifeq 122 dX5_edge_74 rfl (fun _ => ?_) (fun h => absurd h (by decide))
                  refine Z_aload_n dX5_edge_122 rfl ?_
                  refine Z_iload dX5_edge_123 rfl ?_
                  refine Z_putI hM.1 fX5_108_4 dX5_edge_125 rfl rfl rfl ?_
                  have g9 := g3.zw (a := 0) (k := 14) (v := D 0 14) rfl
                  rw [zw_zw, zw_self] at g9
                  refine Z_aload_n dX5_edge_128 rfl ?_
                  refine Z_iconst (nI 0) dX5_edge_129 rfl ?_
                  refine Z_putI hM.1 fX5_11_4 dX5_edge_130 rfl rfl rfl ?_
                  refine Z_aload_n dX5_edge_133 rfl ?_
                  refine Z_iload dX5_edge_134 rfl ?_
                  refine Z_i2l dX5_edge_136 ?_
                  refine Z_call0 (d' := 0) (zCal_V gX5_18 nX5_enters (by decide) dX5_edge_137) pX5_enters hM.1 zkl4 [_] rfl rfl (Nat.le_of_ble_eq_true rfl) (by omega) (c_X5_enters hM (show ([] : List Int64).length < 24 by decide) (mR_t0 g9).2.2.2.1 ?_)
                  refine Z_iload dX5_edge_140 rfl ?_
                  refine Z_ireturn dX5_edge_142 rfl rfl ?_
                  exact zP_k (D2 := D) (R2 := [(nI (k14 + x.1 + 1)).toInt64]) (by unfold fEdge; rw [if_pos (by rw [r7, r14, r26]; rfl), v7, v14, v26, hno, hF]; dsimp only; rw [hE9]) k (mR_tl (mR_t0 g9) (nI (k14 + x.1 + 1)).toInt64) (((hf3.st (by decide)).st (by decide)).st (by decide) |>.sl (by decide)) hP3
              · have hE7 : edL (edG D k7 k14 k26 no (nI (k14 + x.1 + 1))) (u + 1) = edL (edG D k7 k14 k26 no (nI (k14 + x.1 + 1))) u := by rw [edL, if_pos (show (edG D k7 k14 k26 no (nI (k14 + x.1 + 1))) u = true from decide_eq_true (Int32.not_lt.mp c92))]
                refine Z_iconst (nI 1) dX5_edge_95 rfl ?_
                refine Z_goto 100 dX5_edge_96 rfl ?_
                refine Z_istore (lv' := [_, _, _, _, _, _, _, _, _]) dX5_edge_100 rfl rfl (Nat.le_of_ble_eq_true rfl) ?_
                refine Z_iload dX5_edge_102 rfl ?_
                refine Z_ifeq 112 dX5_edge_104 rfl (fun h => absurd h (by decide)) (fun _ => ?_)
                refine Z_iload dX5_edge_107 rfl ?_
                refine Z_goto 114 dX5_edge_109 rfl ?_
                refine Z_re (y := edV u) (if_neg (by omega)).symm ?_
                refine Z_istore (lv' := [_, _, _, _, _, _, _, _, _]) dX5_edge_114 rfl rfl (Nat.le_of_ble_eq_true rfl) ?_
                refine Z_iinc (lv' := [_, _, _, _, _, _, _, _, _]) dX5_edge_116 rfl rfl rfl ?_
                refine Z_goto 67 dX5_edge_119 rfl ?_
                have eu : 21 - (i + 1) = u := by omega
                have ih2 := ih (by omega) _ _ _ g6 hf6 (hP3.tr hP6) (by rw [eu]; exact hE8.trans hE7)
                rw [eu] at ih2
                exact ih2
          have u9 := lp67 0 (by omega) _ _ (D 0 14) (by rw [zw_self]; exact g1) (f1.tr (frM.of f2 (fun _ _ h => tO_hi h))) hP9 rfl
          rw [Nat.sub_zero, show edV 21 = -2 from rfl, show nI 21 + -1 = nI 20 from rfl] at u9
          exact u9
      · rw [z_i64] at h26
        have r26 : rB q 1 3 = false := rB_f h26
        refine Z_ifne 34 dX5_edge_29 rfl (fun h => absurd h (by decide)) (fun _ => ?_)
        refine Z_iconst (-1) dX5_edge_32 rfl ?_
        refine Z_ireturn dX5_edge_33 rfl rfl ?_
        exact zP_k (D2 := D) (R2 := R) (by simp [fEdge, r7, r14, r26]) k hR1 f1 frP.rf
    · have r14 : rB h 0 2399 = false := rB_f h14
      refine Z_ifeq 32 dX5_edge_17 rfl (fun _ => ?_) (fun h => absurd h (by decide))
      refine Z_iconst (-1) dX5_edge_32 rfl ?_
      refine Z_ireturn dX5_edge_33 rfl rfl ?_
      exact zP_k (D2 := D) (R2 := R) (by simp [fEdge, r7, r14]) k hR1 f1 frP.rf
  · have r7 : pB D p = false := rB_f (fun q => h7 ⟨q.1, by have := q.2; rw [hnn] at this; omega⟩)
    refine Z_ifeq 32 dX5_edge_10 rfl (fun _ => ?_) (fun h => absurd h (by decide))
    refine Z_iconst (-1) dX5_edge_32 rfl ?_
    refine Z_ireturn dX5_edge_33 rfl rfl ?_
    exact zP_k (D2 := D) (R2 := R) (by simp [fEdge, r7]) k hR1 f1 frP.rf
set_option maxHeartbeats 8000000 in
theorem o_cheap (hR : mR D R I L P S) (hw : wf (wld D) no n) (hkn : knf (wld D) no) (hxf : xf (wld D) n) (hy : pyf (wld D) no) {p h q e : Int32} (k : ∀ I2 L2 P2, mR (fCheap D R p h q e).2.1 (fCheap D R p h q e).2.2 I2 L2 P2 S → frM I L I2 L2 → frP P P2 → Q (.inl (some (.int (fCheap D R p h q e).1))) I2 L2 P2 S) : Zm G mX5_cheap 6 C Sl [.ref 0, .int p, .int h, .int q, .int e] I L P S Q := by
  have hM := hR.1
  refine Z_entry (lv := [_, _, _, _, _, _, _, _, _, _, _, _]) (Nat.le_of_ble_eq_true rfl) rfl ?_
  refine Z_aload_n dX5_cheap_0 rfl ?_
  refine Z_iconst (nI 0) dX5_cheap_1 rfl ?_
  refine Z_putI hM.1 fX5_3_4 dX5_cheap_2 rfl rfl rfl ?_
  refine Z_start hR (fun I1 hR1 f1 h00 => ?_)
  have hw8 := hw.n8
  have hw6 := hw.o6
  have hM := hR1.1
  have hD : mdat I1 = D := hR1.2.2.1
  have hW : wld I1 = wld D := wld_mdat hD
  have hs : I1 23 = D 23 := funext fun j => dr hD rfl
  have hno : noD D = no := by rw [noD, show D 0 3 = nI no from hw.o3, nI_clamp (by omega)]
  have hnn : nD D = n := by rw [nD, show D 0 16 = nI n from hw.n16, nI_clamp (by omega)]
  have hI3 : I1 0 3 = nI no := (wr hW rfl).trans hw.o3
  have hI16 : I1 0 16 = nI n := (wr hW rfl).trans hw.n16
  refine Z_aload_n dX5_cheap_5 rfl ?_
  refine Z_iload_n dX5_cheap_6 rfl ?_
  refine Z_call0 (d' := 1) (zCal_V gX5_256 nX5_isPiece (by decide) dX5_cheap_7) pX5_isPiece hM.1 zkl4 [_] rfl rfl (Nat.le_of_ble_eq_true rfl) (by omega) (c_X5_isPiece hM (by omega) hI16 (fun k7 hk7 e7 => ?_) (fun h7 => ?_))
  · subst e7
    have r7 : pB D (nI k7) = true := rB_t (by rw [z_ti (by omega)]; omega) (by rw [z_ti (by omega), hnn]; omega)
    have v7 : (nI k7).toNatClampNeg = k7 := nI_clamp (by omega)
    refine Z_ifeq 55 dX5_cheap_10 rfl (fun h => absurd h (by decide)) (fun _ => ?_)
    refine Z_iload_n dX5_cheap_13 rfl ?_
    refine Z_callS0 (d' := 1) (zCal_S gX5_81 nX5_isHour (by decide) dX5_cheap_14) pX5_isHour [_] rfl rfl (Nat.le_of_ble_eq_true rfl) (by omega) (c_X5_isHour (fun h14a h14b => ?_) (fun h14 => ?_))
    · have r14 : rB h 0 2399 = true := rB_t h14a h14b
      obtain ⟨k14, hk14, e14⟩ := z_rng (n := 2399) h14a h14b (by omega)
      subst e14
      have v14 : (nI k14).toNatClampNeg = k14 := nI_clamp (by omega)
      refine Z_ifeq 55 dX5_cheap_17 rfl (fun h => absurd h (by decide)) (fun _ => ?_)
      refine Z_iload_n dX5_cheap_20 rfl ?_
      refine Z_i2l dX5_cheap_21 ?_
      refine Z_lconst (0) dX5_cheap_22 rfl ?_
      refine Z_ldc2 q1585 dX5_cheap_23 ?_
      refine Z_callS0 (d' := 0) (zCal_S gX5_25 nX5_in (by decide) dX5_cheap_26) pX5_in [_, _, _] rfl rfl (Nat.le_of_ble_eq_true rfl) (by omega) (c_X5_in (fun h26a h26b => ?_) (fun h26 => ?_))
      · rw [z_i64] at h26a h26b
        have r26 : rB q 0 2 = true := rB_t h26a h26b
        obtain ⟨k26, hk26, e26⟩ := z_rng (n := 2) h26a h26b (by omega)
        subst e26
        have v26 : (nI k26).toNatClampNeg = k26 := nI_clamp (by omega)
        refine Z_ifeq 55 dX5_cheap_29 rfl (fun h => absurd h (by decide)) (fun _ => ?_)
        refine Z_iload dX5_cheap_32 rfl ?_
        refine Z_i2l dX5_cheap_34 ?_
        refine Z_iload_n dX5_cheap_35 rfl ?_
        refine Z_i2l dX5_cheap_36 ?_
        refine Z_sipush (nI 2399) dX5_cheap_37 rfl ?_
        refine Z_iload_n dX5_cheap_40 rfl ?_
        refine Z_sipush (nI 400) dX5_cheap_41 rfl ?_
        refine Z_iaddN dX5_cheap_44 ?_
        refine Z_callS0 (d' := 0) (zCal_S gX5_95 nJ5_min (by decide) dX5_cheap_45) pJ5_min [_, _] rfl rfl (Nat.le_of_ble_eq_true rfl) (by omega) (c_J5_min ?_)
        refine Z_re (y := nI (ehi k14)) (by rw [mn_n (by decide) (by omega)]; rfl) ?_
        refine Z_i2l dX5_cheap_48 ?_
        refine Z_callS0 (d' := 0) (zCal_S gX5_25 nX5_in (by decide) dX5_cheap_49) pX5_in [_, _, _] rfl rfl (Nat.le_of_ble_eq_true rfl) (by omega) (c_X5_in (fun h49a h49b => ?_) (fun h49 => ?_))
        · rw [z_i64, z_i64, z_ti (by omega)] at h49a
          rw [z_i64, z_i64, z_ti (show ehi k14 < 2 ^ 31 by unfold ehi; omega)] at h49b
          have r49 : rB e (k14 : Int) (ehi k14 : Int) = true := rB_t h49a h49b
          obtain ⟨k49, hk49, e49⟩ := z_rng (n := ehi k14) (by omega) h49b (by unfold ehi; omega)
          subst e49
          rw [z_ti (show k49 < 2 ^ 31 by unfold ehi at hk49; omega)] at h49a
          have v49 : (nI k49).toNatClampNeg = k49 := nI_clamp (by unfold ehi at hk49; omega)
          unfold ehi at hk49
          refine Z_ifne 57 dX5_cheap_52 rfl (fun _ => ?_) (fun h => absurd h (by decide))
          obtain ⟨b0, hb0n, e20⟩ := hw.born hk7
          obtain ⟨len, ⟨hl0, hl6⟩, e18⟩ := hxf.len hk7
          refine Z_fgt (chp_all hM hR1.2.1.2 hW hw hkn hy hk7 hb0n e20 e18 hl0 hl6 (show k14 ≤ k49 by omega) (by omega) (by omega) hk26 (fun I2 L2 P2 hB hM2 hPf => fun hab hPa hPb f2 g2 => ?_)) (by repeat first | exact zwk_n | refine zwk_f ?_ | refine zwk_c rfl ?_)
          have g1 : mR D R I2 L2 P2 S := mR_tChp hR1 f2 g2 hM2 hPf hab hPa hPb
          have hP9 : frP P P2 := frP.of hPf
          have hM := g1.1
          refine Z_aload_n dX5_cheap_303 rfl ?_
          refine Z_getI hM.1 fX5_379_4 dX5_cheap_304 rfl ?_
          rcases oneC_F hB with ⟨e46, hF⟩ | ⟨n1, c1, ⟨b1, b2⟩, e46, e45, hch, hF⟩
          · refine Z_re (y := -1) e46 ?_
            refine Z_ifge 313 dX5_cheap_307 rfl (fun c307 => ?_) (fun c307 => ?_)
            · exact absurd c307 (by decide)
            · refine Z_bipush (-2) dX5_cheap_310 rfl ?_
              refine Z_ireturn dX5_cheap_312 rfl rfl ?_
              exact zP_k (D2 := D) (R2 := R) (by unfold fCheap; rw [if_pos (by rw [r7, r14, r26, v14, r49]; rfl), v7, v14, v26, v49, hno, hF]) k g1 (f1.tr (frM_tChp f2 g2)) hP9
          · refine Z_re (y := nI n1) e46 ?_
            obtain ⟨b3, b4, b5⟩ := chp_b hch hkn hy e20 hb0n hw.o6 e18 hl0 hl6 hk26 (by omega)
            refine Z_ifgeN 313 dX5_cheap_307 rfl (by omega) ?_
            refine Z_aload_n dX5_cheap_313 rfl ?_
            refine Z_iconst (nI 0) dX5_cheap_314 rfl ?_
            refine Z_putI hM.1 fX5_11_4 dX5_cheap_315 rfl rfl rfl ?_
            refine Z_aload_n dX5_cheap_318 rfl ?_
            refine Z_aload_n dX5_cheap_319 rfl ?_
            refine Z_getI hM.1 fX5_379_4 dX5_cheap_320 rfl ?_
            refine Z_re (y := nI (n1)) (by rw [zw_a, zu_n _ _ _ (by decide)]; exact e46) ?_
            refine Z_i2l dX5_cheap_323 ?_
            refine Z_call0 (d' := 0) (zCal_V gX5_18 nX5_enters (by decide) dX5_cheap_324) pX5_enters hM.1 zkl4 [_] rfl rfl (Nat.le_of_ble_eq_true rfl) (by omega) (c_X5_enters hM (show ([] : List Int64).length < 24 by decide) (mR_t0 g1).2.2.2.1 ?_)
            refine Z_aload_n dX5_cheap_327 rfl ?_
            refine Z_aload_n dX5_cheap_328 rfl ?_
            refine Z_getI hM.1 fX5_379_4 dX5_cheap_329 rfl ?_
            refine Z_re (y := nI (n1)) (by rw [zw_a, zu_n _ _ _ (by decide), zw_a, zu_n _ _ _ (by decide)]; exact e46) ?_
            refine Z_aload_n dX5_cheap_332 rfl ?_
            refine Z_getL hM.1 fX5_384_4 dX5_cheap_333 rfl ?_
            refine Z_rl (y := lN (c1)) ((congrFun (zw_n _ _ _ _ (by decide)) 45).trans e45) ?_
            refine Z_ldc2 q1594 dX5_cheap_336 ?_
            refine Z_rl (y := lN 512) rfl ?_
            refine Z_lremN dX5_cheap_339 (by omega) (by decide) (by decide) ?_
            refine Z_l2iN dX5_cheap_340 ?_
            refine Z_call0 (d' := 1) (zCal_V gX5_370 nX5_entersRoute (by decide) dX5_cheap_341) pX5_entersRoute hM.1 zkl4 [_, _] rfl rfl (Nat.le_of_ble_eq_true rfl) (by omega) (c_X5_entersRoute (K := n1) (c := c1 % 512) (mR_tl (mR_t0 g1) (nI n1).toInt64) (by omega) (by omega) (fun I4 L4 g5 g6 g7 => ?_))
            refine Z_aload_n dX5_cheap_344 rfl ?_
            refine Z_getL hM.1 fX5_384_4 dX5_cheap_345 rfl ?_
            refine Z_rl (y := lN (c1)) ((congrFun (g7 0 (by decide)) 45).trans ((congrFun (zw_n _ _ _ _ (by decide)) 45).trans e45)) ?_
            refine Z_ldc2 q1594 dX5_cheap_348 ?_
            refine Z_rl (y := lN 512) rfl ?_
            refine Z_ldivN dX5_cheap_351 (by omega) (by decide) (by decide) ?_
            refine Z_l2iN dX5_cheap_352 ?_
            refine Z_ireturn dX5_cheap_353 rfl rfl ?_
            exact zP_k (D2 := D) (R2 := rowT n1 (c1 % 512) n1) (by unfold fCheap; rw [if_pos (by rw [r7, r14, r26, v14, r49]; rfl), v7, v14, v26, v49, hno, hF]) k g5 (((((f1.tr (frM_tChp f2 g2)).st (by decide)).st (by decide)).sl (by decide)).tr g6) hP9
        · rw [z_i64, z_i64, z_i64, z_ti (by omega), z_ti (show ehi k14 < 2 ^ 31 by unfold ehi; omega)] at h49
          have r49 : rB e (k14 : Int) (ehi k14 : Int) = false := rB_f h49
          refine Z_ifne 57 dX5_cheap_52 rfl (fun h => absurd h (by decide)) (fun _ => ?_)
          refine Z_iconst (-1) dX5_cheap_55 rfl ?_
          refine Z_ireturn dX5_cheap_56 rfl rfl ?_
          exact zP_k (D2 := D) (R2 := R) (by unfold fCheap; rw [if_neg (by rw [v14, r49, Bool.and_false]; decide)]) k hR1 f1 frP.rf
      · rw [z_i64] at h26
        have r26 : rB q 0 2 = false := rB_f h26
        refine Z_ifeq 55 dX5_cheap_29 rfl (fun _ => ?_) (fun h => absurd h (by decide))
        refine Z_iconst (-1) dX5_cheap_55 rfl ?_
        refine Z_ireturn dX5_cheap_56 rfl rfl ?_
        exact zP_k (D2 := D) (R2 := R) (by simp [fCheap, r7, r14, r26]) k hR1 f1 frP.rf
    · have r14 : rB h 0 2399 = false := rB_f h14
      refine Z_ifeq 55 dX5_cheap_17 rfl (fun _ => ?_) (fun h => absurd h (by decide))
      refine Z_iconst (-1) dX5_cheap_55 rfl ?_
      refine Z_ireturn dX5_cheap_56 rfl rfl ?_
      exact zP_k (D2 := D) (R2 := R) (by simp [fCheap, r7, r14]) k hR1 f1 frP.rf
  · have r7 : pB D p = false := rB_f (fun q => h7 ⟨q.1, by have := q.2; rw [hnn] at this; omega⟩)
    refine Z_ifeq 55 dX5_cheap_10 rfl (fun _ => ?_) (fun h => absurd h (by decide))
    refine Z_iconst (-1) dX5_cheap_55 rfl ?_
    refine Z_ireturn dX5_cheap_56 rfl rfl ?_
    exact zP_k (D2 := D) (R2 := R) (by simp [fCheap, r7]) k hR1 f1 frP.rf
end M41
