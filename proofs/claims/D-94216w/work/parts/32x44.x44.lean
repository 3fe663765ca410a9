set_option maxRecDepth 100000
/-! THE COMPONENT, part 44: a rule is read -/
section X44C
variable {G : zG} {d C Sl : Nat} {c : Nat → Nat} {to r t : Nat} {I D W : zI} {R : List Int64} {L : zL} {P : zR} {S : zT} {Q : zQ} {no n np : Nat} {s : zS} {oh ph : Nat → Nat} {ro : Option (List Nat)}
theorem mn40 {t : Nat} (h : t ≤ 60) : mn (nI t) (nI 40) = nI (min t 40) := by
  unfold mn
  by_cases e : 40 < t
  · rw [if_pos (nI_lt e (by omega)), Nat.min_eq_right (by omega)]
  · rw [if_neg (fun q => by have := Int32.lt_iff_toInt_lt.mp q; rw [z_ti (by omega), z_ti (by omega)] at this; omega), Nat.min_eq_left (by omega)]
set_option maxHeartbeats 4000000 in
theorem c_X8_init {a : Nat} (hS : S a = some (.inl 7)) (h100 : S 100 = some (.inl 0)) (ha : a ≠ 100) (ht : I 100 8 = nI t) (h60 : t ≤ 60) (k : Q (.inl none) (zw (zw (zw I a 0 (nI t)) a 1 (nI (min t 40))) 100 8 (nI 0)) L (zw P a 3 (some 100)) S) : Zm G mX8_init 1 C Sl [.ref a, .ref 100] I L P S Q := by
  refine Z_entry (lv := [_, _]) (Nat.le_of_ble_eq_true rfl) rfl ?_
  refine Z_aload_n dX8_init_0 rfl ?_
  refine Z_aload_n dX8_init_1 rfl ?_
  refine Z_putFR hS wX8_3_7 rfl dX8_init_2 rfl ?_
  refine Z_aload_n dX8_init_5 rfl ?_
  refine Z_objInit q618 dX8_init_6 (Nat.le_of_ble_eq_true rfl) ?_
  refine Z_aload_n dX8_init_9 rfl ?_
  refine Z_aload_n dX8_init_10 rfl ?_
  refine Z_getIN h100 fX8_15_0 dX8_init_11 rfl ?_
  refine Z_re (y := nI (t)) ht ?_
  refine Z_putFI hS wX8_19_7 rfl dX8_init_14 rfl rfl rfl ?_
  refine Z_aload_n dX8_init_17 rfl ?_
  refine Z_aload_n dX8_init_18 rfl ?_
  refine Z_getIN h100 fX8_15_0 dX8_init_19 rfl ?_
  refine Z_re (y := nI (t)) ((congrFun (zw_n _ _ _ _ (Ne.symm ha)) 8).trans ht) ?_
  refine Z_bipush (nI 40) dX8_init_22 rfl ?_
  refine Z_callS0 (d' := 0) (zCal_S gX8_22 nJ5_min (by decide) dX8_init_24) pJ5_min [_, _] rfl rfl (Nat.le_of_ble_eq_true rfl) (by omega) (c_J5_min ?_)
  rw [mn40 h60]
  refine Z_putFI hS wX8_28_7 rfl dX8_init_27 rfl rfl rfl ?_
  refine Z_aload_n dX8_init_30 rfl ?_
  refine Z_iconst (nI 0) dX8_init_31 rfl ?_
  refine Z_putIN h100 fX8_15_0 dX8_init_32 rfl ?_
  refine Z_return dX8_init_35 rfl ?_
  exact k
set_option maxHeartbeats 8000000 in
theorem c_X8_whole (hc : ∀ j, c j < 256) (hP : rdX c to r I P S 0) (hsz : I r 0 = nI t) (hto : to = min t 40) (h60 : t ≤ 60) (kn : t = 0 → Q (.inl (some .null)) I L P S) (kt : ∀ I2 L2 P2 S2 h q l, t ≠ 0 → pzz c to 0 0 0 = .inr (q, l) → q = t → nQ (fun a => S a = none) I2 P2 S2 l.length h l → fN r I L P S I2 L2 P2 S2 → Q (.inl (some (.ref h))) I2 L2 P2 S2) (kf : ∀ I2 L2 P2 S2 a q, t ≠ 0 → (pzz c to 0 0 0 = .inl q ∨ ∃ l, pzz c to 0 0 0 = .inr (q, l) ∧ q ≠ t) → S2 a = some (.inl 10) → I2 a 0 = nI q → fN r I L P S I2 L2 P2 S2 → Q (.inr (10, some a)) I2 L2 P2 S2) : Zm G mX8_whole 900 (C + 42) (Sl + 294) [.ref r] I L P S Q := by
  have h40 := hP.2.1.2.2
  have hP0 := hP
  have hnn := hP.nn
  have hl := pz_pl (c := c) (to := to) (mz to 0 0 + 1) 0 0 0
  have hf := pz_fl (c := c) (to := to) (mz to 0 0 + 1) 0 0 0
  have hY : cz c to 0 0 0 ≤ to + 1 := by
    cases e : pzz c to 0 0 0 with
    | inl q => rw [cz_l e]; have := hf q (Nat.zero_le _) e; omega
    | inr x => rw [cz_r (q := x.1) (l := x.2) e]; have := (hl x (Nat.zero_le _) e).2.2.2; have := (hl x (Nat.zero_le _) e).2.1; omega
  refine Z_entry (lv := [_, _]) (Nat.le_of_ble_eq_true rfl) rfl ?_
  refine Z_aload_n dX8_whole_0 rfl ?_
  refine Z_getI hP.1.1 fX8_19_7 dX8_whole_1 rfl ?_
  refine Z_re (y := nI (t)) hsz ?_
  refine Z_ifneN 9 dX8_whole_4 rfl (by omega) (fun c4 => ?_) (fun c4 => ?_)
  · have c4 : t ≠ 0 := c4
    refine Zj.less (C := C + 1 + cz c to 0 0 0) (Sl := Sl + 7 + 7 * cz c to 0 0 0) ?_ (Nat.le_refl _) (by omega) (by omega)
    refine Z_aload_n dX8_whole_9 rfl ?_
    refine Z_iconst (nI 0) dX8_whole_10 rfl ?_
    refine Z_call (d' := (800 + 8)) (C := (C + 1)) (C' := cz c to 0 0 0) (Sl := (Sl + 7)) (S' := 7 * cz c to 0 0 0) (zCal_V gX8_47 nX8_either (by decide) dX8_whole_11) pX8_either hP.1.1 zkl7 [_] rfl rfl (Nat.le_of_ble_eq_true rfl) (by omega) (by omega) (by omega) ((PRx_all hc 800).2.2.2.2.2 _ _ _ _ _ 0 0 (by unfold mz; omega) (Nat.zero_le _) (by decide) hP (fun I3 L3 P3 S3 h q l e3a e3b e3c e3d => ?_) (fun I3 L3 P3 S3 a q e3a e3b e3c e3d => ?_))
    · have hP := e3b
      have hq := (hl (q, l) (Nat.zero_le _) e3a).2.1
      dsimp only at hq
      refine Z_astore_n (lv' := [_, _]) dX8_whole_14 rfl rfl (Nat.le_of_ble_eq_true rfl) ?_
      refine Z_aload_n dX8_whole_15 rfl ?_
      refine Z_aload_n dX8_whole_16 rfl ?_
      refine Z_getI hP.1.1 fX8_31_7 dX8_whole_17 rfl ?_
      refine Z_re (y := nI (q)) hP.2.1.2.1 ?_
      refine Z_aload_n dX8_whole_20 rfl ?_
      refine Z_getI hP.1.1 fX8_19_7 dX8_whole_21 rfl ?_
      refine Z_re (y := nI (t)) ((e3d.2.1 0 (by decide)).trans hsz) ?_
      refine Z_icmpneN 31 dX8_whole_24 rfl (by omega) (by omega) (fun c24 => ?_) (fun c24 => ?_)
      · refine Z_iconst (nI 0) dX8_whole_31 rfl ?_
        obtain ⟨N9, hN9, hN9b⟩ := hP.2.2.2.2
        refine Z_call (d' := 7) (C := C) (C' := 1) (Sl := Sl) (S' := 7) (zCal_V gX8_51 nX8_need (by decide) dX8_whole_32) pX8_need hP.1.1 zkl7 [_] rfl rfl (Nat.le_of_ble_eq_true rfl) (by omega) (by omega) (by omega) (c_X8_need0 (a := N9) hP.1.1 (hN9b N9 (Nat.le_refl _)) ?_)
        exact Zx_out (fun x hx => by cases hx) (kf _ _ _ _ N9 q c4 (Or.inr ⟨l, e3a, c24⟩) (zu_s _ _ _) (by rw [zw_s]; exact hP.2.1.2.1) (e3d.flt hN9 (hN9b N9 (Nat.le_refl _)) hnn))
      · refine Z_iconst (nI 1) dX8_whole_27 rfl ?_
        refine Z_goto 32 dX8_whole_28 rfl ?_
        refine Z_call0 (d' := 7) (zCal_V gX8_51 nX8_need (by decide) dX8_whole_32) pX8_need hP.1.1 zkl7 [_] rfl rfl (Nat.le_of_ble_eq_true rfl) (by omega) (c_X8_need1 ?_)
        refine Z_aload_n dX8_whole_35 rfl ?_
        refine Z_areturn dX8_whole_36 rfl (by first | exact Or.inl ⟨_, rfl⟩ | exact Or.inr ⟨_, rfl⟩) ?_
        exact kt _ _ _ _ h q l c4 e3a c24 e3c e3d
    · exact Zx_out (fun x hx => by cases hx) (kf _ _ _ _ a q c4 (Or.inl e3a) e3b e3c e3d)
  · have c4 : t = 0 := by omega
    refine Z_null dX8_whole_7 ?_
    refine Z_areturnN dX8_whole_8 rfl (by first | exact Or.inl ⟨_, rfl⟩ | exact Or.inr ⟨_, rfl⟩) ?_
    exact kn c4
/-- a rule told, the text taken -/
theorem xR.rul {D2 : zI} {ro2 : Option (List Nat)} {v : Option Nat} (g : xR D R no n np ro oh ph I L P S) (hD : ∀ a j, a ≠ 25 → ¬ (a = 26 ∧ j = 0) → ¬ (a = 0 ∧ j = 29) → D2 a j = D a j) (h29 : D2 0 29 = 0) (hr : ruX I (zw P 200 5 v) S 200 ro2) : xR D2 R no n np ro2 oh ph (zw I 100 8 (nI 0)) L (zw P 200 5 v) S := by
  obtain ⟨⟨⟨x0, a2⟩, ⟨b1, b2⟩, ⟨c1, c2⟩, ⟨d1, d2⟩, d3, d4, d5⟩, ⟨gs, hro⟩, ⟨⟨h8, h50⟩, hrw⟩, ⟨htx, hpr, hkp⟩, ⟨⟨t1, t2⟩, ⟨t3, t4⟩, hN⟩, hoh, hph⟩ := g
  have hI : ∀ j, j ≠ 100 → zw I 100 8 (nI 0) j = I j := fun j h => zw_n _ _ _ _ h
  have i100 : ∀ j, j ≠ 8 → zw I 100 8 (nI 0) 100 j = I 100 j := fun j h => by rw [zw_a, zu_n _ _ _ h]
  have hP : ∀ j, j ≠ 200 → zw P 200 5 v j = P j := fun j h => zw_n _ _ _ _ h
  have p200 : ∀ j, j ≠ 5 → zw P 200 5 v 200 j = P 200 j := fun j h => by rw [zw_a, zu_n _ _ _ h]
  have Dr : ∀ a, a ≠ 25 → a ≠ 26 → a ≠ 0 → D2 a = D a := fun a h1 h2 h3 => funext fun j => hD a j h1 (by omega) (by omega)
  have D0 : ∀ j, j ≠ 29 → D2 0 j = D 0 j := fun j h => hD 0 j (by decide) (by omega) (by omega)
  have hW : ∀ a p, 17 ≤ a → a ≤ 22 → wld D2 a p = wld D a p := fun a p h1 h2 => wld_at (by rw [Dr a (by omega) (by omega) (by omega)])
  have gx : xO S (zw P 200 5 v) := by
    obtain ⟨x1, x2, x3, x4, x5, x6, x7, x8⟩ := x0
    have p100 := hP 100 (by decide)
    exact ⟨x1, x2, fun k q hq => ⟨(x3 k q hq).1, by rw [p100]; exact (x3 k q hq).2⟩, by rw [p100]; exact x4, x5.eq (fun _ _ _ => rfl) (p200 0 (by decide)) (p200 4 (by decide)) (hP _ (by decide)), x6.eq (fun _ _ _ => rfl) (by rw [hP 220 (by decide)]) (by rw [hP 220 (by decide)]) (hP _ (by decide)), x7.eq (fun _ _ _ _ => rfl) (hP _ (by decide)), x8.eq (fun _ _ _ _ => rfl) (hP _ (by decide))⟩
  refine ⟨⟨⟨gx, (i100 1 (by decide)).trans a2⟩, ⟨gx.2.2.2.2.1, ?_⟩, ⟨gx.2.2.2.2.2.2.1, ?_⟩, ⟨wf_pt d1 (wld_at (D0 3 (by decide))) (wld_at (D0 16 (by decide))) (fun p => hW 20 p (by decide) (by decide)) (fun p => hW 21 p (by decide) (by decide)), xf_pt d2 hW⟩, d3, d4, d5⟩, ⟨?_, ?_⟩, ⟨⟨by rw [zw_s, h29]; rfl, (i100 14 (by decide)).trans h50⟩, ⟨by rw [i100 10 (by decide)]; exact hrw.1, hrw.2⟩⟩, ⟨fun k hk => ?_, fun k hk => ?_, ?_⟩, ⟨⟨fun a h1 h2 => by rw [hP 201 (by decide)]; exact t1 a h1 h2, fun a h1 h2 => by rw [hP 110 (by decide)]; exact t2 a h1 h2⟩, ⟨t3, t4⟩, hN⟩, hoh, hph⟩
  · obtain ⟨w1, w2, w3⟩ := b2.wq (W2 := wld D2) (fun x p h1 h2 => wld_at (by rw [Dr x (by omega) (by omega) (by omega)])) (wld_at (D0 14 (by decide))) (wld_at (D0 15 (by decide)))
    refine ⟨by rw [hI 200 (by decide)]; exact w1, fun x y hx hy => by rw [hI _ (by omega)]; exact w2 x y hx hy, fun o ho => ?_⟩
    obtain ⟨q1, q2, q5⟩ := w3 o ho
    have := hoh o
    refine ⟨by rw [hP _ (by decide)]; exact q1, q2.o rfl rfl (hP _ (by omega)), ?_⟩
    unfold oRw
    rw [hI (oh o) (by omega), hI (oh o + 8) (by omega)]
    exact q5
  · refine pcR.wq (fun p hp => ?_) hW (wld_at (D0 37 (by decide)))
    obtain ⟨q1, q2, q3⟩ := c2 p hp
    have := hph p
    exact ⟨by rw [hP _ (by decide)]; exact q1, q2, by rw [hI (ph p) (by omega)]; exact q3⟩
  · rw [Dr 23 (by decide) (by decide) (by decide)]; exact gs.fr fun k hk => hI _ (by omega)
  · cases ro2 with
    | none => exact hr
    | some e0 =>
      obtain ⟨r, f, q1, q2, q3⟩ := hr
      exact ⟨r, f, q1, q2, q3.fr fun a ha _ => ⟨hI a (by omega), rfl, rfl⟩⟩
  · rw [h29] at hk; exact absurd hk (Nat.not_lt_zero _)
  · rw [hI 303 (by decide), hI 304 (by decide), hI 305 (by decide), Dr 51 (by decide) (by decide) (by decide), Dr 52 (by decide) (by decide) (by decide), Dr 53 (by decide) (by decide) (by decide)]; exact hpr k hk
  · intro i hi
    rw [Dr 56 (by decide) (by decide) (by decide), Dr 57 (by decide) (by decide) (by decide), hI 307 (by decide), hP 306 (by decide)]
    rcases hkp i hi with q | ⟨h, m, ⟨q1, q2, q3⟩, q4, q5⟩
    · exact Or.inl q
    · exact Or.inr ⟨h, m, ⟨q1, q2, q3.eq (fun _ _ _ _ => rfl) (hP h (by omega))⟩, q4, q5.fr fun k hk => hI _ (by omega)⟩
/-- reading: only what is tried, and the text -/
theorem fX.rd {N1 : Nat} {g1 : Nat → Int32} {g2 : Nat → Int64} {g3 : Nat → Option Nat} {I3 : zI} {L3 : zL} {P3 : zR} {S3 : zT} (hN1 : 7000 ≤ N1) (hS : S N1 = none) (f : fN N1 (zw (zu I N1 g1) 100 8 (nI 0)) (zu L N1 g2) (zu P N1 g3) (zu S N1 (some (.inl 7))) I3 L3 P3 S3) : fX I L P S (zw I3 100 8 (I 100 8)) L3 P3 S3 := by
  obtain ⟨f1, -, f3⟩ := f
  have ne : ∀ b, (b < 7000 ∨ S b ≠ none) → b ≠ N1 := fun b hb e => by
    subst e
    rcases hb with h | h
    · omega
    · exact h hS
  have key : ∀ b, (b < 7000 ∨ S b ≠ none) → (b ≠ 100 → I3 b = I b) ∧ L3 b = L b ∧ P3 b = P b ∧ S3 b = S b := fun b hb => by
    have h := ne b hb
    obtain ⟨a1, a2, a3, a4⟩ := f1 b (hb.imp id fun q => by rw [zu_n _ _ _ h]; exact q)
    rw [zu_n _ _ _ h] at a2 a3 a4
    exact ⟨fun h1 => (a1 h).trans ((zw_n _ _ _ _ h1).trans (zu_n _ _ _ h)), a2, a3, a4⟩
  have i3 : ∀ k, k ≠ 8 → I3 100 k = I 100 k := fun k hk => by
    rw [(f1 100 (Or.inl (by decide))).1 (by omega), zw_a, zu_n _ _ _ hk, zu_n _ _ _ (by omega)]
  refine ⟨fun a ha => ?_, ⟨fun k _ => ?_, fun k _ => by rw [(key 220 (Or.inl (by decide))).2.2.1], (key 222 (Or.inl (by decide))).2.2.1, (key 270 (Or.inl (by decide))).2.2.1⟩, f3⟩
  · obtain ⟨a1, a2, a3, a4⟩ := key a ha
    exact ⟨a4, fun _ => ⟨a3, fun h => (zw_n _ _ _ _ h).trans (a1 h), fun _ => a2⟩⟩
  · by_cases e : k = 8
    · subst e; rw [zw_s]
    · rw [zw_a, zu_n _ _ _ e]; exact i3 k e
theorem fX.rd8 {N1 : Nat} {g1 : Nat → Int32} {g2 : Nat → Int64} {g3 : Nat → Option Nat} {I3 : zI} {L3 : zL} {P3 : zR} {S3 : zT} (hN1 : 7000 ≤ N1) (f : fN N1 (zw (zu I N1 g1) 100 8 (nI 0)) (zu L N1 g2) (zu P N1 g3) (zu S N1 (some (.inl 7))) I3 L3 P3 S3) : I3 100 8 = nI 0 := by
  rw [(f.1 100 (Or.inl (by decide))).1 (by omega), zw_s]
theorem tp_sb {x : Int32} (h : ∃ v, v < 256 ∧ x = nI v) : x.toInt8.toInt32 = sb (x.toNatClampNeg % 256) := by
  obtain ⟨v, hv, rfl⟩ := h
  rw [nI_clamp (by omega), Nat.mod_eq_of_lt hv]; rfl
theorem rul_f {q : Nat} (h0 : t ≠ 0) (h : pzz (tpc D) (min t 40) 0 0 0 = .inl q ∨ ∃ l, pzz (tpc D) (min t 40) 0 0 0 = .inr (q, l) ∧ q ≠ t) : rulV D t = (-1 - nI q, none) := by
  have e41 : (-41 : Int32) = -1 - nI 40 := by decide
  unfold rulV
  rw [if_neg h0]
  rcases h with h | ⟨l, h, hq⟩
  · rw [h]
    have b := pz_fl _ _ _ _ _ (Nat.zero_le _) h
    dsimp only
    by_cases h4 : 40 < t ∧ 40 ≤ q
    · rw [if_pos h4, show q = 40 by omega, e41]
    · rw [if_neg h4]
  · rw [h]
    have b := (pz_pl _ _ _ _ _ (Nat.zero_le _) h).2.1
    dsimp only at b ⊢
    by_cases h1 : q = min t 40
    · rw [if_pos h1, if_pos (by omega), show q = 40 by omega, e41]
    · rw [if_neg h1]
      by_cases h4 : 40 < t ∧ 40 ≤ q
      · rw [if_pos h4, show q = 40 by omega, e41]
      · rw [if_neg h4]
theorem rul_t {q : Nat} {l : List Nat} (h0 : t ≠ 0) (h : pzz (tpc D) (min t 40) 0 0 0 = .inr (q, l)) (hq : q = t) : rulV D t = (nI 0, some l) := by
  unfold rulV
  rw [if_neg h0, h]
  have b := (pz_pl _ _ _ _ _ (Nat.zero_le _) h).2.1
  dsimp only at b ⊢
  rw [if_pos (by omega), if_neg (by omega)]
theorem nQ.cl {T : Nat → Prop} {f h : Nat} {l : List Nat} (q : nQ T I P S f h l) : ∃ ci, S h = some (.inl ci) := by
  cases f with
  | zero => exact absurd q id
  | succ f =>
    obtain ⟨-, h⟩ := q
    rcases h with ⟨q, -⟩ | ⟨q, -⟩ | ⟨q, -⟩ | ⟨q, -⟩ | ⟨q, -⟩ <;> exact ⟨_, q⟩
set_option maxHeartbeats 8000000 in
theorem o_xrule (hX : xR D R no n np ro oh ph I L P S) (ht : D 0 29 = nI t) (ht60 : t ≤ 60) (h28 : ∀ j, j < 60 → ∃ v, v < 256 ∧ D 28 j = nI v) (k : ∀ I2 L2 P2 S2, (∀ D2 : zI, (∀ a j, a ≠ 25 → ¬ (a = 26 ∧ j = 0) → ¬ (a = 0 ∧ j = 29) → D2 a j = D a j) → D2 0 29 = 0 → xR D2 R no n np (ruN ro (rulV D t).2) oh ph I2 L2 P2 S2) → frX I L P S I2 L2 P2 S2 → Q (.inl (some (.int (rulV D t).1))) I2 L2 P2 S2) : Zm G mX1_rule 1017 (C + 43) (Sl + 298) [.ref 100] I L P S Q := by
  obtain ⟨e, ⟨g, hro⟩, ⟨⟨h29, h50⟩, hrw⟩, ⟨htx, hpr, hkp⟩, htl, hoh, hph⟩ := hX
  have hX : xR D R no n np ro oh ph I L P S := ⟨e, ⟨g, hro⟩, ⟨⟨h29, h50⟩, hrw⟩, ⟨htx, hpr, hkp⟩, htl, hoh, hph⟩
  have hx := e.x
  obtain ⟨-, -, N1, hN1, hN2⟩ := id htl
  have h8 : I 100 8 = nI t := h29.trans ht
  have hc : ∀ j, tpc D j < 256 := fun j => Nat.mod_lt _ (by decide)
  refine Z_entry (lv := [_, _]) (Nat.le_of_ble_eq_true rfl) rfl ?_
  refine Z_aload_n dX1_rule_0 rfl ?_
  refine Z_getR (r := 200) hx.1 fX1_52_0 dX1_rule_1 rfl hx.2.2.2.1.1 ?_
  refine Zj.less (C := C + 42 + 1) (Sl := Sl + 294 + 4) ?_ (Nat.le_refl _) (by omega) (by omega)
  refine Z_new N1 (hN2 N1 (Nat.le_refl _)) wX1_200 dX1_rule_4 ?_
  have hr7 : zu S N1 (some (.inl 7)) N1 = some (.inl 7) := zu_s _ _ _
  have h100 : zu S N1 (some (.inl 7)) 100 = some (.inl 0) := by rw [zu_n _ _ _ (by omega)]; exact hx.1
  refine Z_dup dX1_rule_7 rfl ?_
  refine Z_aload_n dX1_rule_8 rfl ?_
  refine Z_call0 (d' := 1) (zCal_I q617 q96 q615 q616 rfl nX8_init (by decide) dX1_rule_9) pX8_init hr7 zkl7 [_] rfl rfl (Nat.le_of_ble_eq_true rfl) (by omega) (c_X8_init (t := t) hr7 h100 (by omega) (by rw [zu_n _ _ _ (by omega)]; exact h8) ht60 ?_)
  have eI1 : zw (zw (zw (zu I N1 fun _ => 0) N1 0 (nI t)) N1 1 (nI (min t 40))) 100 8 (nI 0) = zw (zu I N1 (zu (zu (fun _ => 0) 0 (nI t)) 1 (nI (min t 40)))) 100 8 (nI 0) := by
    congr 1
    show zu (zu (zu I N1 _) N1 _) N1 _ = _
    rw [zu_zu, zu_zu]
    congr 1
    show zu (zu (zu I N1 _) N1 (zu (zu I N1 _ N1) 0 (nI t)) N1) 1 _ = _
    rw [zu_s, zu_s]
  rw [eI1]
  have eP1 : zw (zu P N1 fun _ => none) N1 3 (some 100) = zu P N1 (zu (fun _ => none) 3 (some 100)) := by
    show zu (zu P N1 _) N1 _ = _
    rw [zu_zu, zu_s]
  rw [eP1]
  have hP : rdX (tpc D) (min t 40) N1 (zw (zu I N1 (zu (zu (fun _ => 0) 0 (nI t)) 1 (nI (min t 40)))) 100 8 (nI 0)) (zu P N1 (zu (fun _ => none) 3 (some 100))) (zu S N1 (some (.inl 7))) 0 := by
    refine ⟨⟨hr7, by rw [zu_s]; rfl, hN1⟩, ⟨?_, ?_, by omega⟩, ⟨h100, ?_, ?_⟩, fun j hj => ?_, N1 + 1, by omega, fun a ha => ?_⟩
    · rw [zw_n _ _ _ _ (by omega), zu_s, zu_s]
    · rw [zw_n _ _ _ _ (by omega), zu_s]; rfl
    · rw [zu_n _ _ _ (by omega)]; exact (hx.2.2.1 7 _ rfl).2
    · rw [zu_n _ _ _ (by omega)]; exact (hx.2.2.1 7 _ rfl).1
    · rw [zw_n _ _ _ _ (by decide), zu_n _ _ _ (by omega), htx j (by rw [ht, nI_clamp (by omega)]; omega)]
      exact tp_sb (h28 j (by omega))
    · rw [zu_n _ _ _ (by omega)]; exact hN2 a (by omega)
  have i310 : ∀ {I3 : zI} {L3 : zL} {P3 : zR} {S3 : zT}, fN N1 (zw (zu I N1 (zu (zu (fun _ => 0) 0 (nI t)) 1 (nI (min t 40)))) 100 8 (nI 0)) (zu L N1 fun _ => 0) (zu P N1 (zu (fun _ => none) 3 (some 100))) (zu S N1 (some (.inl 7))) I3 L3 P3 S3 → xR D R no n np ro oh ph (zw I3 100 8 (I 100 8)) L3 P3 S3 ∧ I3 100 8 = nI 0 ∧ frX I L P S I3 L3 P3 S3 ∧ (S3 100 = some (.inl 0) ∧ S3 200 = some (.inl 1)) ∧ zw (zw I3 100 8 (I 100 8)) 100 8 (nI 0) = I3 := fun FF => by
    have FX := fX.rd hN1 (hN2 N1 (Nat.le_refl _)) FF
    have e8 := fX.rd8 hN1 FF
    refine ⟨hX.go FX (hrw.fX ?_ ((FF.1 302 (Or.inl (by decide))).2.1.trans (zu_n _ _ _ (by omega)))), e8, fun b hb => ?_, ⟨(FX.1 100 (Or.inl (by decide))).1.trans hx.1, (FX.1 200 (Or.inl (by decide))).1.trans e.wd.1⟩, by rw [zw_zw, zw_id e8]⟩
    · rw [zw_a, zu_n _ _ _ (by decide), (FF.1 100 (Or.inl (by decide))).1 (by omega), zw_a, zu_n _ _ _ (by decide), zu_n _ _ _ (by omega)]
    · obtain ⟨⟨x1, x2⟩, x3, x4⟩ := FX.frX b hb
      exact ⟨⟨by rw [zw_n _ _ _ _ (by omega)] at x1; exact x1, x2⟩, x3, x4⟩
  refine Z_call (d' := 900) (C := C) (C' := 42) (Sl := Sl) (S' := 294) (zCal_V gX1_203 nX8_whole (by decide) dX1_rule_12) pX8_whole hr7 zkl7 [] rfl rfl (Nat.le_of_ble_eq_true rfl) (by omega) (by omega) (by omega) (c_X8_whole (C := 0) (Sl := 0) hc hP (t := t) (by rw [zw_n _ _ _ _ (by omega), zu_s, zu_n _ _ _ (by decide), zu_s]) rfl ht60 (fun h0 => ?_) (fun I3 L3 P3 S3 h q l h0 hq hqt hn FF => ?_) (fun I3 L3 P3 S3 a9 q h0 hq hS9 hI9 FF => ?_))
  · obtain ⟨hX3, e8, fr3, ⟨s100, s200⟩, eI⟩ := i310 (fN.rf ⟨N1 + 1, by omega, fun a ha => by rw [zu_n _ _ _ (by omega)]; exact hN2 a (by omega)⟩)
    refine Z_putN s200 fX1_13_1 dX1_rule_15 rfl ?_
    refine Z_iconst (nI 0) dX1_rule_18 rfl ?_
    refine Z_ireturn dX1_rule_19 rfl rfl ?_
    have hV : rulV D t = (nI 0, some []) := by unfold rulV; rw [if_pos h0]
    rw [hV] at k
    refine k _ _ _ _ (fun D2 h1 h2 => ?_) (fr3.sp (by omega))
    have := hX3.rul (v := none) (ro2 := none) h1 h2 (zw_s _ _ _ _)
    rw [eI] at this
    exact this
  · obtain ⟨hX3, e8, fr3, ⟨s100, s200⟩, eI⟩ := i310 FF
    have s9 : S3 h = S3 h := rfl
    obtain ⟨ci, hci⟩ : ∃ ci, S3 h = some (.inl ci) := nQ.cl hn
    refine Z_putR s200 fX1_13_1 dX1_rule_15 rfl ?_
    refine Z_iconst (nI 0) dX1_rule_18 rfl ?_
    refine Z_ireturn dX1_rule_19 rfl rfl ?_
    have hV := rul_t (D := D) h0 hq hqt
    rw [hV] at k
    have hl := pz_pl _ _ _ _ _ (Nat.zero_le _) hq
    have hne : l ≠ [] := by
      intro q9
      have := isE_pos (nQ.nR hn).E
      rw [q9] at this
      exact absurd this (by simp)
    refine k _ _ _ _ (fun D2 h1 h2 => ?_) (fr3.sp (by omega))
    have := hX3.rul (v := some h) (ro2 := some l) h1 h2 ⟨h, l.length, zw_s _ _ _ _, by have := hl.2.2.2; have := hl.2.1; dsimp only at *; omega, (nQ.nR hn).fr fun a ha hs => ⟨zw_n _ _ _ _ (by omega), zw_n _ _ _ _ (by omega), rfl⟩⟩
    rw [eI] at this
    show xR D2 R no n np (if l = [] then none else some l) oh ph _ _ _ _
    rw [if_neg hne]
    exact this
  · obtain ⟨hX3, e8, fr3, ⟨s100, s200⟩, eI⟩ := i310 FF
    refine Zx_catch (x := ⟨0, 19, 20, 207⟩) (a := a9) rfl (by decide) (by decide) q612 rfl q693 ?_
    refine Z_astore_n (lv' := [_, _]) dX1_rule_20 rfl rfl (Nat.le_of_ble_eq_true rfl) ?_
    refine Z_iconst (-1) dX1_rule_21 rfl ?_
    refine Z_aload_n dX1_rule_22 rfl ?_
    refine Z_getIN hS9 fX1_209_10 dX1_rule_23 rfl ?_
    refine Z_re (y := nI q) hI9 ?_
    refine Z_isub dX1_rule_26 ?_
    refine Z_ireturn dX1_rule_27 rfl rfl ?_
    have hV := rul_f (D := D) h0 hq
    rw [hV] at k
    refine k _ _ _ _ (fun D2 h1 h2 => ?_) fr3
    have := hX3.rul (v := P3 200 5) (ro2 := ro) h1 h2 (by rw [zw_id rfl]; exact hX3.2.1.2)
    rw [eI, zw_id rfl] at this
    exact this
end X44C
