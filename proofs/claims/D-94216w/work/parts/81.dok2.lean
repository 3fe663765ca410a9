set_option maxRecDepth 100000
/-! THE LAW, PURE: what all calls keep of the data, an office and a piece more; rows are short -/
section DOK2
variable {D D2 : zI} {R R2 : List Int64} {no n np B : Nat} {ro : Option (List Nat)} {s : zS} {W : zI}
theorem sf_no (h : sf W no n s) : sf W (no + 1) n s := by
  obtain ⟨h1, h2, h3, h4, h5, h6⟩ := h
  refine ⟨h1, h2, fun p hp => ?_, fun p hp => ?_, h5, h6⟩
  · obtain ⟨k, hk2, e⟩ := h3 p hp
    exact ⟨k, by omega, e⟩
  · rcases h4 p hp with e | ⟨e1, e2, k, hk2, e3⟩
    · exact Or.inl e
    · exact Or.inr ⟨e1, e2, k, by omega, e3⟩
theorem d_office {no2 : Nat} (h : dOk D R no n np ro B) {t l y c : Int32} (hw2 : wf (wld (fOffice D R t l y c).2.1) no2 n) : dOk (fOffice D R t l y c).2.1 (fOffice D R t l y c).2.2 no2 n np ro B := by
  unfold fOffice at hw2 ⊢
  by_cases e : (rB t 0 575 && (rB l 1 16 && (rB y 1 99 && (!decide (c < 0) && (rB (c / nI 64) 1 9 && (rB (c - c / nI 64 * nI 64) 1 63 && !decide (D 0 3 = nI 6))))))) = true
  · rw [if_pos e] at hw2 ⊢
    dsimp only at hw2 ⊢
    have e3 := o3 h
    have h6 : no < 6 := by
      have q := (and4 (and4 (and4 (and4 (and4 (and4 e).2).2).2).2).2).2
      have n6 := h.hw.o6
      rw [e3] at q
      have q2 : ¬ nI no = nI 6 := by simpa using q
      have : no ≠ 6 := fun e => q2 (by rw [e])
      omega
    have hy := rB_i (and4 (and4 (and4 e).2).2).1
    obtain ⟨ky, hky, ey⟩ := z_rng (x := y) (n := 99) (by omega) hy.2 (by decide)
    rw [e3, nI_clamp (by omega)] at hw2 ⊢
    generalize t / nI 24 = z at hw2 ⊢
    generalize t - z * nI 24 = f at hw2 ⊢
    generalize c / nI 64 = m at hw2 ⊢
    generalize c - m * nI 64 = cc at hw2 ⊢
    have q0 : ∀ k, k ≠ 3 → opnS D no z f l y m cc 0 k = D 0 k := fun k hk2 => by rw [opnS_0, zu_n _ _ _ hk2]
    have qr : ∀ a, a ≠ 0 → a < 4 ∨ 13 < a → opnS D no z f l y m cc a = D a := fun a h0 h1 => opnS_n h0 h1
    obtain rfl : no2 = no + 1 := by
      have q := (wld_is (I := opnS D no z f l y m cc) (a := 0) (k := 3) rfl).symm.trans hw2.o3
      rw [opnS_3] at q
      have := hw2.o6
      exact ((nI_eq (by omega) (by omega)).mp q).symm
    obtain ⟨⟨⟨a1, a2⟩, a3, a4⟩, ⟨b1, b2⟩, ⟨c1, c2⟩, ⟨⟨d1, d2⟩, d3, d4⟩, ⟨e1, e2⟩, ⟨f1, f2, f3⟩, g⟩ := id h
    have e37 := q0 37 (by decide)
    have e21 := qr 21 (by decide) (Or.inr (by decide))
    have e57 := qr 57 (by decide) (Or.inr (by decide))
    have e56 := qr 56 (by decide) (Or.inr (by decide))
    have ek : ∀ i, kcut (opnS D no z f l y m cc) i = kcut D i := fun i => by unfold kcut; rw [e57]
    refine ⟨⟨⟨hw2, ru_eq a2 (wld_row (qr 26 (by decide) (Or.inr (by decide)))) (wld_row (qr 25 (by decide) (Or.inr (by decide))))⟩, ⟨?_, fun a b ha hb => ?_⟩, fun o ho => ?_⟩, ⟨?_, ?_⟩, ⟨e37.trans c1, opn_01 c2⟩, ⟨⟨(q0 50 (by decide)).trans d1, d2⟩, fun k hk2 => ?_, fun i j hi hj => ?_⟩, ⟨?_, fun j hj => ?_⟩, ⟨fun i hi => ?_, fun i hi e => ?_, fun i hi => ?_⟩, g⟩
    · obtain ⟨v, hv, e⟩ := h.k14
      exact ⟨v, hv, (wld_is rfl).trans ((q0 14 (by decide)).trans e)⟩
    · rw [wld_is rfl, opnS_13 h6 (by omega) (by omega)]
      by_cases g1 : a = no ∧ b = no
      · rw [if_pos g1]; exact ⟨9, by decide, rfl⟩
      · rw [if_neg g1]
        by_cases g2 : a = no ∨ b = no
        · rw [if_pos g2]; exact ⟨0, by decide, rfl⟩
        · rw [if_neg g2]; exact h.k13 a b (by omega) (by omega)
    · rw [wld_is rfl]
      by_cases g1 : o = no
      · subst g1
        refine ⟨ky, hky, ?_⟩
        rw [opnS_r (by decide) (by decide)]
        unfold opn0
        rw [zw_n _ _ _ _ (by decide), zw_n _ _ _ _ (by decide), zw_n _ _ _ _ (by decide), zw_n _ _ _ _ (by decide), zw_s]
        exact ey
      · rw [opnS_o g1 (by decide) (by decide)]
        obtain ⟨v, hv, e⟩ := a4 o (by omega)
        exact ⟨v, hv, (wld_is rfl).symm.trans e⟩
    · rw [qr 23 (by decide) (Or.inr (by decide))]; exact sf_no (sf_c b1 e37 e21)
    · rw [qr 23 (by decide) (Or.inr (by decide))]; exact b2
    · rw [qr 51 (by decide) (Or.inr (by decide)), qr 52 (by decide) (Or.inr (by decide))]
      obtain ⟨a, b, ha, hb, ea, eb⟩ := d3 k hk2
      exact ⟨a, b, by omega, by omega, ea, eb⟩
    · rw [qr 51 (by decide) (Or.inr (by decide)), qr 52 (by decide) (Or.inr (by decide))]; exact d4 i j hi hj
    · rw [q0 29 (by decide)]; exact e1
    · rw [qr 28 (by decide) (Or.inr (by decide))]; exact e2 j hj
    · rw [e56]; exact f1 i hi
    · rw [e56] at e; rw [ek]; exact ⟨sf_no (sf_c (f2 i hi e).1 e37 e21), (f2 i hi e).2⟩
    · rw [e57]; exact f3 i hi
  · rw [if_neg e] at hw2 ⊢
    dsimp only at hw2 ⊢
    obtain rfl : no2 = no := by
      have q := hw2.o3
      rw [h.hw.o3] at q
      have := hw2.o6
      have := h.hw.o6
      exact ((nI_eq (by omega) (by omega)).mp q).symm
    exact h
theorem lay_n {p j : Nat} (h : ∀ q, j ≠ 8 * q + 3 + p ∨ 7 < q) : layS W s p j = s j := by
  have h0 := h 0
  have h1 := h 1
  have h2 := h 2
  have h3 := h 3
  have h4 := h 4
  have h5 := h 5
  have h6 := h 6
  have h7 := h 7
  unfold layS
  rw [zu_n _ _ _ (by omega), zu_n _ _ _ (by omega), zu_n _ _ _ (by omega), zu_n _ _ _ (by omega), zu_n _ _ _ (by omega), zu_n _ _ _ (by omega), zu_n _ _ _ (by omega), zu_n _ _ _ (by omega)]
theorem lay_3 {p : Nat} : layS W s p (3 + p) = W 20 p := by
  unfold layS
  rw [zu_n _ _ _ (by omega), zu_n _ _ _ (by omega), zu_n _ _ _ (by omega), zu_n _ _ _ (by omega), zu_n _ _ _ (by omega), zu_n _ _ _ (by omega), zu_n _ _ _ (by omega), zu_s]
theorem lay_27 {p : Nat} : layS W s p (27 + p) = nI 0 := by
  unfold layS
  rw [zu_n _ _ _ (by omega), zu_n _ _ _ (by omega), zu_n _ _ _ (by omega), zu_n _ _ _ (by omega), zu_s]
theorem lay_35 {p : Nat} : layS W s p (35 + p) = -1 := by
  unfold layS
  rw [zu_n _ _ _ (by omega), zu_n _ _ _ (by omega), zu_n _ _ _ (by omega), zu_s]
theorem lay_51 {p : Nat} : layS W s p (51 + p) = nI 0 := by
  unfold layS
  rw [zu_n _ _ _ (by omega), zu_s]
theorem d_piece {n2 : Nat} (h : dOk D R no n np ro B) {f l a b q : Int32} (hw2 : wf (wld (fPiece D R f l a b q).2.1) no n2) : dOk (fPiece D R f l a b q).2.1 (fPiece D R f l a b q).2.2 no n2 np ro B := by
  unfold fPiece at hw2 ⊢
  by_cases e : (!decide (f < 0) && (rB (f / nI 6) 1 60 && (rB l 1 60 && (rB a 0 ((nI 1 <<< (D 0 16 &&& 31)) - nI 1).toInt && (oB D b && ((decide (q = -1) || oB D q) && !decide (D 0 16 = nI 8))))))) = true
  · rw [if_pos e] at hw2 ⊢
    dsimp only at hw2 ⊢
    have e16 := o16 h
    have n8 : n < 8 := by
      have q := (and4 (and4 (and4 (and4 (and4 (and4 e).2).2).2).2).2).2
      have n8 := h.hw.n8
      rw [e16] at q
      have q2 : ¬ nI n = nI 8 := by simpa using q
      have : n ≠ 8 := fun e => q2 (by rw [e])
      omega
    obtain ⟨kb, hkb, eb⟩ := oB_k h.hw (and4 (and4 (and4 (and4 (and4 e).2).2).2).2).1
    rw [e16, nI_clamp (by omega), nI_add] at hw2 ⊢
    have W1 : ∀ x, x ≠ 17 → x ≠ 22 → x ≠ 18 → x ≠ 19 → x ≠ 20 → x ≠ 21 → pce0 D n f l a b q x = D x := fun x h1 h2 h3 h4 h5 h6 => by
      unfold pce0
      rw [zw_n _ _ _ _ h6, zw_n _ _ _ _ h5, zw_n _ _ _ _ h4, zw_n _ _ _ _ h3, zw_n _ _ _ _ h2, zw_n _ _ _ _ h1]
    have W20 : wld (pce0 D n f l a b q) 20 n = nI kb := by
      rw [wld_is rfl]
      unfold pce0
      rw [zw_n _ _ _ _ (by decide), zw_s]
      exact eb
    generalize hs2 : layS (wld (pce0 D n f l a b q)) (D 23) n = s2 at hw2 ⊢
    have q0 : ∀ k, k ≠ 16 → zw (zu (pce0 D n f l a b q) 23 s2) 0 16 (nI (n + 1)) 0 k = D 0 k := fun k hk2 => by rw [zw_a, zu_n _ _ _ hk2, zu_n _ _ _ (by decide), W1 0 (by decide) (by decide) (by decide) (by decide) (by decide) (by decide)]
    have qr : ∀ x, x ≠ 0 → x ≠ 23 → x < 17 ∨ 22 < x → zw (zu (pce0 D n f l a b q) 23 s2) 0 16 (nI (n + 1)) x = D x := fun x h0 h1 h2 => by rw [zw_n _ _ _ _ h0, zu_n _ _ _ h1, W1 x (by omega) (by omega) (by omega) (by omega) (by omega) (by omega)]
    have q23 : zw (zu (pce0 D n f l a b q) 23 s2) 0 16 (nI (n + 1)) 23 = s2 := by rw [zw_n _ _ _ _ (by decide), zu_s]
    have q21 : ∀ p, p ≠ n → zw (zu (pce0 D n f l a b q) 23 s2) 0 16 (nI (n + 1)) 21 p = D 21 p := fun p hp => by
      rw [zw_n _ _ _ _ (by decide), zu_n _ _ _ (by decide)]
      unfold pce0
      rw [zw_a, zu_n _ _ _ hp, zw_n _ _ _ _ (by decide), zw_n _ _ _ _ (by decide), zw_n _ _ _ _ (by decide), zw_n _ _ _ _ (by decide), zw_n _ _ _ _ (by decide)]
    generalize hD2 : zw (zu (pce0 D n f l a b q) 23 s2) 0 16 (nI (n + 1)) = D2 at hw2 q0 qr q23 q21 ⊢
    obtain rfl : n2 = n + 1 := by
      have q := (wld_is (I := D2) (a := 0) (k := 16) rfl).symm.trans hw2.n16
      rw [← hD2, zw_s] at q
      have := hw2.n8
      exact ((nI_eq (by omega) (by omega)).mp q).symm
    obtain ⟨⟨⟨a1, a2⟩, a3, a4⟩, ⟨b1, b2⟩, ⟨c1, c2⟩, ⟨⟨d1, d2⟩, d3, d4⟩, ⟨e1, e2⟩, ⟨f1, f2, f3⟩, g⟩ := id h
    have e37 := q0 37 (by decide)
    have e57 := qr 57 (by decide) (by decide) (Or.inr (by decide))
    have e56 := qr 56 (by decide) (by decide) (Or.inr (by decide))
    have ek : ∀ i, kcut D2 i = kcut D i := fun i => by unfold kcut; rw [e57]
    have hbad : ∀ i, i < 3 → ¬ D 56 i = nI (n + 1) := fun i hi q => by
      rcases f1 i hi with e | ⟨m, hm, e⟩
      · rw [e] at q; exact nI_m1 (by omega) q.symm
      · rw [e] at q
        have := (nI_eq (by omega) (by omega)).mp q
        omega
    have ln : ∀ j, (∀ k, j ≠ 8 * k + 3 + n ∨ 7 < k) → s2 j = D 23 j := fun j hj => by rw [← hs2]; exact lay_n hj
    refine ⟨⟨⟨hw2, ru_eq a2 (wld_row (qr 26 (by decide) (by decide) (Or.inr (by decide)))) (wld_row (qr 25 (by decide) (by decide) (Or.inr (by decide))))⟩, ⟨?_, fun x y hx hy => ?_⟩, fun o ho => ?_⟩, ⟨?_, ?_⟩, ⟨e37.trans c1, by rw [qr 12 (by decide) (by decide) (Or.inl (by decide))]; exact c2⟩, ⟨⟨(q0 50 (by decide)).trans d1, d2⟩, fun k hk2 => ?_, fun i j hi hj => ?_⟩, ⟨?_, fun j hj => ?_⟩, ⟨fun i hi => ?_, fun i hi e => ?_, fun i hi => ?_⟩, g⟩
    · obtain ⟨v, hv, e⟩ := h.k14
      exact ⟨v, hv, (wld_is rfl).trans ((q0 14 (by decide)).trans e)⟩
    · rw [wld_row (qr 13 (by decide) (by decide) (Or.inl (by decide)))]; exact a3.2 x y hx hy
    · rw [wld_row (qr 7 (by decide) (by decide) (Or.inl (by decide)))]; exact a4 o ho
    · rw [q23]
      obtain ⟨g1, g2, g3, g4, g5, g6⟩ := b1
      refine ⟨?_, ?_, fun p hp => ?_, fun p hp => ?_, fun p hp => ?_, fun j hj => ?_⟩
      · rw [ln 0 (fun k => by omega)]; exact g1
      · rw [ln 2 (fun k => by omega)]; exact g2
      · by_cases ep : p = n
        · subst ep; rw [← hs2, lay_3]; exact ⟨kb, hkb, W20⟩
        · rw [ln (3 + p) (fun k => by omega)]; exact g3 p (by omega)
      · by_cases ep : p = n
        · subst ep; rw [← hs2, lay_27]; exact Or.inl rfl
        · rw [ln (27 + p) (fun k => by omega)]
          rcases g4 p (by omega) with e | ⟨x1, x2, x3⟩
          · exact Or.inl e
          · refine Or.inr ⟨x1, (wld_at e37).trans x2, ?_⟩
            rw [wld_at (q21 p ep)]
            exact x3
      · by_cases ep : p = n
        · subst ep; rw [← hs2, lay_35]; exact Or.inl rfl
        · rw [ln (35 + p) (fun k => by omega)]; exact g5 p (by omega)
      · rw [ln j (fun k => by omega)]; exact g6 j hj
    · rw [q23]
      obtain ⟨H, g1, g2, g3⟩ := b2
      refine ⟨H, g1, (ln 2 (fun k => by omega)).trans g2, ?_⟩
      have e51 : s2 (51 + n) = nI 0 := by rw [← hs2]; exact lay_51
      have es : sumI (fun p => s2 (51 + p)) n = nI H := (sumI_c n (fun p hp => ln (51 + p) (fun k => by omega))).trans g3
      show sumI (fun p => s2 (51 + p)) n + s2 (51 + n) = nI H
      rw [es, e51, nI_add]
      rfl
    · rw [qr 51 (by decide) (by decide) (Or.inr (by decide)), qr 52 (by decide) (by decide) (Or.inr (by decide))]; exact d3 k hk2
    · rw [qr 51 (by decide) (by decide) (Or.inr (by decide)), qr 52 (by decide) (by decide) (Or.inr (by decide))]; exact d4 i j hi hj
    · rw [q0 29 (by decide)]; exact e1
    · rw [qr 28 (by decide) (by decide) (Or.inr (by decide))]; exact e2 j hj
    · rw [e56]
      rcases f1 i hi with e | ⟨m, hm, e⟩
      · exact Or.inl e
      · exact Or.inr ⟨m, by omega, e⟩
    · rw [e56] at e
      exact absurd e (hbad i hi)
    · rw [e57]; exact f3 i hi
  · rw [if_neg e] at hw2 ⊢
    dsimp only at hw2 ⊢
    obtain rfl : n2 = n := by
      have q := hw2.n16
      rw [h.hw.n16] at q
      have := hw2.n8
      have := h.hw.n8
      exact ((nI_eq (by omega) (by omega)).mp q).symm
    exact h
/-- what leaves the data as it is and tells a short row -/
def rsh (f : zO) (D : zI) : Prop := f.2.1 = D ∧ f.2.2.length ≤ 24
theorem dOk.sh {f : zO} (h : dOk D R no n np ro B) (g : rsh f D) : dOk f.2.1 f.2.2 no n np ro B := by rw [g.1]; exact h.rr g.2
theorem endR_l {s2 : zS} (hn : n ≤ 8) : (endR n s s2).length ≤ 24 := by unfold endR; simp; omega
theorem r_open (h : R.length ≤ 24) {o hh : Int32} : rsh (fOpen D R o hh) D := ⟨rfl, h⟩
theorem r_overlap (h : R.length ≤ 24) {a b hh : Int32} : rsh (fOverlap D R a b hh) D := ⟨rfl, h⟩
theorem r_loses (h : R.length ≤ 24) {a b hh : Int32} : rsh (fLoses D R a b hh) D := ⟨rfl, h⟩
theorem r_count (h : R.length ≤ 24) {x : Int32} : rsh (fCount D R n x) D := ⟨rfl, h⟩
theorem r_dark (h : R.length ≤ 24) {c hh : Int32} : rsh (fDark D R no c hh) D := by
  unfold fDark
  split
  · exact ⟨rfl, by simp⟩
  · exact ⟨rfl, h⟩
theorem r_ends (h : R.length ≤ 24) (hn : n ≤ 8) : rsh (fEnds D R ro no n) D := by
  unfold fEnds
  split
  · exact ⟨rfl, h⟩
  · split
    · exact ⟨rfl, h⟩
    · exact ⟨rfl, endR_l hn⟩
theorem r_judge (h : R.length ≤ 24) : rsh (fJudge D R ro no n) D := by
  unfold fJudge
  split
  · exact ⟨rfl, h⟩
  · split
    · exact ⟨rfl, h⟩
    · exact ⟨rfl, by simp⟩
theorem r_lie (h : R.length ≤ 24) {x hh : Int32} : rsh (fLie D R no x hh) D := by
  unfold fLie
  split
  · split
    · exact ⟨rfl, h⟩
    · exact ⟨rfl, by simp⟩
  · exact ⟨rfl, h⟩
theorem r_sleeps (h : R.length ≤ 24) {o d : Int32} : rsh (fSleeps D R ro no n o d) D := by
  unfold fSleeps
  split
  · exact ⟨rfl, h⟩
  · exact ⟨rfl, h⟩
theorem r_worst (h : R.length ≤ 24) {o f t : Int32} : rsh (fWorst D R ro no n o f t) D := by
  unfold fWorst
  split
  · split
    · exact ⟨rfl, h⟩
    · exact ⟨rfl, by simp⟩
  · exact ⟨rfl, h⟩
theorem r_march (h : R.length ≤ 24) {o hh : Int32} : rsh (fMarch D R ro no n o hh) D := by
  unfold fMarch
  split
  · exact ⟨rfl, h⟩
  · exact ⟨rfl, h⟩
theorem r_together (h : R.length ≤ 24) (hn : n ≤ 8) {o hh : Int32} : rsh (fTogether D R no n o hh) D := by
  unfold fTogether
  split
  · dsimp only
    split
    · exact ⟨rfl, h⟩
    · exact ⟨rfl, endR_l hn⟩
  · exact ⟨rfl, h⟩
theorem r_whom (h : R.length ≤ 24) {c hh : Int32} : rsh (fWhom D R ro no n np c hh) D := by
  unfold fWhom
  split
  · split
    · exact ⟨rfl, h⟩
    · exact ⟨rfl, by simp⟩
  · exact ⟨rfl, h⟩
theorem r_worth (h : R.length ≤ 24) (hn : np ≤ 9) {hh : Int32} : rsh (fWorth D R ro no n np hh) D := by
  unfold fWorth
  split
  · split
    · exact ⟨rfl, h⟩
    · split
      · exact ⟨rfl, by simp⟩
      · exact ⟨rfl, by simp; omega⟩
  · exact ⟨rfl, h⟩
theorem r_homes (h : R.length ≤ 24) (hn : n ≤ 8) {x hh : Int32} : rsh (fHomes D R no n x hh) D := by
  unfold fHomes
  split
  · split
    · exact ⟨rfl, h⟩
    · refine ⟨rfl, ?_⟩
      unfold hmR
      rw [List.length_map]
      exact Nat.le_trans (List.length_filter_le _ _) (by rw [List.length_range]; omega)
  · exact ⟨rfl, h⟩
theorem r_wrong (h : R.length ≤ 24) {x : Int32} : rsh (fWrong D R x) D := by
  unfold fWrong
  split
  · exact ⟨rfl, by simp [frc]⟩
  · exact ⟨rfl, h⟩
theorem r_mean (h : R.length ≤ 24) {x : Int32} : rsh (fMean D R x) D := by
  unfold fMean
  split
  · exact ⟨rfl, by simp [frc]⟩
  · exact ⟨rfl, h⟩
theorem r_risk (h : R.length ≤ 24) : rsh (fRisk D R) D := by
  unfold fRisk
  split
  · exact ⟨rfl, h⟩
  · exact ⟨rfl, by simp⟩
end DOK2
