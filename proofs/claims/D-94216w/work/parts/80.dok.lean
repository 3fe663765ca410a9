set_option maxRecDepth 100000
/-! THE LAW, PURE: what all calls keep of the data -/
section DOK
variable {D D2 : zI} {R R2 : List Int64} {no n np B : Nat} {ro : Option (List Nat)} {s : zS}
/-- a kept row -/
def kcut (D : zI) (i : Nat) : zS := fun k => if k < 127 then D 57 (127 * i + k) else 0
def dOk (D : zI) (R : List Int64) (no n np : Nat) (ro : Option (List Nat)) (B : Nat) : Prop :=
  ((wf (wld D) no n ∧ ruM (wld D) ro) ∧ (knf (wld D) no ∧ pyf (wld D) no)) ∧ (sf (wld D) no n (D 23) ∧ hk (D 23) n B) ∧ (D 0 37 = 0 ∧ ∀ j, D 12 j = 0 ∨ D 12 j = 1) ∧
  ((D 0 50 = nI np ∧ np ≤ 9) ∧ (prs D no np ∧ prd D np)) ∧ ((∃ t, t ≤ 60 ∧ D 0 29 = nI t) ∧ ∀ j, j < 60 → ∃ v, v < 256 ∧ D 28 j = nI v) ∧
  ((∀ i, i < 3 → D 56 i = -1 ∨ ∃ m, m ≤ n ∧ D 56 i = nI m) ∧ (∀ i, i < 3 → D 56 i = nI n → sf (wld D) no n (kcut D i) ∧ hk (kcut D i) n B) ∧ ∀ i, i < 3 → (D 57 (127 * i + 2)).toNatClampNeg ≤ 60) ∧ R.length ≤ 24
theorem dOk.rr (h : dOk D R no n np ro B) (hR : R2.length ≤ 24) : dOk D R2 no n np ro B := ⟨h.1, h.2.1, h.2.2.1, h.2.2.2.1, h.2.2.2.2.1, h.2.2.2.2.2.1, hR⟩
theorem dOk.rl (h : dOk D R no n np ro B) : R.length ≤ 24 := h.2.2.2.2.2.2
theorem dOk.hw (h : dOk D R no n np ro B) : wf (wld D) no n := h.1.1.1
theorem dOk.le {B2 : Nat} (h : dOk D R no n np ro B) (hB : B ≤ B2) : dOk D R no n np ro B2 := ⟨h.1, ⟨h.2.1.1, hk_le h.2.1.2 hB⟩, h.2.2.1, h.2.2.2.1, h.2.2.2.2.1, ⟨h.2.2.2.2.2.1.1, fun i hi e => ⟨(h.2.2.2.2.2.1.2.1 i hi e).1, hk_le (h.2.2.2.2.2.1.2.1 i hi e).2 hB⟩, h.2.2.2.2.2.1.2.2⟩, h.2.2.2.2.2.2⟩
theorem wf_c (h : wf (wld D) no n) (e3 : D2 0 3 = D 0 3) (e16 : D2 0 16 = D 0 16) (e20 : D2 20 = D 20) (e21 : D2 21 = D 21) : wf (wld D2) no n := by
  obtain ⟨⟨h1, h2⟩, ⟨h3, h4⟩, h5, h6⟩ := h
  exact ⟨⟨(wld_at e3).trans h1, h2⟩, ⟨(wld_at e16).trans h3, h4⟩, fun p hp => by rw [wld_row e20]; exact h5 p hp, fun p hp => by rw [wld_row e21]; exact h6 p hp⟩
theorem sf_c (h : sf (wld D) no n s) (e37 : D2 0 37 = D 0 37) (e21 : D2 21 = D 21) : sf (wld D2) no n s := by
  obtain ⟨h1, h2, h3, h4, h5⟩ := h
  exact ⟨h1, h2, h3, fun p hp => by rw [wld_at e37, wld_row e21]; exact h4 p hp, h5⟩
/-- other clocks, feasts, numbers of what is known, lost: all stays as it was -/
theorem dOk_c (h : dOk D R no n np ro B) (hR : R2.length ≤ 24) (h0 : ∀ k, k ≠ 14 → k ≠ 15 → D2 0 k = D 0 k) (h14 : ∃ v, v ≤ 20 ∧ D2 0 14 = nI v) (hr : ∀ a, a ≠ 0 → a < 4 ∨ 13 < a → D2 a = D a) (h7 : ∀ o, o < no → D2 7 o = D 7 o) (h12 : ∀ j, D2 12 j = 0 ∨ D2 12 j = 1) (h13 : ∀ a b, a < no → b < no → ∃ v, v ≤ 9 ∧ D2 13 (6 * a + b) = nI v) : dOk D2 R2 no n np ro B := by
  obtain ⟨⟨⟨a1, a2⟩, a3, a4⟩, ⟨b1, b2⟩, ⟨c1, c2⟩, ⟨⟨d1, d2⟩, d3, d4⟩, ⟨e1, e2⟩, ⟨f1, f2, f3⟩, g⟩ := h
  have e21 : D2 21 = D 21 := hr 21 (by decide) (Or.inr (by decide))
  have e37 : D2 0 37 = D 0 37 := h0 37 (by decide) (by decide)
  have e57 : D2 57 = D 57 := hr 57 (by decide) (Or.inr (by decide))
  have e56 : D2 56 = D 56 := hr 56 (by decide) (Or.inr (by decide))
  have ek : ∀ i, kcut D2 i = kcut D i := fun i => by unfold kcut; rw [e57]
  refine ⟨⟨⟨wf_c a1 (h0 3 (by decide) (by decide)) (h0 16 (by decide) (by decide)) (hr 20 (by decide) (Or.inr (by decide))) e21, ru_eq a2 (wld_row (hr 26 (by decide) (Or.inr (by decide)))) (wld_row (hr 25 (by decide) (Or.inr (by decide))))⟩, ⟨?_, fun a b ha hb => ?_⟩, fun o ho => ?_⟩, ⟨?_, ?_⟩, ⟨e37.trans c1, h12⟩, ⟨⟨(h0 50 (by decide) (by decide)).trans d1, d2⟩, fun k hk2 => ?_, fun i j hi hj => ?_⟩, ⟨?_, fun j hj => ?_⟩, ⟨fun i hi => ?_, fun i hi e => ?_, fun i hi => ?_⟩, hR⟩
  · obtain ⟨v, hv, e⟩ := h14
    exact ⟨v, hv, (wld_is rfl).trans e⟩
  · obtain ⟨v, hv, e⟩ := h13 a b ha hb
    exact ⟨v, hv, (wld_is rfl).trans e⟩
  · rw [wld_at (h7 o ho)]; exact a4 o ho
  · rw [hr 23 (by decide) (Or.inr (by decide))]; exact sf_c b1 e37 e21
  · rw [hr 23 (by decide) (Or.inr (by decide))]; exact b2
  · rw [hr 51 (by decide) (Or.inr (by decide)), hr 52 (by decide) (Or.inr (by decide))]; exact d3 k hk2
  · rw [hr 51 (by decide) (Or.inr (by decide)), hr 52 (by decide) (Or.inr (by decide))]; exact d4 i j hi hj
  · rw [h0 29 (by decide) (by decide)]; exact e1
  · rw [hr 28 (by decide) (Or.inr (by decide))]; exact e2 j hj
  · rw [e56]; exact f1 i hi
  · rw [e56] at e; rw [ek]; exact ⟨sf_c (f2 i hi e).1 e37 e21, (f2 i hi e).2⟩
  · rw [e57]; exact f3 i hi
theorem dOk.k14 (h : dOk D R no n np ro B) : ∃ v, v ≤ 20 ∧ D 0 14 = nI v := by
  obtain ⟨v, hv, e⟩ := h.1.2.1.1
  exact ⟨v, hv, (wld_is rfl).symm.trans e⟩
theorem dOk.k13 (h : dOk D R no n np ro B) : ∀ a b, a < no → b < no → ∃ v, v ≤ 9 ∧ D 13 (6 * a + b) = nI v := fun a b ha hb => by
  obtain ⟨v, hv, e⟩ := h.1.2.1.2 a b ha hb
  exact ⟨v, hv, (wld_is rfl).symm.trans e⟩
/-- another row of the state -/
theorem dOk_s {B2 : Nat} (h : dOk D R no n np ro B) (h2 : D2 23 = s) (hr : ∀ a, a ≠ 23 → D2 a = D a) (hs : sf (wld D) no n s) (hk2 : hk s n B2) (hB : B ≤ B2) : dOk D2 R no n np ro B2 := by
  obtain ⟨⟨⟨a1, a2⟩, a3, a4⟩, ⟨b1, b2⟩, ⟨c1, c2⟩, ⟨⟨d1, d2⟩, d3, d4⟩, ⟨e1, e2⟩, ⟨f1, f2, f3⟩, g⟩ := h
  have hW : wld D2 = wld D := by
    funext a k
    by_cases e : a = 23
    · subst e; rfl
    · exact congrFun (wld_row (hr a e)) k
  have ek : ∀ i, kcut D2 i = kcut D i := fun i => by unfold kcut; rw [hr 57 (by decide)]
  unfold dOk
  rw [hW, h2]
  refine ⟨⟨⟨a1, a2⟩, a3, a4⟩, ⟨hs, hk2⟩, ⟨by rw [hr 0 (by decide)]; exact c1, by rw [hr 12 (by decide)]; exact c2⟩, ⟨⟨by rw [hr 0 (by decide)]; exact d1, d2⟩, fun k hk2 => by rw [hr 51 (by decide), hr 52 (by decide)]; exact d3 k hk2, fun i j hi hj => by rw [hr 51 (by decide), hr 52 (by decide)]; exact d4 i j hi hj⟩, ⟨by rw [hr 0 (by decide)]; exact e1, by rw [hr 28 (by decide)]; exact e2⟩, ⟨by rw [hr 56 (by decide)]; exact f1, fun i hi e => ?_, by rw [hr 57 (by decide)]; exact f3⟩, g⟩
  rw [hr 56 (by decide)] at e
  rw [ek]
  exact ⟨(f2 i hi e).1, hk_le (f2 i hi e).2 hB⟩
theorem oB_k (hw : wf (wld D) no n) {o : Int32} (h : oB D o = true) : ∃ k, k < no ∧ o = nI k := by
  have h6 := hw.o6
  have e : noD D = no := by rw [noD, show D 0 3 = nI no from (wld_is rfl).symm.trans hw.o3, nI_clamp (by omega)]
  obtain ⟨h1, h2⟩ := rB_i h
  rw [e] at h2
  obtain ⟨k, hk2, e2⟩ := z_rng (n := no) h1 (by omega) (by omega)
  subst e2
  rw [z_ti (by omega)] at h2
  exact ⟨k, by omega, rfl⟩
theorem pB_k (hw : wf (wld D) no n) {o : Int32} (h : pB D o = true) : ∃ k, k < n ∧ o = nI k := by
  have h6 := hw.n8
  have e : nD D = n := by rw [nD, show D 0 16 = nI n from (wld_is rfl).symm.trans hw.n16, nI_clamp (by omega)]
  obtain ⟨h1, h2⟩ := rB_i h
  rw [e] at h2
  obtain ⟨k, hk2, e2⟩ := z_rng (n := n) h1 (by omega) (by omega)
  subst e2
  rw [z_ti (by omega)] at h2
  exact ⟨k, by omega, rfl⟩
theorem rB_k {x : Int32} {hi : Nat} (h : rB x 0 hi = true) (hh : hi < 2 ^ 31) : ∃ k, k ≤ hi ∧ x = nI k := z_rng (rB_i h).1 (rB_i h).2 hh
theorem and4 {a b : Bool} (h : (a && b) = true) : a = true ∧ b = true := by cases a <;> cases b <;> simp_all
theorem o3 (h : dOk D R no n np ro B) : D 0 3 = nI no := (wld_is rfl).symm.trans h.hw.o3
theorem o16 (h : dOk D R no n np ro B) : D 0 16 = nI n := (wld_is rfl).symm.trans h.hw.n16
theorem zz_n {a b k j : Nat} {v w : Int32} {c : Nat} (h1 : c ≠ a) (h2 : c ≠ b) : zw (zw D a k v) b j w c = D c := by rw [zw_n _ _ _ _ h2, zw_n _ _ _ _ h1]
theorem d_clock (h : dOk D R no n np ro B) {o hh b : Int32} : dOk (fClock D R o hh b).2.1 (fClock D R o hh b).2.2 no n np ro B := by
  unfold fClock
  split
  all_goals try dsimp only
  · exact dOk_c h h.rl (fun k _ _ => by rw [zz_n (by decide) (by decide)]) (by rw [zz_n (by decide) (by decide)]; exact h.k14) (fun a h0 h1 => zz_n (by omega) (by omega)) (fun o _ => by rw [zz_n (by decide) (by decide)]) (by rw [zz_n (by decide) (by decide)]; exact h.2.2.1.2) (by rw [zz_n (by decide) (by decide)]; exact h.k13)
  · exact h
theorem nar_01 (f : Int32) : vp_nar .boolean f = 0 ∨ vp_nar .boolean f = 1 := by
  show (f &&& 1) = 0 ∨ (f &&& 1) = 1
  obtain ⟨j, hj, e⟩ := pk_andE f (m := 1) 1 (by decide)
  rw [e]
  have : j = 0 ∨ j = 1 := by omega
  rcases this with rfl | rfl
  · exact Or.inl rfl
  · exact Or.inr rfl
theorem d_feast (h : dOk D R no n np ro B) {o d f : Int32} : dOk (fFeast D R o d f).2.1 (fFeast D R o d f).2.2 no n np ro B := by
  unfold fFeast
  split
  all_goals try dsimp only
  · refine dOk_c h h.rl (fun k _ _ => by rw [zw_n _ _ _ _ (by decide)]) (by rw [zw_n _ _ _ _ (by decide)]; exact h.k14) (fun a h0 h1 => zw_n _ _ _ _ (by omega)) (fun o _ => by rw [zw_n _ _ _ _ (by decide)]) (fun j => ?_) (by rw [zw_n _ _ _ _ (by decide)]; exact h.k13)
    rw [zw_a]
    by_cases e : j = 100 * o.toNatClampNeg + d.toNatClampNeg
    · rw [e, zu_s]; exact nar_01 f
    · rw [zu_n _ _ _ e]; exact h.2.2.1.2 j
  · exact h
theorem kn_13 {a b x y : Nat} {v : Int32} (h : ∃ u, u ≤ 9 ∧ v = nI u) (h2 : ∃ u, u ≤ 9 ∧ D 13 (6 * x + y) = nI u) : ∃ u, u ≤ 9 ∧ stKn D a b v 13 (6 * x + y) = nI u := by
  unfold stKn
  rw [zw_a]
  by_cases e1 : 6 * x + y = 6 * b + a
  · rw [e1, zu_s]; exact h
  · rw [zu_n _ _ _ e1, zw_a]
    by_cases e2 : 6 * x + y = 6 * a + b
    · rw [e2, zu_s]; exact h
    · rw [zu_n _ _ _ e2]; exact h2
theorem d_know (h : dOk D R no n np ro B) {a b v : Int32} : dOk (fKnow D R a b v).2.1 (fKnow D R a b v).2.2 no n np ro B := by
  unfold fKnow
  split
  all_goals try dsimp only
  · next e =>
    obtain ⟨-, e2⟩ := and4 e
    obtain ⟨-, e3⟩ := and4 e2
    obtain ⟨-, e4⟩ := and4 e3
    obtain ⟨u, hu, rfl⟩ := rB_k (hi := 9) e4 (by decide)
    exact dOk_c h h.rl (fun k _ _ => by rw [stKn_n (by decide)]) (by rw [stKn_n (by decide)]; exact h.k14) (fun a h0 h1 => stKn_n (by omega)) (fun o _ => by rw [stKn_n (by decide)]) (by rw [stKn_n (by decide)]; exact h.2.2.1.2) (fun x y hx hy => kn_13 ⟨u, hu, rfl⟩ (h.k13 x y hx hy))
  · exact h
theorem d_set (h : dOk D R no n np ro B) {x v : Int32} : dOk (fSet D R x v).2.1 (fSet D R x v).2.2 no n np ro B := by
  unfold fSet
  by_cases e : (rB x 0 1 && rB v 0 (if x = 0 then 20 else 100)) = true
  · rw [if_pos e]
    try dsimp only
    by_cases e2 : x = 0
    · rw [if_pos e2] at e ⊢
      obtain ⟨u, hu, rfl⟩ := rB_k (hi := 20) (and4 e).2 (by decide)
      dsimp only
      exact dOk_c h h.rl (fun k k1 _ => by rw [zw_a, zu_n _ _ _ k1]) ⟨u, hu, zw_s _ _ _ _⟩ (fun a h0 h1 => zw_n _ _ _ _ h0) (fun o _ => by rw [zw_n _ _ _ _ (by decide)]) (by rw [zw_n _ _ _ _ (by decide)]; exact h.2.2.1.2) (by rw [zw_n _ _ _ _ (by decide)]; exact h.k13)
    · rw [if_neg e2]
      dsimp only
      exact dOk_c h h.rl (fun k _ k1 => by rw [zw_a, zu_n _ _ _ k1]) (by rw [zw_a, zu_n _ _ _ (by decide)]; exact h.k14) (fun a h0 h1 => zw_n _ _ _ _ h0) (fun o _ => by rw [zw_n _ _ _ _ (by decide)]) (by rw [zw_n _ _ _ _ (by decide)]; exact h.2.2.1.2) (by rw [zw_n _ _ _ _ (by decide)]; exact h.k13)
  · rw [if_neg e]
    try dsimp only
    exact h
theorem mxn_9 (x : Int32) : ∃ u, u ≤ 9 ∧ mx (nI 0) (mn (nI 9) x) = nI u := by
  unfold mn
  by_cases e : x < nI 9
  · rw [if_pos e]
    try dsimp only
    unfold mx
    by_cases e2 : nI 0 < x
    · rw [if_pos e2]
      obtain ⟨k, hk2, e3⟩ := z_rng (x := x) (n := 9) (by have := Int32.lt_iff_toInt_lt.mp e2; rw [show (nI 0).toInt = 0 from rfl] at this; omega) (by have := Int32.lt_iff_toInt_lt.mp e; rw [z_ti (by decide)] at this; omega) (by decide)
      exact ⟨k, hk2, e3⟩
    · rw [if_neg e2]; exact ⟨0, by decide, rfl⟩
  · rw [if_neg e]; exact ⟨9, by decide, rfl⟩
theorem shD_13 {o x y : Nat} {yy m f t : Int32} (h : ∃ u, u ≤ 9 ∧ D 13 (6 * x + y) = nI u) : ∀ i, ∃ u, u ≤ 9 ∧ shD D o yy m f t i 13 (6 * x + y) = nI u := by
  intro i
  induction i with
  | zero => exact h
  | succ i ih =>
    rw [shD]
    split
    · exact kn_13 (mxn_9 _) ih
    · exact ih
theorem d_sheet (h : dOk D R no n np ro B) {o y m f t : Int32} : dOk (fSheet D R no o y m f t).2.1 (fSheet D R no o y m f t).2.2 no n np ro B := by
  unfold fSheet
  split
  all_goals try dsimp only
  · split
    all_goals try dsimp only
    · exact h
    · exact dOk_c h h.rl (fun k _ _ => by rw [shD_n (by decide)]) (by rw [shD_n (by decide)]; exact h.k14) (fun a h0 h1 => shD_n (by omega) _) (fun o _ => by rw [shD_n (by decide)]) (by rw [shD_n (by decide)]; exact h.2.2.1.2) (fun x y hx hy => shD_13 (h.k13 x y hx hy) _)
  · exact h
theorem fst_01 {o : Nat} (h : ∀ j, D 12 j = 0 ∨ D 12 j = 1) : ∀ k j, fstN D o k 12 j = 0 ∨ fstN D o k 12 j = 1 := by
  intro k
  induction k with
  | zero => exact h
  | succ k ih =>
    intro j
    rw [fstN, zw_a]
    by_cases e : j = 100 * o + k
    · rw [e, zu_s]; exact Or.inl rfl
    · rw [zu_n _ _ _ e]; exact ih j
theorem opn_01 {o : Nat} {z f l y m c : Int32} (h : ∀ j, D 12 j = 0 ∨ D 12 j = 1) : ∀ j, opnS D o z f l y m c 12 j = 0 ∨ opnS D o z f l y m c 12 j = 1 := by
  intro j
  rw [opnS_12]
  split
  · exact Or.inl rfl
  · exact h j
theorem kn1_n9 {o c : Nat} {v : Int32} (h : c ≠ 13) : ∀ k, kn1 D o v k c = D c := by
  intro k
  induction k with
  | zero => rfl
  | succ k ih => rw [kn1, stKn_n h]; exact ih
theorem sit_01 {l c v : Int32} (h : ∀ j, D 12 j = 0 ∨ D 12 j = 1) : ∀ z j, sitD D no l c v z 12 j = 0 ∨ sitD D no l c v z 12 j = 1 := by
  intro z
  induction z with
  | zero => exact h
  | succ z ih =>
    rw [sitD, zw_n _ _ _ _ (by decide)]
    unfold sitZ
    rw [kn1_n9 (by decide)]
    exact opn_01 ih
theorem d_site (h : dOk D R no n np ro B) {l c v hh : Int32} : dOk (fSite D R ro no n l c v hh).2.1 (fSite D R ro no n l c v hh).2.2 no n np ro B := by
  unfold fSite
  by_cases e : (rB l 1 16 && (!decide (c < 0) && (rB (c / nI 64) 1 9 && (rB (c - c / nI 64 * nI 64) 1 63 && (rB v 0 9 && (rB hh 0 2399 && (!decide (D 0 3 = nI 6) && !decide (D 0 16 = 0)))))))) = true
  · rw [if_pos e]
    try dsimp only
    have h6 : no < 6 := by
      have q := (and4 (and4 (and4 (and4 (and4 (and4 (and4 e).2).2).2).2).2).2).1
      have n6 := h.hw.o6
      rw [o3 h] at q
      have q2 : ¬ nI no = nI 6 := by simpa using q
      have : no ≠ 6 := fun e => q2 (by rw [e])
      omega
    have key : ∀ {R2 : List Int64}, R2.length ≤ 24 → dOk (sitD D no l c v 24) R2 no n np ro B := fun hR => by
      have q0 : sitD D no l c v 24 0 = D 0 := sitD_0 (o3 h) 24
      obtain ⟨q1, q2, q3, -⟩ := sit_eqO (l := l) (c := c) (v := v) (o3 h) h6 24
      exact dOk_c h hR (fun k _ _ => by rw [q0]) (by rw [q0]; exact h.k14) (fun a h0 h1 => sitD_n h0 h1 24) (fun o ho => q1 7 o (by decide) (by decide) ho) (sit_01 h.2.2.1.2 24) (fun x y hx hy => by rw [q3 x y hx hy]; exact h.k13 x y hx hy)
    split
    · exact key h.rl
    · exact key (by simp)
  · rw [if_neg e]
    try dsimp only
    exact h
theorem hi9 (h : dOk D R no n np ro B) : ∀ j, 127 ≤ j → D 23 j = 0 := h.2.1.1.2.2.2.2.2
theorem d_begin (h : dOk D R no n np ro B) {x : Int32} : dOk (fBegin D R n x).2.1 (fBegin D R n x).2.2 no n np ro B := by
  unfold fBegin
  split
  all_goals try dsimp only
  · next e =>
    obtain ⟨k, hk2, rfl⟩ := rB_k (hi := 2399) e (by decide)
    exact dOk_s h (zu_s _ _ _) (fun a ha => zu_n _ _ _ ha) (by rw [nI_clamp (by omega)]; exact sf_begS h.hw (hi9 h) hk2) (hk_le (hk_beg h.hw.n8) (Nat.zero_le _)) (Nat.le_refl _)
  · exact h
theorem sf_goN {W : zI} (hw : wf W no n) : ∀ f s, sf W no n s → sf W no n (goN W ro no n f s) := by
  intro f
  induction f with
  | zero => exact fun s h => h
  | succ f ih =>
    intro s h
    rw [goN]
    split
    · next e =>
      obtain ⟨t, ht, e0⟩ := h.now
      rw [e0, nI_clamp (by omega)] at e
      exact ih _ (sf_hrS h hw e0 e)
    · exact h
theorem d_go (h : dOk D R no n np ro B) {x : Int32} (hk2 : hk ((fGo D R ro no n x).2.1 23) n (B + 4000)) : dOk (fGo D R ro no n x).2.1 (fGo D R ro no n x).2.2 no n np ro (B + 4000) := by
  unfold fGo at hk2 ⊢
  by_cases e : rB x 0 500 = true
  · rw [if_pos e] at hk2 ⊢
    try dsimp only at hk2 ⊢
    exact dOk_s h rfl (fun a ha => zu_n _ _ _ ha) (by rw [zu_s]; exact sf_goN h.hw _ _ h.2.1.1) hk2 (by omega)
  · rw [if_neg e]
    try dsimp only
    exact h.le (by omega)
theorem d_hand (h : dOk D R no n np ro B) (hB : B < 2 ^ 30) {x y : Int32} : dOk (fHand D R x y).2.1 (fHand D R x y).2.2 no n np ro (B + 1) := by
  unfold fHand
  by_cases e : (pB D x && (oB D y && (!isDn (D 23) x.toNatClampNeg && decide (¬ D 23 (3 + x.toNatClampNeg) = y)))) = true
  · rw [if_pos e]
    try dsimp only
    obtain ⟨p, hp, rfl⟩ := pB_k h.hw (and4 e).1
    obtain ⟨o, ho, rfl⟩ := oB_k h.hw (and4 (and4 e).2).1
    have n8 := h.hw.n8
    have o6 := h.hw.o6
    rw [nI_clamp (show p < 2 ^ 31 by omega), nI_clamp (show o < 2 ^ 31 by omega)]
    exact dOk_s h (zu_s _ _ _) (fun a ha => zu_n _ _ _ ha) (sf_hndS h.2.1.1 h.hw hp ho) (hk_hnd h.2.1.2 n8 hp hB) (by omega)
  · rw [if_neg e]
    try dsimp only
    exact h.le (by omega)
theorem cpy_r {X : zI} {a b : Nat} {f : zS} : ∀ m j, cpyN X a b f m a j = if b ≤ j ∧ j < b + m then f (j - b) else X a j := by
  intro m
  induction m with
  | zero => intro j; rw [if_neg (by omega)]; rfl
  | succ m ih =>
    intro j
    rw [cpyN, zw_a]
    by_cases e : j = b + m
    · rw [e, zu_s, if_pos (by omega), show b + m - b = m by omega]
    · rw [zu_n _ _ _ e, ih j]
      by_cases g : b ≤ j ∧ j < b + m
      · rw [if_pos g, if_pos (by omega)]
      · rw [if_neg g, if_neg (by omega)]
theorem d_again (h : dOk D R no n np ro B) {x : Int32} : dOk (fAgain D R x).2.1 (fAgain D R x).2.2 no n np ro B := by
  unfold fAgain
  by_cases e : (rB x 0 2 && decide (D 56 x.toNatClampNeg = D 0 16)) = true
  · rw [if_pos e]
    try dsimp only
    obtain ⟨i, hi, rfl⟩ := rB_k (hi := 2) (and4 e).1 (by decide)
    have e2 := of_decide_eq_true (and4 e).2
    rw [nI_clamp (by omega)] at e2 ⊢
    obtain ⟨q1, q2⟩ := h.2.2.2.2.2.1.2.1 i (by omega) (e2.trans (o16 h))
    refine dOk_s (s := kcut D i) h (funext fun j => ?_) (fun a ha => cpyN_n ha _) q1 q2 (Nat.le_refl _)
    rw [cpy_r]
    unfold kcut
    by_cases g : j < 127
    · rw [if_pos (by omega), if_pos g, Nat.sub_zero]
    · rw [if_neg (by omega), if_neg g]
      exact hi9 h j (by omega)
  · rw [if_neg e]
    try dsimp only
    exact h
theorem d_keep (h : dOk D R no n np ro B) {x : Int32} : dOk (fKeep D R x).2.1 (fKeep D R x).2.2 no n np ro B := by
  unfold fKeep
  by_cases e : rB x 0 2 = true
  · rw [if_pos e]
    try dsimp only
    obtain ⟨i, hi, rfl⟩ := rB_k (hi := 2) e (by decide)
    rw [nI_clamp (by omega)]
    have hr : ∀ a, a ≠ 56 → a ≠ 57 → cpyN (zw D 56 i (D 0 16)) 57 (127 * i) (D 23) 127 a = D a := fun a h1 h2 => by rw [cpyN_n h2, zw_n _ _ _ _ h1]
    have e56 : cpyN (zw D 56 i (D 0 16)) 57 (127 * i) (D 23) 127 56 = zu (D 56) i (D 0 16) := by rw [cpyN_n (by decide), zw_a]
    have e57 : ∀ j, cpyN (zw D 56 i (D 0 16)) 57 (127 * i) (D 23) 127 57 j = if 127 * i ≤ j ∧ j < 127 * i + 127 then D 23 (j - 127 * i) else D 57 j := fun j => by rw [cpy_r, zw_n _ _ _ _ (by decide)]
    have n8 := h.hw.n8
    obtain ⟨⟨⟨a1, a2⟩, a3, a4⟩, ⟨b1, b2⟩, ⟨c1, c2⟩, ⟨⟨d1, d2⟩, d3, d4⟩, ⟨e1, e2⟩, ⟨f1, f2, f3⟩, g⟩ := id h
    have hW : wld (cpyN (zw D 56 i (D 0 16)) 57 (127 * i) (D 23) 127) = wld D := by
      funext a k
      by_cases q1 : a = 56
      · subst q1; rfl
      · by_cases q2 : a = 57
        · subst q2; rfl
        · exact congrFun (wld_row (hr a q1 q2)) k
    have kc : ∀ j, kcut (cpyN (zw D 56 i (D 0 16)) 57 (127 * i) (D 23) 127) j = if j = i then D 23 else kcut D j := fun j => by
      funext k
      unfold kcut
      by_cases q : j = i
      · subst q
        rw [if_pos rfl]
        by_cases g : k < 127
        · rw [if_pos g, e57, if_pos (by omega), show 127 * j + k - 127 * j = k by omega]
        · rw [if_neg g]; exact (hi9 h k (by omega)).symm
      · rw [if_neg q]
        by_cases g : k < 127
        · rw [if_pos g, e57, if_neg (by omega), if_pos g]
        · rw [if_neg g, if_neg g]
    unfold dOk
    rw [hW]
    refine ⟨⟨⟨a1, a2⟩, a3, a4⟩, ⟨by rw [hr 23 (by decide) (by decide)]; exact b1, by rw [hr 23 (by decide) (by decide)]; exact b2⟩, ⟨by rw [hr 0 (by decide) (by decide)]; exact c1, by rw [hr 12 (by decide) (by decide)]; exact c2⟩, ⟨⟨by rw [hr 0 (by decide) (by decide)]; exact d1, d2⟩, fun k hk2 => by rw [hr 51 (by decide) (by decide), hr 52 (by decide) (by decide)]; exact d3 k hk2, fun i j hi hj => by rw [hr 51 (by decide) (by decide), hr 52 (by decide) (by decide)]; exact d4 i j hi hj⟩, ⟨by rw [hr 0 (by decide) (by decide)]; exact e1, by rw [hr 28 (by decide) (by decide)]; exact e2⟩, ⟨fun j hj => ?_, fun j hj ej => ?_, fun j hj => ?_⟩, g⟩
    · rw [e56]
      by_cases q : j = i
      · rw [q, zu_s]; exact Or.inr ⟨n, Nat.le_refl _, o16 h⟩
      · rw [zu_n _ _ _ q]; exact f1 j hj
    · rw [kc]
      by_cases q : j = i
      · rw [if_pos q]; exact ⟨b1, b2⟩
      · rw [if_neg q]
        rw [e56, zu_n _ _ _ q] at ej
        exact f2 j hj ej
    · rw [e57]
      by_cases q : j = i
      · subst q
        rw [if_pos (by omega), show 127 * j + 2 - 127 * j = 2 by omega]
        obtain ⟨bb, hb1, hb2⟩ := b1.bk
        rw [hb2, nI_clamp (by omega)]
        exact hb1
      · rw [if_neg (by omega)]; exact f3 j hj
  · rw [if_neg e]
    try dsimp only
    exact h
theorem d_row0 {k : Nat} {v : Int32} (h : dOk D R no n np ro B) (hk2 : k = 29) (hv : ∃ t, t ≤ 60 ∧ v = nI t) : dOk (zw D 0 k v) R no n np ro B := by
  subst hk2
  obtain ⟨⟨⟨a1, a2⟩, a3, a4⟩, ⟨b1, b2⟩, ⟨c1, c2⟩, ⟨⟨d1, d2⟩, d3, d4⟩, ⟨e1, e2⟩, ⟨f1, f2, f3⟩, g⟩ := h
  have hW : wld (zw D 0 29 v) = wld D := wld_zw rfl
  unfold dOk
  rw [hW]
  have e0 : ∀ j, j ≠ 29 → zw D 0 29 v 0 j = D 0 j := fun j hj => by rw [zw_a, zu_n _ _ _ hj]
  have hr : ∀ a, a ≠ 0 → zw D 0 29 v a = D a := fun a ha => zw_n _ _ _ _ ha
  have ek : ∀ i, kcut (zw D 0 29 v) i = kcut D i := fun i => by unfold kcut; rw [hr 57 (by decide)]
  refine ⟨⟨⟨a1, a2⟩, a3, a4⟩, ⟨by rw [hr 23 (by decide)]; exact b1, by rw [hr 23 (by decide)]; exact b2⟩, ⟨by rw [e0 37 (by decide)]; exact c1, by rw [hr 12 (by decide)]; exact c2⟩, ⟨⟨by rw [e0 50 (by decide)]; exact d1, d2⟩, fun k hk2 => by rw [hr 51 (by decide), hr 52 (by decide)]; exact d3 k hk2, fun i j hi hj => by rw [hr 51 (by decide), hr 52 (by decide)]; exact d4 i j hi hj⟩, ⟨by rw [zw_s]; exact hv, by rw [hr 28 (by decide)]; exact e2⟩, ⟨by rw [hr 56 (by decide)]; exact f1, fun i hi e => ?_, by rw [hr 57 (by decide)]; exact f3⟩, g⟩
  rw [hr 56 (by decide)] at e
  rw [ek]
  exact f2 i hi e
theorem d_end (h : dOk D R no n np ro B) {x : Int32} : dOk (fEnd D R x).2.1 (fEnd D R x).2.2 no n np ro B := by
  unfold fEnd
  split
  all_goals try dsimp only
  · next e =>
    obtain ⟨t, ht, e2⟩ := h.2.2.2.2.1.1
    rw [e2, z_ti (by omega)] at e
    obtain ⟨k, hk2, rfl⟩ := rB_k (hi := t) e (by omega)
    exact d_row0 h rfl ⟨k, by omega, rfl⟩
  · exact h
theorem sgn_28 {v : Int32} {t : Nat} (h : ∀ j, j < 60 → ∃ u, u < 256 ∧ D 28 j = nI u) : ∀ k j, j < 60 → ∃ u, u < 256 ∧ sgnT D v t k 28 j = nI u := by
  intro k
  induction k with
  | zero => exact h
  | succ k ih =>
    intro j hj
    rw [sgnT, zw_a]
    by_cases e : j = t + k
    · rw [e, zu_s]
      obtain ⟨q, hq, e2⟩ := pk_andE (v >>> (nI (24 - 8 * k) &&& 31)) (m := nI 255) 8 (by decide)
      exact ⟨q, hq, e2⟩
    · rw [zu_n _ _ _ e]; exact ih j hj
theorem d_sign (h : dOk D R no n np ro B) {v : Int32} : dOk (fSign D R v).2.1 (fSign D R v).2.2 no n np ro B := by
  unfold fSign
  split
  all_goals try dsimp only
  · next e =>
    obtain ⟨t, ht, e2⟩ := h.2.2.2.2.1.1
    rw [e2] at e ⊢
    have ht2 : t ≤ 56 := (nI_leI (by omega) (by decide)).mp e
    rw [nI_add, nI_clamp (by omega)]
    have h2 : dOk (sgnT D v t 4) R no n np ro B := by
      obtain ⟨⟨⟨a1, a2⟩, a3, a4⟩, ⟨b1, b2⟩, ⟨c1, c2⟩, ⟨⟨d1, d2⟩, d3, d4⟩, ⟨e1, e2⟩, ⟨f1, f2, f3⟩, g⟩ := id h
      have hr : ∀ a, a ≠ 28 → sgnT D v t 4 a = D a := fun a ha => sgnT_c ha 4
      have hW : wld (sgnT D v t 4) = wld D := by
        funext a k
        by_cases e : a = 28
        · subst e; rfl
        · exact congrFun (wld_row (hr a e)) k
      have ek : ∀ i, kcut (sgnT D v t 4) i = kcut D i := fun i => by unfold kcut; rw [hr 57 (by decide)]
      unfold dOk
      rw [hW]
      refine ⟨⟨⟨a1, a2⟩, a3, a4⟩, ⟨by rw [hr 23 (by decide)]; exact b1, by rw [hr 23 (by decide)]; exact b2⟩, ⟨by rw [hr 0 (by decide)]; exact c1, by rw [hr 12 (by decide)]; exact c2⟩, ⟨⟨by rw [hr 0 (by decide)]; exact d1, d2⟩, fun k hk2 => by rw [hr 51 (by decide), hr 52 (by decide)]; exact d3 k hk2, fun i j hi hj => by rw [hr 51 (by decide), hr 52 (by decide)]; exact d4 i j hi hj⟩, ⟨by rw [hr 0 (by decide)]; exact e1, sgn_28 e2 4⟩, ⟨by rw [hr 56 (by decide)]; exact f1, fun i hi e => ?_, by rw [hr 57 (by decide)]; exact f3⟩, g⟩
      rw [hr 56 (by decide)] at e
      rw [ek]
      exact f2 i hi e
    exact d_row0 h2 rfl ⟨t + 4, by omega, rfl⟩
  · exact h
/-- a rule is told -/
theorem d_rule {ro2 : Option (List Nat)} (h : dOk D R no n np ro B) (hr : ∀ a k, a ≠ 25 → (a = 26 → k ≠ 0) → (a = 0 → k ≠ 29) → D2 a k = D a k) (h29 : D2 0 29 = nI 0) (hru : ruM (wld D2) ro2) : dOk D2 R no n np ro2 B := by
  obtain ⟨⟨⟨a1, a2⟩, a3, a4⟩, ⟨b1, b2⟩, ⟨c1, c2⟩, ⟨⟨d1, d2⟩, d3, d4⟩, ⟨e1, e2⟩, ⟨f1, f2, f3⟩, g⟩ := h
  have hw : ∀ a, a ≠ 25 → a ≠ 26 → a ≠ 0 → D2 a = D a := fun a q1 q2 q3 => funext fun k => hr a k q1 (fun e => absurd e q2) (fun e => absurd e q3)
  have h0 : ∀ k, k ≠ 29 → D2 0 k = D 0 k := fun k hk2 => hr 0 k (by decide) (fun e => absurd e (by decide)) (fun _ => hk2)
  have e37 := h0 37 (by decide)
  have e21 := hw 21 (by decide) (by decide) (by decide)
  have e57 := hw 57 (by decide) (by decide) (by decide)
  have e56 := hw 56 (by decide) (by decide) (by decide)
  have ek : ∀ i, kcut D2 i = kcut D i := fun i => by unfold kcut; rw [e57]
  refine ⟨⟨⟨wf_c a1 (h0 3 (by decide)) (h0 16 (by decide)) (hw 20 (by decide) (by decide) (by decide)) e21, hru⟩, ⟨?_, fun a b ha hb => ?_⟩, fun o ho => ?_⟩, ⟨?_, ?_⟩, ⟨e37.trans c1, ?_⟩, ⟨⟨(h0 50 (by decide)).trans d1, d2⟩, fun k hk2 => ?_, fun i j hi hj => ?_⟩, ⟨⟨0, by decide, h29⟩, fun j hj => ?_⟩, ⟨fun i hi => ?_, fun i hi e => ?_, fun i hi => ?_⟩, g⟩
  · obtain ⟨v, hv, e⟩ := a3.1
    exact ⟨v, hv, by rw [wld_at (h0 14 (by decide))]; exact e⟩
  · rw [wld_row (hw 13 (by decide) (by decide) (by decide))]; exact a3.2 a b ha hb
  · rw [wld_row (hw 7 (by decide) (by decide) (by decide))]; exact a4 o ho
  · rw [hw 23 (by decide) (by decide) (by decide)]; exact sf_c b1 e37 e21
  · rw [hw 23 (by decide) (by decide) (by decide)]; exact b2
  · rw [hw 12 (by decide) (by decide) (by decide)]; exact c2
  · rw [hw 51 (by decide) (by decide) (by decide), hw 52 (by decide) (by decide) (by decide)]; exact d3 k hk2
  · rw [hw 51 (by decide) (by decide) (by decide), hw 52 (by decide) (by decide) (by decide)]; exact d4 i j hi hj
  · rw [hw 28 (by decide) (by decide) (by decide)]; exact e2 j hj
  · rw [e56]; exact f1 i hi
  · rw [e56] at e; rw [ek]; exact ⟨sf_c (f2 i hi e).1 e37 e21, (f2 i hi e).2⟩
  · rw [e57]; exact f3 i hi
theorem fstB_no {f : Nat → Bool} : ∀ {m}, fstB f m = none → ∀ j, j < m → f j = false := by
  intro m
  induction m with
  | zero => exact fun _ j hj => absurd hj (Nat.not_lt_zero _)
  | succ m ih =>
    intro h j hj
    rw [fstB] at h
    split at h
    · cases h
    · next e =>
      split at h
      · cases h
      · next e2 =>
        by_cases q : j = m
        · subst q; simpa using e2
        · exact ih e j (by omega)
theorem d_pair {np2 : Nat} (h : dOk D R no n np ro B) {a b y : Int32} (h2 : (fPair D R np a b y).2.1 0 50 = nI np2) (hn2 : np2 ≤ 9) : dOk (fPair D R np a b y).2.1 (fPair D R np a b y).2.2 no n np2 ro B := by
  unfold fPair at h2 ⊢
  by_cases e : (oB D a && (oB D b && (!decide (a = b) && (rB y 1 99 && (!decide (D 0 50 = nI 9) && (fstB (pr1 D a b) np).isNone))))) = true
  · rw [if_pos e] at h2 ⊢
    try dsimp only at h2 ⊢
    obtain ⟨ka, ha, rfl⟩ := oB_k h.hw (and4 e).1
    obtain ⟨kb, hb, rfl⟩ := oB_k h.hw (and4 (and4 e).2).1
    have hF : fstB (pr1 D (nI ka) (nI kb)) np = none := by
      have q := (and4 (and4 (and4 (and4 (and4 e).2).2).2).2).2
      exact Option.isNone_iff_eq_none.mp q
    have o6 := h.hw.o6
    obtain ⟨⟨⟨a1, a2⟩, a3, a4⟩, ⟨b1, b2⟩, ⟨c1, c2⟩, ⟨⟨d1, d2⟩, d3, d4⟩, ⟨e1, e2⟩, ⟨f1, f2, f3⟩, g⟩ := id h
    have hr : ∀ x, x ≠ 0 → x ≠ 51 → x ≠ 52 → x ≠ 53 → zw (zw (zw (zw D 51 np (nI ka)) 52 np (nI kb)) 53 np y) 0 50 (D 0 50 + nI 1) x = D x := fun x q0 q1 q2 q3 => by rw [zw_n _ _ _ _ q0, zw_n _ _ _ _ q3, zw_n _ _ _ _ q2, zw_n _ _ _ _ q1]
    have h0 : ∀ k, k ≠ 50 → zw (zw (zw (zw D 51 np (nI ka)) 52 np (nI kb)) 53 np y) 0 50 (D 0 50 + nI 1) 0 k = D 0 k := fun k hk2 => by rw [zw_a, zu_n _ _ _ hk2, zw_n _ _ _ _ (by decide), zw_n _ _ _ _ (by decide), zw_n _ _ _ _ (by decide)]
    have e51 : zw (zw (zw (zw D 51 np (nI ka)) 52 np (nI kb)) 53 np y) 0 50 (D 0 50 + nI 1) 51 = zu (D 51) np (nI ka) := by rw [zw_n _ _ _ _ (by decide), zw_n _ _ _ _ (by decide), zw_n _ _ _ _ (by decide), zw_a]
    have e52 : zw (zw (zw (zw D 51 np (nI ka)) 52 np (nI kb)) 53 np y) 0 50 (D 0 50 + nI 1) 52 = zu (D 52) np (nI kb) := by rw [zw_n _ _ _ _ (by decide), zw_n _ _ _ _ (by decide), zw_a, zw_n _ _ _ _ (by decide)]
    obtain rfl : np2 = np + 1 := by
      rw [zw_s, d1, nI_add] at h2
      exact ((nI_eq (by omega) (by omega)).mp h2).symm
    have hW : wld (zw (zw (zw (zw D 51 np (nI ka)) 52 np (nI kb)) 53 np y) 0 50 (D 0 50 + nI 1)) = wld D := by rw [wld_zw rfl, wld_zw rfl, wld_zw rfl, wld_zw rfl]
    have ek : ∀ i, kcut (zw (zw (zw (zw D 51 np (nI ka)) 52 np (nI kb)) 53 np y) 0 50 (D 0 50 + nI 1)) i = kcut D i := fun i => by unfold kcut; rw [hr 57 (by decide) (by decide) (by decide) (by decide)]
    unfold dOk
    rw [hW]
    refine ⟨⟨⟨a1, a2⟩, a3, a4⟩, ⟨by rw [hr 23 (by decide) (by decide) (by decide) (by decide)]; exact b1, by rw [hr 23 (by decide) (by decide) (by decide) (by decide)]; exact b2⟩, ⟨by rw [h0 37 (by decide)]; exact c1, by rw [hr 12 (by decide) (by decide) (by decide) (by decide)]; exact c2⟩, ⟨⟨by rw [zw_s, d1, nI_add], hn2⟩, fun k hk2 => ?_, fun i j hi hj => ?_⟩, ⟨by rw [h0 29 (by decide)]; exact e1, by rw [hr 28 (by decide) (by decide) (by decide) (by decide)]; exact e2⟩, ⟨by rw [hr 56 (by decide) (by decide) (by decide) (by decide)]; exact f1, fun i hi e => ?_, by rw [hr 57 (by decide) (by decide) (by decide) (by decide)]; exact f3⟩, g⟩
    · rw [e51, e52]
      by_cases q : k = np
      · subst q; rw [zu_s, zu_s]; exact ⟨ka, kb, ha, hb, rfl, rfl⟩
      · rw [zu_n _ _ _ q, zu_n _ _ _ q]; exact d3 k (by omega)
    · rw [e51, e52]
      by_cases q : j = np
      · subst q
        rw [zu_s, zu_s, zu_n _ _ _ (by omega), zu_n _ _ _ (by omega)]
        have q2 := fstB_no hF i (by omega)
        unfold pr1 at q2
        intro q3
        rcases q3 with ⟨q4, q5⟩ | ⟨q4, q5⟩
        · rw [q4, q5] at q2; simp at q2
        · rw [q4, q5] at q2; simp at q2
      · rw [zu_n _ _ _ q, zu_n _ _ _ q, zu_n _ _ _ (by omega), zu_n _ _ _ (by omega)]; exact d4 i j hi (by omega)
    · rw [hr 56 (by decide) (by decide) (by decide) (by decide)] at e
      rw [ek]
      exact f2 i hi e
  · rw [if_neg e] at h2 ⊢
    have e2 : np2 = np := by
      try dsimp only at h2
      rw [h.2.2.2.1.1.1] at h2
      exact ((nI_eq (by have := h.2.2.2.1.1.2; omega) (by omega)).mp h2).symm
    rw [e2]
    exact h
end DOK
