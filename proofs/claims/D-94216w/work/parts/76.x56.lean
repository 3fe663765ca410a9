set_option maxRecDepth 100000
/-! THE COMPONENT, part 56: the cheapest way of a piece -/
section X56C
variable {G : zG} {d C Sl : Nat} {I D W : zI} {R : List Int64} {L : zL} {P : zR} {S : zT} {Q : zQ} {no n np : Nat} {s : zS} {oh ph : Nat → Nat} {ro : Option (List Nat)} {I0 : zI} {L0 : zL} {P0 : zR} {S0 : zT} {a p h0 m en NN born len b bK bc : Nat} {bv : Nat → Int32} {N1 K : Nat} {J : zI} {A B : Nat → Nat → Nat}
/-- the pay that is told -/
def bvC (NN : Nat) : Nat → Int32 := fun i => if i = NN then -1 else nI i
theorem bvC_1 {i : Nat} (hn : NN = 1000000) (hi : i ≤ NN) : bvC NN i = -1 ↔ i = NN := by
  unfold bvC
  by_cases e : i = NN
  · rw [if_pos e]; exact ⟨fun _ => e, fun _ => rfl⟩
  · rw [if_neg e]
    exact ⟨fun q => absurd q (nI_m1 (by omega)), fun q => absurd q e⟩
theorem bvC_lt {i j : Nat} (hn : NN = 1000000) (hi : i < NN) (hj : j < NN) : bvC NN i < bvC NN j ↔ i < j := by
  unfold bvC
  rw [if_neg (by omega), if_neg (by omega), Int32.lt_iff_toInt_lt, z_ti (by omega), z_ti (by omega)]
  omega
theorem wvC_le {W : zI} {H c : Nat} (hn : NN = 1000000) : wvC W p h0 H len born K c ≤ NN := by rw [hn]; exact bsC_le _
theorem wvC_no {W : zI} {H c : Nat} (hn : NN = 1000000) (hl0 : 0 < len) (hz : zbit (W 9 (dgR born K c K)) (W 17 p) = false) : wvC W p h0 H len born K c = NN := by rw [hn]; exact wvC_nz hl0 hz
/-- new things, from N1 on -/
theorem gS.ext {ci : Nat} {I2 : zI} {L2 : zL} {P2 : zR} {S2 : zT} (h : gS ci ph I0 L0 P0 S0 a p h0 m en bv NN born I L P S b bK bc) (hN : 7000 ≤ N1) (hs : ∀ x, N1 ≤ x → S x = none) (f : ∀ y, y < N1 → (I2 y = I y ∧ L2 y = L y) ∧ P2 y = P y ∧ S2 y = S y) (hs2 : ∃ N, 7000 ≤ N ∧ ∀ x, N ≤ x → S2 x = none) : gS ci ph I0 L0 P0 S0 a p h0 m en bv NN born I2 L2 P2 S2 b bK bc := by
  obtain ⟨⟨⟨f1, ⟨f2, f3, f4, f5⟩, -⟩, a2, a3⟩, ⟨b1, b2, b3⟩, ⟨c1, c2, c3⟩, d1, d2⟩ := h
  have lt : ∀ {x : Nat} {v}, S x = some v → x < N1 := fun {x v} e => by
    apply Nat.lt_of_not_le
    intro q
    rw [hs x q] at e
    cases e
  have la := lt b2
  have la1 := lt b3
  obtain ⟨⟨i100, l100⟩, p100, s100⟩ := f 100 (by omega)
  obtain ⟨⟨i302, l302⟩, p302, s302⟩ := f 302 (by omega)
  obtain ⟨⟨ia, -⟩, pa, sa⟩ := f a la
  obtain ⟨⟨ia1, -⟩, -, sa1⟩ := f (a + 1) la1
  refine ⟨⟨⟨fun x hx => ?_, ⟨fun k hk => by rw [i100]; exact f2 k hk, fun k hk => by rw [(f 220 (by omega)).2.1]; exact f3 k hk, (f 222 (by omega)).2.1.trans f4, (f 270 (by omega)).2.1.trans f5⟩, hs2⟩, i100.trans a2, l302.trans a3⟩, ⟨b1, sa.trans b2, sa1.trans b3⟩, ⟨by rw [pa]; exact c1, by rw [ia]; exact c2, fun q => ⟨by rw [ia]; exact (c3 q).1, by rw [pa]; exact (c3 q).2⟩⟩, by rw [ia]; exact d1, fun q => ?_⟩
  · obtain ⟨e1, e2⟩ := f1 x hx
    have lx : x < N1 := by
      rcases hx with q | q
      · omega
      · apply Nat.lt_of_not_le
        intro q2
        rw [hs x q2] at e1
        exact q e1.symm
    obtain ⟨⟨ix, lx2⟩, px, sx⟩ := f x lx
    refine ⟨sx.trans e1, fun q => ?_⟩
    obtain ⟨g1, g2, g3⟩ := e2 q
    exact ⟨px.trans g1, fun q => ix.trans (g2 q), fun q => lx2.trans (g3 q)⟩
  · obtain ⟨r, ⟨r1, r2, r3⟩, r4, r5⟩ := d2 q
    obtain ⟨⟨ir, -⟩, -, sr⟩ := f r (lt r4)
    exact ⟨r, ⟨by rw [pa]; exact r1, r2, r3⟩, sr.trans r4, by rw [ir]; exact r5⟩
/-- the rows of pays, at N1 + 1, say A -/
def rwP (N1 K : Nat) (J : zI) (A : Nat → Nat → Nat) : Prop := ∀ k, k ≤ K → ∀ l, l < 105 → J (N1 + 1 + k) l = nI (A k l)
def upA (A : Nat → Nat → Nat) (k l v : Nat) : Nat → Nat → Nat := fun k2 l2 => if k2 = k ∧ l2 = l then v else A k2 l2
theorem rwP.st {k l v : Nat} (h : rwP N1 K J A) : rwP N1 K (zw J (N1 + 1 + k) l (nI v)) (upA A k l v) := fun k2 hk l2 hl => by
  unfold upA
  by_cases e : k2 = k
  · subst e
    rw [zw_a]
    by_cases e2 : l2 = l
    · subst e2; rw [zu_s, if_pos ⟨rfl, rfl⟩]
    · rw [zu_n _ _ _ e2, if_neg (fun q => e2 q.2)]; exact h k2 hk l2 hl
  · rw [zw_n _ _ _ _ (by omega), if_neg (fun q => e q.1)]; exact h k2 hk l2 hl
theorem rwP.eq (h : rwP N1 K J A) (e : ∀ k, k ≤ K → ∀ l, l < 105 → A k l = B k l) : rwP N1 K J B := fun k hk l hl => (h k hk l hl).trans (by rw [e k hk l hl])
/-- rows below k, and of k the places below t, are A; the rest B -/
def upS (A B : Nat → Nat → Nat) (k t : Nat) : Nat → Nat → Nat := fun k2 l2 => if k2 < k ∨ (k2 = k ∧ l2 < t) then A k2 l2 else B k2 l2
theorem upS_s {k t v k2 l2 : Nat} (hv : v = A k t) : upA (upS A B k t) k t v k2 l2 = upS A B k (t + 1) k2 l2 := by
  unfold upA upS
  by_cases h : k2 = k ∧ l2 = t
  · rw [if_pos h, if_pos (by omega), h.1, h.2]; exact hv
  · rw [if_neg h]
    by_cases g : k2 < k ∨ (k2 = k ∧ l2 < t)
    · rw [if_pos g, if_pos (by omega)]
    · rw [if_neg g, if_neg (by omega)]
theorem upS_n {k t k2 l2 : Nat} (hB : ∀ l, t ≤ l → l < 105 → B k l = A k l) (hl : l2 < 105) : upS A B k t k2 l2 = upS A B (k + 1) 0 k2 l2 := by
  unfold upS
  by_cases g : k2 < k ∨ (k2 = k ∧ l2 < t)
  · rw [if_pos g, if_pos (by omega)]
  · rw [if_neg g]
    by_cases e : k2 = k
    · subst e; rw [if_pos (by omega)]; exact hB l2 (by omega) hl
    · rw [if_neg (by omega)]
theorem upS_b {k t l : Nat} (hl : t ≤ l) : upS A B k t k l = B k l := by unfold upS; rw [if_neg (by omega)]
theorem upS_z {k2 l2 : Nat} : upS A B 0 0 k2 l2 = B k2 l2 := by unfold upS; rw [if_neg (by omega)]
theorem upS_K {k2 l2 : Nat} (h : k2 ≤ K) : upS A B (K + 1) 0 k2 l2 = A k2 l2 := by unfold upS; rw [if_pos (by omega)]
/-- rows above k, and of k the places below t, are A; the rest B -/
def dnS (A B : Nat → Nat → Nat) (k t : Nat) : Nat → Nat → Nat := fun k2 l2 => if k < k2 ∨ (k2 = k ∧ l2 < t) then A k2 l2 else B k2 l2
theorem dnS_s {k t v k2 l2 : Nat} (hv : v = A k t) : upA (dnS A B k t) k t v k2 l2 = dnS A B k (t + 1) k2 l2 := by
  unfold upA dnS
  by_cases h : k2 = k ∧ l2 = t
  · rw [if_pos h, if_pos (by omega), h.1, h.2]; exact hv
  · rw [if_neg h]
    by_cases g : k < k2 ∨ (k2 = k ∧ l2 < t)
    · rw [if_pos g, if_pos (by omega)]
    · rw [if_neg g, if_neg (by omega)]
theorem dnS_n {k t k2 l2 : Nat} (hB : ∀ l, t ≤ l → l < 105 → B (k + 1) l = A (k + 1) l) (hl : l2 < 105) : dnS A B (k + 1) t k2 l2 = dnS A B k 0 k2 l2 := by
  unfold dnS
  by_cases g : k + 1 < k2 ∨ (k2 = k + 1 ∧ l2 < t)
  · rw [if_pos g, if_pos (by omega)]
  · rw [if_neg g]
    by_cases e : k2 = k + 1
    · subst e; rw [if_pos (by omega)]; exact hB l2 (by omega) hl
    · rw [if_neg (by omega)]
theorem dnS_0 {k t k2 l2 : Nat} (h : ∀ l, l < t → A k l = B k l) : dnS A B k 0 k2 l2 = dnS A B k t k2 l2 := by
  unfold dnS
  by_cases g : k < k2
  · rw [if_pos (by omega), if_pos (by omega)]
  · rw [if_neg (by omega)]
    by_cases e : k2 = k ∧ l2 < t
    · rw [if_pos (by omega), e.1]; exact (h l2 e.2).symm
    · rw [if_neg (by omega)]
theorem dnS_b {k t k2 l : Nat} (hk : k2 ≤ k) (hl : t ≤ l) : dnS A B k t k2 l = B k2 l := by unfold dnS; rw [if_neg (by omega)]
theorem dnS_l {k t k2 l : Nat} (hk : k2 < k) : dnS A B k t k2 l = B k2 l := by unfold dnS; rw [if_neg (by omega)]
theorem dnS_K {k2 l2 : Nat} (h : k2 ≤ K) : dnS A B K 0 k2 l2 = B k2 l2 := by unfold dnS; rw [if_neg (by omega)]
theorem dnS_z {k2 l2 : Nat} (h : ∀ l, A 0 l = B 0 l) : dnS A B 0 0 k2 l2 = A k2 l2 := by
  unfold dnS
  by_cases g : 0 < k2
  · rw [if_pos (by omega)]
  · rw [if_neg (by omega), show k2 = 0 by omega]; exact (h l2).symm
theorem awC_s {W : zI} {h k l : Nat} {r : Nat → Nat} {X : Nat → Nat → Nat} (hw : wkO W p (r k) h = true) (hl : l < 104) : awC W p h r X k l = min (X k l) (X k (l + 1) + pyN W (r k)) := if_pos ⟨hw, hl⟩
theorem awC_n {W : zI} {h k l : Nat} {r : Nat → Nat} {X : Nat → Nat → Nat} (hw : wkO W p (r k) h = false ∨ ¬ l < 104) : awC W p h r X k l = X k l := if_neg (fun q => by rcases hw with e | e; rw [e] at q; exact absurd q.1 (by decide); exact e q.2)
theorem wOf (hO : wRw S P I 200 W no oh) {o : Nat} (ho : o < no) (hy : pyf W no) : I (oh o) 3 = nI (pyN W o) := (hO.2.2 o ho).2.2.1.2.2.2.trans (pyf_b hy ho).1
set_option maxHeartbeats 4000000 in
theorem c_J10_fill {x n : Nat} {v : Int32} (hS : S x = some (.inr (.int, n))) (hn : n < 2 ^ 30) (k : ∀ I2, (∀ j, j < n → I2 x j = v) → (∀ y, y ≠ x → I2 y = I y) → Q (.inl none) I2 L P S) : Zm G mJ10_fill 0 C Sl [.ref x, .int v] I L P S Q := by
  refine Z_entry (lv := [_, _, _, _]) (Nat.le_of_ble_eq_true rfl) rfl ?_
  refine Z_iconst (nI 0) dJ10_fill_0 rfl ?_
  refine Z_istore_n (lv' := [_, _, _, _]) dJ10_fill_1 rfl rfl (Nat.le_of_ble_eq_true rfl) ?_
  refine Z_aload_n dJ10_fill_2 rfl ?_
  refine Z_alen hS (by simp [zTys]) dJ10_fill_3 ?_
  refine Z_istore_n (lv' := [_, _, _, _]) dJ10_fill_4 rfl rfl (Nat.le_of_ble_eq_true rfl) ?_
  have lp5 : ∀ i, i ≤ n → ∀ I2, (∀ j, j < i → I2 x j = v) → (∀ y, y ≠ x → I2 y = I y) → Zj G mJ10_fill 0 C Sl 5 [.ref x, .int v, .int (nI i), .int (nI n)] [] I2 L P S Q := by
    refine zloop (n) (fun i => ∀ I2, (∀ j, j < i → I2 x j = v) → (∀ y, y ≠ x → I2 y = I y) → Zj G mJ10_fill 0 C Sl 5 [.ref x, .int v, .int (nI i), .int (nI n)] [] I2 L P S Q) (fun i hi ih => ?_)
    intro I2 g1 g2
    show Zj _ _ _ _ _ _ _ _ _ _ _ _ _
    refine Z_iload_n dJ10_fill_5 rfl ?_
    refine Z_iload_n dJ10_fill_6 rfl ?_
    refine Z_icmpgeN 20 dJ10_fill_7 rfl (by omega) (by omega) (fun c7 => ?_) (fun c7 => ?_)
    · have ei : i = n := by omega
      rw [ei] at g1
      refine Z_return dJ10_fill_20 rfl ?_
      exact k _ g1 g2
    · refine Z_aload_n dJ10_fill_10 rfl ?_
      refine Z_iload_n dJ10_fill_11 rfl ?_
      refine Z_iload_n dJ10_fill_12 rfl ?_
      refine Z_iast hS (zix_nI (by omega) (by omega)) dJ10_fill_13 ?_
      refine Z_iincN (a := _) (k := 1) (lv' := [_, _, _, _]) dJ10_fill_14 rfl rfl rfl rfl ?_
      refine Z_goto 5 dJ10_fill_17 rfl ?_
      refine ih (by omega) _ (fun j hj => ?_) (fun y hy => (zw_n _ _ _ _ hy).trans (g2 y hy))
      rw [zw_a]
      by_cases e : j = i
      · subst e; rw [zu_s]
      · rw [zu_n _ _ _ e]; exact g1 j (by omega)
  exact lp5 0 (by omega) _ (fun j hj => absurd hj (by omega)) (fun _ _ => rfl)
set_option maxHeartbeats 16000000 in
theorem c_X17_worth (hX0 : xR D R no n np ro oh ph I0 L0 P0 S0) (hG : gS 15 ph I0 L0 P0 S0 a p h0 m en (bvC NN) NN born I L P S b bK bc) (hp : p < n) (hm : m ≤ 2) {K c : Nat} (hK : K ≤ m) (hv : vr no born K c) (hoff : ∀ j, j ≤ K → I (a + 1) j = nI (dgR born K c j)) (hbn : born < no) (hkn : knf (wld D) no) (hl : wld D 18 p = nI len) (hl0 : 0 < len) (hl6 : len ≤ 60) (hh : h0 ≤ en) (he : en ≤ 2399) (hNN : NN = 1000000) (hpay : pyf (wld D) no) (kk : ∀ I2 L2 P2 S2, gS 15 ph I0 L0 P0 S0 a p h0 m en (bvC NN) NN born I2 L2 P2 S2 b bK bc → I2 (a + 1) = I (a + 1) → Q (.inl (some (.int (bvC NN (wvC (wld D) p h0 (en - h0) len born K c))))) I2 L2 P2 S2) : Zm G mX17_worth 5 (C + 5) (Sl + 320) [.ref a, .int (nI K)] I L P S Q := by
  obtain ⟨N1, hN1, hN2⟩ := hG.N
  have ltN : ∀ {x : Nat} {v}, S x = some v → x < N1 := fun {x v} e => Nat.lt_of_not_le (fun q => by rw [hN2 x q] at e; cases e)
  have na := ltN hG.2.1.2.1
  have na1 := ltN hG.2.1.2.2
  have hrn : ∀ j, j ≤ K → (dgR born K c) j < no := fun j hj => by
    cases j with
    | zero => exact hbn
    | succ j => exact (hv.2.2 j (by omega)).1
  refine Z_entry (lv := [_, _, _, _, _, _, _, _]) (Nat.le_of_ble_eq_true rfl) rfl ?_
  refine Z_iload_n dX17_worth_0 rfl ?_
  refine Z_iconst (nI 1) dX17_worth_1 rfl ?_
  refine Z_iaddN dX17_worth_2 ?_
  refine Z_bipush (nI 105) dX17_worth_3 rfl ?_
  refine Zj.less (C := C + (1 + (K + 1))) (Sl := Sl + ((K + 1) + (K + 1) * 105)) ?_ (Nat.le_refl _) (by omega) (by omega)
  refine Z_multi (n := K + 1) (k := 105) N1 (fun j _ => hN2 (N1 + j) (by omega)) q982 q132 q165 (by omega) (by decide) dX17_worth_5 ?_
  have hSN0 := mlS_a (S := S) (a := N1) (n := K + 1) (k := 105) (K + 1)
  have hSR0 : ∀ k, k < K + 1 → _ := fun k hk => mlS_i (S := S) (a := N1) (n := K + 1) (k := 105) (j := k) (K + 1) hk
  have hPN0 : ∀ k, k < K + 1 → mlP P N1 (K + 1) N1 k = some (N1 + 1 + k) := fun k hk => by rw [mlP_a, if_pos hk]
  have hL20 : ∀ y, y < N1 → mlF L 0 N1 (K + 1) y = L y := fun y hy => mlF_o _ (by omega) (by omega)
  have hP20 : ∀ y, y < N1 → mlP P N1 (K + 1) y = P y := fun y hy => mlP_o _ (by omega) (by omega)
  have hS20 : ∀ y, y < N1 → mlS S N1 (K + 1) 105 (K + 1) y = S y := fun y hy => mlS_o _ (by omega) (by omega)
  have hI20 : ∀ y, y < N1 → mlF I 0 N1 (K + 1) y = I y := fun y hy => mlF_o _ (by omega) (by omega)
  have hSn0 : ∃ N, 7000 ≤ N ∧ ∀ x, N ≤ x → mlS S N1 (K + 1) 105 (K + 1) x = none := ⟨N1 + K + 2, by omega, fun x hx => (mlS_o _ (by omega) (by omega)).trans (hN2 x (by omega))⟩
  obtain ⟨I9, eI9⟩ : ∃ I9, mlF I 0 N1 (K + 1) = I9 := ⟨_, rfl⟩
  obtain ⟨L2, eL9⟩ : ∃ L2, mlF L 0 N1 (K + 1) = L2 := ⟨_, rfl⟩
  obtain ⟨P2, eP9⟩ : ∃ P2, mlP P N1 (K + 1) = P2 := ⟨_, rfl⟩
  obtain ⟨S2, eS9⟩ : ∃ S2, mlS S N1 (K + 1) 105 (K + 1) = S2 := ⟨_, rfl⟩
  rw [eI9] at hI20
  rw [eL9] at hL20
  rw [eP9] at hP20 hPN0
  rw [eS9] at hS20 hSN0 hSn0
  rw [eI9, eL9, eP9, eS9]
  have hSR : ∀ k, k < K + 1 → S2 (N1 + 1 + k) = some (.inr (.int, 105)) := fun k hk => by rw [← eS9]; exact hSR0 k hk
  have hSN := hSN0
  have hPN := hPN0
  have hL2 := hL20
  have hP2 := hP20
  have hS2 := hS20
  have hSn := hSn0
  refine Z_astore_n (lv' := [_, _, _, _, _, _, _, _]) dX17_worth_9 rfl rfl (Nat.le_of_ble_eq_true rfl) ?_
  refine Z_aload_n dX17_worth_10 rfl ?_
  refine Z_astore_n (lv' := [_, _, _, _, _, _, _, _]) dX17_worth_11 rfl rfl (Nat.le_of_ble_eq_true rfl) ?_
  refine Z_aload_n dX17_worth_12 rfl ?_
  refine Z_alen hSN (by simp [zTys]) dX17_worth_13 ?_
  refine Z_istore (lv' := [_, _, _, _, _, _, _, _]) dX17_worth_14 rfl rfl (Nat.le_of_ble_eq_true rfl) ?_
  refine Z_iconst (nI 0) dX17_worth_16 rfl ?_
  refine Z_istore (lv' := [_, _, _, _, _, _, _, _]) dX17_worth_17 rfl rfl (Nat.le_of_ble_eq_true rfl) ?_
  have lp19 : ∀ i, i ≤ K + 1 → ∀ J, (∀ x, x < N1 → J x = I x) → (∀ k, k < i → ∀ l, l < 105 → J (N1 + 1 + k) l = nI 1000000) → Zj G mX17_worth 5 C Sl 19 [.ref a, .int (nI K), .ref N1, .ref N1, .int (nI (K + 1)), .int (nI i), .retAddr 0, .retAddr 0] [] J L2 P2 S2 Q := by
    refine zloop (K + 1) (fun i => ∀ J, (∀ x, x < N1 → J x = I x) → (∀ k, k < i → ∀ l, l < 105 → J (N1 + 1 + k) l = nI 1000000) → Zj G mX17_worth 5 C Sl 19 [.ref a, .int (nI K), .ref N1, .ref N1, .int (nI (K + 1)), .int (nI i), .retAddr 0, .retAddr 0] [] J L2 P2 S2 Q) (fun i hi ih => ?_)
    intro J g1 g2
    show Zj _ _ _ _ _ _ _ _ _ _ _ _ _
    have hG2 : gS 15 ph I0 L0 P0 S0 a p h0 m en (bvC NN) NN born J L2 P2 S2 b bK bc := hG.ext hN1 hN2 (fun y hy => ⟨⟨g1 y hy, hL2 y hy⟩, hP2 y hy, hS2 y hy⟩) hSn
    have r1 : rwX J L2 R := hX0.2.2.1.2.fX (by rw [hG2.1.2.1]) hG2.1.2.2
    have hX := hX0.go hG2.1.1 r1
    have hx := hX.1.x
    have hO := hX.1.wd
    have hR := hX.1.wr
    have hPc := hX.1.pc
    have hw := hX.1.hw
    have h6 := hw.o6
    have hn8 := hw.n8
    have hOf : ∀ j, j ≤ K → J (a + 1) j = nI ((dgR born K c) j) := fun j hj => by rw [g1 _ na1]; exact hoff j hj
    refine Z_iload dX17_worth_19 rfl ?_
    refine Z_iload dX17_worth_21 rfl ?_
    refine Z_icmpgeN 45 dX17_worth_23 rfl (by omega) (by omega) (fun c23 => ?_) (fun c23 => ?_)
    · have ei : i = K + 1 := by omega
      rw [ei] at g2
      refine Z_aload_n dX17_worth_45 rfl ?_
      refine Z_iconst (nI 0) dX17_worth_46 rfl ?_
      refine Z_aald (r := (N1 + 1 + 0)) hSN (by simp [zTys]) rfl (zix_nI (by omega) (by omega)) (hPN 0 (by omega)) dX17_worth_47 ?_
      refine Z_aload_n dX17_worth_48 rfl ?_
      refine Z_getR (r := (ph p)) hG2.2.1.2.1 fX17_28_15 dX17_worth_49 rfl hG2.2.2.1.1.1 ?_
      refine Z_getI (hPc p (by omega)).2.1 fX17_32_6 dX17_worth_52 rfl ?_
      refine Z_re (y := nI (len)) ((hPc p hp).2.2.1.2.1.trans hl) ?_
      refine Z_iconst (nI 0) dX17_worth_55 rfl ?_
      refine Z_iast (hSR 0 (by omega)) (zix_nI (by omega) (by omega)) dX17_worth_56 ?_
      have hz9 : True := trivial
      refine Z_ldc q983 dX17_worth_57 ?_
      refine Z_re (y := nI 1000000) rfl ?_
      refine Z_istore_n (lv' := [_, _, _, _, _, _, _, _]) dX17_worth_59 rfl rfl (Nat.le_of_ble_eq_true rfl) ?_
      refine Z_aload_n dX17_worth_60 rfl ?_
      refine Z_getI hG2.2.1.2.1 fX17_37_15 dX17_worth_61 rfl ?_
      refine Z_re (y := nI (h0)) ((congrFun (zw_n _ _ _ _ (by omega)) 1).trans hG2.2.2.1.2.1) ?_
      refine Z_istore (lv' := [_, _, _, _, _, _, _, _]) dX17_worth_64 rfl rfl (Nat.le_of_ble_eq_true rfl) ?_
      have lp66 : ∀ i, i ≤ en - h0 → ∀ J, (∀ x, x < N1 → J x = I x) → rwP N1 K J (lfC (wld D) p h0 len (dgR born K c) i) → Zj G mX17_worth 5 C Sl 66 [.ref a, .int (nI K), .ref N1, .int (nI (bsC (wld D) p h0 len (dgR born K c) K i)), .int (nI (h0 + i)), .retAddr 0, .retAddr 0, .retAddr 0] [] J L2 P2 S2 Q := by
        refine zloop (en - h0) (fun i => ∀ J, (∀ x, x < N1 → J x = I x) → rwP N1 K J (lfC (wld D) p h0 len (dgR born K c) i) → Zj G mX17_worth 5 C Sl 66 [.ref a, .int (nI K), .ref N1, .int (nI (bsC (wld D) p h0 len (dgR born K c) K i)), .int (nI (h0 + i)), .retAddr 0, .retAddr 0, .retAddr 0] [] J L2 P2 S2 Q) (fun i hi ih => ?_)
        intro J g1 g3
        show Zj _ _ _ _ _ _ _ _ _ _ _ _ _
        have hG2 : gS 15 ph I0 L0 P0 S0 a p h0 m en (bvC NN) NN born J L2 P2 S2 b bK bc := hG.ext hN1 hN2 (fun y hy => ⟨⟨g1 y hy, hL2 y hy⟩, hP2 y hy, hS2 y hy⟩) hSn
        have r1 : rwX J L2 R := hX0.2.2.1.2.fX (by rw [hG2.1.2.1]) hG2.1.2.2
        have hX := hX0.go hG2.1.1 r1
        have hx := hX.1.x
        have hO := hX.1.wd
        have hR := hX.1.wr
        have hPc := hX.1.pc
        have hw := hX.1.hw
        have h6 := hw.o6
        have hn8 := hw.n8
        have hOf : ∀ j, j ≤ K → J (a + 1) j = nI ((dgR born K c) j) := fun j hj => by rw [g1 _ na1]; exact hoff j hj
        have v0 := bsC_le (W := (wld D)) (p := p) (h0 := h0) (len := len) (r := (dgR born K c)) (K := K) i
        refine Z_iload dX17_worth_66 rfl ?_
        refine Z_aload_n dX17_worth_68 rfl ?_
        refine Z_getI hG2.2.1.2.1 fX17_15_15 dX17_worth_69 rfl ?_
        refine Z_re (y := nI (en)) (hG2.2.2.1.2.2 rfl).1 ?_
        refine Z_icmpgeN 269 dX17_worth_72 rfl (by omega) (by omega) (fun c72 => ?_) (fun c72 => ?_)
        · have ei : i = en - h0 := by omega
          refine Z_iload_n dX17_worth_269 rfl ?_
          refine Z_ldc q983 dX17_worth_270 ?_
          refine Z_re (y := nI 1000000) rfl ?_
          refine Z_icmpneN 279 dX17_worth_272 rfl (by omega) (by omega) (fun c272 => ?_) (fun c272 => ?_)
          · refine Z_iload_n dX17_worth_279 rfl ?_
            refine Z_ireturn dX17_worth_280 rfl rfl ?_
            exact zQe (by show _ = bvC NN (wvC (wld D) p h0 (en - h0) len born K c); unfold bvC wvC; rw [← ei, if_neg (by omega)]) (kk _ _ _ _ hG2 (g1 _ na1))
          · refine Z_iconst (-1) dX17_worth_275 rfl ?_
            refine Z_goto 280 dX17_worth_276 rfl ?_
            refine Z_ireturn dX17_worth_280 rfl rfl ?_
            exact zQe (by show -1 = bvC NN (wvC (wld D) p h0 (en - h0) len born K c); unfold bvC; rw [if_pos (by unfold wvC; rw [← ei]; omega)]) (kk _ _ _ _ hG2 (g1 _ na1))
        · refine Z_iconst (nI 0) dX17_worth_75 rfl ?_
          refine Z_istore (lv' := [_, _, _, _, _, _, _, _]) dX17_worth_76 rfl rfl (Nat.le_of_ble_eq_true rfl) ?_
          have lp78 : ∀ k, k ≤ K + 1 → ∀ J4, (∀ x, x < N1 → J4 x = I x) → rwP N1 K J4 (upS (awC (wld D) p (h0 + i) (dgR born K c) (lfC (wld D) p h0 len (dgR born K c) i)) (lfC (wld D) p h0 len (dgR born K c) i) k 0) → Zj G mX17_worth 5 C Sl 78 [.ref a, .int (nI K), .ref N1, .int (nI (bsC (wld D) p h0 len (dgR born K c) K i)), .int (nI (h0 + i)), .int (nI k), .retAddr 0, .retAddr 0] [] J4 L2 P2 S2 Q := by
            refine zloop (K + 1) (fun k => ∀ J4, (∀ x, x < N1 → J4 x = I x) → rwP N1 K J4 (upS (awC (wld D) p (h0 + i) (dgR born K c) (lfC (wld D) p h0 len (dgR born K c) i)) (lfC (wld D) p h0 len (dgR born K c) i) k 0) → Zj G mX17_worth 5 C Sl 78 [.ref a, .int (nI K), .ref N1, .int (nI (bsC (wld D) p h0 len (dgR born K c) K i)), .int (nI (h0 + i)), .int (nI k), .retAddr 0, .retAddr 0] [] J4 L2 P2 S2 Q) (fun k hk ihk => ?_)
            intro J4 g1 g2
            show Zj _ _ _ _ _ _ _ _ _ _ _ _ _
            have hG2 : gS 15 ph I0 L0 P0 S0 a p h0 m en (bvC NN) NN born J4 L2 P2 S2 b bK bc := hG.ext hN1 hN2 (fun y hy => ⟨⟨g1 y hy, hL2 y hy⟩, hP2 y hy, hS2 y hy⟩) hSn
            have r1 : rwX J4 L2 R := hX0.2.2.1.2.fX (by rw [hG2.1.2.1]) hG2.1.2.2
            have hX := hX0.go hG2.1.1 r1
            have hx := hX.1.x
            have hO := hX.1.wd
            have hR := hX.1.wr
            have hPc := hX.1.pc
            have hw := hX.1.hw
            have h6 := hw.o6
            have hn8 := hw.n8
            have hOf : ∀ j, j ≤ K → J4 (a + 1) j = nI ((dgR born K c) j) := fun j hj => by rw [g1 _ na1]; exact hoff j hj
            have v3 := aw_c (W := (wld D)) (p := p) (h := h0 + i) (r := (dgR born K c)) (P := (lfC (wld D) p h0 len (dgR born K c) i)) (k := K) (l := 0) (lfC_le i)
            refine Z_iload dX17_worth_78 rfl ?_
            refine Z_iload_n dX17_worth_80 rfl ?_
            refine Z_icmpgtN 174 dX17_worth_81 rfl (by omega) (by omega) (fun c81 => ?_) (fun c81 => ?_)
            · have ek : k = K + 1 := by omega
              refine Z_iload_n dX17_worth_174 rfl ?_
              refine Z_aload_n dX17_worth_175 rfl ?_
              refine Z_iload_n dX17_worth_176 rfl ?_
              refine Z_aald (r := (N1 + 1 + K)) hSN (by simp [zTys]) rfl (zix_nI (by omega) (by omega)) (hPN K (by omega)) dX17_worth_177 ?_
              refine Z_iconst (nI 0) dX17_worth_178 rfl ?_
              refine Z_iald (hSR K (by omega)) (zix_nI (by omega) (by omega)) dX17_worth_179 ?_
              refine Z_re (y := nI ((awC (wld D) p (h0 + i) (dgR born K c) (lfC (wld D) p h0 len (dgR born K c) i)) K 0)) ((g2 K (Nat.le_refl _) 0 (by decide)).trans (by rw [ek, upS_K (Nat.le_refl _)])) ?_
              refine Z_callS0 (d' := 0) (zCal_S gX17_62 nJ5_min (by decide) dX17_worth_180) pJ5_min [_, _] rfl rfl (Nat.le_of_ble_eq_true rfl) (by omega) (c_J5_min ?_)
              rw [mn_n (by omega) (by omega)]
              refine Z_istore_n (lv' := [_, _, _, _, _, _, _, _]) dX17_worth_183 rfl rfl (Nat.le_of_ble_eq_true rfl) ?_
              refine Z_iload_n dX17_worth_184 rfl ?_
              refine Z_istore (lv' := [_, _, _, _, _, _, _, _]) dX17_worth_185 rfl rfl (Nat.le_of_ble_eq_true rfl) ?_
              have lp187 : ∀ t, t ≤ K → ∀ J6, (∀ x, x < N1 → J6 x = I x) → rwP N1 K J6 (dnS (hoC (wld D) p (h0 + i) (dgR born K c) (lfC (wld D) p h0 len (dgR born K c) i)) (awC (wld D) p (h0 + i) (dgR born K c) (lfC (wld D) p h0 len (dgR born K c) i)) (K - t) 0) → Zj G mX17_worth 5 C Sl 187 [.ref a, .int (nI K), .ref N1, .int (nI (bsC (wld D) p h0 len (dgR born K c) K (i + 1))), .int (nI (h0 + i)), .int (nI (K - t)), .retAddr 0, .retAddr 0] [] J6 L2 P2 S2 Q := by
                refine zloop (K) (fun t => ∀ J6, (∀ x, x < N1 → J6 x = I x) → rwP N1 K J6 (dnS (hoC (wld D) p (h0 + i) (dgR born K c) (lfC (wld D) p h0 len (dgR born K c) i)) (awC (wld D) p (h0 + i) (dgR born K c) (lfC (wld D) p h0 len (dgR born K c) i)) (K - t) 0) → Zj G mX17_worth 5 C Sl 187 [.ref a, .int (nI K), .ref N1, .int (nI (bsC (wld D) p h0 len (dgR born K c) K (i + 1))), .int (nI (h0 + i)), .int (nI (K - t)), .retAddr 0, .retAddr 0] [] J6 L2 P2 S2 Q) (fun t ht iht => ?_)
                intro J6 g1 g2
                show Zj _ _ _ _ _ _ _ _ _ _ _ _ _
                have hG2 : gS 15 ph I0 L0 P0 S0 a p h0 m en (bvC NN) NN born J6 L2 P2 S2 b bK bc := hG.ext hN1 hN2 (fun y hy => ⟨⟨g1 y hy, hL2 y hy⟩, hP2 y hy, hS2 y hy⟩) hSn
                have r1 : rwX J6 L2 R := hX0.2.2.1.2.fX (by rw [hG2.1.2.1]) hG2.1.2.2
                have hX := hX0.go hG2.1.1 r1
                have hx := hX.1.x
                have hO := hX.1.wd
                have hR := hX.1.wr
                have hPc := hX.1.pc
                have hw := hX.1.hw
                have h6 := hw.o6
                have hn8 := hw.n8
                have hOf : ∀ j, j ≤ K → J6 (a + 1) j = nI ((dgR born K c) j) := fun j hj => by rw [g1 _ na1]; exact hoff j hj
                refine Z_iload dX17_worth_187 rfl ?_
                refine Z_ifleN 263 dX17_worth_189 rfl (by omega) (fun c189 => ?_) (fun c189 => ?_)
                · have et : K - t = 0 := by omega
                  rw [et] at g2
                  refine Z_iincN (a := _) (k := 1) (lv' := [_, _, _, _, _, _, _, _]) dX17_worth_263 rfl rfl rfl rfl ?_
                  refine Z_goto 66 dX17_worth_266 rfl ?_
                  exact Z_fgt (ih (by omega) _ g1 (g2.eq (fun k2 _ l2 _ => dnS_z (fun _ => rfl)))) (by repeat first | exact zwk_n | refine zwk_f ?_ | refine zwk_c rfl ?_)
                · obtain ⟨u, hu⟩ : ∃ u, K - t = u + 1 := ⟨K - t - 1, by omega⟩
                  rw [hu] at g2
                  rw [hu]
                  refine Z_aload_n dX17_worth_192 rfl ?_
                  refine Z_iload dX17_worth_193 rfl ?_
                  refine Z_iconst (nI 1) dX17_worth_195 rfl ?_
                  refine Z_isubN dX17_worth_196 (by omega) ?_
                  refine Z_iload dX17_worth_197 rfl ?_
                  refine Z_iconst (nI 1) dX17_worth_199 rfl ?_
                  refine Z_iaddN dX17_worth_200 ?_
                  refine Z_call0 (d' := 4) (zCal_U uX17_68_15 rfl nX15_lost (by decide) dX17_worth_201) pX15_lost hG2.2.1.2.1 zkl15 [_, _] rfl rfl (Nat.le_of_ble_eq_true rfl) (by omega) (c_X15_lost15 hX0 hG2 hp (by omega) hkn (k := u) (by omega) (hOf u (by omega)) (hrn u (by omega)) (hOf (u + 1) (by omega)) (hrn (u + 1) (by omega)) (by omega) ?_)
                  have w1 := (lst_b (h := h0 + i + 1) hkn (hrn u (by omega)) (hrn (u + 1) (by omega))).2
                  refine Z_istore (lv' := [_, _, _, _, _, _, _, _]) dX17_worth_204 rfl rfl (Nat.le_of_ble_eq_true rfl) ?_
                  refine Z_iconst (nI 1) dX17_worth_206 rfl ?_
                  refine Z_istore (lv' := [_, _, _, _, _, _, _, _]) dX17_worth_207 rfl rfl (Nat.le_of_ble_eq_true rfl) ?_
                  have lp209 : ∀ q, q ≤ 104 - lsN (wld D) ((dgR born K c) u) ((dgR born K c) (u + 1)) (h0 + i + 1) → ∀ J7, (∀ x, x < N1 → J7 x = I x) → rwP N1 K J7 (dnS (hoC (wld D) p (h0 + i) (dgR born K c) (lfC (wld D) p h0 len (dgR born K c) i)) (awC (wld D) p (h0 + i) (dgR born K c) (lfC (wld D) p h0 len (dgR born K c) i)) (u + 1) (q + 1 + lsN (wld D) ((dgR born K c) u) ((dgR born K c) (u + 1)) (h0 + i + 1))) → Zj G mX17_worth 5 C Sl 209 [.ref a, .int (nI K), .ref N1, .int (nI (bsC (wld D) p h0 len (dgR born K c) K (i + 1))), .int (nI (h0 + i)), .int (nI (u + 1)), .int (nI (lsN (wld D) ((dgR born K c) u) ((dgR born K c) (u + 1)) (h0 + i + 1))), .int (nI (q + 1))] [] J7 L2 P2 S2 Q := by
                    refine zloop (104 - lsN (wld D) ((dgR born K c) u) ((dgR born K c) (u + 1)) (h0 + i + 1)) (fun q => ∀ J7, (∀ x, x < N1 → J7 x = I x) → rwP N1 K J7 (dnS (hoC (wld D) p (h0 + i) (dgR born K c) (lfC (wld D) p h0 len (dgR born K c) i)) (awC (wld D) p (h0 + i) (dgR born K c) (lfC (wld D) p h0 len (dgR born K c) i)) (u + 1) (q + 1 + lsN (wld D) ((dgR born K c) u) ((dgR born K c) (u + 1)) (h0 + i + 1))) → Zj G mX17_worth 5 C Sl 209 [.ref a, .int (nI K), .ref N1, .int (nI (bsC (wld D) p h0 len (dgR born K c) K (i + 1))), .int (nI (h0 + i)), .int (nI (u + 1)), .int (nI (lsN (wld D) ((dgR born K c) u) ((dgR born K c) (u + 1)) (h0 + i + 1))), .int (nI (q + 1))] [] J7 L2 P2 S2 Q) (fun q hq ihq => ?_)
                    intro J7 g1 g2
                    show Zj _ _ _ _ _ _ _ _ _ _ _ _ _
                    have hG2 : gS 15 ph I0 L0 P0 S0 a p h0 m en (bvC NN) NN born J7 L2 P2 S2 b bK bc := hG.ext hN1 hN2 (fun y hy => ⟨⟨g1 y hy, hL2 y hy⟩, hP2 y hy, hS2 y hy⟩) hSn
                    have r1 : rwX J7 L2 R := hX0.2.2.1.2.fX (by rw [hG2.1.2.1]) hG2.1.2.2
                    have hX := hX0.go hG2.1.1 r1
                    have hx := hX.1.x
                    have hO := hX.1.wd
                    have hR := hX.1.wr
                    have hPc := hX.1.pc
                    have hw := hX.1.hw
                    have h6 := hw.o6
                    have hn8 := hw.n8
                    have hOf : ∀ j, j ≤ K → J7 (a + 1) j = nI ((dgR born K c) j) := fun j hj => by rw [g1 _ na1]; exact hoff j hj
                    have v1 := aw_c (W := (wld D)) (p := p) (h := h0 + i) (r := (dgR born K c)) (P := (lfC (wld D) p h0 len (dgR born K c) i)) (k := u + 1) (l := q + 1 + lsN (wld D) ((dgR born K c) u) ((dgR born K c) (u + 1)) (h0 + i + 1)) (lfC_le i)
                    have v2 := aw_c (W := (wld D)) (p := p) (h := h0 + i) (r := (dgR born K c)) (P := (lfC (wld D) p h0 len (dgR born K c) i)) (k := u) (l := q + 1) (lfC_le i)
                    refine Z_iload dX17_worth_209 rfl ?_
                    refine Z_iload dX17_worth_211 rfl ?_
                    refine Z_iaddN dX17_worth_213 ?_
                    refine Z_bipush (nI 105) dX17_worth_214 rfl ?_
                    refine Z_icmpgeN 257 dX17_worth_216 rfl (by omega) (by omega) (fun c216 => ?_) (fun c216 => ?_)
                    · refine Z_iincM (lv' := [_, _, _, _, _, _, _, _]) dX17_worth_257 rfl (by omega) rfl rfl ?_
                      refine Z_goto 187 dX17_worth_260 rfl ?_
                      have eu : K - (t + 1) = u := by omega
                      have ih2 := iht (by omega) _ g1 (by rw [eu]; exact g2.eq (fun k2 hk2 l2 hl2 => dnS_n (fun l q1 q2 => absurd q1 (by omega)) hl2))
                      rw [eu] at ih2
                      exact Z_fgt ih2 (by repeat first | exact zwk_n | refine zwk_f ?_ | refine zwk_c rfl ?_)
                    · refine Z_aload_n dX17_worth_219 rfl ?_
                      refine Z_iload dX17_worth_220 rfl ?_
                      refine Z_aald (r := (N1 + 1 + (u + 1))) hSN (by simp [zTys]) rfl (zix_nI (by omega) (by omega)) (hPN (u + 1) (by omega)) dX17_worth_222 ?_
                      refine Z_iload dX17_worth_223 rfl ?_
                      refine Z_iload dX17_worth_225 rfl ?_
                      refine Z_iaddN dX17_worth_227 ?_
                      refine Z_aload_n dX17_worth_228 rfl ?_
                      refine Z_iload dX17_worth_229 rfl ?_
                      refine Z_aald (r := (N1 + 1 + (u + 1))) hSN (by simp [zTys]) rfl (zix_nI (by omega) (by omega)) (hPN (u + 1) (by omega)) dX17_worth_231 ?_
                      refine Z_iload dX17_worth_232 rfl ?_
                      refine Z_iload dX17_worth_234 rfl ?_
                      refine Z_iaddN dX17_worth_236 ?_
                      refine Z_iald (hSR (u + 1) (by omega)) (zix_nI (by omega) (by omega)) dX17_worth_237 ?_
                      refine Z_re (y := nI ((awC (wld D) p (h0 + i) (dgR born K c) (lfC (wld D) p h0 len (dgR born K c) i)) (u + 1) (q + 1 + lsN (wld D) ((dgR born K c) u) ((dgR born K c) (u + 1)) (h0 + i + 1)))) ((g2 (u + 1) (by omega) _ (by omega)).trans (by rw [dnS_b (Nat.le_refl _) (by omega)])) ?_
                      refine Z_aload_n dX17_worth_238 rfl ?_
                      refine Z_iload dX17_worth_239 rfl ?_
                      refine Z_iconst (nI 1) dX17_worth_241 rfl ?_
                      refine Z_isubN dX17_worth_242 (by omega) ?_
                      refine Z_aald (r := (N1 + 1 + u)) hSN (by simp [zTys]) rfl (zix_nI (by omega) (by omega)) (hPN u (by omega)) dX17_worth_243 ?_
                      refine Z_iload dX17_worth_244 rfl ?_
                      refine Z_iald (hSR u (by omega)) (zix_nI (by omega) (by omega)) dX17_worth_246 ?_
                      refine Z_re (y := nI ((awC (wld D) p (h0 + i) (dgR born K c) (lfC (wld D) p h0 len (dgR born K c) i)) u (q + 1))) ((g2 u (by omega) (q + 1) (by omega)).trans (by rw [dnS_l (Nat.lt_succ_self _)])) ?_
                      refine Z_callS0 (d' := 0) (zCal_S gX17_62 nJ5_min (by decide) dX17_worth_247) pJ5_min [_, _] rfl rfl (Nat.le_of_ble_eq_true rfl) (by omega) (c_J5_min ?_)
                      rw [mn_n (by omega) (by omega)]
                      refine Z_iast (hSR (u + 1) (by omega)) (zix_nI (by omega) (by omega)) dX17_worth_250 ?_
                      refine Z_iincN (a := _) (k := 1) (lv' := [_, _, _, _, _, _, _, _]) dX17_worth_251 rfl rfl rfl rfl ?_
                      refine Z_goto 209 dX17_worth_254 rfl ?_
                      exact ihq (by omega) _ (fun x hx => (zw_n _ _ _ _ (by omega)).trans (g1 x hx)) (g2.st.eq (fun k2 _ l2 _ => by rw [dnS_s (by rw [hoC_s, if_pos (by omega), Nat.add_sub_cancel]), show q + 1 + lsN (wld D) ((dgR born K c) u) ((dgR born K c) (u + 1)) (h0 + i + 1) + 1 = q + 1 + 1 + lsN (wld D) ((dgR born K c) u) ((dgR born K c) (u + 1)) (h0 + i + 1) by omega]))
                  exact lp209 0 (by omega) _ g1 (g2.eq (fun k2 _ l2 _ => dnS_0 (fun l hl => by rw [hoC_s, if_neg (by omega)])))
              rw [ek] at g2
              exact Z_fgt (lp187 0 (by omega) _ g1 (g2.eq (fun k2 hk2 l2 _ => (upS_K hk2).trans (dnS_K hk2).symm))) (by repeat first | exact zwk_n | refine zwk_f ?_ | refine zwk_c rfl ?_)
            · refine Z_aload_n dX17_worth_84 rfl ?_
              refine Z_iload dX17_worth_85 rfl ?_
              refine Z_iload dX17_worth_87 rfl ?_
              refine Z_call0 (d' := 2) (zCal_U uX17_40_15 rfl nX15_works (by decide) dX17_worth_89) pX15_works hG2.2.1.2.1 zkl15 [_, _] rfl rfl (Nat.le_of_ble_eq_true rfl) (by omega) (c_X15_works15 hX0 hG2 hp (by omega) (k := k) (by omega) (hOf k (by omega)) (hrn k (by omega)) (fun h89 => ?_) (fun h89 => ?_))
              · refine Z_ifne 98 dX17_worth_92 rfl (fun _ => ?_) (fun h => absurd h (by decide))
                have hrk := hrn k (by omega)
                refine Z_aload_n dX17_worth_98 rfl ?_
                refine Z_getR (r := 100) hG2.2.1.2.1 fX17_3_15 dX17_worth_99 rfl (hG2.2.2.1.2.2 rfl).2 ?_
                refine Z_getRN (r := 200) hx.1 fX17_44_0 dX17_worth_102 rfl hx.2.2.2.1.1 ?_
                refine Z_getR (r := (200 + 1)) hO.1 fX17_48_1 dX17_worth_105 rfl hO.2.1.2 ?_
                refine Z_aload_n dX17_worth_108 rfl ?_
                refine Z_getR (r := (a + 1)) hG2.2.1.2.1 fX17_54_15 dX17_worth_109 rfl hG2.2.2.1.1.2.1 ?_
                refine Z_iload dX17_worth_112 rfl ?_
                refine Z_iald hG2.2.1.2.2 (zix_nI (by omega) (by omega)) dX17_worth_114 ?_
                refine Z_re (y := nI (dgR born K c k)) (hOf k (by omega)) ?_
                refine Z_aald (r := (oh (dgR born K c k))) hO.2.1.1 (by simp [zTys]) rfl (zix_nI (by omega) (by omega)) (hR.2.2 (dgR born K c k) (hrn k (by omega))).1 dX17_worth_115 ?_
                refine Z_getI (hR.2.2 (dgR born K c k) (by omega)).2.1.1 fX17_57_5 dX17_worth_116 rfl ?_
                refine Z_re (y := nI (pyN (wld D) (dgR born K c k))) (wOf hR (hrn k (by omega)) hpay) ?_
                refine Z_istore (lv' := [_, _, _, _, _, _, _, _]) dX17_worth_119 rfl rfl (Nat.le_of_ble_eq_true rfl) ?_
                refine Z_iconst (nI 1) dX17_worth_121 rfl ?_
                refine Z_istore (lv' := [_, _, _, _, _, _, _, _]) dX17_worth_122 rfl rfl (Nat.le_of_ble_eq_true rfl) ?_
                have lp124 : ∀ t, t ≤ 104 → ∀ J5, (∀ x, x < N1 → J5 x = I x) → rwP N1 K J5 (upS (awC (wld D) p (h0 + i) (dgR born K c) (lfC (wld D) p h0 len (dgR born K c) i)) (lfC (wld D) p h0 len (dgR born K c) i) k t) → Zj G mX17_worth 5 C Sl 124 [.ref a, .int (nI K), .ref N1, .int (nI (bsC (wld D) p h0 len (dgR born K c) K i)), .int (nI (h0 + i)), .int (nI k), .int (nI (pyN (wld D) (dgR born K c k))), .int (nI (t + 1))] [] J5 L2 P2 S2 Q := by
                  refine zloop (104) (fun t => ∀ J5, (∀ x, x < N1 → J5 x = I x) → rwP N1 K J5 (upS (awC (wld D) p (h0 + i) (dgR born K c) (lfC (wld D) p h0 len (dgR born K c) i)) (lfC (wld D) p h0 len (dgR born K c) i) k t) → Zj G mX17_worth 5 C Sl 124 [.ref a, .int (nI K), .ref N1, .int (nI (bsC (wld D) p h0 len (dgR born K c) K i)), .int (nI (h0 + i)), .int (nI k), .int (nI (pyN (wld D) (dgR born K c k))), .int (nI (t + 1))] [] J5 L2 P2 S2 Q) (fun t ht iht => ?_)
                  intro J5 g1 g2
                  show Zj _ _ _ _ _ _ _ _ _ _ _ _ _
                  have hG2 : gS 15 ph I0 L0 P0 S0 a p h0 m en (bvC NN) NN born J5 L2 P2 S2 b bK bc := hG.ext hN1 hN2 (fun y hy => ⟨⟨g1 y hy, hL2 y hy⟩, hP2 y hy, hS2 y hy⟩) hSn
                  have r1 : rwX J5 L2 R := hX0.2.2.1.2.fX (by rw [hG2.1.2.1]) hG2.1.2.2
                  have hX := hX0.go hG2.1.1 r1
                  have hx := hX.1.x
                  have hO := hX.1.wd
                  have hR := hX.1.wr
                  have hPc := hX.1.pc
                  have hw := hX.1.hw
                  have h6 := hw.o6
                  have hn8 := hw.n8
                  have hOf : ∀ j, j ≤ K → J5 (a + 1) j = nI ((dgR born K c) j) := fun j hj => by rw [g1 _ na1]; exact hoff j hj
                  have v1 := lfC_le (W := (wld D)) (p := p) (h0 := h0) (len := len) (r := (dgR born K c)) i k t
                  have v2 := lfC_le (W := (wld D)) (p := p) (h0 := h0) (len := len) (r := (dgR born K c)) i k (t + 1)
                  have v4 := (pyf_b hpay (hrn k (by omega))).2
                  refine Z_iload dX17_worth_124 rfl ?_
                  refine Z_bipush (nI 105) dX17_worth_126 rfl ?_
                  refine Z_icmpgeN 168 dX17_worth_128 rfl (by omega) (by omega) (fun c128 => ?_) (fun c128 => ?_)
                  · have et : t = 104 := by omega
                    rw [et] at g2
                    refine Z_iincN (a := _) (k := 1) (lv' := [_, _, _, _, _, _, _, _]) dX17_worth_168 rfl rfl rfl rfl ?_
                    refine Z_goto 78 dX17_worth_171 rfl ?_
                    exact Z_fgt (ihk (by omega) _ g1 (g2.eq (fun k2 hk2 l2 hl2 => upS_n (fun l q1 q2 => (awC_n (Or.inr (by omega))).symm) hl2))) (by repeat first | exact zwk_n | refine zwk_f ?_ | refine zwk_c rfl ?_)
                  · refine Z_aload_n dX17_worth_131 rfl ?_
                    refine Z_iload dX17_worth_132 rfl ?_
                    refine Z_aald (r := (N1 + 1 + k)) hSN (by simp [zTys]) rfl (zix_nI (by omega) (by omega)) (hPN k (by omega)) dX17_worth_134 ?_
                    refine Z_iload dX17_worth_135 rfl ?_
                    refine Z_iconst (nI 1) dX17_worth_137 rfl ?_
                    refine Z_isubN dX17_worth_138 (by omega) ?_
                    refine Z_aload_n dX17_worth_139 rfl ?_
                    refine Z_iload dX17_worth_140 rfl ?_
                    refine Z_aald (r := (N1 + 1 + k)) hSN (by simp [zTys]) rfl (zix_nI (by omega) (by omega)) (hPN k (by omega)) dX17_worth_142 ?_
                    refine Z_iload dX17_worth_143 rfl ?_
                    refine Z_iconst (nI 1) dX17_worth_145 rfl ?_
                    refine Z_isubN dX17_worth_146 (by omega) ?_
                    refine Z_iald (hSR k (by omega)) (zix_nI (by omega) (by omega)) dX17_worth_147 ?_
                    refine Z_re (y := nI ((lfC (wld D) p h0 len (dgR born K c) i) k t)) ((g2 k (by omega) t (by omega)).trans (by rw [upS_b (Nat.le_refl _)])) ?_
                    refine Z_aload_n dX17_worth_148 rfl ?_
                    refine Z_iload dX17_worth_149 rfl ?_
                    refine Z_aald (r := (N1 + 1 + k)) hSN (by simp [zTys]) rfl (zix_nI (by omega) (by omega)) (hPN k (by omega)) dX17_worth_151 ?_
                    refine Z_iload dX17_worth_152 rfl ?_
                    refine Z_iald (hSR k (by omega)) (zix_nI (by omega) (by omega)) dX17_worth_154 ?_
                    refine Z_re (y := nI ((lfC (wld D) p h0 len (dgR born K c) i) k (t + 1))) ((g2 k (by omega) (t + 1) (by omega)).trans (by rw [upS_b (by omega)])) ?_
                    refine Z_iload dX17_worth_155 rfl ?_
                    refine Z_iaddN dX17_worth_157 ?_
                    refine Z_callS0 (d' := 0) (zCal_S gX17_62 nJ5_min (by decide) dX17_worth_158) pJ5_min [_, _] rfl rfl (Nat.le_of_ble_eq_true rfl) (by omega) (c_J5_min ?_)
                    rw [mn_n (by omega) (by omega)]
                    refine Z_iast (hSR k (by omega)) (zix_nI (by omega) (by omega)) dX17_worth_161 ?_
                    refine Z_iincN (a := _) (k := 1) (lv' := [_, _, _, _, _, _, _, _]) dX17_worth_162 rfl rfl rfl rfl ?_
                    refine Z_goto 124 dX17_worth_165 rfl ?_
                    exact iht (by omega) _ (fun x hx => (zw_n _ _ _ _ (by omega)).trans (g1 x hx)) (g2.st.eq (fun k2 _ l2 _ => upS_s (awC_s h89 (by omega)).symm))
                exact lp124 0 (by omega) _ g1 g2
              · refine Z_ifne 98 dX17_worth_92 rfl (fun h => absurd h (by decide)) (fun _ => ?_)
                refine Z_goto 168 dX17_worth_95 rfl ?_
                refine Z_iincN (a := _) (k := 1) (lv' := [_, _, _, _, _, _, _, _]) dX17_worth_168 rfl rfl rfl rfl ?_
                refine Z_goto 78 dX17_worth_171 rfl ?_
                exact Z_fgt (ihk (by omega) _ g1 (g2.eq (fun k2 hk2 l2 hl2 => upS_n (fun l _ _ => (awC_n (Or.inl h89)).symm) hl2))) (by repeat first | exact zwk_n | refine zwk_f ?_ | refine zwk_c rfl ?_)
          exact lp78 0 (by omega) _ g1 (g3.eq (fun k2 _ l2 _ => upS_z.symm))
      exact Z_fgt (lp66 0 (by omega) _ (fun x hx => (zw_n _ _ _ _ (by omega)).trans (g1 x hx)) (fun k hk l hl => by
        show _ = nI (if k = 0 ∧ l = len then 0 else 1000000)
        by_cases e9 : k = 0
        · subst e9
          rw [zw_a]
          by_cases e8 : l = len
          · subst e8; rw [zu_s, if_pos ⟨rfl, rfl⟩]
          · rw [zu_n _ _ _ e8, if_neg (fun q => e8 q.2)]; exact g2 0 (by omega) l hl
        · rw [zw_n _ _ _ _ (by omega), if_neg (fun q => e9 q.1)]; exact g2 k (by omega) l hl)) (by repeat first | exact zwk_n | refine zwk_f ?_ | refine zwk_c rfl ?_)
    · refine Z_aload_n dX17_worth_26 rfl ?_
      refine Z_iload dX17_worth_27 rfl ?_
      refine Z_aald (r := (N1 + 1 + i)) hSN (by simp [zTys]) rfl (zix_nI (by omega) (by omega)) (hPN i (by omega)) dX17_worth_29 ?_
      refine Z_astore (lv' := [_, _, _, _, _, _, _, _]) dX17_worth_30 rfl rfl (Nat.le_of_ble_eq_true rfl) ?_
      refine Z_aload dX17_worth_32 rfl ?_
      refine Z_ldc q983 dX17_worth_34 ?_
      refine Z_re (y := nI 1000000) rfl ?_
      refine Z_callS0 (d' := 0) (zCal_S gX17_22 nJ10_fill (by decide) dX17_worth_36) pJ10_fill [_, _] rfl rfl (Nat.le_of_ble_eq_true rfl) (by omega) (c_J10_fill (hSR i (by omega)) (by decide) (fun I4 z36 y36 => ?_))
      refine Z_iincN (a := _) (k := 1) (lv' := [_, _, _, _, _, _, _, _]) dX17_worth_39 rfl rfl rfl rfl ?_
      refine Z_goto 19 dX17_worth_42 rfl ?_
      exact Z_fgt (ih (by omega) _ (fun x hx => (y36 x (by omega)).trans (g1 x hx)) (fun k hk l hl => by
        by_cases e9 : k = i
        · subst e9; exact z36 l hl
        · rw [y36 _ (by omega)]; exact g2 k (by omega) l hl)) (by repeat first | exact zwk_n | refine zwk_f ?_ | refine zwk_c rfl ?_)
  exact lp19 0 (by omega) _ hI20 (fun k hk => absurd hk (Nat.not_lt_zero _))
set_option maxHeartbeats 4000000 in
theorem c_X15_go150 (hX0 : xR D R no n np ro oh ph I0 L0 P0 S0) (hp : p < n) (hm : m ≤ 2) (hbn : born < no) (hkn : knf (wld D) no) (hl : wld D 18 p = nI len) (hl0 : 0 < len) (hl6 : len ≤ 60) (hh : h0 ≤ en) (he : en ≤ 2399) (hNN : NN = 1000000) (hpay : pyf (wld D) no) {K c : Nat} (hK : K ≤ m) (hG : gS 15 ph I0 L0 P0 S0 a p h0 m en (bvC NN) NN born I L P S b bK bc) (hv : vr no born K c) (hoff : (∀ j, j ≤ K → I (a + 1) j = nI (dgR born K c j))) (hb : bsI no born NN (wvC (wld D) p h0 (en - h0) len born) K (c) b bK bc) (kk : (∀ I2 L2 P2 S2 b2 bK2 bc2, gS 15 ph I0 L0 P0 S0 a p h0 m en (bvC NN) NN born I2 L2 P2 S2 b2 bK2 bc2 → (∀ j, j ≤ K → I2 (a + 1) j = I (a + 1) j) → bsI no born NN (wvC (wld D) p h0 (en - h0) len born) K (c + 1) b2 bK2 bc2 → Q (.inl none) I2 L2 P2 S2)) : Zm G mX15_go 7 6 324 [.ref a, .int (nI (K + 1)), .int (nI K)] I L P S Q := by
  have r1 : rwX I L R := hX0.2.2.1.2.fX (by rw [hG.1.2.1]) hG.1.2.2
  have hX := hX0.go hG.1.1 r1
  have hx := hX.1.x
  have hO := hX.1.wd
  have hR := hX.1.wr
  have hPc := hX.1.pc
  have hw := hX.1.hw
  have h6 := hw.o6
  have hn8 := hw.n8
  have A0 : I (ph p) 0 = wld D 17 p := (hPc p hp).2.2.1.1
  have hrK : dgR born K c K < no := by
    cases K with
    | zero => exact hbn
    | succ j => exact (hv.2.2 j (by omega)).1
  refine Z_entry (lv := [_, _, _, _]) (Nat.le_of_ble_eq_true rfl) rfl ?_
  refine Z_iload_n dX15_go_0 rfl ?_
  refine Z_iload_n dX15_go_1 rfl ?_
  refine Z_icmpleN 80 dX15_go_2 rfl (by omega) (by omega) (fun c2 => ?_) (fun c2 => ?_)
  · exact absurd c2 (by omega)
  · refine Z_aload_n dX15_go_5 rfl ?_
    refine Z_getR (r := 100) hG.2.1.2.1 fX15_3_15 dX15_go_6 rfl hG.2.2.1.1.2.2 ?_
    refine Z_getRN (r := 200) hx.1 fX15_39_0 dX15_go_9 rfl hx.2.2.2.1.1 ?_
    refine Z_aload_n dX15_go_12 rfl ?_
    refine Z_getR (r := (a + 1)) hG.2.1.2.1 fX15_30_15 dX15_go_13 rfl hG.2.2.1.1.2.1 ?_
    refine Z_iload_n dX15_go_16 rfl ?_
    refine Z_iald hG.2.1.2.2 (zix_nI (by omega) (by omega)) dX15_go_17 ?_
    refine Z_re (y := nI (dgR born K c K)) (hoff K (Nat.le_refl _)) ?_
    refine Z_aload_n dX15_go_18 rfl ?_
    refine Z_getR (r := (ph p)) hG.2.1.2.1 fX15_23_15 dX15_go_19 rfl hG.2.2.1.1.1 ?_
    refine Z_getI (hPc p (by omega)).2.1 fX15_43_6 dX15_go_22 rfl ?_
    refine Z_call0 (d' := 1) (zCal_V gX15_46 nX2_hasCraft (by decide) dX15_go_25) pX2_hasCraft hO.1 zkl1 [_, _] rfl rfl (Nat.le_of_ble_eq_true rfl) (by omega) (c_X2_hasCraft hO hR h6 hrK (fun h25 => ?_) (fun h25 => ?_))
    · refine Z_ifne 32 dX15_go_28 rfl (fun _ => ?_) (fun h => absurd h (by decide))
      refine Z_aload_n dX15_go_32 rfl ?_
      refine Z_iload_n dX15_go_33 rfl ?_
      refine Z_call (d' := 5) (C := 1) (C' := 5) (Sl := 4) (S' := 320) (zCal_A (n := 1) uX15_52_15 q977 ⟨by decide +kernel, by decide +kernel, by decide +kernel⟩ (by decide) dX15_go_34) pX17_worth hG.2.1.2.1 zkl15 [_] rfl rfl (Nat.le_of_ble_eq_true rfl) (by omega) (by omega) (by omega) (c_X17_worth hX0 hG hp hm hK hv hoff hbn hkn hl hl0 hl6 hh he hNN hpay (fun I2 L2 P2 S2 hG2 e34 => ?_))
      refine Z_istore_n (lv' := [_, _, _, _]) dX15_go_37 rfl rfl (Nat.le_of_ble_eq_true rfl) ?_
      refine Z_iload_n dX15_go_38 rfl ?_
      refine Z_iconst (-1) dX15_go_39 rfl ?_
      refine Z_icmpeq 59 dX15_go_40 rfl (fun c40 => ?_) (fun c40 => ?_)
      · refine Z_return dX15_go_59 rfl ?_
        exact kk _ _ _ _ _ _ _ hG2 (fun j hj => by rw [e34]) (bsI_no hb (by rw [(bvC_1 hNN (wvC_le hNN)).mp c40]; exact hb.1.1))
      · refine Z_aload_n dX15_go_43 rfl ?_
        refine Z_getI hG2.2.1.2.1 fX15_15_15 dX15_go_44 rfl ?_
        refine Z_re hG2.2.2.2.1 ?_
        refine Z_iconst (-1) dX15_go_47 rfl ?_
        refine Z_icmpeq 60 dX15_go_48 rfl (fun c48 => ?_) (fun c48 => ?_)
        · obtain ⟨N1, hN1, hN2⟩ := hG2.N
          have na1 : a + 1 ≠ N1 := fun q => by have := hG2.2.1.2.2; rw [q, hN2 N1 (Nat.le_refl _)] at this; cases this
          refine Z_aload_n dX15_go_60 rfl ?_
          refine Z_iload_n dX15_go_61 rfl ?_
          refine Z_putI hG2.2.1.2.1 fX15_15_15 dX15_go_62 rfl rfl rfl ?_
          refine Z_aload_n dX15_go_65 rfl ?_
          refine Z_aload_n dX15_go_66 rfl ?_
          refine Z_getR (r := (a + 1)) hG2.2.1.2.1 fX15_30_15 dX15_go_67 rfl hG2.2.2.1.1.2.1 ?_
          refine Z_iload_n dX15_go_70 rfl ?_
          refine Z_iconst (nI 1) dX15_go_71 rfl ?_
          refine Z_iaddN dX15_go_72 ?_
          refine Zj.less (C := 0 + (0 + 1)) (Sl := 0 + (0 + (K + 1))) ?_ (Nat.le_refl _) (by omega) (by omega)
          refine Z_callS (d' := 2) (C := 0) (C' := (0 + 1)) (Sl := 0) (S' := (0 + (K + 1))) (zCal_S gX15_56 nJ10_copyOf (by decide) dX15_go_73) pJ10_copyOf [_, _] rfl rfl (Nat.le_of_ble_eq_true rfl) (by omega) (by omega) (by omega) (c_J10_copyOf hG2.2.1.2.2 (by omega) (by omega) (hN2 N1 (Nat.le_refl _)) (fun I3 f2 f3 g1 g2 => ?_))
          have na : a ≠ N1 := fun q => by have := hG2.2.1.2.1; rw [q, hN2 N1 (Nat.le_refl _)] at this; cases this
          have hGa : (zu S2 N1 (some (.inr (.int, K + 1)))) a = some (.inl 15) := (zu_n _ _ _ na).trans hG2.2.1.2.1
          have hz9 : True := trivial
          refine Z_putR hGa fX15_62_15 dX15_go_76 rfl ?_
          refine Z_return dX15_go_79 rfl ?_
          have hlt : (wvC (wld D) p h0 (en - h0) len born) K c < b := by
            have w8 : (wvC (wld D) p h0 (en - h0) len born) K c ≠ NN := fun e => c40 ((bvC_1 hNN (wvC_le hNN)).mpr e)
            have w7 : (wvC (wld D) p h0 (en - h0) len born) K c ≤ NN := wvC_le hNN
            have w5 := hb.1.1
            have w6 := (bvC_1 hNN hb.1.1).mp c48
            omega
          exact kk _ _ _ _ _ _ _ (hG2.best hN1 (hN2 N1 (Nat.le_refl _)) (by exact g2) (fun j hj => by rw [g1 j (by omega), zw_n _ _ _ _ (by omega), e34]; exact hoff j hj)) (fun j hj => by rw [g2 _ na1, zw_n _ _ _ _ (by omega), e34]) (bsI_yes hb hv hlt)
        · refine Z_iload_n dX15_go_51 rfl ?_
          refine Z_aload_n dX15_go_52 rfl ?_
          refine Z_getI hG2.2.1.2.1 fX15_15_15 dX15_go_53 rfl ?_
          refine Z_re hG2.2.2.2.1 ?_
          refine Z_icmplt 60 dX15_go_56 rfl (fun c56 => ?_) (fun c56 => ?_)
          · obtain ⟨N1, hN1, hN2⟩ := hG2.N
            have na1 : a + 1 ≠ N1 := fun q => by have := hG2.2.1.2.2; rw [q, hN2 N1 (Nat.le_refl _)] at this; cases this
            refine Z_aload_n dX15_go_60 rfl ?_
            refine Z_iload_n dX15_go_61 rfl ?_
            refine Z_putI hG2.2.1.2.1 fX15_15_15 dX15_go_62 rfl rfl rfl ?_
            refine Z_aload_n dX15_go_65 rfl ?_
            refine Z_aload_n dX15_go_66 rfl ?_
            refine Z_getR (r := (a + 1)) hG2.2.1.2.1 fX15_30_15 dX15_go_67 rfl hG2.2.2.1.1.2.1 ?_
            refine Z_iload_n dX15_go_70 rfl ?_
            refine Z_iconst (nI 1) dX15_go_71 rfl ?_
            refine Z_iaddN dX15_go_72 ?_
            refine Zj.less (C := 0 + (0 + 1)) (Sl := 0 + (0 + (K + 1))) ?_ (Nat.le_refl _) (by omega) (by omega)
            refine Z_callS (d' := 2) (C := 0) (C' := (0 + 1)) (Sl := 0) (S' := (0 + (K + 1))) (zCal_S gX15_56 nJ10_copyOf (by decide) dX15_go_73) pJ10_copyOf [_, _] rfl rfl (Nat.le_of_ble_eq_true rfl) (by omega) (by omega) (by omega) (c_J10_copyOf hG2.2.1.2.2 (by omega) (by omega) (hN2 N1 (Nat.le_refl _)) (fun I3 f2 f3 g1 g2 => ?_))
            have na : a ≠ N1 := fun q => by have := hG2.2.1.2.1; rw [q, hN2 N1 (Nat.le_refl _)] at this; cases this
            have hGa : (zu S2 N1 (some (.inr (.int, K + 1)))) a = some (.inl 15) := (zu_n _ _ _ na).trans hG2.2.1.2.1
            have hz9 : True := trivial
            refine Z_putR hGa fX15_62_15 dX15_go_76 rfl ?_
            refine Z_return dX15_go_79 rfl ?_
            have hlt : (wvC (wld D) p h0 (en - h0) len born) K c < b := by
              have w8 : (wvC (wld D) p h0 (en - h0) len born) K c ≠ NN := fun e => c40 ((bvC_1 hNN (wvC_le hNN)).mpr e)
              have w7 : (wvC (wld D) p h0 (en - h0) len born) K c ≤ NN := wvC_le hNN
              have w5 := hb.1.1
              exact (bvC_lt hNN (by omega) (by have w4 : ¬ b = NN := fun e => c48 ((bvC_1 hNN hb.1.1).mpr e); omega)).mp c56
            exact kk _ _ _ _ _ _ _ (hG2.best hN1 (hN2 N1 (Nat.le_refl _)) (by exact g2) (fun j hj => by rw [g1 j (by omega), zw_n _ _ _ _ (by omega), e34]; exact hoff j hj)) (fun j hj => by rw [g2 _ na1, zw_n _ _ _ _ (by omega), e34]) (bsI_yes hb hv hlt)
          · refine Z_return dX15_go_59 rfl ?_
            have w5 := hb.1.1
            exact kk _ _ _ _ _ _ _ hG2 (fun j hj => by rw [e34]) (bsI_no hb (Nat.le_of_not_lt fun q => c56 ((bvC_lt hNN (by omega) (by have w4 : ¬ b = NN := fun e => c48 ((bvC_1 hNN hb.1.1).mpr e); omega)).mpr q)))
    · refine Z_ifne 32 dX15_go_28 rfl (fun h => absurd h (by decide)) (fun _ => ?_)
      refine Z_return dX15_go_31 rfl ?_
      exact kk _ _ _ _ _ _ _ hG (fun _ _ => rfl) (bsI_no hb (by rw [wvC_no hNN hl0 (by rw [← A0]; exact h25)]; exact hb.1.1))
set_option maxHeartbeats 4000000 in
theorem c_X15_go15s (hX0 : xR D R no n np ro oh ph I0 L0 P0 S0) (hp : p < n) (hm : m ≤ 2) (hbn : born < no) (hkn : knf (wld D) no) (hl : wld D 18 p = nI len) (hl0 : 0 < len) (hl6 : len ≤ 60) (hh : h0 ≤ en) (he : en ≤ 2399) (hNN : NN = 1000000) (hpay : pyf (wld D) no) {t : Nat} (IH : ∀ (q K c : Nat) (I : zI) (L : zL) (P : zR) (S : zT) (Q : zQ) (b bK bc : Nat), q + t = K → K ≤ m → gS 15 ph I0 L0 P0 S0 a p h0 m en (bvC NN) NN born I L P S b bK bc → vr no born q c → (∀ j, j ≤ q → I (a + 1) j = nI (dgR born q c j)) → bsI no born NN (wvC (wld D) p h0 (en - h0) len born) K (c * 8 ^ t) b bK bc → (∀ I2 L2 P2 S2 b2 bK2 bc2, gS 15 ph I0 L0 P0 S0 a p h0 m en (bvC NN) NN born I2 L2 P2 S2 b2 bK2 bc2 → (∀ j, j ≤ q → I2 (a + 1) j = I (a + 1) j) → bsI no born NN (wvC (wld D) p h0 (en - h0) len born) K ((c + 1) * 8 ^ t) b2 bK2 bc2 → Q (.inl none) I2 L2 P2 S2) → Zm G mX15_go (7 + t) (6 * 6 ^ t) (324 * 6 ^ t) [.ref a, .int (nI (q + 1)), .int (nI K)] I L P S Q) {q K c : Nat} (hq : q + (t + 1) = K) (hK : K ≤ m) (hG : gS 15 ph I0 L0 P0 S0 a p h0 m en (bvC NN) NN born I L P S b bK bc) (hv : vr no born q c) (hoff : (∀ j, j ≤ q → I (a + 1) j = nI (dgR born q c j))) (hb : bsI no born NN (wvC (wld D) p h0 (en - h0) len born) K (c * 8 ^ (t + 1)) b bK bc) (kk : (∀ I2 L2 P2 S2 b2 bK2 bc2, gS 15 ph I0 L0 P0 S0 a p h0 m en (bvC NN) NN born I2 L2 P2 S2 b2 bK2 bc2 → (∀ j, j ≤ q → I2 (a + 1) j = I (a + 1) j) → bsI no born NN (wvC (wld D) p h0 (en - h0) len born) K ((c + 1) * 8 ^ (t + 1)) b2 bK2 bc2 → Q (.inl none) I2 L2 P2 S2)) : Zm G mX15_go ((7 + (t + 1))) (6 * 6 ^ (t + 1)) (324 * 6 ^ (t + 1)) [.ref a, .int (nI (q + 1)), .int (nI K)] I L P S Q := by
  have r1 : rwX I L R := hX0.2.2.1.2.fX (by rw [hG.1.2.1]) hG.1.2.2
  have hX := hX0.go hG.1.1 r1
  have hx := hX.1.x
  have hO := hX.1.wd
  have hR := hX.1.wr
  have hPc := hX.1.pc
  have hw := hX.1.hw
  have h6 := hw.o6
  have hn8 := hw.n8
  have X6 : no * 6 ^ t ≤ 6 ^ (t + 1) := by rw [Nat.pow_succ, Nat.mul_comm (6 ^ t)]; exact Nat.mul_le_mul_right _ h6
  have hG0 := hG
  have rq : dgR born q c q < no := by
    cases q with
    | zero => exact hbn
    | succ j => exact (hv.2.2 j (by omega)).1
  refine Z_entry (lv := [_, _, _, _]) (Nat.le_of_ble_eq_true rfl) rfl ?_
  refine Z_iload_n dX15_go_0 rfl ?_
  refine Z_iload_n dX15_go_1 rfl ?_
  refine Z_icmpleN 80 dX15_go_2 rfl (by omega) (by omega) (fun c2 => ?_) (fun c2 => ?_)
  · refine Z_iconst (nI 0) dX15_go_80 rfl ?_
    refine Z_istore_n (lv' := [_, _, _, _]) dX15_go_81 rfl rfl (Nat.le_of_ble_eq_true rfl) ?_
    have lp82 : ∀ i, i ≤ no → ∀ I2 L2 P2 S2 b2 bK2 bc2, gS 15 ph I0 L0 P0 S0 a p h0 m en (bvC NN) NN born I2 L2 P2 S2 b2 bK2 bc2 → (∀ j, j ≤ q → I2 (a + 1) j = I (a + 1) j) → bsI no born NN (wvC (wld D) p h0 (en - h0) len born) K ((8 * c + i) * 8 ^ t) b2 bK2 bc2 → Zj G mX15_go (7 + (t + 1)) (6 * ((no - i) * 6 ^ t)) (324 * ((no - i) * 6 ^ t)) 82 [.ref a, .int (nI (q + 1)), .int (nI K), .int (nI i)] [] I2 L2 P2 S2 Q := by
      refine zloop (no) (fun i => ∀ I2 L2 P2 S2 b2 bK2 bc2, gS 15 ph I0 L0 P0 S0 a p h0 m en (bvC NN) NN born I2 L2 P2 S2 b2 bK2 bc2 → (∀ j, j ≤ q → I2 (a + 1) j = I (a + 1) j) → bsI no born NN (wvC (wld D) p h0 (en - h0) len born) K ((8 * c + i) * 8 ^ t) b2 bK2 bc2 → Zj G mX15_go (7 + (t + 1)) (6 * ((no - i) * 6 ^ t)) (324 * ((no - i) * 6 ^ t)) 82 [.ref a, .int (nI (q + 1)), .int (nI K), .int (nI i)] [] I2 L2 P2 S2 Q) (fun i hi ih => ?_)
      intro I2 L2 P2 S2 b2 bK2 bc2 hG f1 hb2
      show Zj _ _ _ _ _ _ _ _ _ _ _ _ _
      have r1 : rwX I2 L2 R := hX0.2.2.1.2.fX (by rw [hG.1.2.1]) hG.1.2.2
      have hX := hX0.go hG.1.1 r1
      have hx := hX.1.x
      have hO := hX.1.wd
      have hR := hX.1.wr
      have hPc := hX.1.pc
      have hw := hX.1.hw
      have h6 := hw.o6
      have hn8 := hw.n8
      refine Z_iload_n dX15_go_82 rfl ?_
      refine Z_aload_n dX15_go_83 rfl ?_
      refine Z_getR (r := 100) hG.2.1.2.1 fX15_3_15 dX15_go_84 rfl hG.2.2.1.1.2.2 ?_
      refine Z_getRN (r := 200) hx.1 fX15_39_0 dX15_go_87 rfl hx.2.2.2.1.1 ?_
      refine Z_getI hO.1 fX15_65_1 dX15_go_90 rfl ?_
      refine Z_re (y := nI (no)) hR.1.1 ?_
      refine Z_icmpgeN 132 dX15_go_93 rfl (by omega) (by omega) (fun c93 => ?_) (fun c93 => ?_)
      · have ei : i = no := by omega
        refine Z_return dX15_go_132 rfl ?_
        refine kk _ _ _ _ _ _ _ hG f1 (bsI_gap hb2 (by rw [Nat.pow_succ', ← Nat.mul_assoc]; exact Nat.mul_le_mul_right _ (by omega)) (fun c2 q1 q2 => ?_))
        have hp8 : 0 < 8 ^ t := Nat.pow_pos (by decide)
        have q3 := (Nat.le_div_iff_mul_le hp8).mpr q1
        rw [Nat.pow_succ', ← Nat.mul_assoc] at q2
        have q4 := (Nat.div_lt_iff_lt_mul hp8).mpr q2
        have q5 : c2 < (c2 / 8 ^ t + 1) * 8 ^ t := Nat.lt_mul_of_div_lt (Nat.lt_succ_self _) hp8
        have q6 : c2 / 8 ^ t * 8 ^ t ≤ c2 := Nat.div_mul_le_self _ _
        obtain ⟨o9, e9⟩ : ∃ o9, c2 / 8 ^ t = 8 * c + o9 := ⟨c2 / 8 ^ t - 8 * c, by omega⟩
        rw [e9] at q5 q6 q3 q4
        have z := gap_o (no := no) (born := born) (m := t) (at1 := q) (c := c) (o := o9) (fun q => by omega) (by omega) c2 q6 q5
        rw [show q + 1 + t = K by omega] at z
        exact z
      · have X7 : (no - i) * 6 ^ t = (no - (i + 1)) * 6 ^ t + 6 ^ t := by rw [← Nat.succ_mul, show Nat.succ (no - (i + 1)) = no - i by omega]
        refine Z_iload_n dX15_go_96 rfl ?_
        refine Z_aload_n dX15_go_97 rfl ?_
        refine Z_getR (r := (a + 1)) hG.2.1.2.1 fX15_30_15 dX15_go_98 rfl hG.2.2.1.1.2.1 ?_
        refine Z_iload_n dX15_go_101 rfl ?_
        refine Z_iconst (nI 1) dX15_go_102 rfl ?_
        refine Z_isubN dX15_go_103 (by omega) ?_
        refine Z_iald hG.2.1.2.2 (zix_nI (by omega) (by omega)) dX15_go_104 ?_
        refine Z_re (y := nI (dgR born q c q)) ((f1 q (Nat.le_refl _)).trans (hoff q (Nat.le_refl _))) ?_
        refine Z_icmpneN 111 dX15_go_105 rfl (by omega) (by omega) (fun c105 => ?_) (fun c105 => ?_)
        · refine Z_aload_n dX15_go_111 rfl ?_
          refine Z_getR (r := (a + 1)) hG.2.1.2.1 fX15_30_15 dX15_go_112 rfl hG.2.2.1.1.2.1 ?_
          refine Z_iload_n dX15_go_115 rfl ?_
          refine Z_iload_n dX15_go_116 rfl ?_
          refine Z_iast hG.2.1.2.2 (zix_nI (by omega) (by omega)) dX15_go_117 ?_
          have hG3 := hG.of (k := q + 1) (v := nI i)
          have hv3 : vr no born (q + 1) (8 * c + i) := vr_s hv h6 (by omega) c105
          have hof3 : ∀ j, j ≤ q + 1 → zw I2 (a + 1) (q + 1) (nI i) (a + 1) j = nI (dgR born (q + 1) (8 * c + i) j) := (fun j hj => by
            by_cases e9 : j = q + 1
            · subst e9; rw [zw_s, dgR_l (by omega)]
            · rw [zw_a, zu_n _ _ _ e9, f1 j (by omega), dgR_s (by omega) (by omega)]; exact hoff j (by omega))
          refine Z_aload_n dX15_go_118 rfl ?_
          refine Z_iload_n dX15_go_119 rfl ?_
          refine Z_iconst (nI 1) dX15_go_120 rfl ?_
          refine Z_iaddN dX15_go_121 ?_
          refine Z_iload_n dX15_go_122 rfl ?_
          refine Z_call (d' := (7 + t)) (C := (6 * ((no - (i + 1)) * 6 ^ t))) (C' := (6 * 6 ^ t)) (Sl := (324 * ((no - (i + 1)) * 6 ^ t))) (S' := (324 * 6 ^ t)) (zCal_U uX15_68_15 rfl nX15_go (by decide) dX15_go_123) pX15_go hG.2.1.2.1 zkl15 [_, _] rfl rfl (Nat.le_of_ble_eq_true rfl) (by omega) (by omega) (by omega) (IH (q + 1) K (8 * c + i) _ _ _ _ _ _ _ _ (by omega) hK hG3 hv3 hof3 hb2 (fun I3 L3 P3 S3 b3 bK3 bc3 g3 g4 g5 => ?_))
          refine Z_iincN (a := _) (k := 1) (lv' := [_, _, _, _]) dX15_go_126 rfl rfl rfl rfl ?_
          refine Z_goto 82 dX15_go_129 rfl ?_
          exact ih (by omega) _ _ _ _ _ _ _ g3 (fun j hj => by rw [g4 j (by omega), zw_a, zu_n _ _ _ (by omega)]; exact f1 j hj) g5
        · refine Z_goto 126 dX15_go_108 rfl ?_
          refine Z_iincN (a := _) (k := 1) (lv' := [_, _, _, _]) dX15_go_126 rfl rfl rfl rfl ?_
          refine Z_goto 82 dX15_go_129 rfl ?_
          have ih2 := ih (by omega) _ _ _ _ _ _ _ hG f1 (bsI_gap (Y := (8 * c + (i + 1)) * 8 ^ t) hb2 (Nat.mul_le_mul_right _ (by omega)) (by have z := gap_o (no := no) (born := born) (m := t) (at1 := q) (c := c) (o := i) (fun q => q.2 c105) (by omega); rw [show q + 1 + t = K by omega] at z; exact z))
          exact Zj.less ih2 (Nat.le_refl _) (by omega) (by omega)
    have u9 := lp82 0 (by omega) _ _ _ _ _ _ _ hG (fun _ _ => rfl) (by rw [Nat.add_zero, Nat.mul_comm 8 c, Nat.mul_assoc, ← Nat.pow_succ']; exact hb)
    rw [Nat.sub_zero] at u9
    exact Zj.less u9 (Nat.le_refl _) (by omega) (by omega)
  · exact absurd c2 (by omega)
theorem c_X15_go15 (hX0 : xR D R no n np ro oh ph I0 L0 P0 S0) (hp : p < n) (hm : m ≤ 2) (hbn : born < no) (hkn : knf (wld D) no) (hl : wld D 18 p = nI len) (hl0 : 0 < len) (hl6 : len ≤ 60) (hh : h0 ≤ en) (he : en ≤ 2399) (hNN : NN = 1000000) (hpay : pyf (wld D) no) : ∀ t : Nat, ∀ (q K c : Nat) (I : zI) (L : zL) (P : zR) (S : zT) (Q : zQ) (b bK bc : Nat), q + t = K → K ≤ m → gS 15 ph I0 L0 P0 S0 a p h0 m en (bvC NN) NN born I L P S b bK bc → vr no born q c → (∀ j, j ≤ q → I (a + 1) j = nI (dgR born q c j)) → bsI no born NN (wvC (wld D) p h0 (en - h0) len born) K (c * 8 ^ t) b bK bc → (∀ I2 L2 P2 S2 b2 bK2 bc2, gS 15 ph I0 L0 P0 S0 a p h0 m en (bvC NN) NN born I2 L2 P2 S2 b2 bK2 bc2 → (∀ j, j ≤ q → I2 (a + 1) j = I (a + 1) j) → bsI no born NN (wvC (wld D) p h0 (en - h0) len born) K ((c + 1) * 8 ^ t) b2 bK2 bc2 → Q (.inl none) I2 L2 P2 S2) → Zm G mX15_go (7 + t) (6 * 6 ^ t) (324 * 6 ^ t) [.ref a, .int (nI (q + 1)), .int (nI K)] I L P S Q := by
  intro t
  induction t with
  | zero =>
    intro q K c I L P S Q b bK bc hq hK hG hv hoff hb kk
    obtain rfl : q = K := by omega
    exact c_X15_go150 hX0 hp hm hbn hkn hl hl0 hl6 hh he hNN hpay hK hG hv hoff (by rw [Nat.pow_zero, Nat.mul_one] at hb; exact hb) (fun I2 L2 P2 S2 b2 bK2 bc2 g1 g2 g3 => kk _ _ _ _ _ _ _ g1 g2 (by rw [Nat.pow_zero, Nat.mul_one]; exact g3))
  | succ t ih =>
    intro q K c I L P S Q b bK bc hq hK hG hv hoff hb kk
    exact c_X15_go15s hX0 hp hm hbn hkn hl hl0 hl6 hh he hNN hpay ih hq hK hG hv hoff hb kk
set_option maxHeartbeats 4000000 in
theorem c_X15_all15 (hX0 : xR D R no n np ro oh ph I0 L0 P0 S0) (hp : p < n) (hm : m ≤ 2) (hbn : born < no) (hkn : knf (wld D) no) (hl : wld D 18 p = nI len) (hl0 : 0 < len) (hl6 : len ≤ 60) (hh : h0 ≤ en) (he : en ≤ 2399) (hNN : NN = 1000000) (hpay : pyf (wld D) no) (hG : gS 15 ph I0 L0 P0 S0 a p h0 m en (bvC NN) NN born I L P S NN 0 0) (ho : I (a + 1) 0 = nI born) (kk : ∀ I2 L2 P2 S2 b2 bK2 bc2, gS 15 ph I0 L0 P0 S0 a p h0 m en (bvC NN) NN born I2 L2 P2 S2 b2 bK2 bc2 → bsI no born NN (wvC (wld D) p h0 (en - h0) len born) (m + 1) (0) b2 bK2 bc2 → Q (.inl none) I2 L2 P2 S2) : Zm G mX15_all 11 (C + 6 * s6 (m + 1)) (Sl + 324 * s6 (m + 1)) [.ref a] I L P S Q := by
  refine Z_entry (lv := [_, _]) (Nat.le_of_ble_eq_true rfl) rfl ?_
  refine Z_iconst (nI 0) dX15_all_0 rfl ?_
  refine Z_istore_n (lv' := [_, _]) dX15_all_1 rfl rfl (Nat.le_of_ble_eq_true rfl) ?_
  have lp2 : ∀ i, i ≤ m + 1 → ∀ I2 L2 P2 S2 b2 bK2 bc2, gS 15 ph I0 L0 P0 S0 a p h0 m en (bvC NN) NN born I2 L2 P2 S2 b2 bK2 bc2 → I2 (a + 1) 0 = nI born → bsI no born NN (wvC (wld D) p h0 (en - h0) len born) i (0) b2 bK2 bc2 → Zj G mX15_all 11 (C + 6 * (s6 (m + 1) - s6 i)) (Sl + 324 * (s6 (m + 1) - s6 i)) 2 [.ref a, .int (nI i)] [] I2 L2 P2 S2 Q := by
    refine zloop (m + 1) (fun i => ∀ I2 L2 P2 S2 b2 bK2 bc2, gS 15 ph I0 L0 P0 S0 a p h0 m en (bvC NN) NN born I2 L2 P2 S2 b2 bK2 bc2 → I2 (a + 1) 0 = nI born → bsI no born NN (wvC (wld D) p h0 (en - h0) len born) i (0) b2 bK2 bc2 → Zj G mX15_all 11 (C + 6 * (s6 (m + 1) - s6 i)) (Sl + 324 * (s6 (m + 1) - s6 i)) 2 [.ref a, .int (nI i)] [] I2 L2 P2 S2 Q) (fun i hi ih => ?_)
    intro I2 L2 P2 S2 b2 bK2 bc2 hG f1 hb2
    show Zj _ _ _ _ _ _ _ _ _ _ _ _ _
    refine Z_iload_n dX15_all_2 rfl ?_
    refine Z_aload_n dX15_all_3 rfl ?_
    refine Z_getR (r := (a + 1)) hG.2.1.2.1 fX15_30_15 dX15_all_4 rfl hG.2.2.1.1.2.1 ?_
    refine Z_alen hG.2.1.2.2 (by simp [zTys]) dX15_all_7 ?_
    refine Z_icmpgeN 23 dX15_all_8 rfl (by omega) (by omega) (fun c8 => ?_) (fun c8 => ?_)
    · have ei : i = m + 1 := by omega
      rw [ei] at hb2
      refine Z_return dX15_all_23 rfl ?_
      exact kk _ _ _ _ _ _ _ hG hb2
    · have X6 := s6_le (show i + 1 ≤ m + 1 by omega)
      have X7 : s6 (i + 1) = s6 i + 6 ^ i := rfl
      refine Z_aload_n dX15_all_11 rfl ?_
      refine Z_iconst (nI 1) dX15_all_12 rfl ?_
      refine Z_iload_n dX15_all_13 rfl ?_
      refine Z_call (d' := (7 + i)) (C := (C + 6 * (s6 (m + 1) - s6 (i + 1)))) (C' := (6 * 6 ^ i)) (Sl := (Sl + 324 * (s6 (m + 1) - s6 (i + 1)))) (S' := (324 * 6 ^ i)) (zCal_U uX15_68_15 rfl nX15_go (by decide) dX15_all_14) pX15_go hG.2.1.2.1 zkl15 [_, _] rfl rfl (Nat.le_of_ble_eq_true rfl) (by omega) (by omega) (by omega) (c_X15_go15 hX0 hp hm hbn hkn hl hl0 hl6 hh he hNN hpay i 0 i 0 _ _ _ _ _ _ _ _ (by omega) (by omega) hG vr_0 (fun j hj => by obtain rfl : j = 0 := (by omega); exact f1) (by rw [Nat.zero_mul]; exact hb2) (fun I3 L3 P3 S3 b3 bK3 bc3 g3 g4 g5 => ?_))
      refine Z_iincN (a := _) (k := 1) (lv' := [_, _]) dX15_all_17 rfl rfl rfl rfl ?_
      refine Z_goto 2 dX15_all_20 rfl ?_
      exact ih (by omega) _ _ _ _ _ _ _ g3 ((g4 0 (Nat.le_refl _)).trans f1) (by have z := bsI_next (by rw [Nat.zero_add, Nat.one_mul] at g5; exact g5); exact z)
  have u9 := lp2 0 (by omega) _ _ _ _ _ _ _ hG ho bsI_0
  exact Zj.less u9 (Nat.le_refl _) (Nat.le_refl _) (Nat.le_refl _)
set_option maxHeartbeats 4000000 in
theorem c_X15_tellRow15 (hX0 : xR D R no n np ro oh ph I0 L0 P0 S0) (hG : gS 15 ph I0 L0 P0 S0 a p h0 m en (bvC NN) NN born I L P S b bK bc) (hb : b < NN) (h3 : bK ≤ 3) (kk : ∀ I2 L2, rwX I2 L2 (rowT bK bc bK) → fR I L I2 L2 → Q (.inl none) I2 L2 P S) : Zm G mX15_tellRow 2 C Sl [.ref a] I L P S Q := by
  have r1 : rwX I L R := hX0.2.2.1.2.fX (by rw [hG.1.2.1]) hG.1.2.2
  have hX := hX0.go hG.1.1 r1
  have hx := hX.1.x
  have hO := hX.1.wd
  have hR := hX.1.wr
  have hPc := hX.1.pc
  have hw := hX.1.hw
  have h6 := hw.o6
  have hn8 := hw.n8
  obtain ⟨r, ⟨hr1, hr2, hr3⟩, hr4, hr5⟩ := hG.2.2.2.2 hb
  refine Z_entry (lv := [_, _]) (Nat.le_of_ble_eq_true rfl) rfl ?_
  refine Z_aload_n dX15_tellRow_0 rfl ?_
  refine Z_getR (r := 100) hG.2.1.2.1 fX15_3_15 dX15_tellRow_1 rfl hG.2.2.1.1.2.2 ?_
  refine Z_iconst (nI 0) dX15_tellRow_4 rfl ?_
  refine Z_putIN hx.1 fX15_85_0 dX15_tellRow_5 rfl ?_
  refine Z_aload_n dX15_tellRow_8 rfl ?_
  refine Z_getR (r := 100) hG.2.1.2.1 fX15_3_15 dX15_tellRow_9 rfl hG.2.2.1.1.2.2 ?_
  refine Z_aload_n dX15_tellRow_12 rfl ?_
  refine Z_getR (r := r) hG.2.1.2.1 fX15_62_15 dX15_tellRow_13 rfl hr1 ?_
  refine Z_alen hr4 (by simp [zTys]) dX15_tellRow_16 ?_
  refine Z_iconst (nI 1) dX15_tellRow_17 rfl ?_
  refine Z_isubN dX15_tellRow_18 (by omega) ?_
  refine Z_re (y := nI bK) (by rw [show bK + 1 - 1 = bK by omega]) ?_
  refine Z_i2l dX15_tellRow_19 ?_
  refine Z_call0 (d' := 0) (zCal_VN q549 q83 q1030 q548 qs2 nX1_tell (by decide) dX15_tellRow_20) pX1_tell hx.1 zkl0 [_] rfl rfl (Nat.le_of_ble_eq_true rfl) (by omega) (c_X1_tell hx (rwX.z (I := I) (L := L)) (by decide) (fun J8 M8 u8 v8 => ?_))
  refine Z_iconst (nI 1) dX15_tellRow_23 rfl ?_
  refine Z_istore_n (lv' := [_, _]) dX15_tellRow_24 rfl rfl (Nat.le_of_ble_eq_true rfl) ?_
  have lp25 : ∀ i, i ≤ bK → ∀ I2 L2, rwX I2 L2 (rowT bK bc i) → fR I L I2 L2 → Zj G mX15_tellRow 2 C Sl 25 [.ref a, .int (nI (i + 1))] [] I2 L2 P S Q := by
    refine zloop (bK) (fun i => ∀ I2 L2, rwX I2 L2 (rowT bK bc i) → fR I L I2 L2 → Zj G mX15_tellRow 2 C Sl 25 [.ref a, .int (nI (i + 1))] [] I2 L2 P S Q) (fun i hi ih => ?_)
    intro I2 L2 u1 v1
    show Zj _ _ _ _ _ _ _ _ _ _ _ _ _
    refine Z_iload_n dX15_tellRow_25 rfl ?_
    refine Z_aload_n dX15_tellRow_26 rfl ?_
    refine Z_getR (r := r) hG.2.1.2.1 fX15_62_15 dX15_tellRow_27 rfl hr1 ?_
    refine Z_alen hr4 (by simp [zTys]) dX15_tellRow_30 ?_
    refine Z_icmpgeN 54 dX15_tellRow_31 rfl (by omega) (by omega) (fun c31 => ?_) (fun c31 => ?_)
    · have ei : i = bK := by omega
      rw [ei] at u1
      refine Z_return dX15_tellRow_54 rfl ?_
      exact kk _ _ u1 v1
    · refine Z_aload_n dX15_tellRow_34 rfl ?_
      refine Z_getR (r := 100) hG.2.1.2.1 fX15_3_15 dX15_tellRow_35 rfl hG.2.2.1.1.2.2 ?_
      refine Z_aload_n dX15_tellRow_38 rfl ?_
      refine Z_getR (r := r) hG.2.1.2.1 fX15_62_15 dX15_tellRow_39 rfl hr1 ?_
      refine Z_iload_n dX15_tellRow_42 rfl ?_
      refine Z_iald hr4 (zix_nI (by omega) (by omega)) dX15_tellRow_43 ?_
      refine Z_re (y := nI (dgR born bK bc (i + 1))) ((congrFun (v1.1 r (by omega)) (i + 1)).trans (hr5 (i + 1) (by omega))) ?_
      refine Z_i2l dX15_tellRow_44 ?_
      refine Z_call0 (d' := 0) (zCal_VN q549 q83 q1030 q548 qs2 nX1_tell (by decide) dX15_tellRow_45) pX1_tell hx.1 zkl0 [_] rfl rfl (Nat.le_of_ble_eq_true rfl) (by omega) (c_X1_tell hx u1 (by rw [rowT_l]; omega) (fun J3 M3 u3 v3 => ?_))
      refine Z_iincN (a := _) (k := 1) (lv' := [_, _]) dX15_tellRow_48 rfl rfl rfl rfl ?_
      refine Z_goto 25 dX15_tellRow_51 rfl ?_
      rw [dgR_b] at u3
      exact ih (by omega) _ _ u3 (v1.tr v3)
  exact lp25 0 (by omega) _ _ u8 (fR.rf.z.tr v8)
set_option maxHeartbeats 4000000 in
theorem c_X15_init15 (hx : xO S P) (hPc : pcR S P I W n ph) (hp : p < n) (hn8 : n ≤ 8) (hb : W 20 p = nI born) (hph : ph p < 7000) (hS : S a = some (.inl 15)) (ha : S (a + 1) = none) (ha7 : 7000 ≤ a) (hm : m ≤ 3) (k : ∀ I2 L2 P2 S2, (∀ y, y ≠ a → y ≠ a + 1 → (I2 y = I y ∧ L2 y = L y) ∧ P2 y = P y ∧ S2 y = S y) → (S2 a = some (.inl 15) ∧ S2 (a + 1) = some (.inr (.int, m + 1))) → (P2 a 0 = some (ph p) ∧ P2 a 2 = some (a + 1) ∧ P2 a 5 = some 100) → (I2 a 1 = nI h0 ∧ I2 a 3 = -1 ∧ I2 (a + 1) 0 = nI born) → (∀ j, 5 < j → I2 a j = I a j ∧ P2 a j = P a j) → Q (.inl none) I2 L2 P2 S2) : Zm G mX15_init 1 (C + 1) (Sl + 4) [.ref a, .ref 100, .int (nI p), .int (nI h0), .int (nI m)] I L P S Q := by
  refine Z_entry (lv := [_, _, _, _, _]) (Nat.le_of_ble_eq_true rfl) rfl ?_
  refine Z_aload_n dX15_init_0 rfl ?_
  refine Z_aload_n dX15_init_1 rfl ?_
  refine Z_putFR hS wX15_3_15 rfl dX15_init_2 rfl ?_
  refine Z_aload_n dX15_init_5 rfl ?_
  refine Z_objInit q929 dX15_init_6 (Nat.le_of_ble_eq_true rfl) ?_
  refine Z_aload_n dX15_init_9 rfl ?_
  refine Z_iconst (-1) dX15_init_10 rfl ?_
  refine Z_putI hS fX15_15_15 dX15_init_11 rfl rfl rfl ?_
  refine Z_aload_n dX15_init_14 rfl ?_
  refine Z_aload_n dX15_init_15 rfl ?_
  refine Z_getRN (r := 110) hx.1 fX15_19_0 dX15_init_16 rfl ((congrFun (zw_n _ _ _ _ (by omega)) _).trans (hx.2.2.1 0 _ rfl).2) ?_
  refine Z_iload_n dX15_init_19 rfl ?_
  refine Z_aald (r := (ph p)) (hx.2.2.1 0 _ rfl).1 (by simp [zTys]) rfl (zix_nI (by dsimp only; omega) (by decide)) ((congrFun (zw_n _ _ _ _ (by omega)) _).trans (hPc p hp).1) dX15_init_20 ?_
  refine Z_putFR hS wX15_23_15 rfl dX15_init_21 rfl ?_
  refine Z_aload_n dX15_init_24 rfl ?_
  refine Z_iload_n dX15_init_25 rfl ?_
  refine Z_putFI hS wX15_27_15 rfl dX15_init_26 rfl rfl rfl ?_
  refine Z_aload_n dX15_init_29 rfl ?_
  refine Z_iload dX15_init_30 rfl ?_
  refine Z_iconst (nI 1) dX15_init_32 rfl ?_
  refine Z_iaddN dX15_init_33 ?_
  refine Zj.less (C := C + 1) (Sl := Sl + (m + 1)) ?_ (Nat.le_refl _) (by omega) (by omega)
  refine Z_newa (N := m + 1) (a + 1) ha .int (by simp [zTys, newarray.typeOf]) rfl q165 (nI_pos (by omega)) (nI_clamp (by omega)) (by show (m + 1) * 4 ≤ 536870912; omega) dX15_init_34 ?_
  have hS2 : (zu S (a + 1) (some (.inr (newarray.typeOf .int, m + 1)))) a = some (.inl 15) := (zu_n _ _ _ (by omega)).trans hS
  have hSp : (zu S (a + 1) (some (.inr (newarray.typeOf .int, m + 1)))) (ph p) = some (.inl 6) := (zu_n _ _ _ (by omega)).trans (hPc p hp).2.1
  refine Z_putFR hS2 wX15_30_15 rfl dX15_init_36 rfl ?_
  refine Z_aload_n dX15_init_39 rfl ?_
  refine Z_getR (r := (a + 1)) hS2 fX15_30_15 dX15_init_40 rfl (by simp [zw, zu]) ?_
  refine Z_iconst (nI 0) dX15_init_43 rfl ?_
  refine Z_aload_n dX15_init_44 rfl ?_
  refine Z_getR (r := (ph p)) hS2 fX15_23_15 dX15_init_45 rfl (by simp [zw, zu]) ?_
  refine Z_getI hSp fX15_34_6 dX15_init_48 rfl ?_
  refine Z_re (y := nI (born)) ((congrFun ((zu_n _ _ _ (by omega)).trans ((zw_n _ _ _ _ (by omega)).trans (zw_n _ _ _ _ (by omega)))) 5).trans ((hPc p hp).2.2.2.2.2.trans hb)) ?_
  refine Z_iast (zu_s _ _ _) (zix_nI (by omega) (by omega)) dX15_init_51 ?_
  refine Z_return dX15_init_52 rfl ?_
  exact k _ _ _ _ (fun y h1 h2 => ⟨⟨by simp [zw, zu, h1, h2], zu_n _ _ _ h2⟩, by simp [zw, zu, h1, h2], zu_n _ _ _ h2⟩) ⟨hS2, zu_s _ _ _⟩ ⟨by simp [zw, zu], by simp [zw, zu], by simp [zw, zu]⟩ ⟨by simp [zw, zu], by simp [zw, zu], by simp [zw, zu]⟩ (fun j hj => ⟨by simp [zw, zu, show ¬ j = 3 by omega, show ¬ j = 1 by omega], by simp [zw, zu, show ¬ j = 0 by omega, show ¬ j = 2 by omega, show ¬ j = 5 by omega]⟩)
set_option maxHeartbeats 4000000 in
theorem c_X17_init (hx : xO S P) (hPc : pcR S P I W n ph) (hp : p < n) (hn8 : n ≤ 8) (hb : W 20 p = nI born) (hph : ph p < 7000) (hS : S a = some (.inl 15)) (ha : S (a + 1) = none) (ha7 : 7000 ≤ a) (hm : m ≤ 3) (k : ∀ I2 L2 P2 S2, (∀ y, y ≠ a → y ≠ a + 1 → (I2 y = I y ∧ L2 y = L y) ∧ P2 y = P y ∧ S2 y = S y) → (S2 a = some (.inl 15) ∧ S2 (a + 1) = some (.inr (.int, m + 1))) → (P2 a 0 = some (ph p) ∧ P2 a 2 = some (a + 1) ∧ P2 a 5 = some 100) ∧ P2 a 7 = some 100 → (I2 a 1 = nI h0 ∧ I2 a 3 = -1 ∧ I2 (a + 1) 0 = nI born) ∧ I2 a 6 = nI en → Q (.inl none) I2 L2 P2 S2) : Zm G mX17_init 2 (C + 1) (Sl + 4) [.ref a, .ref 100, .int (nI p), .int (nI h0), .int (nI m), .int (nI en)] I L P S Q := by
  refine Z_entry (lv := [_, _, _, _, _, _]) (Nat.le_of_ble_eq_true rfl) rfl ?_
  refine Z_aload_n dX17_init_0 rfl ?_
  refine Z_aload_n dX17_init_1 rfl ?_
  refine Z_putFR hS wX17_3_15 rfl dX17_init_2 rfl ?_
  refine Z_aload_n dX17_init_5 rfl ?_
  refine Z_aload_n dX17_init_6 rfl ?_
  refine Z_iload_n dX17_init_7 rfl ?_
  refine Z_iload_n dX17_init_8 rfl ?_
  refine Z_iload dX17_init_9 rfl ?_
  refine Z_call (d' := 1) (C := C) (C' := (0 + 1)) (Sl := Sl) (S' := (0 + 4)) (zCal_I q928 q108 q1040 q927 rfl nX15_init (by decide) dX17_init_11) pX15_init hS zkl15 [_, _, _, _] rfl rfl (Nat.le_of_ble_eq_true rfl) (by omega) (by omega) (by omega) (c_X15_init15 (hx.eqA (a := a) (v := some 100) ha7) (hPc.eqA (v := some 100) (by omega)) hp hn8 hb hph hS ha ha7 hm (fun I2 L2 P2 S2 f s q i1 i2 => ?_))
  have hz9 : True := trivial
  refine Z_aload_n dX17_init_14 rfl ?_
  refine Z_iload dX17_init_15 rfl ?_
  refine Z_putFI s.1 wX17_15_15 rfl dX17_init_17 rfl rfl rfl ?_
  refine Z_return dX17_init_20 rfl ?_
  exact k _ _ _ _ (fun y h1 h2 => ⟨⟨(zw_n _ _ _ _ h1).trans (f y h1 h2).1.1, (f y h1 h2).1.2⟩, (f y h1 h2).2.1.trans (zw_n _ _ _ _ h1), (f y h1 h2).2.2⟩) s ⟨q, ((i2 7 (by decide)).2).trans (zw_s _ _ _ _)⟩ ⟨⟨by rw [zw_a, zu_n _ _ _ (by decide)]; exact i1.1, by rw [zw_a, zu_n _ _ _ (by decide)]; exact i1.2.1, by rw [zw_n _ _ _ _ (by omega)]; exact i1.2.2⟩, zw_s _ _ _ _⟩
/-- the best of all rows, as the search says it -/
theorem bsI_G {W : zI} (h : bsI no born NN (wvC W p h0 (en - h0) len born) (m + 1) 0 b bK bc) (hNN : NN = 1000000) (h6 : no ≤ 6) (hb : W 20 p = nI born) (hm : m ≤ 2) (hbn : born < no) (hl : W 18 p = nI len) (hl0 : 0 < len) (hl6 : len ≤ 60) (hkn : knf W no) (hy : pyf W no) (he : en ≤ h0 + 400) : (b = NN ∧ cheF W p h0 (en - h0) m no = none) ∨ (b < NN ∧ bK ≤ 3 ∧ bc < 512 ∧ cheF W p h0 (en - h0) m no = some (bK, 512 * b + bc)) := by
  subst hNN
  rcases bsI_chp h hkn hy h6 (by rw [hb, nI_clamp (by omega)]) hm hbn (by rw [hl, nI_clamp (by omega)]) hl0 hl6 (by omega) with ⟨a1, a2⟩ | ⟨a1, ⟨a2, a3⟩, a4⟩
  · exact Or.inl ⟨a1, cheF_n a2⟩
  · have : 8 ^ bK ≤ 8 ^ 2 := Nat.pow_le_pow_right (by omega) (by omega)
    have := a3.1
    exact Or.inr ⟨a1, by omega, by omega, cheF_s a4⟩
set_option maxHeartbeats 8000000 in
theorem o_xcheap (hX0 : xR D R no n np ro oh ph I0 L0 P0 S0) (hkn : knf (wld D) no) (hpay : pyf (wld D) no) {q h k e : Int32} (kk : ∀ I2 L2 P2 S2, xR (fCheap D R q h k e).2.1 (fCheap D R q h k e).2.2 no n np ro oh ph I2 L2 P2 S2 → frX I0 L0 P0 S0 I2 L2 P2 S2 → Q (.inl (some (.int (fCheap D R q h k e).1))) I2 L2 P2 S2) : Zm G mX1_cheap 13 (C + 300) (Sl + 14000) [.ref 100, .int q, .int h, .int k, .int e] I0 L0 P0 S0 Q := by
  have hx := hX0.1.x
  refine Z_entry (lv := [_, _, _, _, _, _]) (Nat.le_of_ble_eq_true rfl) rfl ?_
  refine Z_aload_n dX1_cheap_0 rfl ?_
  refine Z_iload_n dX1_cheap_1 rfl ?_
  refine Z_iload_n dX1_cheap_2 rfl ?_
  refine Z_iload_n dX1_cheap_3 rfl ?_
  refine Z_iconst (nI 2) dX1_cheap_4 rfl ?_
  refine Z_call0 (d' := 2) (zCal_V gX1_299 nX1_canAsk (by decide) dX1_cheap_5) pX1_canAsk hx.1 zkl0 [_, _, _, _] rfl rfl (Nat.le_of_ble_eq_true rfl) (by omega) (c_X1_canAsk hX0 (X9 := 2) (by decide) (fun p h0 m hp hh2 hm e1 e2 e3 r1 r2 r3 => ?_) (fun r0 => ?_))
  · subst e1 e2 e3
    obtain ⟨N0, hN0, hN0b⟩ := hX0.2.2.2.2.1.2.2
    have e0 := hX0.1
    have hx := e0.x
    have hw0 := e0.hw
    have h60 := hw0.o6
    have hn80 := hw0.n8
    obtain ⟨born, hbn, hb20⟩ := hw0.2.2.1 p hp
    obtain ⟨-, ⟨len, hl0, hl6, hl⟩, -⟩ := e0.hx p hp
    obtain ⟨NN, hNN⟩ : ∃ NN, NN = 1000000 := ⟨_, rfl⟩
    have hph7 : ph p < 7000 := by rw [hX0.2.2.2.2.2.2 p]; omega
    have s65 : s6 (m + 1) ≤ 43 := s6_le (show m + 1 ≤ 3 by omega)
    have vp : (nI p).toNatClampNeg = p := nI_clamp (by omega)
    have vh : (nI h0).toNatClampNeg = h0 := nI_clamp (by omega)
    have vm : (nI m).toNatClampNeg = m := nI_clamp (by omega)
    have hno : noD D = no := by rw [noD, show D 0 3 = nI no from hw0.o3, nI_clamp (by omega)]
    have r3b : rB (nI m) 0 2 = true := r3
    refine Z_ifeq 31 dX1_cheap_8 rfl (fun h => absurd h (by decide)) (fun _ => ?_)
    refine Z_iload dX1_cheap_11 rfl ?_
    refine Z_iload_n dX1_cheap_13 rfl ?_
    refine Z_sipush (nI 2399) dX1_cheap_14 rfl ?_
    refine Z_iload_n dX1_cheap_17 rfl ?_
    refine Z_sipush (nI 400) dX1_cheap_18 rfl ?_
    refine Z_iaddN dX1_cheap_21 ?_
    refine Z_callS0 (d' := 0) (zCal_S gX1_163 nJ5_min (by decide) dX1_cheap_22) pJ5_min [_, _] rfl rfl (Nat.le_of_ble_eq_true rfl) (by omega) (c_J5_min ?_)
    refine Z_re (y := nI (ehi h0)) (by rw [mn_n (by decide) (by omega)]; rfl) ?_
    refine Z_callS0 (d' := 0) (zCal_S gX1_3 nX1_in (by decide) dX1_cheap_25) pX1_in [_, _, _] rfl rfl (Nat.le_of_ble_eq_true rfl) (by omega) (c_X1_in (fun h25a h25b => ?_) (fun h25 => ?_))
    · rw [z_ti (by omega)] at h25a
      rw [z_ti (show ehi h0 < 2 ^ 31 by unfold ehi; omega)] at h25b
      have r25 : rB e (h0 : Int) (ehi h0 : Int) = true := rB_t h25a h25b
      obtain ⟨en, hen, een⟩ := z_rng (n := ehi h0) (by omega) h25b (by unfold ehi; omega)
      subst een
      rw [z_ti (show en < 2 ^ 31 by unfold ehi at hen; omega)] at h25a
      have ve : (nI en).toNatClampNeg = en := nI_clamp (by unfold ehi at hen; omega)
      unfold ehi at hen
      have hh : h0 ≤ en := by omega
      have he : en ≤ 2399 := by omega
      refine Z_ifne 33 dX1_cheap_28 rfl (fun _ => ?_) (fun h => absurd h (by decide))
      refine Zj.less (C := C + 6 * s6 (m + 1) + (0 + 1) + 1) (Sl := Sl + 324 * s6 (m + 1) + (0 + 4) + 8) ?_ (Nat.le_refl _) (by omega) (by omega)
      refine Z_new N0 (hN0b _ (Nat.le_refl _)) wX1_319 dX1_cheap_33 ?_
      refine Z_dup dX1_cheap_36 rfl ?_
      refine Z_aload_n dX1_cheap_37 rfl ?_
      refine Z_iload_n dX1_cheap_38 rfl ?_
      refine Z_iload_n dX1_cheap_39 rfl ?_
      refine Z_iload_n dX1_cheap_40 rfl ?_
      refine Z_iload dX1_cheap_41 rfl ?_
      refine Z_call (d' := 2) (C := (C + 6 * s6 (m + 1))) (C' := (0 + 1)) (Sl := (Sl + 324 * s6 (m + 1))) (S' := (0 + 4)) (zCal_I q1039 q111 q1037 q1038 rfl nX17_init (by decide) dX1_cheap_43) pX17_init (by simp [zu]) zkl15 [_, _, _, _, _] rfl rfl (Nat.le_of_ble_eq_true rfl) (by omega) (by omega) (by omega) (c_X17_init (a := N0) (hx.nwA hN0 (hN0b _ (Nat.le_refl _))) (e0.pc.nwA (by omega) (fun y hy => by rw [hX0.2.2.2.2.2.2 y]; omega)) hp hn80 hb20 hph7 (zu_s _ _ _) ((zu_n _ _ _ (by omega)).trans (hN0b _ (by omega))) hN0 (by omega) (fun I2 L2 P2 S2 f s q i1 => ?_))
      have hG1 : gS 15 ph I0 L0 P0 S0 N0 p h0 m en (bvC NN) NN born I2 L2 P2 S2 NN 0 0 := gS.mk ⟨N0, hN0, hN0b⟩ hN0 (hN0b _ (Nat.le_refl _)) (hN0b _ (by omega)) (fun y h1 h2 => ⟨⟨(f y h1 h2).1.1.trans (zu_n _ _ _ h1), (f y h1 h2).1.2.trans (zu_n _ _ _ h1)⟩, (f y h1 h2).2.1.trans (zu_n _ _ _ h1), (f y h1 h2).2.2.trans (zu_n _ _ _ h1)⟩) s q.1 ⟨i1.1.1, by rw [i1.1.2.1]; exact (if_pos rfl).symm⟩ (fun _ => ⟨i1.2, q.2⟩)
      refine Z_astore (lv' := [_, _, _, _, _, _]) dX1_cheap_46 rfl rfl (Nat.le_of_ble_eq_true rfl) ?_
      refine Z_aload dX1_cheap_48 rfl ?_
      refine Z_call (d' := 11) (C := C) (C' := (0 + 6 * s6 (m + 1))) (Sl := Sl) (S' := (0 + 324 * s6 (m + 1))) (zCal_U uX1_308_15 rfl nX15_all (by decide) dX1_cheap_50) pX15_all s.1 zkl15 [] rfl rfl (Nat.le_of_ble_eq_true rfl) (by omega) (by omega) (by omega) (c_X15_all15 hX0 hp hm hbn hkn hl hl0 hl6 hh he hNN hpay hG1 i1.1.2.2 (fun I3 L3 P3 S3 b bK bc hG3 hB => ?_))
      have hY := bsI_G hB hNN h60 hb20 hm hbn hl hl0 hl6 hkn hpay (by omega)
      rcases hY with ⟨hb0, hF⟩ | ⟨hb0, hK3, hbc, hF⟩
      · have hz9 : True := trivial
        refine Z_aload dX1_cheap_53 rfl ?_
        refine Z_getI hG3.2.1.2.1 fX1_313_15 dX1_cheap_55 rfl ?_
        refine Z_re (y := -1) (hG3.2.2.2.1.trans (if_pos hb0)) ?_
        refine Z_iconst (-1) dX1_cheap_58 rfl ?_
        refine Z_icmpne 65 dX1_cheap_59 rfl (fun c59 => ?_) (fun c59 => ?_)
        · exact absurd rfl c59
        · refine Z_bipush (-2) dX1_cheap_62 rfl ?_
          refine Z_ireturn dX1_cheap_64 rfl rfl ?_
          exact xO_k (D2 := D) (R2 := R) (by unfold fCheap; rw [if_pos (by rw [r1, r2, r3b, vh, r25]; rfl), vp, vh, vm, ve, hno, hF]) kk (hX0.go hG3.1.1 (hX0.2.2.1.2.fX (by rw [hG3.1.2.1]) hG3.1.2.2)) hG3.1.1.frX
      · have hz9 : True := trivial
        refine Z_aload dX1_cheap_53 rfl ?_
        refine Z_getI hG3.2.1.2.1 fX1_313_15 dX1_cheap_55 rfl ?_
        refine Z_re (y := nI b) (hG3.2.2.2.1.trans (if_neg (by omega))) ?_
        refine Z_iconst (-1) dX1_cheap_58 rfl ?_
        refine Z_icmpne 65 dX1_cheap_59 rfl (fun c59 => ?_) (fun c59 => ?_)
        · refine Z_aload dX1_cheap_65 rfl ?_
          refine Z_call0 (d' := 2) (zCal_U uX1_316_15 rfl nX15_tellRow (by decide) dX1_cheap_67) pX15_tellRow hG3.2.1.2.1 zkl15 [] rfl rfl (Nat.le_of_ble_eq_true rfl) (by omega) (c_X15_tellRow15 hX0 hG3 hb0 hK3 (fun J4 M4 u4 v4 => ?_))
          refine Z_aload dX1_cheap_70 rfl ?_
          refine Z_getI hG3.2.1.2.1 fX1_313_15 dX1_cheap_72 rfl ?_
          refine Z_re (y := nI b) ((congrFun (v4.1 N0 (by omega)) 3).trans (hG3.2.2.2.1.trans (if_neg (by omega)))) ?_
          refine Z_ireturn dX1_cheap_75 rfl rfl ?_
          exact xO_k (D2 := D) (R2 := rowT bK bc bK) (by unfold fCheap; rw [if_pos (by rw [r1, r2, r3b, vh, r25]; rfl), vp, vh, vm, ve, hno, hF]; show (nI ((512 * b + bc) / 512), D, rowT bK ((512 * b + bc) % 512) bK) = _; rw [show (512 * b + bc) / 512 = b by omega, show (512 * b + bc) % 512 = bc by omega]) kk (hX0.go (hG3.1.1.fR v4) u4) (hG3.1.1.fR v4).frX
        · exact absurd c59 (nI_ne1 (by omega))
    · rw [z_ti (by omega), z_ti (show ehi h0 < 2 ^ 31 by unfold ehi; omega)] at h25
      have r25 : rB e (h0 : Int) (ehi h0 : Int) = false := rB_f h25
      refine Z_ifne 33 dX1_cheap_28 rfl (fun h => absurd h (by decide)) (fun _ => ?_)
      refine Z_iconst (-1) dX1_cheap_31 rfl ?_
      refine Z_ireturn dX1_cheap_32 rfl rfl ?_
      exact xO_k (D2 := D) (R2 := R) (by unfold fCheap; rw [if_neg (by rw [vh, r25, Bool.and_false]; decide)]) kk hX0 frX.rf
  · refine Z_ifeq 31 dX1_cheap_8 rfl (fun _ => ?_) (fun h => absurd h (by decide))
    refine Z_iconst (-1) dX1_cheap_31 rfl ?_
    refine Z_ireturn dX1_cheap_32 rfl rfl ?_
    exact xO_k (D2 := D) (R2 := R) (by unfold fCheap; rw [if_neg (by rw [show (pB D q && rB h 0 2399 && rB k 0 2) = false from r0, Bool.false_and]; decide)]) kk hX0 frX.rf
end X56C
