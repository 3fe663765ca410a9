set_option maxRecDepth 100000
/-! Z, part 12: rules for arraycopy, an array's clone, casts and instanceof of arrays, arrays of arrays -/
section ZROWS12
variable {G : zG} {M : zM} {d C Sl pc idx : Nat} {lv st : List Value} {I : zI} {L : zL} {P : zR} {S : zT} {Q : zQ}
theorem zv_int {ty : FieldType} (h : zint ty = true) (ad : Nat → Nat) (I : zI) (L : zL) (P : zR) (a : Nat) : (fun j => zv ty ad I L P a j) = fun j => .int (I a j) := by
  funext j
  cases ty <;> first | rfl | (simp [zint] at h)
theorem zv_ref {ty : FieldType} (h : zref ty = true) (ad : Nat → Nat) (I : zI) (L : zL) (P : zR) (a : Nat) : (fun j => zv ty ad I L P a j) = fun j => zrf ad (P a j) := by
  funext j
  cases ty <;> first | rfl | (simp [zref] at h)
theorem z_nn {n : Nat} (h : n < 2 ^ 31) : (nI n).toInt = (n : Int) := nI_toInt h
theorem z_arrW : nativeFrameWords "java/lang/System" "arraycopy" 5 ≤ 100 := by decide +kernel
/-- a row of small numbers is copied -/
theorem Z_copyI {ty : FieldType} {n0 n1 a0 a sp dp n : Nat} (hS0 : S a0 = some (.inr (ty, n0))) (hS1 : S a = some (.inr (ty, n1))) (ht : ty ∈ zTys) (hz : zint ty = true) (hl : Cond.methodLink M.1.cls idx arraycopyName ∈ lw_all) (hnat : Cond.native arraycopyName ∈ lw_all) (hsta : Cond.static arraycopyName ∈ lw_all) (hini : Cond.initialized "java/lang/System" ∈ lw_all)
    (h4 : sp + n ≤ n0) (h5 : dp + n ≤ n1) (hb : n0 < 2 ^ 31 ∧ n1 < 2 ^ 31) (hfit : ∀ i, i < n → fits ty (.int (I a0 (sp + i))) = true) (hcat : (st.map fun v => v.category).sum ≤ 8) (hd : decode M.2.1 pc = .ok (.invokestatic idx, 3))
    (k : Zj G M (d + 1) C Sl (pc + 3) lv st (zu I a (va_cpy (I a0) (I a) sp dp n)) L P S Q) : Zj G M (d + 1) C Sl pc lv (.int (nI n) :: .int (nI dp) :: .ref a :: .int (nI sp) :: .ref a0 :: st) I L P S Q := by
  intro p e R s m args below meth c H locs cells slots Kc Ks QQ ad ls X
  intro T hT X0
  have hR := X.2.2.1
  have E := X.2.1
  have hts := X.1.2.2.2.2.1
  have hst9 := zwf_tl (zwf_tl (zwf_tl (zwf_tl (zwf_tl X.2.2.2.2.2.2.1))))
  have hrm := X.2.2.2.2.2.2.2.1
  have hS := X.2.2.2.1
  have hc0 := (hR.1 a0).arr hS0
  have hc1 := (hR.1 a).arr hS1
  rw [zv_int hz] at hc0 hc1
  obtain ⟨-, k0, hk0, cm0, hkk0⟩ := (zArr E ht).1 n0 (fun j => .int (I a0 j))
  obtain ⟨-, k1, hk1, cm1, hkk1⟩ := (zArr E ht).1 n1 (fun j => .int (I a j))
  have hprim : refKind ty = false := by revert hz; cases ty <;> simp [zint, refKind]
  have w1 : (nI sp).toNatClampNeg = sp := nI_clamp (by omega)
  have w2 : (nI dp).toNatClampNeg = dp := nI_clamp (by omega)
  have w3 : (nI n).toNatClampNeg = n := nI_clamp (by omega)
  obtain ⟨vm', X', step⟩ := X0.arraycopy X.1.1 X.1.2.2.2.1 (hts _ hl) (hts _ hnat) (hts _ hsta) (hts _ hini) (src := ad a0) (dst := ad a) (cs := arrV (G.1.2.2 ty) n0 (fun j => .int (I a0 j))) (cd := arrV (G.1.2.2 ty) n1 (fun j => .int (I a j))) (srcPos := nI sp) (destPos := nI dp) (n := nI n) (by rw [hT]; exact hc0) (by rw [hT]; exact hc1)
    (fun _ h => by cases h) (fun _ h => by cases h) (fun h => by cases h) (fun h => by cases h) hk0 hk1 hkk0 hkk1 (by simp [hprim]) (nI_pos (by omega)) (nI_pos (by omega)) (nI_pos (by omega))
    (by rw [z_nn (by omega), z_nn (by omega), arrV_size]; omega)
    (by rw [z_nn (by omega), z_nn (by omega), arrV_size]; omega)
    (fun vm₁ _ i hi => by
      rw [w3] at hi
      have e : (arrV (G.1.2.2 ty) n0 (fun j => .int (I a0 j))).slots.getD ((nI sp).toNatClampNeg + i) .null = .int (I a0 (sp + i)) := by
        rw [w1, Array.getD_eq_getD_getElem?, arrV_read _ _ (by omega)]
        rfl
      refine ⟨?_, ?_⟩
      · rw [e]
        exact hfit i hi
      · rw [e]
        exact trivial)
    (g := F0 m pc ls (.int (nI n) :: .int (nI dp) :: .ref (ad a) :: .int (nI sp) :: .ref (ad a0) :: st.map (zcv ad))) rfl (by rw [X.1.2.2.1]; exact X.2.2.2.2.1.2.1) (rest := st.map (zcv ad)) rfl (by rw [X.1.2.1]; exact hd) (by omega) (by have := z_arrW; rw [zcvs_cat]; show 2 * 0 + _ + _ ≤ _; omega)
  have e1 : copied (arrV (G.1.2.2 ty) n0 (fun j => .int (I a0 j))) (arrV (G.1.2.2 ty) n1 (fun j => .int (I a j))) (nI sp) (nI dp) (nI n) = arrV (G.1.2.2 ty) n1 (fun j => .int (va_cpy (I a0) (I a) sp dp n j)) := by
    have q := va_copied (fun z => Value.int z) (G.1.2.2 ty) (G.1.2.2 ty) (n1 := n1) (sp := (nI sp).toNatClampNeg) (dp := (nI dp).toNatClampNeg) (n := (nI n).toNatClampNeg) (I a0) (I a) (n0 := n0) (by rw [w1, w3]; exact h4)
    rw [w1, w2, w3] at q
    unfold copied
    rw [w1, w2, w3]
    exact q
  rw [e1] at X' step
  have hla : ad a < H.size := (Array.getElem?_eq_some_iff.mp hc1).1
  generalize hcell : arrV (G.1.2.2 ty) n1 (fun j => .int (va_cpy (I a0) (I a) sp dp n j)) = ce at X' step
  have hheap : ((T.setVm vm').setCell (ad a) ce).heap = H.setIfInBounds (ad a) ce := by rw [← hT]; rfl
  have oq : ∀ q : Nat, q ≠ ad a → (H.setIfInBounds (ad a) ce)[q]? = H[q]? := fun q hq => by simp [Array.getElem?_setIfInBounds, Ne.symm hq]
  have hR2 : zRep G ad (zu I a (va_cpy (I a0) (I a) sp dp n)) L P S (H.setIfInBounds (ad a) ce) := hR.put (zmu_arr hS1) (fun b hb => zu_n _ _ _ hb) (fun _ _ => rfl) (fun _ _ => rfl) (fun k r h => hR.2.2.2 a k r (by rw [hS1]; simp) h) oq (by
    unfold zc
    rw [hS1]
    dsimp only
    rw [zv_int hz, zu_s]
    rw [← hcell]
    simp [Array.getElem?_setIfInBounds, hla])
  have hAa : zA G (ad a) := hR.2.2.1 a (zmu_arr hS1)
  obtain ⟨t, a1, b1⟩ := k p e R s m args below meth c _ _ cells slots Kc Ks QQ ad ls (X.toM hR2 ⟨by simp; exact hS.1, fun q g1 g2 => by
      rw [oq q (fun e => g2 (by rw [e]; exact hAa))]
      exact hS.2.1 q g1 g2, fun q hq => by
      rcases List.mem_append.mp hq with h | h
      · exact hS.2.2 q h
      · obtain ⟨z, -, hz⟩ := List.mem_map.mp h
        rw [← hz]
        exact hAa⟩ hst9) _ hheap X'
  exact ⟨t, step t a1, b1⟩
/-- a row of objects is copied -/
theorem Z_copyR {CC : String} {n0 n1 a0 a sp dp n ci N : Nat} {TT : u_T} (hS0 : S a0 = some (.inr (.object CC, n0))) (hS1 : S a = some (.inr (.object CC, n1))) (ht : FieldType.object CC ∈ zTys) (hkl : zKl ci CC TT N) (hl : Cond.methodLink M.1.cls idx arraycopyName ∈ lw_all) (hnat : Cond.native arraycopyName ∈ lw_all) (hsta : Cond.static arraycopyName ∈ lw_all) (hini : Cond.initialized "java/lang/System" ∈ lw_all)
    (h4 : sp + n ≤ n0) (h5 : dp + n ≤ n1) (hb : n0 < 2 ^ 31 ∧ n1 < 2 ^ 31) (hel : ∀ i, i < n → ∀ y, P a0 (sp + i) = some y → S y = some (.inl ci)) (hcat : (st.map fun v => v.category).sum ≤ 8) (hd : decode M.2.1 pc = .ok (.invokestatic idx, 3))
    (k : Zj G M (d + 1) C Sl (pc + 3) lv st I L (zu P a (va_cpy (P a0) (P a) sp dp n)) S Q) : Zj G M (d + 1) C Sl pc lv (.int (nI n) :: .int (nI dp) :: .ref a :: .int (nI sp) :: .ref a0 :: st) I L P S Q := by
  intro p e R s m args below meth c H locs cells slots Kc Ks QQ ad ls X
  intro T hT X0
  have hz : zref (.object CC) = true := rfl
  have hR := X.2.2.1
  have E := X.2.1
  have hts := X.1.2.2.2.2.1
  have hst9 := zwf_tl (zwf_tl (zwf_tl (zwf_tl (zwf_tl X.2.2.2.2.2.2.1))))
  have hrm := X.2.2.2.2.2.2.2.1
  have hS := X.2.2.2.1
  have hc0 := (hR.1 a0).arr hS0
  have hc1 := (hR.1 a).arr hS1
  rw [zv_ref hz] at hc0 hc1
  obtain ⟨-, k0, hk0, cm0, hkk0⟩ := (zArr E ht).1 n0 (fun j => zrf ad (P a0 j))
  obtain ⟨-, k1, hk1, cm1, hkk1⟩ := (zArr E ht).1 n1 (fun j => zrf ad (P a j))
  have w1 : (nI sp).toNatClampNeg = sp := nI_clamp (by omega)
  have w2 : (nI dp).toNatClampNeg = dp := nI_clamp (by omega)
  have w3 : (nI n).toNatClampNeg = n := nI_clamp (by omega)
  obtain ⟨vm', X', step⟩ := X0.arraycopy X.1.1 X.1.2.2.2.1 (hts _ hl) (hts _ hnat) (hts _ hsta) (hts _ hini) (src := ad a0) (dst := ad a) (cs := arrV (G.1.2.2 (.object CC)) n0 (fun j => zrf ad (P a0 j))) (cd := arrV (G.1.2.2 (.object CC)) n1 (fun j => zrf ad (P a j))) (srcPos := nI sp) (destPos := nI dp) (n := nI n) (by rw [hT]; exact hc0) (by rw [hT]; exact hc1)
    (fun _ h => by cases h) (fun _ h => by cases h) (fun h => by cases h) (fun h => by cases h) hk0 hk1 hkk0 hkk1 rfl (nI_pos (by omega)) (nI_pos (by omega)) (nI_pos (by omega))
    (by rw [z_nn (by omega), z_nn (by omega), arrV_size]; omega)
    (by rw [z_nn (by omega), z_nn (by omega), arrV_size]; omega)
    (fun vm₁ hal i hi => by
      rw [w3] at hi
      have e : (arrV (G.1.2.2 (.object CC)) n0 (fun j => zrf ad (P a0 j))).slots.getD ((nI sp).toNatClampNeg + i) .null = zrf ad (P a0 (sp + i)) := by
        rw [w1, Array.getD_eq_getD_getElem?, arrV_read _ _ (by omega)]
        rfl
      rw [e]
      cases hy : P a0 (sp + i) with
      | none => exact ⟨rfl, trivial⟩
      | some y =>
        obtain ⟨cellV, g1, g2, g3, -⟩ := (hR.1 y).obj (hel i hi y hy) hkl
        obtain ⟨kA, comp, r1, r2, r3, -⟩ := (zArr E ht).2
        cases hk1.symm.trans r1
        cases hkk1.symm.trans r2
        have hcls := (E.1.1 ci _ hkl.1).2
        obtain ⟨kE, hkE, -⟩ := Vm.findClass_spec r3
        obtain ⟨kE', hkE', -⟩ := hal.2.2 _ _ hkE
        have ecl : cellV.cls = cm1 := by
          rw [g2]
          exact Option.some.inj (hcls.1.symm.trans r3)
        refine ⟨rfl, cellV, (show T.heap[ad y]? = some cellV by rw [hT]; exact g1), (fun q h => by rw [g3] at h; cases h), ⟨kE', by rw [ecl]; exact hkE'⟩, ?_, ?_⟩
        · exact ⟨kE', hkE'⟩
        · show vm₁.assignable _ _ = true
          rw [ecl]
          exact va_asg _ _)
    (g := F0 m pc ls (.int (nI n) :: .int (nI dp) :: .ref (ad a) :: .int (nI sp) :: .ref (ad a0) :: st.map (zcv ad))) rfl (by rw [X.1.2.2.1]; exact X.2.2.2.2.1.2.1) (rest := st.map (zcv ad)) rfl (by rw [X.1.2.1]; exact hd) (by omega) (by have := z_arrW; rw [zcvs_cat]; show 2 * 0 + _ + _ ≤ _; omega)
  have e1 : copied (arrV (G.1.2.2 (.object CC)) n0 (fun j => zrf ad (P a0 j))) (arrV (G.1.2.2 (.object CC)) n1 (fun j => zrf ad (P a j))) (nI sp) (nI dp) (nI n) = arrV (G.1.2.2 (.object CC)) n1 (fun j => zrf ad (va_cpy (P a0) (P a) sp dp n j)) := by
    have q := va_copied (fun z => zrf ad z) (G.1.2.2 (.object CC)) (G.1.2.2 (.object CC)) (n1 := n1) (sp := (nI sp).toNatClampNeg) (dp := (nI dp).toNatClampNeg) (n := (nI n).toNatClampNeg) (P a0) (P a) (n0 := n0) (by rw [w1, w3]; exact h4)
    rw [w1, w2, w3] at q
    unfold copied
    rw [w1, w2, w3]
    exact q
  rw [e1] at X' step
  have hla : ad a < H.size := (Array.getElem?_eq_some_iff.mp hc1).1
  generalize hcell : arrV (G.1.2.2 (.object CC)) n1 (fun j => zrf ad (va_cpy (P a0) (P a) sp dp n j)) = ce at X' step
  have hheap : ((T.setVm vm').setCell (ad a) ce).heap = H.setIfInBounds (ad a) ce := by rw [← hT]; rfl
  have oq : ∀ q : Nat, q ≠ ad a → (H.setIfInBounds (ad a) ce)[q]? = H[q]? := fun q hq => by simp [Array.getElem?_setIfInBounds, Ne.symm hq]
  have hR2 : zRep G ad I L (zu P a (va_cpy (P a0) (P a) sp dp n)) S (H.setIfInBounds (ad a) ce) := hR.put (zmu_arr hS1) (fun _ _ => rfl) (fun _ _ => rfl) (fun b hb => zu_n _ _ _ hb) (fun k r h => by
    rw [zu_s] at h
    unfold va_cpy at h
    split at h
    · exact hR.2.2.2 a0 _ r (by rw [hS0]; simp) h
    · exact hR.2.2.2 a k r (by rw [hS1]; simp) h) oq (by
    unfold zc
    rw [hS1]
    dsimp only
    rw [zv_ref hz, zu_s]
    rw [← hcell]
    simp [Array.getElem?_setIfInBounds, hla])
  have hAa : zA G (ad a) := hR.2.2.1 a (zmu_arr hS1)
  obtain ⟨t, a1, b1⟩ := k p e R s m args below meth c _ _ cells slots Kc Ks QQ ad ls (X.toM hR2 ⟨by simp; exact hS.1, fun q g1 g2 => by
      rw [oq q (fun e => g2 (by rw [e]; exact hAa))]
      exact hS.2.1 q g1 g2, fun q hq => by
      rcases List.mem_append.mp hq with h | h
      · exact hS.2.2 q h
      · obtain ⟨z, -, hz⟩ := List.mem_map.mp h
        rw [← hz]
        exact hAa⟩ hst9) _ hheap X'
  exact ⟨t, step t a1, b1⟩
/-- an array's clone -/
theorem Z_clone {ty : FieldType} {n a0 : Nat} {adn : String} (a : Nat) (hSa : S a = none) (hS0 : S a0 = some (.inr (ty, n))) (ht : ty ∈ zTys) (hz : (zint ty || zref ty) = true) (hnm9 : "[" ++ ty.toString = adn) (hl : Cond.methodLink M.1.cls idx ⟨adn, "clone", "()Ljava/lang/Object;"⟩ ∈ lw_all) (hsame : Cond.sameMethod adn "java/lang/Object" "clone" "()Ljava/lang/Object;" ∈ lw_all)
    (hnat : Cond.native ⟨"java/lang/Object", "clone", "()Ljava/lang/Object;"⟩ ∈ lw_all) (hinst : Cond.instanceMethod ⟨"java/lang/Object", "clone", "()Ljava/lang/Object;"⟩ ∈ lw_all) (hsel : Cond.selects adn ⟨adn, "clone", "()Ljava/lang/Object;"⟩ ⟨"java/lang/Object", "clone", "()Ljava/lang/Object;"⟩ ∈ lw_all) (hcl : Cond.castable adn "java/lang/Cloneable" ∈ lw_tbl)
    (hfit : ∀ i, i < n → fits ty (zv ty (fun x => x) I L P a0 i) = true) (hcat : (st.map fun v => v.category).sum ≤ 8) (hd : decode M.2.1 pc = .ok (.invokevirtual idx, 3))
    (k : Zj G M (d + 1) C Sl (pc + 3) lv (.ref a :: st) (zu I a (I a0)) (zu L a (L a0)) (zu P a (P a0)) (zu S a (some (.inr (ty, n)))) Q) : Zj G M (d + 1) (C + 1) (Sl + n) pc lv (.ref a0 :: st) I L P S Q := by
  intro p e R s m args below meth c H locs cells slots Kc Ks QQ ad ls X
  intro T hT X0
  have hR := X.2.2.1
  have E := X.2.1
  have hts := X.1.2.2.2.2.1
  have hst9 := zwf_tl X.2.2.2.2.2.2.1
  have hrm := X.2.2.2.2.2.2.2.1
  have hbg := X.2.2.2.2.2.2.2.2.1
  have hc0 := (hR.1 a0).arr hS0
  have hnm : s.vm.findClass adn = some (G.1.2.2 ty) := by rw [← hnm9]; exact zArrNm E ht
  obtain ⟨c0, t0', f1, f2, f3⟩ := Cond.castable_spec (va_Nw.use (A := args) rfl (E.2.1 _ hcl rfl))
  cases hnm.symm.trans f1
  generalize hF : (fun j => zv ty ad I L P a0 j) = F at hc0
  obtain ⟨-, kA, hkA, comp, hkind⟩ := State.isArrayOf_alike X0.warmed.alike ((zArr E ht).1 0 (fun _ => .null))
  obtain ⟨-, kS, hkS, compS, hkindS⟩ := (zArr E ht).1 0 (fun _ => .null)
  have hfv : ∀ (i : Nat) (v : Value), (arrV (G.1.2.2 ty) n F).slots[i]? = some v → fits ty v = true := va_fit fun i hi => by
    rw [← hF]
    have q := hfit i hi
    revert q hz
    cases ty <;> simp only [zint, zref, Bool.or_self, Bool.or_true, Bool.or_false, Bool.false_eq_true, false_implies, zv] <;> first | exact fun _ q => q | exact fun q => q | (intros; cases P a0 i <;> rfl)
  obtain ⟨vm', X', stp⟩ := X0.cloneArray X.1.1 X.1.2.2.2.1 (hts _ hl) (hts _ hsame) (hts _ hnat) (hts _ hinst) (hts _ hsel) (a := ad a0) (cell := arrV (G.1.2.2 ty) n F) (by rw [hT]; exact hc0) (fun k h => by cases h) (fun h => by cases h) hnm f2 f3
    (fun i v hv => by
      have hk' : T.vm.classes[G.1.2.2 ty]? = some kA := hkA
      have q := hfv i v hv
      change T.fitsSlot (G.1.2.2 ty) _ i v = true
      simpa [State.fitsSlot, State.slotType?, hk', hkind] using q)
    (g := F0 m pc ls (.ref (ad a0) :: st.map (zcv ad))) rfl (by rw [X.1.2.2.1]; exact X.2.2.2.2.1.2.1) rfl (by rw [X.1.2.1]; exact hd) (by omega) (by rw [zcvs_cat]; show 2 * 0 + _ + 14 ≤ _; omega) (by omega) (by rw [arrV_size]; omega) (hloader := Vm.clonesLoader_of_array hkS hkindS)
  have hcellE : ({ cls := (arrV (G.1.2.2 ty) n F).cls, slots := (arrV (G.1.2.2 ty) n F).slots } : Cell) = arrV (G.1.2.2 ty) n F := rfl
  rw [hcellE, arrV_size] at X'
  generalize hH1 : H.push (arrV (G.1.2.2 ty) n F) = H1
  have z1 : H1.size = H.size + 1 := by rw [← hH1, Array.size_push]
  have e1 : H1[H.size]? = some (arrV (G.1.2.2 ty) n F) := by rw [← hH1, Array.getElem?_push_size]
  have o1 : ∀ q : Nat, q < H.size → H1[q]? = H[q]? := fun q hq => by rw [← hH1, Array.getElem?_push, if_neg (Nat.ne_of_lt hq)]
  have hsz : G.2.1.1 ≤ H.size := (X.2.1.2.2.2.2.1.S X.2.2.2.1).1
  have hne : ∀ {r}, S r ≠ none → r ≠ a := fun h e => h (by rw [e]; exact hSa)
  have hext : zExt S ad (zu S a (some (.inr (ty, n)))) (zu ad a H.size) := fun b hb => ⟨zu_n _ _ _ (hne hb), zu_n _ _ _ (hne hb)⟩
  have hR2 : zRep G (zu ad a H.size) (zu I a (I a0)) (zu L a (L a0)) (zu P a (P a0)) (zu S a (some (.inr (ty, n)))) H1 := by
    obtain ⟨g1, g2, g3, g4⟩ := hR
    have mn : ∀ {b}, b ≠ a → zmu (zu S a (some (.inr (ty, n)))) b → zmu S b := fun hb hm => by unfold zmu at hm ⊢; rw [zu_n _ _ _ hb] at hm; exact hm
    refine ⟨fun b => ?_, fun b b2 hb hb2 e => ?_, fun b hb => ?_, fun b j r hb hk => ?_⟩
    · by_cases hb : b = a
      · subst hb
        unfold zc
        rw [zu_s]
        dsimp only
        rw [zu_s, e1, ← hF]
        congr 2
        funext j
        have hrf : zrf (zu ad b H.size) (P a0 j) = zrf ad (P a0 j) := by
          cases hq : P a0 j with
          | none => rfl
          | some r => show Value.ref _ = .ref _; rw [zu_n _ _ _ (hne (g4 a0 j r (by rw [hS0]; simp) hq))]
        unfold zv
        cases ty <;> simp only [zu_s, hrf]
      · by_cases hbn : S b = none
        · unfold zc; rw [zu_n _ _ _ hb, hbn]; trivial
        · exact (g1 b).kept (zu_n _ _ _ hb) (zu_n _ _ _ hb) (zu_n _ _ _ hb) (zu_n _ _ _ hb) (zu_n _ _ _ hb) (fun j r hk => zu_n _ _ _ (hne (g4 b j r hbn hk))) (fun hm => o1 _ ((g1 b).lt hm))
    · by_cases hb' : b = a
      · by_cases hc'' : b2 = a
        · rw [hb', hc'']
        · rw [hb', zu_s, zu_n _ _ _ hc''] at e
          have := (g1 b2).lt (mn hc'' hb2)
          omega
      · by_cases hc'' : b2 = a
        · rw [hc'', zu_s, zu_n _ _ _ hb'] at e
          have := (g1 b).lt (mn hb' hb)
          omega
        · rw [zu_n _ _ _ hb', zu_n _ _ _ hc''] at e
          exact g2 b b2 (mn hb' hb) (mn hc'' hb2) e
    · by_cases hb' : b = a
      · rw [hb', zu_s]; exact hsz
      · rw [zu_n _ _ _ hb']; exact g3 b (mn hb' hb)
    · have hr : S r ≠ none := by
        by_cases hb' : b = a
        · rw [hb', zu_s] at hk
          exact g4 a0 j r (by rw [hS0]; simp) hk
        · rw [zu_n _ _ _ hb'] at hk hb
          exact g4 b j r hb hk
      rw [zu_n _ _ _ (hne hr)]
      exact hr
  have K := k p e R s m args below meth c H1 locs (cells + 1) (slots + n) Kc Ks QQ (zu ad a H.size) ls (X.toN hR2 hext (by omega) o1 (zwf_cons.mpr ⟨by show zu S a _ a ≠ none; rw [zu_s]; simp, fun v hv => hext.wf (hst9 v hv)⟩))
  obtain ⟨t, b1, b2⟩ := K ((T.setVm vm').pushCell (arrV (G.1.2.2 ty) n F)) (by rw [← hH1, ← hT]; rfl) X'
  refine ⟨t, stp t ?_, b2⟩
  rw [hcellE, hT]
  rw [List.map_cons, hext.cvs hst9] at b1
  have e9 : zcv (zu ad a H.size) (.ref a) = .ref H.size := by show Value.ref (zu ad a H.size a) = _; rw [zu_s]
  rw [e9] at b1
  exact b1
/-- a cast of an array to its own kind -/
theorem Z_castA {ty : FieldType} {n a : Nat} {nm : String} (hS0 : S a = some (.inr (ty, n))) (ht : ty ∈ zTys) (hnm9 : "[" ++ ty.toString = nm) (hl : Cond.classLink M.1.cls idx nm ∈ lw_all) (hd : decode M.2.1 pc = .ok (.checkcast idx, 3)) (k : Zj G M d C Sl (pc + 3) lv (.ref a :: st) I L P S Q) : Zj G M d C Sl pc lv (.ref a :: st) I L P S Q := by
  intro p e R s m args below meth c H locs cells slots Kc Ks QQ ad ls X
  intro T hT X0
  have hc0 := (X.2.2.1.1 a).arr hS0
  have hnm : s.vm.findClass nm = some (G.1.2.2 ty) := by rw [← hnm9]; exact zArrNm X.2.1 ht
  obtain ⟨vm', X', stp⟩ := X0.checkcastYes X.1.1 X.1.2.2.2.1 (X.1.2.2.2.2.1 _ hl) (by rw [hT]; exact hc0) rfl hnm (va_asg _ _) (g := F0 m pc ls (.ref (ad a) :: st.map (zcv ad))) rfl rfl (by rw [X.1.2.1]; exact hd)
  obtain ⟨t, a1, b1⟩ := k p e R s m args below meth c H locs cells slots Kc Ks QQ ad ls (X.toS X.2.2.2.2.2.2.1) (T.setVm vm') hT X'
  exact ⟨t, stp t a1, b1⟩
theorem Z_instA {ty : FieldType} {n a : Nat} {nm : String} (hS0 : S a = some (.inr (ty, n))) (ht : ty ∈ zTys) (hnm9 : "[" ++ ty.toString = nm) (hl : Cond.classLink M.1.cls idx nm ∈ lw_all) (hd : decode M.2.1 pc = .ok (.instanceof idx, 3)) (k : Zj G M d C Sl (pc + 3) lv (.int (nI 1) :: st) I L P S Q) : Zj G M d C Sl pc lv (.ref a :: st) I L P S Q := by
  intro p e R s m args below meth c H locs cells slots Kc Ks QQ ad ls X
  intro T hT X0
  have hc0 := (X.2.2.1.1 a).arr hS0
  have hnm : s.vm.findClass nm = some (G.1.2.2 ty) := by rw [← hnm9]; exact zArrNm X.2.1 ht
  obtain ⟨vm', X', stp⟩ := X0.instanceofYes X.1.1 X.1.2.2.2.1 (X.1.2.2.2.2.1 _ hl) (by rw [hT]; exact hc0) rfl hnm (va_asg _ _) (g := F0 m pc ls (.ref (ad a) :: st.map (zcv ad))) rfl rfl (by rw [X.1.2.1]; exact hd)
  obtain ⟨t, a1, b1⟩ := k p e R s m args below meth c H locs cells slots Kc Ks QQ ad ls (X.toS (zwf_i (zwf_tl X.2.2.2.2.2.2.1))) (T.setVm vm') hT X'
  exact ⟨t, stp t a1, b1⟩
theorem Z_instN {ty : FieldType} {n a : Nat} {nm nm2 : String} (hS0 : S a = some (.inr (ty, n))) (ht : ty ∈ zTys) (hnm9 : "[" ++ ty.toString = nm) (hno : ∀ {s : State}, zEnv G s → va_Nc nm nm2 s) (hl : Cond.classLink M.1.cls idx nm2 ∈ lw_all) (hd : decode M.2.1 pc = .ok (.instanceof idx, 3)) (k : Zj G M d C Sl (pc + 3) lv (.int (nI 0) :: st) I L P S Q) : Zj G M d C Sl pc lv (.ref a :: st) I L P S Q := by
  intro p e R s m args below meth c H locs cells slots Kc Ks QQ ad ls X
  have hc0 := (X.2.2.1.1 a).arr hS0
  have hnm : s.vm.findClass nm = some (G.1.2.2 ty) := by rw [← hnm9]; exact zArrNm X.2.1 ht
  exact va_instNo X.1.1 X.1.2.1 X.1.2.2.2.1 (X.1.2.2.2.2.1 _ hl) (hno X.2.1) ⟨_, hc0, rfl, hnm⟩ hd (k p e R s m args below meth c H locs cells slots Kc Ks QQ ad ls (X.toS (zwf_i (zwf_tl X.2.2.2.2.2.2.1))))
theorem zNc_SB {s : State} (h : zEnv G s) : va_Nc "[S" "[B" s := h.2.2.1.2.2.2.1
theorem zNc_IB {s : State} (h : zEnv G s) : va_Nc "[I" "[B" s := h.2.2.1.2.2.2.2.1
theorem zNc_IS {s : State} (h : zEnv G s) : va_Nc "[I" "[S" s := h.2.2.1.2.2.2.2.2
end ZROWS12
