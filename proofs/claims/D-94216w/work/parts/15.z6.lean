set_option maxRecDepth 100000
/-! Z, part 6: arrays; new cells -/
/-- the index i is the place j of n -/
def zix (i : Int32) (j n : Nat) : Prop := i.toNatClampNeg = j ∧ ¬ i < 0 ∧ j < n
theorem zix.in {i : Int32} {j n : Nat} (h : zix i j n) : ¬ (i < 0 ∨ n ≤ i.toNatClampNeg) := by
  obtain ⟨h1, h2, h3⟩ := h
  intro q
  rcases q with q | q
  · exact h2 q
  · omega
theorem zix_nI {j n : Nat} (h : j < n) (hn : n < 2 ^ 31) : zix (nI j) j n := ⟨nI_clamp (by omega), nI_pos (by omega), h⟩
theorem zArr {G : zG} {U : State} {ty : FieldType} (h : zEnv G U) (ht : ty ∈ zTys) : ArrOfT U (G.1.2.2 ty) ty ∧ va_RA U (G.1.2.2 ty) ty := by
  obtain ⟨k, hk⟩ := List.getElem?_of_mem ht
  exact h.1.2 k (G.1.2.2 ty, ty) (by rw [List.getElem?_map, hk]; rfl)
theorem zArrNm {G : zG} {U : State} {ty : FieldType} (h : zEnv G U) (ht : ty ∈ zTys) : U.vm.findClass ("[" ++ ty.toString) = some (G.1.2.2 ty) := by
  have h2 := (zArr h ht).2
  cases ty with
  | object C => obtain ⟨_, _, _, _, _, h4⟩ := h2; exact h4
  | _ => exact h2
theorem z_store {ad : Nat → Nat} {I I' : zI} {L L' : zL} {P P' : zR} {a j n : Nat} {ty : FieldType} {cA : ClassId} {w : Value} {H' : Heap} (e : H'[ad a]? = some ((arrV cA n (fun j => zv ty ad I L P a j)).setSlot j w)) (hz : ∀ q, updV (fun q => zv ty ad I L P a q) j w q = zv ty ad I' L' P' a q) : H'[ad a]? = some (arrV cA n (fun j => zv ty ad I' L' P' a j)) := by
  rw [e, arrV_store]
  congr 2
  funext q
  exact hz q
section ZROWS6
variable {G : zG} {M : zM} {d C Sl pc : Nat} {lv st : List Value} {I : zI} {L : zL} {P : zR} {S : zT} {Q : zQ} {a n j : Nat} {i : Int32}
theorem Z_iald (hS : S a = some (.inr (.int, n))) (hi : zix i j n) (hd : decode M.2.1 pc = .ok (.iaload, 1)) (k : Zj G M d C Sl (pc + 1) lv (.int (I a j) :: st) I L P S Q) : Zj G M d C Sl pc lv (.int i :: .ref a :: st) I L P S Q := by
  intro p e R s m args below meth c H locs cells slots Kc Ks QQ ad ls X
  have hR := X.2.2.1
  refine W.iald (v := .int (I a j)) X.1.1 X.1.2.1 ((hR.1 a).arr hS) ((zArr X.2.1 (by simp [zTys])).1 n _) (fun q => by cases q) (by rw [arrV_size]; exact hi.in) (by rw [hi.1, arrV_read _ _ hi.2.2]; rfl) rfl rfl hd ?_
  exact k p e R s m args below meth c H locs cells slots Kc Ks QQ ad ls (X.toS (zwf_i (zwf_tl (zwf_tl X.2.2.2.2.2.2.1))))
theorem Z_bald (hS : S a = some (.inr (.byte, n))) (hi : zix i j n) (hd : decode M.2.1 pc = .ok (.baload, 1)) (k : Zj G M d C Sl (pc + 1) lv (.int (I a j) :: st) I L P S Q) : Zj G M d C Sl pc lv (.int i :: .ref a :: st) I L P S Q := by
  intro p e R s m args below meth c H locs cells slots Kc Ks QQ ad ls X
  have hR := X.2.2.1
  refine W.bald (v := .int (I a j)) X.1.1 X.1.2.1 ((hR.1 a).arr hS) ((zArr X.2.1 (by simp [zTys])).1 n _) (fun q => by cases q) (by rw [arrV_size]; exact hi.in) (by rw [hi.1, arrV_read _ _ hi.2.2]; rfl) rfl rfl hd ?_
  exact k p e R s m args below meth c H locs cells slots Kc Ks QQ ad ls (X.toS (zwf_i (zwf_tl (zwf_tl X.2.2.2.2.2.2.1))))
theorem Z_zald (hS : S a = some (.inr (.boolean, n))) (hi : zix i j n) (hd : decode M.2.1 pc = .ok (.baload, 1)) (k : Zj G M d C Sl (pc + 1) lv (.int (I a j) :: st) I L P S Q) : Zj G M d C Sl pc lv (.int i :: .ref a :: st) I L P S Q := by
  intro p e R s m args below meth c H locs cells slots Kc Ks QQ ad ls X
  have hR := X.2.2.1
  refine W.zald (v := .int (I a j)) X.1.1 X.1.2.1 ((hR.1 a).arr hS) ((zArr X.2.1 (by simp [zTys])).1 n _) (fun q => by cases q) (by rw [arrV_size]; exact hi.in) (by rw [hi.1, arrV_read _ _ hi.2.2]; rfl) rfl rfl hd ?_
  exact k p e R s m args below meth c H locs cells slots Kc Ks QQ ad ls (X.toS (zwf_i (zwf_tl (zwf_tl X.2.2.2.2.2.2.1))))
theorem Z_sald (hS : S a = some (.inr (.short, n))) (hi : zix i j n) (hd : decode M.2.1 pc = .ok (.saload, 1)) (k : Zj G M d C Sl (pc + 1) lv (.int (I a j) :: st) I L P S Q) : Zj G M d C Sl pc lv (.int i :: .ref a :: st) I L P S Q := by
  intro p e R s m args below meth c H locs cells slots Kc Ks QQ ad ls X
  have hR := X.2.2.1
  refine W.sald (v := .int (I a j)) X.1.1 X.1.2.1 ((hR.1 a).arr hS) ((zArr X.2.1 (by simp [zTys])).1 n _) (fun q => by cases q) (by rw [arrV_size]; exact hi.in) (by rw [hi.1, arrV_read _ _ hi.2.2]; rfl) rfl rfl hd ?_
  exact k p e R s m args below meth c H locs cells slots Kc Ks QQ ad ls (X.toS (zwf_i (zwf_tl (zwf_tl X.2.2.2.2.2.2.1))))
theorem Z_lald (hS : S a = some (.inr (.long, n))) (hi : zix i j n) (hd : decode M.2.1 pc = .ok (.laload, 1)) (k : Zj G M d C Sl (pc + 1) lv (.long (L a j) :: st) I L P S Q) : Zj G M d C Sl pc lv (.int i :: .ref a :: st) I L P S Q := by
  intro p e R s m args below meth c H locs cells slots Kc Ks QQ ad ls X
  have hR := X.2.2.1
  refine W.lald (v := .long (L a j)) X.1.1 X.1.2.1 ((hR.1 a).arr hS) ((zArr X.2.1 (by simp [zTys])).1 n _) (fun q => by cases q) (by rw [arrV_size]; exact hi.in) (by rw [hi.1, arrV_read _ _ hi.2.2]; rfl) rfl rfl hd ?_
  exact k p e R s m args below meth c H locs cells slots Kc Ks QQ ad ls (X.toS (zwf_l (zwf_tl (zwf_tl X.2.2.2.2.2.2.1))))
theorem Z_aald {ty : FieldType} {r : Nat} (hS : S a = some (.inr (ty, n))) (ht : ty ∈ zTys) (href : zref ty = true) (hi : zix i j n) (hr : P a j = some r) (hd : decode M.2.1 pc = .ok (.aaload, 1)) (k : Zj G M d C Sl (pc + 1) lv (.ref r :: st) I L P S Q) : Zj G M d C Sl pc lv (.int i :: .ref a :: st) I L P S Q := by
  intro p e R s m args below meth c H locs cells slots Kc Ks QQ ad ls X
  have hR := X.2.2.1
  refine W.aald (ty := ty) (v := zcv ad (.ref r)) X.1.1 X.1.2.1 ((hR.1 a).arr hS) ((zArr X.2.1 ht).1 n _) (by revert href; cases ty <;> simp [zref, FieldType.isReference]) (fun q => by cases q) (by rw [arrV_size]; exact hi.in) (by rw [hi.1, arrV_read _ _ hi.2.2]; revert href; cases ty <;> simp [zref, zv, hr, zrf, zcv]) rfl rfl hd ?_
  exact k p e R s m args below meth c H locs cells slots Kc Ks QQ ad ls (X.toS (zwf_cons.mpr ⟨hR.2.2.2 a j r (by rw [hS]; simp) hr, zwf_tl (zwf_tl X.2.2.2.2.2.2.1)⟩))
theorem Z_aaldN {ty : FieldType} (hS : S a = some (.inr (ty, n))) (ht : ty ∈ zTys) (href : zref ty = true) (hi : zix i j n) (hr : P a j = none) (hd : decode M.2.1 pc = .ok (.aaload, 1)) (k : Zj G M d C Sl (pc + 1) lv (.null :: st) I L P S Q) : Zj G M d C Sl pc lv (.int i :: .ref a :: st) I L P S Q := by
  intro p e R s m args below meth c H locs cells slots Kc Ks QQ ad ls X
  have hR := X.2.2.1
  refine W.aald (ty := ty) (v := zcv ad (.null)) X.1.1 X.1.2.1 ((hR.1 a).arr hS) ((zArr X.2.1 ht).1 n _) (by revert href; cases ty <;> simp [zref, FieldType.isReference]) (fun q => by cases q) (by rw [arrV_size]; exact hi.in) (by rw [hi.1, arrV_read _ _ hi.2.2]; revert href; cases ty <;> simp [zref, zv, hr, zrf, zcv]) rfl rfl hd ?_
  exact k p e R s m args below meth c H locs cells slots Kc Ks QQ ad ls (X.toS (zwf_cons.mpr ⟨trivial, zwf_tl (zwf_tl X.2.2.2.2.2.2.1)⟩))
theorem Z_iast {x : Int32} (hS : S a = some (.inr (.int, n))) (hi : zix i j n) (hd : decode M.2.1 pc = .ok (.iastore, 1)) (k : Zj G M d C Sl (pc + 1) lv st (zw I a j (x)) L P S Q) : Zj G M d C Sl pc lv (.int x :: .int i :: .ref a :: st) I L P S Q := by
  intro p e R s m args below meth c H locs cells slots Kc Ks QQ ad ls X
  have hR := X.2.2.1
  have hw := X.2.2.2.2.2.2.1
  have hm : zmu S a := zmu_arr hS
  refine W.iast X.1.1 X.1.2.1 ((hR.1 a).arr hS) ((zArr X.2.1 (by simp [zTys])).1 n _) (fun q => by cases q) (by rw [arrV_size]; exact hi.in) rfl rfl hd fun H1 e1 e2 e3 => ?_
  rw [hi.1] at e1 ⊢
  refine k p e R s m args below meth c H1 _ cells slots Kc Ks QQ ad ls (X.toM (hR.put hm (fun b hb => zw_n _ _ _ _ hb) (fun _ _ => rfl) (fun _ _ => rfl) (fun q r hr => hR.2.2.2 a q r hm.1 hr) e3 ?_) (X.2.2.2.1.put e2 e3 (hR.2.2.1 a hm)) (zwf_tl (zwf_tl (zwf_tl hw))))
  unfold zc
  rw [hS]
  dsimp only
  exact z_store e1 (fun q => zv_i (ty := fun _ => .int) rfl q)
theorem Z_bast {x : Int32} (hS : S a = some (.inr (.byte, n))) (hi : zix i j n) (hd : decode M.2.1 pc = .ok (.bastore, 1)) (k : Zj G M d C Sl (pc + 1) lv st (zw I a j (x.toInt8.toInt32)) L P S Q) : Zj G M d C Sl pc lv (.int x :: .int i :: .ref a :: st) I L P S Q := by
  intro p e R s m args below meth c H locs cells slots Kc Ks QQ ad ls X
  have hR := X.2.2.1
  have hw := X.2.2.2.2.2.2.1
  have hm : zmu S a := zmu_arr hS
  refine W.bast X.1.1 X.1.2.1 ((hR.1 a).arr hS) ((zArr X.2.1 (by simp [zTys])).1 n _) (fun q => by cases q) (by rw [arrV_size]; exact hi.in) rfl rfl hd fun H1 e1 e2 e3 => ?_
  rw [hi.1] at e1 ⊢
  refine k p e R s m args below meth c H1 _ cells slots Kc Ks QQ ad ls (X.toM (hR.put hm (fun b hb => zw_n _ _ _ _ hb) (fun _ _ => rfl) (fun _ _ => rfl) (fun q r hr => hR.2.2.2 a q r hm.1 hr) e3 ?_) (X.2.2.2.1.put e2 e3 (hR.2.2.1 a hm)) (zwf_tl (zwf_tl (zwf_tl hw))))
  unfold zc
  rw [hS]
  dsimp only
  exact z_store e1 (fun q => zv_i (ty := fun _ => .byte) rfl q)
theorem Z_zast {x : Int32} (hS : S a = some (.inr (.boolean, n))) (hi : zix i j n) (hd : decode M.2.1 pc = .ok (.bastore, 1)) (k : Zj G M d C Sl (pc + 1) lv st (zw I a j (vp_nar .boolean x)) L P S Q) : Zj G M d C Sl pc lv (.int x :: .int i :: .ref a :: st) I L P S Q := by
  intro p e R s m args below meth c H locs cells slots Kc Ks QQ ad ls X
  have hR := X.2.2.1
  have hw := X.2.2.2.2.2.2.1
  have hm : zmu S a := zmu_arr hS
  refine W.zast X.1.1 X.1.2.1 ((hR.1 a).arr hS) ((zArr X.2.1 (by simp [zTys])).1 n _) (fun q => by cases q) (by rw [arrV_size]; exact hi.in) rfl rfl hd fun H1 e1 e2 e3 => ?_
  rw [hi.1] at e1 ⊢
  refine k p e R s m args below meth c H1 _ cells slots Kc Ks QQ ad ls (X.toM (hR.put hm (fun b hb => zw_n _ _ _ _ hb) (fun _ _ => rfl) (fun _ _ => rfl) (fun q r hr => hR.2.2.2 a q r hm.1 hr) e3 ?_) (X.2.2.2.1.put e2 e3 (hR.2.2.1 a hm)) (zwf_tl (zwf_tl (zwf_tl hw))))
  unfold zc
  rw [hS]
  dsimp only
  exact z_store e1 (fun q => zv_i (ty := fun _ => .boolean) rfl q)
theorem Z_sast {x : Int32} (hS : S a = some (.inr (.short, n))) (hi : zix i j n) (hd : decode M.2.1 pc = .ok (.sastore, 1)) (k : Zj G M d C Sl (pc + 1) lv st (zw I a j (x.toInt16.toInt32)) L P S Q) : Zj G M d C Sl pc lv (.int x :: .int i :: .ref a :: st) I L P S Q := by
  intro p e R s m args below meth c H locs cells slots Kc Ks QQ ad ls X
  have hR := X.2.2.1
  have hw := X.2.2.2.2.2.2.1
  have hm : zmu S a := zmu_arr hS
  refine W.sast X.1.1 X.1.2.1 ((hR.1 a).arr hS) ((zArr X.2.1 (by simp [zTys])).1 n _) (fun q => by cases q) (by rw [arrV_size]; exact hi.in) rfl rfl hd fun H1 e1 e2 e3 => ?_
  rw [hi.1] at e1 ⊢
  refine k p e R s m args below meth c H1 _ cells slots Kc Ks QQ ad ls (X.toM (hR.put hm (fun b hb => zw_n _ _ _ _ hb) (fun _ _ => rfl) (fun _ _ => rfl) (fun q r hr => hR.2.2.2 a q r hm.1 hr) e3 ?_) (X.2.2.2.1.put e2 e3 (hR.2.2.1 a hm)) (zwf_tl (zwf_tl (zwf_tl hw))))
  unfold zc
  rw [hS]
  dsimp only
  exact z_store e1 (fun q => zv_i (ty := fun _ => .short) rfl q)
theorem Z_last {x : Int64} (hS : S a = some (.inr (.long, n))) (hi : zix i j n) (hd : decode M.2.1 pc = .ok (.lastore, 1)) (k : Zj G M d C Sl (pc + 1) lv st I (zw L a j x) P S Q) : Zj G M d C Sl pc lv (.long x :: .int i :: .ref a :: st) I L P S Q := by
  intro p e R s m args below meth c H locs cells slots Kc Ks QQ ad ls X
  have hR := X.2.2.1
  have hw := X.2.2.2.2.2.2.1
  have hm : zmu S a := zmu_arr hS
  refine W.last X.1.1 X.1.2.1 ((hR.1 a).arr hS) ((zArr X.2.1 (by simp [zTys])).1 n _) (fun q => by cases q) (by rw [arrV_size]; exact hi.in) rfl rfl hd fun H1 e1 e2 e3 => ?_
  rw [hi.1] at e1 ⊢
  refine k p e R s m args below meth c H1 _ cells slots Kc Ks QQ ad ls (X.toM (hR.put hm (fun _ _ => rfl) (fun b hb => zw_n _ _ _ _ hb) (fun _ _ => rfl) (fun q r hr => hR.2.2.2 a q r hm.1 hr) e3 ?_) (X.2.2.2.1.put e2 e3 (hR.2.2.1 a hm)) (zwf_tl (zwf_tl (zwf_tl hw))))
  unfold zc
  rw [hS]
  dsimp only
  exact z_store e1 (fun q => zv_l (ty := fun _ => .long) rfl q)
/-- an object of the very class of the array's elements is put into it -/
theorem Z_aast {x ci N : Nat} {CC : String} {T : u_T} (hS : S a = some (.inr (.object CC, n))) (ht : FieldType.object CC ∈ zTys) (hx : S x = some (.inl ci)) (hk : zKl ci CC T N) (hi : zix i j n) (hd : decode M.2.1 pc = .ok (.aastore, 1)) (k : Zj G M d C Sl (pc + 1) lv st I L (zw P a j (some x)) S Q) : Zj G M d C Sl pc lv (.ref x :: .int i :: .ref a :: st) I L P S Q := by
  intro p e R s m args below meth c H locs cells slots Kc Ks QQ ad ls X
  have hR := X.2.2.1
  have hw := X.2.2.2.2.2.2.1
  have hm : zmu S a := zmu_arr hS
  obtain ⟨kA, comp, k1, k2, k3, -⟩ := (zArr X.2.1 ht).2
  have hcls := (X.2.1.1.1 ci _ hk.1).2
  have hcomp : comp = G.1.2.1.1 ci := Option.some.inj (k3.symm.trans hcls.1)
  subst hcomp
  obtain ⟨kC, hkC, -⟩ := hcls.2
  obtain ⟨cellV, g1, g2, g3, -⟩ := (hR.1 x).obj hx hk
  refine W.aast X.1.1 X.1.2.1 ((hR.1 a).arr hS) (fun q h => by cases h) (fun h => by cases h) k1 k2 rfl hkC ⟨hi.2.1, by rw [arrV_size, hi.1]; exact hi.2.2⟩ g1 (fun q h => by rw [g3] at h; cases h) (by rw [g2]; exact hkC) (by rw [g2]; exact va_assign hcls) rfl rfl hd fun H1 e1 e2 e3 => ?_
  rw [hi.1] at e1 ⊢
  refine k p e R s m args below meth c H1 _ cells slots Kc Ks QQ ad ls (X.toM (hR.put hm (fun _ _ => rfl) (fun _ _ => rfl) (fun b hb => zw_n _ _ _ _ hb) (zw_wf (fun y hy => by cases hy; rw [hx]; simp) (fun q r hr => hR.2.2.2 a q r hm.1 hr)) e3 ?_) (X.2.2.2.1.put e2 e3 (hR.2.2.1 a hm)) (zwf_tl (zwf_tl (zwf_tl hw))))
  unfold zc
  rw [hS]
  dsimp only
  exact z_store e1 (fun q => zv_r (ty := fun _ => .object CC) (r := some x) rfl q)
theorem Z_alen {ty : FieldType} (hS : S a = some (.inr (ty, n))) (ht : ty ∈ zTys) (hd : decode M.2.1 pc = .ok (.arraylength, 1)) (k : Zj G M d C Sl (pc + 1) lv (.int (nI n) :: st) I L P S Q) : Zj G M d C Sl pc lv (.ref a :: st) I L P S Q := by
  intro p e R s m args below meth c H locs cells slots Kc Ks QQ ad ls X
  have hR := X.2.2.1
  refine W.alen (n := nI n) X.1.1 X.1.2.1 ((hR.1 a).arr hS) ((zArr X.2.1 ht).1 n _) (by rw [arrV_size]; rfl) rfl rfl hd ?_
  exact k p e R s m args below meth c H locs cells slots Kc Ks QQ ad ls (X.toS (zwf_i (zwf_tl X.2.2.2.2.2.2.1)))
/-- a cell has been made at the end of the heap -/
theorem zCtx.toN {p : Program} {e : Env} {R : Room} {s : State} {m : MethodId} {args : Array Value} {below : List Frame} {meth : Method} {c : Code} {H H' : Heap} {locs : List Loc} {cells slots Kc Ks c1 s1 : Nat} {QQ : State → Prop} {ad ad' : Nat → Nat} {ls : Array Slot} {st' : List Value} {I' : zI} {L' : zL} {P' : zR} {S' : zT}
    (X : zCtx G M d (C + c1) (Sl + s1) p e R s m args below meth c H locs cells slots Kc Ks QQ ad ls lv st I L P S Q) (hR : zRep G ad' I' L' P' S' H') (hx : zExt S ad S' ad') (hz : H.size ≤ H'.size) (hq : ∀ q, q < H.size → H'[q]? = H[q]?) (h : ∀ v ∈ st', zwf S' v) : zCtx G M d C Sl p e R s m args below meth c H' locs (cells + c1) (slots + s1) Kc Ks QQ ad' ls lv st' I' L' P' S' Q := by
  obtain ⟨h1, h2, -, h4, h5, h6, -, h8, h9, h10, h11⟩ := X
  exact ⟨h1, h2, hR, ⟨Nat.le_trans h4.1 hz, fun q g1 g2 => (hq q (Nat.lt_of_lt_of_le g1 h4.1)).trans (h4.2.1 q g1 g2), h4.2.2⟩, h5.ext hx h6, fun v hv => hx.wf (h6 v hv), h, h8, ⟨by omega, by omega, h9.2.2⟩, fun o I2 L2 P2 S2 H2 l2 a2 ls2 cl2 sl2 pc2 q r x => h10 o I2 L2 P2 S2 H2 l2 a2 ls2 cl2 sl2 pc2 q r (hx.tr x), fun ci2 ok2 I2 L2 P2 S2 H2 l2 a2 ls2 cl2 sl2 pc2 rest2 q2 ce2 q r x => h11 ci2 ok2 I2 L2 P2 S2 H2 l2 a2 ls2 cl2 sl2 pc2 rest2 q2 ce2 q r (hx.tr x)⟩
/-- a class that can be made, by an entry of a pool -/
def zNW (own : String) (idx ci N : Nat) : Prop := ∃ (CC : String) (T : u_T) (K : Nat), zKl ci CC T K ∧ (∀ k, k < K → (zint (zty ci k) || zref (zty ci k) || decide (zty ci k = .long)) = true) ∧ Cond.classLink own idx CC ∈ lw_all ∧ Cond.instantiable CC N ∈ lw_all ∧ Cond.initialized CC ∈ lw_all
theorem zv_0 {ty : FieldType} (h : (zint ty || zref ty || decide (ty = .long)) = true) {ad : Nat → Nat} {I : zI} {L : zL} {P : zR} {a k : Nat} (hI : I a = fun _ => 0) (hL : L a = fun _ => 0) (hP : P a = fun _ => none) : defaultValue ty = zv ty ad I L P a k := by
  revert h
  cases ty <;> simp [zint, zref, zv, hI, hL, hP, zrf, defaultValue]
theorem Z_new {ci N idx : Nat} (a : Nat) (hS : S a = none) (hn : zNW M.1.cls idx ci N) (hd : decode M.2.1 pc = .ok (.new idx, 3)) (k : Zj G M d C Sl (pc + 3) lv (.ref a :: st) (zu I a fun _ => 0) (zu L a fun _ => 0) (zu P a fun _ => none) (zu S a (some (.inl ci))) Q) : Zj G M d (C + 1) (Sl + N) pc lv st I L P S Q := by
  intro p e R s m args below meth c H locs cells slots Kc Ks QQ ad ls X
  obtain ⟨CC, T, K, hkl, hnum, hlink, hins, hini⟩ := hn
  have hts := X.1.2.2.2.2.1
  have hKn := X.2.1.1.1 ci _ hkl.1
  have hR := X.2.2.1
  have hc9 := X.2.2.2.2.2.2.2.2.1
  have hsz : G.2.1.1 ≤ H.size := (X.2.1.2.2.2.2.1.S X.2.2.2.1).1
  refine W.newcK X.1.1 X.1.2.1 X.1.2.2.2.1 (hts _ hlink) (hts _ hins) (hts _ hini) rfl hd (by omega) (by omega) hKn.2.1 rfl fun H1 kC hkC e1 z1 o1 => ?_
  have hR2 := hR.new (sh := .inl ci) (I' := zu I a fun _ => 0) (L' := zu L a fun _ => 0) (P' := zu P a fun _ => none) (H' := H1) hS (fun b hb => zu_n _ _ _ hb) (fun b hb => zu_n _ _ _ hb) (fun b hb => zu_n _ _ _ hb) (fun k => by rw [zu_s]) hsz o1 (by
    unfold zc
    rw [zu_s]
    dsimp only
    have := hkl.lt
    rw [if_neg (by omega), zu_s]
    exact ⟨_, hkl.1, (u_born (zty ci) hts hkl.2.1 hKn hkC e1 hkl.2.2.1).to (fun j hj => zv_0 (hnum j hj) (zu_s _ _ _) (zu_s _ _ _) (zu_s _ _ _))⟩)
  have hst : ((Value.ref a :: st).map (zcv (zu ad a H.size))) = .ref H.size :: st.map (zcv ad) := by
    rw [List.map_cons, hR2.2.cvs X.2.2.2.2.2.2.1]
    show Value.ref (zu ad a H.size a) :: _ = _
    rw [zu_s]
  have := k p e R s m args below meth c H1 locs (cells + 1) (slots + N) Kc Ks QQ (zu ad a H.size) ls (X.toN hR2.1 hR2.2 (by omega) o1 (zwf_cons.mpr ⟨by show zu S a (some (.inl ci)) a ≠ none; rw [zu_s]; simp, fun v hv => hR2.2.wf (X.2.2.2.2.2.2.1 v hv)⟩))
  rw [hst] at this
  exact this
theorem Z_newA {ty : FieldType} {N : Nat} (a : Nat) (hS : S a = none) (ht : ty ∈ zTys) (hnum : (zint ty || zref ty || decide (ty = .long)) = true) {dec : Instr} {len : Nat} {i : Int32} (hd : decode M.2.1 pc = .ok (dec, len))
    (hW : ∀ {p : Program} {e : Env} {R : Room} {s : State} {m : MethodId} {args : Array Value} {below : List Frame} {meth : Method} {c : Code} {H : Heap} {locs : List Loc} {cells slots : Nat} {QQ : State → Prop} {ls : Array Slot} {rest : List Value}, zFix M p s m args meth c → zEnv G s → cells + 1 ≤ R.cells → slots + N ≤ R.slots →
      (∀ (H' : Heap) (cA : ClassId), H'[H.size]? = some (arrV cA N (fun _ => defaultValue ty)) → H'.size = H.size + 1 → (∀ q, q < H.size → H'[q]? = H[q]?) → s.vm.findClass ("[" ++ ty.toString) = some cA → W p G.1.1 e R s m args below meth c H' locs (cells + 1) (slots + N) QQ (F0 m (pc + len) ls (.ref H.size :: rest))) → W p G.1.1 e R s m args below meth c H locs cells slots QQ (F0 m pc ls (.int i :: rest)))
    (k : Zj G M d C Sl (pc + len) lv (.ref a :: st) (zu I a fun _ => 0) (zu L a fun _ => 0) (zu P a fun _ => none) (zu S a (some (.inr (ty, N)))) Q) : Zj G M d (C + 1) (Sl + N) pc lv (.int i :: st) I L P S Q := by
  intro p e R s m args below meth c H locs cells slots Kc Ks QQ ad ls X
  have hR := X.2.2.1
  have hc9 := X.2.2.2.2.2.2.2.2.1
  have hsz : G.2.1.1 ≤ H.size := (X.2.1.2.2.2.2.1.S X.2.2.2.1).1
  have hst9 := zwf_tl X.2.2.2.2.2.2.1
  refine hW X.1 X.2.1 (by omega) (by omega) (fun H1 cA e1 z1 o1 hnm => ?_)
  have hcA : cA = G.1.2.2 ty := Option.some.inj (hnm.symm.trans (zArrNm X.2.1 ht))
  subst hcA
  have hR2 := hR.new (sh := .inr (ty, N)) (I' := zu I a fun _ => 0) (L' := zu L a fun _ => 0) (P' := zu P a fun _ => none) (H' := H1) hS (fun b hb => zu_n _ _ _ hb) (fun b hb => zu_n _ _ _ hb) (fun b hb => zu_n _ _ _ hb) (fun k => by rw [zu_s]) hsz o1 (by
    unfold zc
    rw [zu_s]
    dsimp only
    rw [zu_s, e1]
    congr 2
    funext j
    exact zv_0 hnum (zu_s _ _ _) (zu_s _ _ _) (zu_s _ _ _))
  have hst : ((Value.ref a :: st).map (zcv (zu ad a H.size))) = .ref H.size :: st.map (zcv ad) := by
    rw [List.map_cons, hR2.2.cvs hst9]
    show Value.ref (zu ad a H.size a) :: _ = _
    rw [zu_s]
  have := k p e R s m args below meth c H1 locs (cells + 1) (slots + N) Kc Ks QQ (zu ad a H.size) ls (X.toN hR2.1 hR2.2 (by omega) o1 (zwf_cons.mpr ⟨by show zu S a (some (.inr (ty, N))) a ≠ none; rw [zu_s]; simp, fun v hv => hR2.2.wf (hst9 v hv)⟩))
  rw [hst] at this
  exact this
theorem Z_newa {N : Nat} (a : Nat) (hS : S a = none) (atype : ArrayType) (ht : newarray.typeOf atype ∈ zTys) (hnum : (zint (newarray.typeOf atype) || zref (newarray.typeOf atype) || decide (newarray.typeOf atype = .long)) = true) (harr : Cond.arrayClass (newarray.typeOf atype) ∈ lw_all) {i : Int32} (h0 : ¬ i < 0) (hN : i.toNatClampNeg = N) (hb : N * componentBytes (newarray.typeOf atype) ≤ 536870912) (hd : decode M.2.1 pc = .ok (.newarray atype, 2))
    (k : Zj G M d C Sl (pc + 2) lv (.ref a :: st) (zu I a fun _ => 0) (zu L a fun _ => 0) (zu P a fun _ => none) (zu S a (some (.inr (newarray.typeOf atype, N)))) Q) : Zj G M d (C + 1) (Sl + N) pc lv (.int i :: st) I L P S Q :=
  Z_newA a hS ht hnum hd (fun F E h1 h2 kk => va_newaK F.1 F.2.1 (F.2.2.2.2.1 _ harr) rfl hd rfl h0 hN hb h1 h2 rfl (fun H' cA e1 z1 o1 _ hn => kk H' cA e1 z1 o1 hn)) k
theorem Z_anewa {N idx : Nat} {CC : String} (a : Nat) (hS : S a = none) (ht : FieldType.object CC ∈ zTys) (hlink : Cond.classLink M.1.cls idx CC ∈ lw_all) (hover : Cond.arrayOver (.object CC) ∈ lw_tbl) {i : Int32} (h0 : ¬ i < 0) (hN : i.toNatClampNeg = N) (hb : N * 4 ≤ 536870912) (hd : decode M.2.1 pc = .ok (.anewarray idx, 3))
    (k : Zj G M d C Sl (pc + 3) lv (.ref a :: st) (zu I a fun _ => 0) (zu L a fun _ => 0) (zu P a fun _ => none) (zu S a (some (.inr (.object CC, N)))) Q) : Zj G M d (C + 1) (Sl + N) pc lv (.int i :: st) I L P S Q := by
  subst hN
  refine Z_newA a hS ht rfl hd (fun {p e R s m args below meth c H locs cells slots QQ ls rest} F E h1 h2 kk => ?_) k
  refine W.anew F.1 F.2.1 F.2.2.2.1 (F.2.2.2.2.1 _ hlink) (va_AO.use (E.2.1 _ hover rfl)) rfl hd rfl h0 hb h1 h2 fun cA kA comp f1 f2 f3 f4 => ?_
  generalize hH1 : H.push ({ cls := cA, slots := Array.replicate i.toNatClampNeg .null, vm := .none } : Cell) = H1
  have z1 : H1.size = H.size + 1 := by rw [← hH1, Array.size_push]
  have e1 : H1[H.size]? = some (arrV cA i.toNatClampNeg (fun _ => .null)) := by rw [← hH1, Array.getElem?_push_size, ← arrV_new]
  have o1 : ∀ q : Nat, q < H.size → H1[q]? = H[q]? := fun q hq => by rw [← hH1, Array.getElem?_push, if_neg (Nat.ne_of_lt hq)]
  exact kk H1 cA e1 z1 o1 f1
end ZROWS6
