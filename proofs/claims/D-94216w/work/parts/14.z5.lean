set_option maxRecDepth 100000
/-! Z, part 5: fields -/
def zint (ty : FieldType) : Bool := match ty with
  | .int => true
  | .boolean => true
  | .byte => true
  | .short => true
  | .char => true
  | _ => false
def zref (ty : FieldType) : Bool := match ty with
  | .object _ => true
  | .array _ => true
  | _ => false
/-- an entry of a class's pool that names the field k of the class number ci -/
def zFL (own : String) (idx ci k : Nat) (fin : Bool) : Prop := ∃ (C : String) (T : u_T) (N : Nat) (ref : String), zKl ci C T N ∧ k < N ∧ (T k).2.2.2 = fin ∧ Cond.fieldLink own idx ref (T k).2.1 (T k).2.2.1 ∈ lw_all ∧ (ref = (T k).1 ∨ Cond.sameField ref (T k).1 (T k).2.1 (T k).2.2.1 ∈ lw_all) ∧ (fin = true → (T k).1 = own ∨ True)
/-- the same, of a final field of the class itself -/
def zFW (own : String) (idx ci k : Nat) : Prop := ∃ (C : String) (T : u_T) (N : Nat) (ref : String), zKl ci C T N ∧ k < N ∧ (T k).2.2.2 = true ∧ Cond.fieldLink own idx ref (T k).2.1 (T k).2.2.1 ∈ lw_all ∧ (ref = (T k).1 ∨ Cond.sameField ref (T k).1 (T k).2.1 (T k).2.2.1 ∈ lw_all) ∧ (T k).1 = own
theorem zFW.fl {own : String} {idx ci k : Nat} (h : zFW own idx ci k) : zFL own idx ci k true := by
  obtain ⟨C, T, N, ref, h1, h2, h3, h4, h5, -⟩ := h
  exact ⟨C, T, N, ref, h1, h2, h3, h4, h5, fun _ => Or.inr trivial⟩
/-- a nest mate's field -/
def zFN (own : String) (idx ci k : Nat) (fin : Bool) : Prop := ∃ (C : String) (T : u_T) (N : Nat) (ref host : String), zKl ci C T N ∧ k < N ∧ (T k).2.2.2 = fin ∧ Cond.fieldLinkNest own idx ref (T k).2.1 (T k).2.2.1 host ∈ lw_tbl ∧ ref = (T k).1
theorem zKl.lt {ci : Nat} {C : String} {T : u_T} {N : Nat} (h : zKl ci C T N) : ci < 18 := (List.getElem?_eq_some_iff.mp h.1).1
theorem zc.obj {G : zG} {ad : Nat → Nat} {I : zI} {L : zL} {P : zR} {S : zT} {H : Heap} {a ci : Nat} {C : String} {T : u_T} {N : Nat} (h : zc G ad I L P S H a) (hS : S a = some (.inl ci)) (hk : zKl ci C T N) : t_OB (ad a) (G.1.2.1.1 ci) N (G.1.2.1.2 ci) H (fun k => zv (zty ci k) ad I L P a k) := by
  have hlt := hk.lt
  unfold zc at h
  rw [hS] at h
  dsimp only at h
  rw [if_neg (by omega)] at h
  obtain ⟨r, h1, h2⟩ := h
  cases Option.some.inj (h1.symm.trans hk.1)
  exact h2
theorem zc.arr {G : zG} {ad : Nat → Nat} {I : zI} {L : zL} {P : zR} {S : zT} {H : Heap} {a n : Nat} {ty : FieldType} (h : zc G ad I L P S H a) (hS : S a = some (.inr (ty, n))) : H[ad a]? = some (arrV (G.1.2.2 ty) n (fun j => zv ty ad I L P a j)) := by
  unfold zc at h
  rw [hS] at h
  exact h
theorem zmu_obj {S : zT} {a ci : Nat} (hS : S a = some (.inl ci)) (h : ci < 18) : zmu S a := ⟨by rw [hS]; simp, by rw [hS]; simp; omega⟩
theorem zmu_arr {S : zT} {a n : Nat} {ty : FieldType} (hS : S a = some (.inr (ty, n))) : zmu S a := ⟨by rw [hS]; simp, by rw [hS]; simp⟩
theorem zv_i {ty : Nat → FieldType} {ad : Nat → Nat} {I : zI} {L : zL} {P : zR} {a k : Nat} {x : Int32} (hk : zint (ty k) = true) : ∀ j, updV (fun j => zv (ty j) ad I L P a j) k (.int x) j = zv (ty j) ad (zw I a k x) L P a j := by
  intro j
  unfold updV
  by_cases h : j = k
  · subst h
    rw [if_pos rfl]
    revert hk
    generalize ty j = t
    cases t <;> simp [zint, zref, zv, zw, zu]
  · rw [if_neg h]
    show zv (ty j) ad I L P a j = zv (ty j) ad (zw I a k x) L P a j
    generalize ty j = t
    cases t <;> simp [zv, zw, zu, h]
theorem zv_l {ty : Nat → FieldType} {ad : Nat → Nat} {I : zI} {L : zL} {P : zR} {a k : Nat} {x : Int64} (hk : ty k = .long) : ∀ j, updV (fun j => zv (ty j) ad I L P a j) k (.long x) j = zv (ty j) ad I (zw L a k x) P a j := by
  intro j
  unfold updV
  by_cases h : j = k
  · subst h
    rw [if_pos rfl]
    revert hk
    generalize ty j = t
    cases t <;> simp [zint, zref, zv, zw, zu]
  · rw [if_neg h]
    show zv (ty j) ad I L P a j = zv (ty j) ad I (zw L a k x) P a j
    generalize ty j = t
    cases t <;> simp [zv, zw, zu, h]
theorem zv_r {ty : Nat → FieldType} {ad : Nat → Nat} {I : zI} {L : zL} {P : zR} {a k : Nat} {r : Option Nat} (hk : zref (ty k) = true) : ∀ j, updV (fun j => zv (ty j) ad I L P a j) k (zrf ad r) j = zv (ty j) ad I L (zw P a k r) a j := by
  intro j
  unfold updV
  by_cases h : j = k
  · subst h
    rw [if_pos rfl]
    revert hk
    generalize ty j = t
    cases t <;> simp [zint, zref, zv, zw, zu]
  · rw [if_neg h]
    show zv (ty j) ad I L P a j = zv (ty j) ad I L (zw P a k r) a j
    generalize ty j = t
    cases t <;> simp [zv, zw, zu, h]
section ZROWS5
variable {G : zG} {M : zM} {d C Sl pc : Nat} {lv lv' st : List Value} {I : zI} {L : zL} {P : zR} {S : zT} {Q : zQ} {a ci fk idx : Nat} {fin : Bool}
/-- the memory has moved on (the frame's values stay) -/
theorem zCtx.toM {p : Program} {e : Env} {R : Room} {s : State} {m : MethodId} {args : Array Value} {below : List Frame} {meth : Method} {c : Code} {H H' : Heap} {locs locs' : List Loc} {cells slots Kc Ks : Nat} {QQ : State → Prop} {ad : Nat → Nat} {ls : Array Slot} {st' : List Value} {I' : zI} {L' : zL} {P' : zR}
    (X : zCtx G M d C Sl p e R s m args below meth c H locs cells slots Kc Ks QQ ad ls lv st I L P S Q) (hR : zRep G ad I' L' P' S H') (hS : va_S (zA G) s.heap H' locs') (h : ∀ v ∈ st', zwf S v) : zCtx G M d C Sl p e R s m args below meth c H' locs' cells slots Kc Ks QQ ad ls lv st' I' L' P' S Q := by
  obtain ⟨h1, h2, -, -, h5, h6, -, h8, h9, h10, h11⟩ := X
  exact ⟨h1, h2, hR, hS, h5, h6, h, h8, h9, h10, h11⟩
theorem Z_getG {v : Value} (hS : S a = some (.inl ci)) (hf : zFL M.1.cls idx ci fk fin) (hd : decode M.2.1 pc = .ok (.getfield idx, 3)) (hv : ∀ ad, zv (zty ci fk) ad I L P a fk = zcv ad v) (hw : (∀ r, P a fk = some r → S r ≠ none) → zwf S v) (k : Zj G M d C Sl (pc + 3) lv (v :: st) I L P S Q) : Zj G M d C Sl pc lv (.ref a :: st) I L P S Q := by
  intro p e R s m args below meth c H locs cells slots Kc Ks QQ ad ls X
  obtain ⟨CC, T, N, ref, hkl, hk, -, hlink, hsame, -⟩ := hf
  have hts := X.1.2.2.2.2.1
  have hRp := X.2.2.1
  obtain ⟨cell, q1, q2, q3, q4⟩ := (hRp.1 a).obj hS hkl
  obtain ⟨hS9, hfc, kC, hkC, hkind⟩ := X.2.1.1.1 ci _ hkl.1
  obtain ⟨cf, kf, fi, f, hi, hsl⟩ := hS9 fk hk
  have hi2 : s.fieldFound? ref (T fk).2.1 (T fk).2.2.1 = some (cf, kf, fi, f) := by
    rcases hsame with h | h
    · rw [h]; exact hi
    · exact u_same (hts _ h) _ hi
  refine W.getf X.1.1 X.1.2.1 X.1.2.2.2.1 (hts _ hlink) hi2 (u_facts hfc hkC (u_lays hts hkl.2.1 hk) hi).1 q1 (by rw [q3]; exact fun h => by cases h) (v := zcv ad v) (by rw [hsl, q4 fk hk, ← hv ad]) rfl rfl hd ?_
  exact k p e R s m args below meth c H locs cells slots Kc Ks QQ ad ls (X.toS (zwf_cons.mpr ⟨hw (fun r hr => hRp.2.2.2 a fk r (by rw [hS]; simp) hr), zwf_tl X.2.2.2.2.2.2.1⟩))
theorem Z_getI (hS : S a = some (.inl ci)) (hf : zFL M.1.cls idx ci fk fin) (hd : decode M.2.1 pc = .ok (.getfield idx, 3)) (hty : zint (zty ci fk) = true) (k : Zj G M d C Sl (pc + 3) lv (.int (I a fk) :: st) I L P S Q) : Zj G M d C Sl pc lv (.ref a :: st) I L P S Q :=
  Z_getG (v := .int (I a fk)) hS hf hd (fun ad => by revert hty; cases zty ci fk <;> simp [zint, zv, zcv]) (fun _ => trivial) k
theorem Z_getL (hS : S a = some (.inl ci)) (hf : zFL M.1.cls idx ci fk fin) (hd : decode M.2.1 pc = .ok (.getfield idx, 3)) (hty : zty ci fk = .long) (k : Zj G M d C Sl (pc + 3) lv (.long (L a fk) :: st) I L P S Q) : Zj G M d C Sl pc lv (.ref a :: st) I L P S Q :=
  Z_getG (v := .long (L a fk)) hS hf hd (fun ad => by rw [hty]; rfl) (fun _ => trivial) k
theorem Z_getR {r : Nat} (hS : S a = some (.inl ci)) (hf : zFL M.1.cls idx ci fk fin) (hd : decode M.2.1 pc = .ok (.getfield idx, 3)) (hty : zref (zty ci fk) = true) (hr : P a fk = some r) (k : Zj G M d C Sl (pc + 3) lv (.ref r :: st) I L P S Q) : Zj G M d C Sl pc lv (.ref a :: st) I L P S Q :=
  Z_getG (v := .ref r) hS hf hd (fun ad => by revert hty; cases zty ci fk <;> simp [zref, zv, zcv, hr, zrf]) (fun h => h r hr) k
theorem Z_getN (hS : S a = some (.inl ci)) (hf : zFL M.1.cls idx ci fk fin) (hd : decode M.2.1 pc = .ok (.getfield idx, 3)) (hty : zref (zty ci fk) = true) (hr : P a fk = none) (k : Zj G M d C Sl (pc + 3) lv (.null :: st) I L P S Q) : Zj G M d C Sl pc lv (.ref a :: st) I L P S Q :=
  Z_getG (v := .null) hS hf hd (fun ad => by revert hty; cases zty ci fk <;> simp [zref, zv, zcv, hr, zrf]) (fun _ => trivial) k
/-- a nest mate's field -/
theorem Z_getGN {v : Value} (hS : S a = some (.inl ci)) (hf : zFN M.1.cls idx ci fk fin) (hd : decode M.2.1 pc = .ok (.getfield idx, 3)) (hv : ∀ ad, zv (zty ci fk) ad I L P a fk = zcv ad v) (hw : (∀ r, P a fk = some r → S r ≠ none) → zwf S v) (k : Zj G M d C Sl (pc + 3) lv (v :: st) I L P S Q) : Zj G M d C Sl pc lv (.ref a :: st) I L P S Q := by
  intro p e R s m args below meth c H locs cells slots Kc Ks QQ ad ls X
  obtain ⟨CC, T, N, ref, host, hkl, hk, -, hlink, hsame⟩ := hf
  have hts := X.1.2.2.2.2.1
  have hRp := X.2.2.1
  obtain ⟨cell, q1, q2, q3, q4⟩ := (hRp.1 a).obj hS hkl
  obtain ⟨hS9, hfc, kC, hkC, hkind⟩ := X.2.1.1.1 ci _ hkl.1
  obtain ⟨cf, kf, fi, f, hi, hsl⟩ := hS9 fk hk
  have hi2 : s.fieldFound? ref (T fk).2.1 (T fk).2.2.1 = some (cf, kf, fi, f) := by rw [hsame]; exact hi
  have hlw := va_Nw.use (A := args) rfl (X.2.1.2.1 _ hlink rfl)
  refine va_Wgetf X.1.1 X.1.2.1 X.1.2.2.2.1 hlw hi2 (u_facts hfc hkC (u_lays hts hkl.2.1 hk) hi).1 q1 (by rw [q3]; exact fun h => by cases h) (v := zcv ad v) (by rw [hsl, q4 fk hk, ← hv ad]) rfl rfl hd ?_
  exact k p e R s m args below meth c H locs cells slots Kc Ks QQ ad ls (X.toS (zwf_cons.mpr ⟨hw (fun r hr => hRp.2.2.2 a fk r (by rw [hS]; simp) hr), zwf_tl X.2.2.2.2.2.2.1⟩))
theorem Z_getIN (hS : S a = some (.inl ci)) (hf : zFN M.1.cls idx ci fk fin) (hd : decode M.2.1 pc = .ok (.getfield idx, 3)) (hty : zint (zty ci fk) = true) (k : Zj G M d C Sl (pc + 3) lv (.int (I a fk) :: st) I L P S Q) : Zj G M d C Sl pc lv (.ref a :: st) I L P S Q :=
  Z_getGN (v := .int (I a fk)) hS hf hd (fun ad => by revert hty; cases zty ci fk <;> simp [zint, zv, zcv]) (fun _ => trivial) k
theorem Z_getRN {r : Nat} (hS : S a = some (.inl ci)) (hf : zFN M.1.cls idx ci fk fin) (hd : decode M.2.1 pc = .ok (.getfield idx, 3)) (hty : zref (zty ci fk) = true) (hr : P a fk = some r) (k : Zj G M d C Sl (pc + 3) lv (.ref r :: st) I L P S Q) : Zj G M d C Sl pc lv (.ref a :: st) I L P S Q :=
  Z_getGN (v := .ref r) hS hf hd (fun ad => by revert hty; cases zty ci fk <;> simp [zref, zv, zcv, hr, zrf]) (fun h => h r hr) k
/-- putfield -/
theorem Z_putG {v : Value} {I' : zI} {L' : zL} {P' : zR} (hS : S a = some (.inl ci)) (hf : zFL M.1.cls idx ci fk false) (hd : decode M.2.1 pc = .ok (.putfield idx, 3)) (hn : ∀ ad, narrow (zty ci fk) (zcv ad v) = zcv ad v ∧ fits (zty ci fk) (zcv ad v) = true)
    (hz : ∀ ad j, updV (fun j => zv (zty ci j) ad I L P a j) fk (zcv ad v) j = zv (zty ci j) ad I' L' P' a j) (hI : ∀ b, b ≠ a → I' b = I b) (hL : ∀ b, b ≠ a → L' b = L b) (hP : ∀ b, b ≠ a → P' b = P b) (hw : zwf S v → (∀ j r, P a j = some r → S r ≠ none) → ∀ j r, P' a j = some r → S r ≠ none)
    (k : Zj G M d C Sl (pc + 3) lv st I' L' P' S Q) : Zj G M d C Sl pc lv (v :: .ref a :: st) I L P S Q := by
  intro p e R s m args below meth c H locs cells slots Kc Ks QQ ad ls X
  obtain ⟨CC, T, N, ref, hkl, hk, hfin, hlink, hsame, -⟩ := hf
  have hts := X.1.2.2.2.2.1
  have hRp := X.2.2.1
  have hap := z_apart (D := G.1.2.1) hts hkl X.2.1.1
  obtain ⟨cell, q1, q2, q3, q4⟩ := (hRp.1 a).obj hS hkl
  obtain ⟨hS9, hfc, kC, hkC, hkind⟩ := X.2.1.1.1 ci _ hkl.1
  obtain ⟨cf, kf, fi, f, hi, hsl⟩ := hS9 fk hk
  have hi2 : s.fieldFound? ref (T fk).2.1 (T fk).2.2.1 = some (cf, kf, fi, f) := by
    rcases hsame with h | h
    · rw [h]; exact hi
    · exact u_same (hts _ h) _ hi
  have hlay := hts _ (hkl.2.1 _ (u_in_lay hk))
  unfold u_lay at hlay
  rw [if_neg (by rw [hfin]; decide)] at hlay
  have hst := (u_facts hfc hkC (u_lays hts hkl.2.1 hk) hi).1
  have h6 := u_store hfc hkC hkind hlay hi (hkl.2.2.1 fk hk) (hn ad).1 (hn ad).2
  have hwl := X.2.2.2.2.2.2.1
  refine W.putK X.1.1 X.1.2.1 (f := f) (v := zcv ad v) ⟨X.1.2.2.2.1, hts _ hlink, ⟨_, _, _, hi2⟩, hst⟩ (by rw [q2]; exact h6) q1 q3 (by rw [hsl]; exact k2_hasslot (q4 fk hk)) rfl rfl hd fun H' e1 e2 e3 => ?_
  rw [hsl] at e1 ⊢
  have hmu : zmu S a := zmu_obj hS hkl.lt
  refine k p e R s m args below meth c H' _ cells slots Kc Ks QQ ad ls (X.toM (hRp.put hmu hI hL hP (hw (zwf_hd hwl) (fun j r hr => hRp.2.2.2 a j r hmu.1 hr)) e3 ?_) (X.2.2.2.1.put e2 e3 (hRp.2.2.1 a hmu)) (zwf_tl (zwf_tl hwl)))
  unfold zc
  rw [hS]
  dsimp only
  have := hkl.lt
  rw [if_neg (by omega)]
  exact ⟨_, hkl.1, t_OB.to (V := updV (fun j => zv (zty ci j) ad I L P a j) fk (zcv ad v)) ⟨_, e1, q2, q3, t_set q4 hap hk _⟩ (fun j _ => hz ad j)⟩
theorem Z_putI {x : Int32} (hS : S a = some (.inl ci)) (hf : zFL M.1.cls idx ci fk false) (hd : decode M.2.1 pc = .ok (.putfield idx, 3)) (hty : zint (zty ci fk) = true) (hn : narrow (zty ci fk) (.int x) = .int x) (hfit : fits (zty ci fk) (.int x) = true) (k : Zj G M d C Sl (pc + 3) lv st (zw I a fk x) L P S Q) : Zj G M d C Sl pc lv (.int x :: .ref a :: st) I L P S Q :=
  Z_putG (v := .int x) hS hf hd (fun _ => ⟨hn, hfit⟩) (fun ad j => zv_i (ty := zty ci) hty j) (fun b hb => zw_n _ _ _ _ hb) (fun _ _ => rfl) (fun _ _ => rfl) (fun _ h => h) k
theorem Z_putL {x : Int64} (hS : S a = some (.inl ci)) (hf : zFL M.1.cls idx ci fk false) (hd : decode M.2.1 pc = .ok (.putfield idx, 3)) (hty : zty ci fk = .long) (k : Zj G M d C Sl (pc + 3) lv st I (zw L a fk x) P S Q) : Zj G M d C Sl pc lv (.long x :: .ref a :: st) I L P S Q :=
  Z_putG (v := .long x) hS hf hd (fun _ => by rw [hty]; exact ⟨rfl, rfl⟩) (fun ad j => zv_l (ty := zty ci) hty j) (fun _ _ => rfl) (fun b hb => zw_n _ _ _ _ hb) (fun _ _ => rfl) (fun _ h => h) k
theorem z_nr {ty : FieldType} (h : zref ty = true) (v : Value) (hv : v = .null ∨ ∃ x, v = .ref x) (ad : Nat → Nat) : narrow ty (zcv ad v) = zcv ad v ∧ fits ty (zcv ad v) = true := by
  rcases hv with rfl | ⟨x, rfl⟩ <;> revert h <;> cases ty <;> simp [zref, zcv, narrow, fits]
theorem zw_wf {r : Option Nat} (hr : ∀ x, r = some x → S x ≠ none) (h : ∀ j x, P a j = some x → S x ≠ none) : ∀ j x, zw P a fk r a j = some x → S x ≠ none := by
  intro j x hx
  rw [zw_a] at hx
  by_cases hj : j = fk
  · rw [hj, zu_s] at hx; exact hr x hx
  · rw [zu_n _ _ _ hj] at hx; exact h j x hx
theorem Z_putR {x : Nat} (hS : S a = some (.inl ci)) (hf : zFL M.1.cls idx ci fk false) (hd : decode M.2.1 pc = .ok (.putfield idx, 3)) (hty : zref (zty ci fk) = true) (k : Zj G M d C Sl (pc + 3) lv st I L (zw P a fk (some x)) S Q) : Zj G M d C Sl pc lv (.ref x :: .ref a :: st) I L P S Q :=
  Z_putG (v := .ref x) hS hf hd (z_nr hty _ (Or.inr ⟨x, rfl⟩)) (fun ad j => zv_r (ty := zty ci) (r := some x) hty j) (fun _ _ => rfl) (fun _ _ => rfl) (fun b hb => zw_n _ _ _ _ hb) (fun hx h => zw_wf (fun y hy => by cases hy; exact hx) h) k
theorem Z_putN (hS : S a = some (.inl ci)) (hf : zFL M.1.cls idx ci fk false) (hd : decode M.2.1 pc = .ok (.putfield idx, 3)) (hty : zref (zty ci fk) = true) (k : Zj G M d C Sl (pc + 3) lv st I L (zw P a fk none) S Q) : Zj G M d C Sl pc lv (.null :: .ref a :: st) I L P S Q :=
  Z_putG (v := .null) hS hf hd (z_nr hty _ (Or.inl rfl)) (fun ad j => zv_r (ty := zty ci) (r := none) hty j) (fun _ _ => rfl) (fun _ _ => rfl) (fun b hb => zw_n _ _ _ _ hb) (fun _ h => zw_wf (fun y hy => by cases hy) h) k
/-- a final field, in the class's own constructor -/
theorem Z_putFG {v : Value} {I' : zI} {L' : zL} {P' : zR} (hS : S a = some (.inl ci)) (hf : zFW M.1.cls idx ci fk) (hin : M.1.name = "<init>") (hd : decode M.2.1 pc = .ok (.putfield idx, 3)) (hn : ∀ ad, narrow (zty ci fk) (zcv ad v) = zcv ad v ∧ fits (zty ci fk) (zcv ad v) = true)
    (hz : ∀ ad j, updV (fun j => zv (zty ci j) ad I L P a j) fk (zcv ad v) j = zv (zty ci j) ad I' L' P' a j) (hI : ∀ b, b ≠ a → I' b = I b) (hL : ∀ b, b ≠ a → L' b = L b) (hP : ∀ b, b ≠ a → P' b = P b) (hw : zwf S v → (∀ j r, P a j = some r → S r ≠ none) → ∀ j r, P' a j = some r → S r ≠ none)
    (k : Zj G M d C Sl (pc + 3) lv st I' L' P' S Q) : Zj G M d C Sl pc lv (v :: .ref a :: st) I L P S Q := by
  intro p e R s m args below meth c H locs cells slots Kc Ks QQ ad ls X
  obtain ⟨CC, T, N, ref, hkl, hk, hfin, hlink, hsame, hdecl⟩ := hf
  have hts := X.1.2.2.2.2.1
  have hown := X.1.2.2.2.1
  have hRp := X.2.2.1
  have hap := z_apart (D := G.1.2.1) hts hkl X.2.1.1
  obtain ⟨cell, q1, q2, q3, q4⟩ := (hRp.1 a).obj hS hkl
  obtain ⟨hS9, hfc, kC, hkC, hkind⟩ := X.2.1.1.1 ci _ hkl.1
  obtain ⟨cf, kf, fi, f, hi, hsl⟩ := hS9 fk hk
  have hi2 : s.fieldFound? ref (T fk).2.1 (T fk).2.2.1 = some (cf, kf, fi, f) := by
    rcases hsame with h | h
    · rw [h]; exact hi
    · exact u_same (hts _ h) _ hi
  have hlay := hts _ (hkl.2.1 _ (u_in_lay hk))
  unfold u_lay at hlay
  rw [if_pos hfin] at hlay
  have hst := (u_facts hfc hkC (u_lays hts hkl.2.1 hk) hi).1
  have hcf : m.cls = cf := by
    obtain ⟨_, _, c', _, _, _, -, -, hf', -, -, -, hown2, -⟩ := Cond.laysFinal_spec hlay
    have e1 : c' = cf := by have := hi.symm.trans hf'; simp at this; exact this.1.symm
    rw [hdecl] at hown2
    rw [← e1]; exact Option.some.inj (hown.symm.trans hown2)
  have h6 := u_fits hfc hkC hkind (Or.inr hlay) hi (hkl.2.2.1 fk hk) (hn ad).1 (hn ad).2
  have hwl := X.2.2.2.2.2.2.1
  have hname : meth.name = "<init>" := X.1.2.2.2.2.2.2.2.1.trans hin
  refine W.putFinK X.1.1 X.1.2.1 hown (hts _ hlink) hi2 hst hcf hname (v := zcv ad v) (by rw [q2]; exact h6) q1 q3 (by rw [hsl]; exact k2_hasslot (q4 fk hk)) rfl rfl hd fun H' e1 e2 e3 => ?_
  rw [hsl] at e1 ⊢
  have hmu : zmu S a := zmu_obj hS hkl.lt
  refine k p e R s m args below meth c H' _ cells slots Kc Ks QQ ad ls (X.toM (hRp.put hmu hI hL hP (hw (zwf_hd hwl) (fun j r hr => hRp.2.2.2 a j r hmu.1 hr)) e3 ?_) (X.2.2.2.1.put e2 e3 (hRp.2.2.1 a hmu)) (zwf_tl (zwf_tl hwl)))
  unfold zc
  rw [hS]
  dsimp only
  have := hkl.lt
  rw [if_neg (by omega)]
  exact ⟨_, hkl.1, t_OB.to (V := updV (fun j => zv (zty ci j) ad I L P a j) fk (zcv ad v)) ⟨_, e1, q2, q3, t_set q4 hap hk _⟩ (fun j _ => hz ad j)⟩
theorem Z_putFI {x : Int32} (hS : S a = some (.inl ci)) (hf : zFW M.1.cls idx ci fk) (hin : M.1.name = "<init>") (hd : decode M.2.1 pc = .ok (.putfield idx, 3)) (hty : zint (zty ci fk) = true) (hn : narrow (zty ci fk) (.int x) = .int x) (hfit : fits (zty ci fk) (.int x) = true) (k : Zj G M d C Sl (pc + 3) lv st (zw I a fk x) L P S Q) : Zj G M d C Sl pc lv (.int x :: .ref a :: st) I L P S Q :=
  Z_putFG (v := .int x) hS hf hin hd (fun _ => ⟨hn, hfit⟩) (fun ad j => zv_i (ty := zty ci) hty j) (fun b hb => zw_n _ _ _ _ hb) (fun _ _ => rfl) (fun _ _ => rfl) (fun _ h => h) k
theorem Z_putFR {x : Nat} (hS : S a = some (.inl ci)) (hf : zFW M.1.cls idx ci fk) (hin : M.1.name = "<init>") (hd : decode M.2.1 pc = .ok (.putfield idx, 3)) (hty : zref (zty ci fk) = true) (k : Zj G M d C Sl (pc + 3) lv st I L (zw P a fk (some x)) S Q) : Zj G M d C Sl pc lv (.ref x :: .ref a :: st) I L P S Q :=
  Z_putFG (v := .ref x) hS hf hin hd (z_nr hty _ (Or.inr ⟨x, rfl⟩)) (fun ad j => zv_r (ty := zty ci) (r := some x) hty j) (fun _ _ => rfl) (fun _ _ => rfl) (fun b hb => zw_n _ _ _ _ hb) (fun hx h => zw_wf (fun y hy => by cases hy; exact hx) h) k
/-- a nest mate's field is written -/
theorem Z_putIN {x : Int32} (hS : S a = some (.inl ci)) (hf : zFN M.1.cls idx ci fk false) (hd : decode M.2.1 pc = .ok (.putfield idx, 3)) (hty : zty ci fk = .int) (k : Zj G M d C Sl (pc + 3) lv st (zw I a fk x) L P S Q) : Zj G M d C Sl pc lv (.int x :: .ref a :: st) I L P S Q := by
  intro p e R s m args below meth c H locs cells slots Kc Ks QQ ad ls X
  obtain ⟨CC, T, N, ref, host, hkl, hk, hfin, hlink, hsame⟩ := hf
  have hts := X.1.2.2.2.2.1
  have hRp := X.2.2.1
  have hap := z_apart (D := G.1.2.1) hts hkl X.2.1.1
  obtain ⟨cell, q1, q2, q3, q4⟩ := (hRp.1 a).obj hS hkl
  obtain ⟨hS9, hfc, kC, hkC, hkind⟩ := X.2.1.1.1 ci _ hkl.1
  obtain ⟨cf, kf, fi, f, hi, hsl⟩ := hS9 fk hk
  have hi2 : s.fieldFound? ref (T fk).2.1 (T fk).2.2.1 = some (cf, kf, fi, f) := by rw [hsame]; exact hi
  have hlw := va_Nw.use (A := args) rfl (X.2.1.2.1 _ hlink rfl)
  have hlay := hts _ (hkl.2.1 _ (u_in_lay hk))
  unfold u_lay at hlay
  rw [if_neg (by rw [hfin]; decide)] at hlay
  have hst := (u_facts hfc hkC (u_lays hts hkl.2.1 hk) hi).1
  have h6 := u_store hfc hkC hkind hlay hi (hkl.2.2.1 fk hk) (v := .int x) (by rw [hty]; rfl) (by rw [hty]; rfl)
  have hwl := X.2.2.2.2.2.2.1
  refine va_WputK X.1.1 X.1.2.1 (f := f) X.1.2.2.2.1 hlw hi2 hst (v := .int x) (by rw [q2]; exact h6) q1 q3 (by rw [hsl]; exact k2_hasslot (q4 fk hk)) rfl rfl hd fun H' e1 e2 e3 => ?_
  rw [hsl] at e1 ⊢
  have hmu : zmu S a := zmu_obj hS hkl.lt
  refine k p e R s m args below meth c H' _ cells slots Kc Ks QQ ad ls (X.toM (hRp.put hmu (fun b hb => zw_n _ _ _ _ hb) (fun _ _ => rfl) (fun _ _ => rfl) (fun j r hr => hRp.2.2.2 a j r hmu.1 hr) e3 ?_) (X.2.2.2.1.put e2 e3 (hRp.2.2.1 a hmu)) (zwf_tl (zwf_tl hwl)))
  unfold zc
  rw [hS]
  dsimp only
  have := hkl.lt
  rw [if_neg (by omega)]
  exact ⟨_, hkl.1, t_OB.to (V := updV (fun j => zv (zty ci j) ad I L P a j) fk (.int x)) ⟨_, e1, q2, q3, t_set q4 hap hk _⟩ (fun j _ => zv_i (ty := zty ci) (by rw [hty]; rfl) j)⟩
end ZROWS5
