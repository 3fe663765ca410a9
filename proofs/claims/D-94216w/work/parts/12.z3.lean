set_option maxRecDepth 100000
/-! Z, part 3: the judgement Zj (from this place, with these locals, this stack, this memory, the method M comes to an end with Q) and its rows for what touches no cell -/
abbrev zQ : Type := Option Value ⊕ (Nat × Option Nat) → zI → zL → zR → zT → Prop
def zTab (M : zM) : List ExceptionTableEntry := match M.2.2.2.2 with
  | none => []
  | some hh => tableOf hh
def zFix (M : zM) (p : Program) (s : State) (m : MethodId) (args : Array Value) (meth : Method) (c : Code) : Prop :=
  p.tables.exec = Jvm.exec ∧ c.code = M.2.1 ∧ c.maxLocals = M.2.2.1 ∧ s.vm.findClass M.1.cls = some m.cls ∧ (∀ w ∈ lw_all, w.before args s = true) ∧ meth.sig.returnType = M.2.2.2.1 ∧ meth.locks = false ∧ meth.name = M.1.name ∧ c.exceptionTable.toList = zTab M
def zRetOk (M : zM) (pc : Nat) (o : Option Value) : Prop := match o with
  | none => M.2.2.2.1 = none ∧ decode M.2.1 pc = .ok (.return_, 1)
  | some (.int v) => (∃ ty, M.2.2.2.1 = some ty ∧ narrow ty (.int v) = .int v) ∧ decode M.2.1 pc = .ok (.ireturn, 1)
  | some (.long _) => M.2.2.2.1 = some .long ∧ decode M.2.1 pc = .ok (.lreturn, 1)
  | some (.ref _) => (∃ rt, M.2.2.2.1 = some rt ∧ ((∃ n, rt = .object n) ∨ ∃ t, rt = .array t)) ∧ decode M.2.1 pc = .ok (.areturn, 1)
  | some .null => (∃ rt, M.2.2.2.1 = some rt ∧ ((∃ n, rt = .object n) ∨ ∃ t, rt = .array t)) ∧ decode M.2.1 pc = .ok (.areturn, 1)
  | _ => False
def zEndR (G : zG) (M : zM) (p : Program) (e : Env) (R : Room) (s : State) (m : MethodId) (args : Array Value) (below : List Frame) (meth : Method) (c : Code) (Kc Ks : Nat) (QQ : State → Prop) (Q : zQ) (S : zT) (ad : Nat → Nat) : Prop :=
  ∀ (o : Option Value) (I : zI) (L : zL) (P : zR) (S' : zT) (H : Heap) (locs : List Loc) (ad' : Nat → Nat) (ls : Array Slot) (cells slots pc : Nat), Q (.inl o) I L P S' → zRep G ad' I L P S' H → zExt S ad S' ad' → va_S (zA G) s.heap H locs → (∀ v, o = some v → zwf S' v) → cells ≤ Kc → slots ≤ Ks → zRetOk M pc o → ls.size = M.2.2.1 →
    W p G.1.1 e R s m args below meth c H locs cells slots QQ (F0 m pc ls ((o.map (zcv ad')).toList))
/-- an exception of the class number ci leaves the method; ok: its handle, where it has one -/
def zExc (s : State) (S : zT) (ad : Nat → Nat) (H : Heap) (ci : Nat) (ok : Option Nat) (q : Addr) (ce : Cell) : Prop := (∀ k, ok = some k → q = ad k ∧ S k = some (.inl ci)) ∧ (∃ r : vw_C, zCl[ci]? = some r ∧ s.vm.findClass r.1 = some ce.cls) ∧ H[q]? = some ce ∧ ce.vm = .none
def zEndX (G : zG) (M : zM) (p : Program) (e : Env) (R : Room) (s : State) (m : MethodId) (args : Array Value) (below : List Frame) (meth : Method) (c : Code) (Kc Ks : Nat) (QQ : State → Prop) (Q : zQ) (S : zT) (ad : Nat → Nat) : Prop :=
  ∀ (ci : Nat) (ok : Option Nat) (I : zI) (L : zL) (P : zR) (S' : zT) (H : Heap) (locs : List Loc) (ad' : Nat → Nat) (ls : Array Slot) (cells slots pc : Nat) (rest : List Value) (q : Addr) (ce : Cell), Q (.inr (ci, ok)) I L P S' → zRep G ad' I L P S' H → zExt S ad S' ad' → va_S (zA G) s.heap H locs → zExc s S' ad' H ci ok q ce → cells ≤ Kc → slots ≤ Ks → (∀ x ∈ zTab M, covers x pc = false) → ls.size = M.2.2.1 →
    vx_W p G.1.1 e R s m args below meth c H locs cells slots QQ (F0 m pc ls rest) q
def zCtx (G : zG) (M : zM) (d C Sl : Nat) (p : Program) (e : Env) (R : Room) (s : State) (m : MethodId) (args : Array Value) (below : List Frame) (meth : Method) (c : Code) (H : Heap) (locs : List Loc) (cells slots Kc Ks : Nat) (QQ : State → Prop) (ad : Nat → Nat) (ls : Array Slot) (lv st : List Value) (I : zI) (L : zL) (P : zR) (S : zT) (Q : zQ) : Prop :=
  zFix M p s m args meth c ∧ zEnv G s ∧ zRep G ad I L P S H ∧ va_S (zA G) s.heap H locs ∧ zlv ad ls M.2.2.1 lv ∧ (∀ v ∈ lv, zwf S v) ∧ (∀ v ∈ st, zwf S v) ∧ (d ≤ R.frames ∧ 64 * d + 128 ≤ R.locals) ∧ (cells + C ≤ Kc ∧ slots + Sl ≤ Ks ∧ Kc ≤ R.cells ∧ Ks ≤ R.slots) ∧
  zEndR G M p e R s m args below meth c Kc Ks QQ Q S ad ∧ zEndX G M p e R s m args below meth c Kc Ks QQ Q S ad
def Zj (G : zG) (M : zM) (d C Sl : Nat) (pc : Nat) (lv st : List Value) (I : zI) (L : zL) (P : zR) (S : zT) (Q : zQ) : Prop :=
  ∀ (p : Program) (e : Env) (R : Room) (s : State) (m : MethodId) (args : Array Value) (below : List Frame) (meth : Method) (c : Code) (H : Heap) (locs : List Loc) (cells slots Kc Ks : Nat) (QQ : State → Prop) (ad : Nat → Nat) (ls : Array Slot),
    zCtx G M d C Sl p e R s m args below meth c H locs cells slots Kc Ks QQ ad ls lv st I L P S Q → W p G.1.1 e R s m args below meth c H locs cells slots QQ (F0 m pc ls (st.map (zcv ad)))
/-- a method from its entry -/
def Zm (G : zG) (M : zM) (d C Sl : Nat) (av : List Value) (I : zI) (L : zL) (P : zR) (S : zT) (Q : zQ) : Prop := (zent av).length ≤ M.2.2.1 ∧ Zj G M d C Sl 0 (zpad M.2.2.1 (zent av)) [] I L P S Q
section ZROWS
variable {G : zG} {M : zM} {d C Sl pc : Nat} {lv lv' st : List Value} {I : zI} {L : zL} {P : zR} {S : zT} {Q : zQ}
theorem zCtx.toS {p : Program} {e : Env} {R : Room} {s : State} {m : MethodId} {args : Array Value} {below : List Frame} {meth : Method} {c : Code} {H : Heap} {locs : List Loc} {cells slots Kc Ks : Nat} {QQ : State → Prop} {ad : Nat → Nat} {ls : Array Slot} {st' : List Value}
    (X : zCtx G M d C Sl p e R s m args below meth c H locs cells slots Kc Ks QQ ad ls lv st I L P S Q) (h : ∀ v ∈ st', zwf S v) : zCtx G M d C Sl p e R s m args below meth c H locs cells slots Kc Ks QQ ad ls lv st' I L P S Q := by
  obtain ⟨h1, h2, h3, h4, h5, h6, -, h8⟩ := X
  exact ⟨h1, h2, h3, h4, h5, h6, h, h8⟩
theorem zCtx.toL {p : Program} {e : Env} {R : Room} {s : State} {m : MethodId} {args : Array Value} {below : List Frame} {meth : Method} {c : Code} {H : Heap} {locs : List Loc} {cells slots Kc Ks : Nat} {QQ : State → Prop} {ad : Nat → Nat} {ls ls' : Array Slot} {st' : List Value}
    (X : zCtx G M d C Sl p e R s m args below meth c H locs cells slots Kc Ks QQ ad ls lv st I L P S Q) (hl : zlv ad ls' M.2.2.1 lv') (hwl : ∀ v ∈ lv', zwf S v) (h : ∀ v ∈ st', zwf S v) : zCtx G M d C Sl p e R s m args below meth c H locs cells slots Kc Ks QQ ad ls' lv' st' I L P S Q := by
  obtain ⟨h1, h2, h3, h4, -, -, -, h8⟩ := X
  exact ⟨h1, h2, h3, h4, hl, hwl, h, h8⟩
/-- weaker end, smaller needs -/
theorem Zj.mono {Q' : zQ} (h : Zj G M d C Sl pc lv st I L P S Q) (hQ : ∀ o I L P S, Q o I L P S → Q' o I L P S) : Zj G M d C Sl pc lv st I L P S Q' := by
  intro p e R s m args below meth c H locs cells slots Kc Ks QQ ad ls X
  obtain ⟨h1, h2, h3, h4, h5, h6, h7, h8, h9, h10, h11⟩ := X
  exact h p e R s m args below meth c H locs cells slots Kc Ks QQ ad ls ⟨h1, h2, h3, h4, h5, h6, h7, h8, h9, fun o I L P S H locs ad' ls cl sl pc q => h10 o I L P S H locs ad' ls cl sl pc (hQ _ _ _ _ _ q), fun ci ok I L P S H locs ad' ls cl sl pc rest q ce z => h11 ci ok I L P S H locs ad' ls cl sl pc rest q ce (hQ _ _ _ _ _ z)⟩
theorem Zj.less {d' C' Sl' : Nat} (h : Zj G M d C Sl pc lv st I L P S Q) (hd : d ≤ d') (hC : C ≤ C') (hS : Sl ≤ Sl') : Zj G M d' C' Sl' pc lv st I L P S Q := by
  intro p e R s m args below meth c H locs cells slots Kc Ks QQ ad ls X
  obtain ⟨h1, h2, h3, h4, h5, h6, h7, h8, h9, h10⟩ := X
  exact h p e R s m args below meth c H locs cells slots Kc Ks QQ ad ls ⟨h1, h2, h3, h4, h5, h6, h7, ⟨by omega, by omega⟩, ⟨by omega, by omega, h9.2.2⟩, h10⟩
theorem Zm.mono {av : List Value} {Q' : zQ} (h : Zm G M d C Sl av I L P S Q) (hQ : ∀ o I L P S, Q o I L P S → Q' o I L P S) : Zm G M d C Sl av I L P S Q' := ⟨h.1, h.2.mono hQ⟩
theorem Zm.less {av : List Value} {d' C' Sl' : Nat} (h : Zm G M d C Sl av I L P S Q) (hd : d ≤ d') (hC : C ≤ C') (hS : Sl ≤ Sl') : Zm G M d' C' Sl' av I L P S Q := ⟨h.1, h.2.less hd hC hS⟩
theorem zwf_cons {v : Value} {l : List Value} : (∀ w ∈ v :: l, zwf S w) ↔ zwf S v ∧ ∀ w ∈ l, zwf S w := List.forall_mem_cons
theorem zwf_tl {v : Value} {l : List Value} (h : ∀ w ∈ v :: l, zwf S w) : ∀ w ∈ l, zwf S w := (zwf_cons.mp h).2
theorem zwf_hd {v : Value} {l : List Value} (h : ∀ w ∈ v :: l, zwf S w) : zwf S v := (zwf_cons.mp h).1
theorem zwf_i {x : Int32} {l : List Value} (h : ∀ w ∈ l, zwf S w) : ∀ w ∈ (Value.int x) :: l, zwf S w := zwf_cons.mpr ⟨trivial, h⟩
theorem zwf_l {x : Int64} {l : List Value} (h : ∀ w ∈ l, zwf S w) : ∀ w ∈ (Value.long x) :: l, zwf S w := zwf_cons.mpr ⟨trivial, h⟩
theorem zwf_set {l : List Value} {i : Nat} {v : Value} (h : ∀ w ∈ l, zwf S w) (hv : zwf S v) : ∀ w ∈ l.set i v, zwf S w := by
  intro w hw
  rcases List.mem_or_eq_of_mem_set hw with h1 | h1
  · exact h w h1
  · rw [h1]; exact hv
-- constants
theorem Z_iconst {n : Int} (v : Int32) (hd : decode M.2.1 pc = .ok (.iconst n, 1)) (hv : Int32.ofInt n = v) (k : Zj G M d C Sl (pc + 1) lv (.int v :: st) I L P S Q) : Zj G M d C Sl pc lv st I L P S Q := by
  intro p e R s m args below meth c H locs cells slots Kc Ks QQ ad ls X
  exact lv_iconst X.1.1 X.1.2.1 hd hv (k p e R s m args below meth c H locs cells slots Kc Ks QQ ad ls (X.toS (zwf_i X.2.2.2.2.2.2.1)))
theorem Z_bipush {n : Int} (v : Int32) (hd : decode M.2.1 pc = .ok (.bipush n, 2)) (hv : (Int8.ofInt n).toInt32 = v) (k : Zj G M d C Sl (pc + 2) lv (.int v :: st) I L P S Q) : Zj G M d C Sl pc lv st I L P S Q := by
  intro p e R s m args below meth c H locs cells slots Kc Ks QQ ad ls X
  exact lv_bipush X.1.1 X.1.2.1 hd hv (k p e R s m args below meth c H locs cells slots Kc Ks QQ ad ls (X.toS (zwf_i X.2.2.2.2.2.2.1)))
theorem Z_sipush {n : Int} (v : Int32) (hd : decode M.2.1 pc = .ok (.sipush n, 3)) (hv : (Int16.ofInt n).toInt32 = v) (k : Zj G M d C Sl (pc + 3) lv (.int v :: st) I L P S Q) : Zj G M d C Sl pc lv st I L P S Q := by
  intro p e R s m args below meth c H locs cells slots Kc Ks QQ ad ls X
  exact lv_sipush X.1.1 X.1.2.1 hd hv (k p e R s m args below meth c H locs cells slots Kc Ks QQ ad ls (X.toS (zwf_i X.2.2.2.2.2.2.1)))
theorem Z_lconst {n : Fin 2} (v : Int64) (hd : decode M.2.1 pc = .ok (.lconst n, 1)) (hv : Int64.ofNat n = v) (k : Zj G M d C Sl (pc + 1) lv (.long v :: st) I L P S Q) : Zj G M d C Sl pc lv st I L P S Q := by
  intro p e R s m args below meth c H locs cells slots Kc Ks QQ ad ls X
  exact lv_lconst X.1.1 X.1.2.1 hd hv (k p e R s m args below meth c H locs cells slots Kc Ks QQ ad ls (X.toS (zwf_l X.2.2.2.2.2.2.1)))
theorem Z_ldc {index : Nat} {v : Int32} (hq : Jvm.Cond.constant M.1.cls index v ∈ lw_all) (hd : decode M.2.1 pc = .ok (.ldc index, 2)) (k : Zj G M d C Sl (pc + 2) lv (.int v :: st) I L P S Q) : Zj G M d C Sl pc lv st I L P S Q := by
  intro p e R s m args below meth c H locs cells slots Kc Ks QQ ad ls X
  exact lv_ldc X.1.1 X.1.2.1 X.1.2.2.2.1 (X.1.2.2.2.2.1 _ hq) hd (k p e R s m args below meth c H locs cells slots Kc Ks QQ ad ls (X.toS (zwf_i X.2.2.2.2.2.2.1)))
theorem Z_ldcw {index : Nat} {v : Int32} (hq : Jvm.Cond.constant M.1.cls index v ∈ lw_all) (hd : decode M.2.1 pc = .ok (.ldc_w index, 3)) (k : Zj G M d C Sl (pc + 3) lv (.int v :: st) I L P S Q) : Zj G M d C Sl pc lv st I L P S Q := by
  intro p e R s m args below meth c H locs cells slots Kc Ks QQ ad ls X
  exact lv_ldcw X.1.1 X.1.2.1 X.1.2.2.2.1 (X.1.2.2.2.2.1 _ hq) hd (k p e R s m args below meth c H locs cells slots Kc Ks QQ ad ls (X.toS (zwf_i X.2.2.2.2.2.2.1)))
theorem Z_ldc2 {index : Nat} {v : Int64} (hq : Jvm.Cond.constantLong M.1.cls index v ∈ lw_all) (hd : decode M.2.1 pc = .ok (.ldc2_w index, 3)) (k : Zj G M d C Sl (pc + 3) lv (.long v :: st) I L P S Q) : Zj G M d C Sl pc lv st I L P S Q := by
  intro p e R s m args below meth c H locs cells slots Kc Ks QQ ad ls X
  exact lv_ldc2 X.1.1 X.1.2.1 X.1.2.2.2.1 (X.1.2.2.2.2.1 _ hq) hd (k p e R s m args below meth c H locs cells slots Kc Ks QQ ad ls (X.toS (zwf_l X.2.2.2.2.2.2.1)))
theorem Z_null (hd : decode M.2.1 pc = .ok (.aconst_null, 1)) (k : Zj G M d C Sl (pc + 1) lv (.null :: st) I L P S Q) : Zj G M d C Sl pc lv st I L P S Q := by
  intro p e R s m args below meth c H locs cells slots Kc Ks QQ ad ls X
  exact lv_null X.1.1 X.1.2.1 hd (k p e R s m args below meth c H locs cells slots Kc Ks QQ ad ls (X.toS (zwf_cons.mpr ⟨trivial, X.2.2.2.2.2.2.1⟩)))
-- loads
theorem Z_iload_n {j : Fin 4} {x : Int32} (hd : decode M.2.1 pc = .ok (.iload_n j, 1)) (hl : lv[(j : Nat)]? = some (.int x)) (k : Zj G M d C Sl (pc + 1) lv (.int x :: st) I L P S Q) : Zj G M d C Sl pc lv st I L P S Q := by
  intro p e R s m args below meth c H locs cells slots Kc Ks QQ ad ls X
  exact lv_iload_n X.1.1 X.1.2.1 hd rfl (X.2.2.2.2.1.at hl rfl) (k p e R s m args below meth c H locs cells slots Kc Ks QQ ad ls (X.toS (zwf_i X.2.2.2.2.2.2.1)))
theorem Z_iload {i : Nat} {x : Int32} (hd : decode M.2.1 pc = .ok (.iload i, 2)) (hl : lv[i]? = some (.int x)) (k : Zj G M d C Sl (pc + 2) lv (.int x :: st) I L P S Q) : Zj G M d C Sl pc lv st I L P S Q := by
  intro p e R s m args below meth c H locs cells slots Kc Ks QQ ad ls X
  exact lv_iload X.1.1 X.1.2.1 hd (X.2.2.2.2.1.at hl rfl) (k p e R s m args below meth c H locs cells slots Kc Ks QQ ad ls (X.toS (zwf_i X.2.2.2.2.2.2.1)))
theorem Z_lload_n {j : Fin 4} {x : Int64} (hd : decode M.2.1 pc = .ok (.lload_n j, 1)) (hl : lv[(j : Nat)]? = some (.long x)) (k : Zj G M d C Sl (pc + 1) lv (.long x :: st) I L P S Q) : Zj G M d C Sl pc lv st I L P S Q := by
  intro p e R s m args below meth c H locs cells slots Kc Ks QQ ad ls X
  exact lv_lload_n X.1.1 X.1.2.1 hd rfl (X.2.2.2.2.1.at hl rfl) (k p e R s m args below meth c H locs cells slots Kc Ks QQ ad ls (X.toS (zwf_l X.2.2.2.2.2.2.1)))
theorem Z_lload {i : Nat} {x : Int64} (hd : decode M.2.1 pc = .ok (.lload i, 2)) (hl : lv[i]? = some (.long x)) (k : Zj G M d C Sl (pc + 2) lv (.long x :: st) I L P S Q) : Zj G M d C Sl pc lv st I L P S Q := by
  intro p e R s m args below meth c H locs cells slots Kc Ks QQ ad ls X
  exact lv_lload X.1.1 X.1.2.1 hd (X.2.2.2.2.1.at hl rfl) (k p e R s m args below meth c H locs cells slots Kc Ks QQ ad ls (X.toS (zwf_l X.2.2.2.2.2.2.1)))
theorem Z_aload_n {j : Fin 4} {x : Nat} (hd : decode M.2.1 pc = .ok (.aload_n j, 1)) (hl : lv[(j : Nat)]? = some (.ref x)) (k : Zj G M d C Sl (pc + 1) lv (.ref x :: st) I L P S Q) : Zj G M d C Sl pc lv st I L P S Q := by
  intro p e R s m args below meth c H locs cells slots Kc Ks QQ ad ls X
  exact lv_aload_n X.1.1 X.1.2.1 hd rfl (X.2.2.2.2.1.at hl rfl) (k p e R s m args below meth c H locs cells slots Kc Ks QQ ad ls (X.toS (zwf_cons.mpr ⟨X.2.2.2.2.2.1 _ (List.mem_of_getElem? hl), X.2.2.2.2.2.2.1⟩)))
theorem Z_aload {i : Nat} {x : Nat} (hd : decode M.2.1 pc = .ok (.aload i, 2)) (hl : lv[i]? = some (.ref x)) (k : Zj G M d C Sl (pc + 2) lv (.ref x :: st) I L P S Q) : Zj G M d C Sl pc lv st I L P S Q := by
  intro p e R s m args below meth c H locs cells slots Kc Ks QQ ad ls X
  exact lv_aload X.1.1 X.1.2.1 hd (X.2.2.2.2.1.at hl rfl) (k p e R s m args below meth c H locs cells slots Kc Ks QQ ad ls (X.toS (zwf_cons.mpr ⟨X.2.2.2.2.2.1 _ (List.mem_of_getElem? hl), X.2.2.2.2.2.2.1⟩)))
theorem Z_aload_nN {j : Fin 4} (hd : decode M.2.1 pc = .ok (.aload_n j, 1)) (hl : lv[(j : Nat)]? = some .null) (k : Zj G M d C Sl (pc + 1) lv (.null :: st) I L P S Q) : Zj G M d C Sl pc lv st I L P S Q := by
  intro p e R s m args below meth c H locs cells slots Kc Ks QQ ad ls X
  exact lv_aload_nN X.1.1 X.1.2.1 hd rfl (X.2.2.2.2.1.at hl rfl) (k p e R s m args below meth c H locs cells slots Kc Ks QQ ad ls (X.toS (zwf_cons.mpr ⟨trivial, X.2.2.2.2.2.2.1⟩)))
theorem Z_aloadN {i : Nat} (hd : decode M.2.1 pc = .ok (.aload i, 2)) (hl : lv[i]? = some .null) (k : Zj G M d C Sl (pc + 2) lv (.null :: st) I L P S Q) : Zj G M d C Sl pc lv st I L P S Q := by
  intro p e R s m args below meth c H locs cells slots Kc Ks QQ ad ls X
  exact lv_aloadN X.1.1 X.1.2.1 hd (X.2.2.2.2.1.at hl rfl) (k p e R s m args below meth c H locs cells slots Kc Ks QQ ad ls (X.toS (zwf_cons.mpr ⟨trivial, X.2.2.2.2.2.2.1⟩)))
-- stores
theorem Z_istore_n {j : Fin 4} {x : Int32} (hd : decode M.2.1 pc = .ok (.istore_n j, 1)) (hl : lv.set j (.int x) = lv') (hok : zok lv j = true) (hn : (j : Nat) < lv.length) (k : Zj G M d C Sl (pc + 1) lv' st I L P S Q) : Zj G M d C Sl pc lv (.int x :: st) I L P S Q := by
  intro p e R s m args below meth c H locs cells slots Kc Ks QQ ad ls X
  subst hl
  have hlen := X.2.2.2.2.1.1
  exact lv_istore_n X.1.1 X.1.2.1 hd rfl X.2.2.2.2.1.2 (by omega) rfl (fun ls' hl' => k p e R s m args below meth c H locs cells slots Kc Ks QQ ad ls' (X.toL (zlv_set1 hlen (by omega) rfl hok hl') (zwf_set X.2.2.2.2.2.1 trivial) (zwf_tl X.2.2.2.2.2.2.1)))
theorem Z_istore {i : Nat} {x : Int32} (hd : decode M.2.1 pc = .ok (.istore i, 2)) (hl : lv.set i (.int x) = lv') (hok : zok lv i = true) (hn : i < lv.length) (k : Zj G M d C Sl (pc + 2) lv' st I L P S Q) : Zj G M d C Sl pc lv (.int x :: st) I L P S Q := by
  intro p e R s m args below meth c H locs cells slots Kc Ks QQ ad ls X
  subst hl
  have hlen := X.2.2.2.2.1.1
  exact lv_istore X.1.1 X.1.2.1 hd X.2.2.2.2.1.2 (by omega) rfl (fun ls' hl' => k p e R s m args below meth c H locs cells slots Kc Ks QQ ad ls' (X.toL (zlv_set1 hlen (by omega) rfl hok hl') (zwf_set X.2.2.2.2.2.1 trivial) (zwf_tl X.2.2.2.2.2.2.1)))
theorem Z_lstore_n {j : Fin 4} {x : Int64} (hd : decode M.2.1 pc = .ok (.lstore_n j, 1)) (hl : (lv.set j (.long x)).set (j + 1) (.retAddr 0) = lv') (hok : zok lv j = true) (hn : (j : Nat) + 1 < lv.length) (k : Zj G M d C Sl (pc + 1) lv' st I L P S Q) : Zj G M d C Sl pc lv (.long x :: st) I L P S Q := by
  intro p e R s m args below meth c H locs cells slots Kc Ks QQ ad ls X
  subst hl
  have hlen := X.2.2.2.2.1.1
  exact lv_lstore_n X.1.1 X.1.2.1 hd rfl X.2.2.2.2.1.2 (by omega) rfl (fun ls' hl' => k p e R s m args below meth c H locs cells slots Kc Ks QQ ad ls' (X.toL (zlv_set2 hlen (by omega) hok hl') (zwf_set (zwf_set X.2.2.2.2.2.1 trivial) trivial) (zwf_tl X.2.2.2.2.2.2.1)))
theorem Z_lstore {i : Nat} {x : Int64} (hd : decode M.2.1 pc = .ok (.lstore i, 2)) (hl : (lv.set i (.long x)).set (i + 1) (.retAddr 0) = lv') (hok : zok lv i = true) (hn : i + 1 < lv.length) (k : Zj G M d C Sl (pc + 2) lv' st I L P S Q) : Zj G M d C Sl pc lv (.long x :: st) I L P S Q := by
  intro p e R s m args below meth c H locs cells slots Kc Ks QQ ad ls X
  subst hl
  have hlen := X.2.2.2.2.1.1
  exact lv_lstore X.1.1 X.1.2.1 hd X.2.2.2.2.1.2 (by omega) rfl (fun ls' hl' => k p e R s m args below meth c H locs cells slots Kc Ks QQ ad ls' (X.toL (zlv_set2 hlen (by omega) hok hl') (zwf_set (zwf_set X.2.2.2.2.2.1 trivial) trivial) (zwf_tl X.2.2.2.2.2.2.1)))
theorem Z_astore_n {j : Fin 4} {x : Nat} (hd : decode M.2.1 pc = .ok (.astore_n j, 1)) (hl : lv.set j (.ref x) = lv') (hok : zok lv j = true) (hn : (j : Nat) < lv.length) (k : Zj G M d C Sl (pc + 1) lv' st I L P S Q) : Zj G M d C Sl pc lv (.ref x :: st) I L P S Q := by
  intro p e R s m args below meth c H locs cells slots Kc Ks QQ ad ls X
  subst hl
  have hlen := X.2.2.2.2.1.1
  exact lv_astore_n X.1.1 X.1.2.1 hd rfl X.2.2.2.2.1.2 (by omega) rfl (fun ls' hl' => k p e R s m args below meth c H locs cells slots Kc Ks QQ ad ls' (X.toL (zlv_set1 (v := .ref x) hlen (by omega) rfl hok hl') (zwf_set X.2.2.2.2.2.1 (zwf_hd X.2.2.2.2.2.2.1)) (zwf_tl X.2.2.2.2.2.2.1)))
theorem Z_astore {i : Nat} {x : Nat} (hd : decode M.2.1 pc = .ok (.astore i, 2)) (hl : lv.set i (.ref x) = lv') (hok : zok lv i = true) (hn : i < lv.length) (k : Zj G M d C Sl (pc + 2) lv' st I L P S Q) : Zj G M d C Sl pc lv (.ref x :: st) I L P S Q := by
  intro p e R s m args below meth c H locs cells slots Kc Ks QQ ad ls X
  subst hl
  have hlen := X.2.2.2.2.1.1
  exact lv_astore X.1.1 X.1.2.1 hd X.2.2.2.2.1.2 (by omega) rfl (fun ls' hl' => k p e R s m args below meth c H locs cells slots Kc Ks QQ ad ls' (X.toL (zlv_set1 (v := .ref x) hlen (by omega) rfl hok hl') (zwf_set X.2.2.2.2.2.1 (zwf_hd X.2.2.2.2.2.2.1)) (zwf_tl X.2.2.2.2.2.2.1)))
theorem Z_astore_nN {j : Fin 4} (hd : decode M.2.1 pc = .ok (.astore_n j, 1)) (hl : lv.set j .null = lv') (hok : zok lv j = true) (hn : (j : Nat) < lv.length) (k : Zj G M d C Sl (pc + 1) lv' st I L P S Q) : Zj G M d C Sl pc lv (.null :: st) I L P S Q := by
  intro p e R s m args below meth c H locs cells slots Kc Ks QQ ad ls X
  subst hl
  have hlen := X.2.2.2.2.1.1
  exact lv_astore_nN X.1.1 X.1.2.1 hd rfl X.2.2.2.2.1.2 (by omega) rfl (fun ls' hl' => k p e R s m args below meth c H locs cells slots Kc Ks QQ ad ls' (X.toL (zlv_set1 (v := .null) hlen (by omega) rfl hok hl') (zwf_set X.2.2.2.2.2.1 trivial) (zwf_tl X.2.2.2.2.2.2.1)))
theorem Z_astoreN {i : Nat} (hd : decode M.2.1 pc = .ok (.astore i, 2)) (hl : lv.set i .null = lv') (hok : zok lv i = true) (hn : i < lv.length) (k : Zj G M d C Sl (pc + 2) lv' st I L P S Q) : Zj G M d C Sl pc lv (.null :: st) I L P S Q := by
  intro p e R s m args below meth c H locs cells slots Kc Ks QQ ad ls X
  subst hl
  have hlen := X.2.2.2.2.1.1
  exact lv_astoreN X.1.1 X.1.2.1 hd X.2.2.2.2.1.2 (by omega) rfl (fun ls' hl' => k p e R s m args below meth c H locs cells slots Kc Ks QQ ad ls' (X.toL (zlv_set1 (v := .null) hlen (by omega) rfl hok hl') (zwf_set X.2.2.2.2.2.1 trivial) (zwf_tl X.2.2.2.2.2.2.1)))
end ZROWS
