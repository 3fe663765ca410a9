set_option maxRecDepth 100000
/-! Z, part 15: an exception of one's own, with an argument, is made: Reader.need. (vx_ctorSub0: lines of 05.exc turned) -/
def zSub : List Cond := Bundle.throwableAtoms ++ Bundle.chain0Atoms "java/lang/Exception" [] ++
  [.methodLink "FollowTheSun$Fault" 1 (Bundle.init0 "java/lang/Exception"), .instantiable "FollowTheSun$Fault" 7, .castable "FollowTheSun$Fault" "FollowTheSun$Fault", .selects "FollowTheSun$Fault" Bundle.tFill0 Bundle.tFill0, .selects "FollowTheSun$Fault" Bundle.tFill Bundle.tFill,
   .lays "FollowTheSun$Fault" Bundle.tN "cause" "Ljava/lang/Throwable;", .lays "FollowTheSun$Fault" Bundle.tN "stackTrace" Bundle.steD, .lays "FollowTheSun$Fault" Bundle.tN "suppressedExceptions" Bundle.listD, .lays "FollowTheSun$Fault" Bundle.tN "detailMessage" "Ljava/lang/String;",
   .isRef (.static Bundle.tN "UNASSIGNED_STACK" Bundle.steD), .isRef (.static Bundle.tN "SUPPRESSED_SENTINEL" Bundle.listD),
   .fieldLink Bundle.tN 198 Bundle.tN "backtrace" "Ljava/lang/Object;", .lays Bundle.tN Bundle.tN "backtrace" "Ljava/lang/Object;", .lays "FollowTheSun$Fault" Bundle.tN "backtrace" "Ljava/lang/Object;"]
def zSubF : List Cond := zSub.filter vx_no
theorem z_atF : ∀ w ∈ zSubF, w ∈ lw_all ∨ (w ∈ lw_tbl ∧ zstab w = true ∧ w.onTables = true) := by
  have key : ∀ w ∈ zSub, vx_no w = true → (w ∈ lw_all ∨ (w ∈ lw_tbl ∧ zstab w = true ∧ w.onTables = true)) := by
    unfold zSub
    simp only [Bundle.throwableAtoms, Bundle.throwableSAtoms, Bundle.chainSAtoms, Bundle.passSAtoms, Bundle.chain0Atoms, Bundle.passAtoms, Bundle.stringAtoms, List.append_assoc, List.cons_append, List.nil_append, List.forall_mem_cons]
    exact ⟨fun _ => Or.inl q89, fun _ => Or.inl q473, fun _ => Or.inl q430, fun _ => Or.inl q435, fun _ => Or.inl q438, fun _ => Or.inl q440, fun _ => Or.inl q474, fun _ => Or.inl q475, fun _ => Or.inl q119, fun _ => Or.inl q120, fun _ => Or.inl q424, fun _ => Or.inl q429, fun _ => Or.inl q436, fun _ => Or.inl q443, fun _ => Or.inl q467, fun _ => Or.inl q444, fun _ => Or.inl q468, fun _ => Or.inl q445, fun _ => Or.inl q469, fun _ => Or.inl q425, fun h => absurd h (by decide), fun _ => Or.inl q427, fun h => absurd h (by decide), fun _ => Or.inl q470, fun _ => Or.inl q704, fun _ => Or.inl q705, fun _ => Or.inl q706, fun _ => Or.inl q474, fun _ => Or.inr ⟨q464, rfl, rfl⟩, fun _ => Or.inl q703, fun _ => Or.inl q692, fun _ => Or.inr ⟨q693, rfl, rfl⟩, fun _ => Or.inl q694, fun _ => Or.inl q432, fun _ => Or.inl q695, fun _ => Or.inl q696, fun _ => Or.inl q697, fun _ => Or.inl q698, fun h => absurd h (by decide), fun h => absurd h (by decide), fun _ => Or.inl q441, fun _ => Or.inl q471, fun _ => Or.inl q699, fun _ h => nomatch h⟩
  intro w hw
  obtain ⟨h1, h2⟩ := List.mem_filter.mp hw
  exact key w h1 h2
theorem z_atF_g : ∀ w ∈ zSubF, vx_ot w = true := fun w hw => List.all_eq_true.mp (show (zSubF).all vx_ot = true by decide +kernel) w hw
section VXK3
variable {p : Program} {l : Launch} {e : Env} {R : Room} {s : State} {m₀ : MethodId} {args : Array Value} {below : List Frame} {meth : Method} {c : Code} {W : State} {locs : List Loc} {cells slots : Nat}
set_option maxHeartbeats 1000000 in
theorem vx_ctorSub0 (X : Stand p l e R s m₀ args below meth c W locs cells slots) (hexec : p.tables.exec = Jvm.exec) (htr : e.platform.stackTraces = false)
    (hown : s.vm.findClass "FollowTheSun$Fault" = some m₀.cls)
    (h : ∀ a ∈ zSub, a.before args s = true) (hpl9 : (Cond.laysFinal "FollowTheSun$Fault" "FollowTheSun$Fault" "place" "I").before args s = true)
    (hlocs : ∀ x ∈ locs, ∀ cell, s.heap[x.base]? = some cell → cell.vm.isStatics = false)
    {a : Addr} {cX : ClassId} {kX : Class} (hfoundX : s.vm.findClass "FollowTheSun$Fault" = some cX) (hkX : s.vm.classes[cX]? = some kX) (hcell : W.heap[a]? = some (freshCell cX kX)) (hold : s.heap[a]? = some (freshCell cX kX))
    {g : JFrame} (hg : g.method = m₀) (hsize : g.locals.size = c.maxLocals) {rest : List Value} (hstack : g.stack = .ref a :: rest)
    (hd6 : decode c.code g.pc = .ok (.invokespecial 1, 3))
    (hRframes : 3 < R.frames) (hRlocals : 2 * g.monitorRoom + (rest.map fun v => v.category).sum + 54 ≤ R.locals) :
    ∃ (V : State) (ce : Cell) (L : List Loc), Stand p l e R s m₀ args below meth c (V.setCell a ce) (locs ++ L) cells slots ∧ (∀ y ∈ L, y.base = a) ∧ a < V.heap.size ∧ V.heap = W.heap ∧ ce.cls = cX ∧ ce.vm = .none ∧ (∀ cf kf fi fd, s.fieldFound? "FollowTheSun$Fault" "place" "I" = some (cf, kf, fi, fd) → ce.slots[fd.slot]? = (freshCell cX kX).slots[fd.slot]?) ∧
      ∀ target, Steps p.tables e below ((V.setCell a ce).setTop { g with stack := rest, pc := g.pc + 3 }) target → Steps p.tables e below (W.setTop g) target := by
  have howns : e.platform.frameOwnsMonitors = true := by rw [X.admits.platform]
  have hfin : e.platform.finalization = false := by rw [X.admits.platform]
  have hpl : e.platform.magicAccessors = ({} : Platform).magicAccessors := by rw [X.admits.platform]
  have a' : ∀ x, x ∈ zSub → x.holds args s none s [] = true := fun x hx => h x hx
  obtain ⟨T, Z, L, LZ, Y⟩ := ThrowableC.of_atoms (args := args) howns hfin hpl (fun x hx => h x (by simp [zSub, hx]))
  obtain ⟨P1, Ps, hlen, L1, hL, hP1m, hlink1, hlink⟩ := Bundle.chain0 (args := args) hpl Y.init0 [] "java/lang/Exception" (by decide +kernel) (fun _ hn => nomatch hn) (fun x hx => h x (by simp [zSub, hx]))
  have hfound := hfoundX
  obtain ⟨c1, kX', hc1, hk, hord, -, -, hn6⟩ := Cond.instantiable_spec (a' (.instantiable "FollowTheSun$Fault" 7) (by simp [zSub]))
  cases Option.some.inj (hc1.symm.trans hfound)
  cases Option.some.inj (hkX.symm.trans hk)
  have hsel0 : selectMethod e.platform s.vm cX T.fill0 = .method T.fill0 := by
    obtain ⟨c2, r2, m2, q1, q2, q3, q4, -⟩ := Cond.selects_spec (a' (.selects "FollowTheSun$Fault" Bundle.tFill0 Bundle.tFill0) (by simp [zSub]))
    cases Option.some.inj (q1.symm.trans hfound)
    cases Option.some.inj (q2.symm.trans (State.methodFound?_of_named Y.fill0 (by decide)))
    cases Option.some.inj (q3.symm.trans Y.fill0)
    rw [Launch.admits_selectMethod X.admits]; exact q4
  have hselF : selectMethod e.platform s.vm cX T.fill = .method T.fill := by
    obtain ⟨c2, r2, m2, q1, q2, q3, q4, -⟩ := Cond.selects_spec (a' (.selects "FollowTheSun$Fault" Bundle.tFill Bundle.tFill) (by simp [zSub]))
    cases Option.some.inj (q1.symm.trans hfound)
    cases Option.some.inj (q2.symm.trans (State.methodFound?_of_named Y.fill (by decide)))
    cases Option.some.inj (q3.symm.trans Y.fill)
    rw [Launch.admits_selectMethod X.admits]; exact q4
  obtain ⟨cellS0, hcS0, hiss⟩ := Y.statics
  obtain ⟨u0, hu0⟩ := Cond.staticRefV Y.unassigned L.unassignedStatic L.statics hcS0 hiss (a' (.isRef (.static Bundle.tN "UNASSIGNED_STACK" Bundle.steD)) (by simp [zSub]))
  obtain ⟨sen, hsen⟩ := Cond.staticRefV Y.sentinel L.sentinelStatic L.statics hcS0 hiss (a' (.isRef (.static Bundle.tN "SUPPRESSED_SENTINEL" Bundle.listD)) (by simp [zSub]))
  obtain ⟨ci198, i198, fB, hk198, hg198, ha198, hsB, -, hnB, htB, hffB⟩ := Cond.ownField (t := .object "java/lang/Object") Y.found L.cls (by decide +kernel) (a' (.fieldLink Bundle.tN 198 Bundle.tN "backtrace" "Ljava/lang/Object;") (by simp [zSub])) (a' (.lays Bundle.tN Bundle.tN "backtrace" "Ljava/lang/Object;") (by simp [zSub])) e.platform hpl
  obtain ⟨cellS, hcS', heS, -, hkeep⟩ := X.same.2.2.2.2.2 T.aS cellS0 hcS0
  have hcellS : W.heap[T.aS]? = some cellS := hcS'
  have hout' : ∀ i, (⟨T.aS, i⟩ : Loc) ∉ locs := fun i hmem => by
    have := hlocs _ hmem cellS0 hcS0
    rw [hiss] at this; cases this
  have hknownS : cellS.vm ≠ .unknown := by
    rw [heS]; intro hu
    rw [show cellS0.vm = .unknown from hu] at hiss
    cases hiss
  have hneS : T.aS ≠ a := fun q => by rw [q, hold] at hcS0; cases hcS0; cases hiss
  obtain ⟨iM, hffM⟩ := Y.msg
  obtain ⟨tyC, dC, hdC, hdnC⟩ := Cond.laysAt hfound hk Y.cause (a' (.lays "FollowTheSun$Fault" Bundle.tN "cause" "Ljava/lang/Throwable;") (by simp [zSub]))
  obtain ⟨tyS, dS, hdS, hdnS⟩ := Cond.laysAt hfound hk Y.stack (a' (.lays "FollowTheSun$Fault" Bundle.tN "stackTrace" Bundle.steD) (by simp [zSub]))
  obtain ⟨tyP, dP, hdP, hdnP⟩ := Cond.laysAt hfound hk Y.supp (a' (.lays "FollowTheSun$Fault" Bundle.tN "suppressedExceptions" Bundle.listD) (by simp [zSub]))
  obtain ⟨tyM, dM, hdM, hdnM⟩ := Cond.laysAt hfound hk hffM (a' (.lays "FollowTheSun$Fault" Bundle.tN "detailMessage" "Ljava/lang/String;") (by simp [zSub]))
  obtain ⟨tyB, dB, hdB, hdnB⟩ := Cond.laysAt hfound hk hffB (a' (.lays "FollowTheSun$Fault" Bundle.tN "backtrace" "Ljava/lang/Object;") (by simp [zSub]))
  have bC := Cond.laysApart hdB hdC hdnB hdnC (by rw [hnB, Y.causeName]; decide)
  have bS := Cond.laysApart hdB hdS hdnB hdnS (by rw [hnB, Y.stackName]; decide)
  have bP := Cond.laysApart hdB hdP hdnB hdnP (by rw [hnB, Y.suppName]; decide)
  have hskip : SkipFacts T e.platform s (fun u => u) u0 ((preparedCellV T.toThrowableT (freshCell cX kX) a u0 sen).withEntry W.cur) :=
    ⟨{ ci198 := ci198, i198 := i198, fBack := fB }, ⟨hk198, hg198, ha198, hsB⟩, by
      have := fresh_default (c := cX) tyB
      rw [htB] at this
      simpa [preparedCellV, Cell.setSlot, Cell.withEntry, Array.getElem?_setIfInBounds, bC, bS, bP, bC.symm, bS.symm, bP.symm, defaultValue] using this, fun _ _ => rfl⟩
  obtain ⟨tm, methC, cdC, kC, vm₁, hnC, -, -, -, -, -, -, -, hW₁, st1⟩ := Steps.initCold (tb := p.tables) (e := e) (below := below) (s := s) (U := W) X.here hexec X.warmed hpl hown (t := Bundle.init0 "java/lang/Exception") rfl rfl (by decide)
    (a' (.methodLink "FollowTheSun$Fault" 1 (Bundle.init0 "java/lang/Exception")) (by simp [zSub])) (h (.instanceMethod (Bundle.init0 "java/lang/Exception")) (by simp [zSub, Bundle.chain0Atoms, Bundle.passAtoms])) (bytes := Bundle.five) (maxL := 1) (h (.code (Bundle.init0 "java/lang/Exception") Bundle.five 1 none) (by simp [zSub, Bundle.chain0Atoms, Bundle.passAtoms]))
    (f := g) hg (a := a) (rest := rest) hstack hd6
  cases Option.some.inj (hnC.symm.trans hP1m)
  have X₁ := X.noted hW₁
  obtain ⟨vm₂, X₂, st2⟩ := X₁.ctorPlainOffV hexec (g := { g with stack := rest }) hg hsize T L Z LZ (P1 :: Ps)
    (fun P hP => by rcases List.mem_cons.mp hP with rfl | hP; exact L1; exact hL P hP) ⟨hlink1, hlink⟩ (u0 := u0) (sen := sen) (self := a) (cell := freshCell cX kX) (cellS := cellS)
    hcell (fun _ => by simp) (by simp) rfl rfl hsel0 hselF hcellS hneS hknownS (by rw [hkeep _ (hout' _)]; exact hu0) (by rw [hkeep _ (hout' _)]; exact hsen)
    (Takes.of_laid hk hord tyC (by rw [Y.causeType]; rfl)) (Takes.of_laid hk hord tyS (by rw [Y.stackType]; exact fits_refV_array _ u0)) (Takes.of_laid hk hord tyP (by rw [Y.suppType]; exact fits_refV_object _ sen)) Y.objLocals hskip htr [] hd6
    (by simp only [List.length_cons, hlen, List.length_nil]; omega) (by simp only [List.length_cons, hlen, List.length_nil]; exact hRlocals)
  have hlt : a < ((W.setVm vm₁).setVm vm₂).heap.size := (Array.getElem?_eq_some_iff.mp hcell).1
  refine ⟨(W.setVm vm₁).setVm vm₂, _, _, X₂, fun y hy => ?_, hlt, rfl, rfl, rfl, fun cf kf fi fd hi => ?_, fun target hwalk => st1 _ (fun acts => ?_)⟩
  · simp only [List.mem_cons, List.not_mem_nil, or_false] at hy
    rcases hy with rfl | rfl | rfl | rfl <;> rfl
  · have nm : fd.name = "place" := (State.fieldFound?_type hi (t := .int) (by decide)).1
    have nC := u_apart (Or.inr hpl9) (Or.inl (a' (.lays "FollowTheSun$Fault" Bundle.tN "cause" "Ljava/lang/Throwable;") (by simp [zSub]))) hi Y.cause (by rw [nm, Y.causeName]; decide)
    have nS := u_apart (Or.inr hpl9) (Or.inl (a' (.lays "FollowTheSun$Fault" Bundle.tN "stackTrace" Bundle.steD) (by simp [zSub]))) hi Y.stack (by rw [nm, Y.stackName]; decide)
    have nP := u_apart (Or.inr hpl9) (Or.inl (a' (.lays "FollowTheSun$Fault" Bundle.tN "suppressedExceptions" Bundle.listD) (by simp [zSub]))) hi Y.supp (by rw [nm, Y.suppName]; decide)
    simp [preparedCellV, Cell.setSlot, Array.getElem?_setIfInBounds, nC, nS, nP, nC.symm, nS.symm, nP.symm]
  · rw [doInvoke_state]
    exact st2 _ hwalk
theorem vx_back10 {T S : State} {R' : Room} {k n : Nat} {L : List Loc} (X : Stand p l e R s m₀ args below meth c T locs cells slots) (Y : Stand p l e R' ((T.setVm s.vm).setFrames (.invoking m₀ args :: below)) m₀ args below meth c T [] 0 0) (Z : Stand p l e R' ((T.setVm s.vm).setFrames (.invoking m₀ args :: below)) m₀ args below meth c S L k n) :
    Stand p l e R s m₀ args below meth c S (locs ++ L) (cells + k) (slots + n) := by
  have hW0 : s.WarmedH ((T.setVm s.vm).setFrames (.invoking m₀ args :: below)).vm := State.WarmedH.refl s
  refine { admits := X.admits, cas := X.cas, clock := X.clock, frames := X.frames, room := X.room, hears := X.hears, method := X.method, code := X.code, here := Z.here, tail := Z.tail, warmed := State.WarmedH.trans hW0 Z.warmed, limits := Z.limits.trans (Y.limits.symm.trans X.limits), bytes := Z.bytes.trans (Y.bytes.symm.trans X.bytes), same := ?_ }
  obtain ⟨e1, e2⟩ := Z.same
  rw [State.setFrames_setFrames] at e1
  have h2 : (T.setVm s.vm).sameButNew (S.setVm s.vm) L k n := ⟨e1, e2⟩
  exact X.same.trans h2
end VXK3
section VXK4
variable {p : Program} {l : Launch} {e : Env} {R : Room} {s : State} {m : MethodId} {args : Array Value} {below : List Frame} {meth : Method} {c : Code} {H : Heap} {locs : List Loc} {cells slots : Nat} {Q : State → Prop} {ls : Array Slot} {rest : List Value}
theorem vx_excF {cc : ByteArray} {pc : Nat} (hexec : p.tables.exec = Jvm.exec) (hb : c.code = cc) (hl : l.stackTraces = false) {A : Nat → Prop}
    (hown : s.vm.findClass "FollowTheSun$Fault" = some m.cls) (hat : ∀ w ∈ zSubF, w.before args s = true) (hpl : (Cond.laysFinal "FollowTheSun$Fault" "FollowTheSun$Fault" "place" "I").before args s = true)
    (hU : vx_Zq Bundle.tN "UNASSIGNED_STACK" Bundle.steD A s s.heap) (hN : vx_Zq Bundle.tN "SUPPRESSED_SENTINEL" Bundle.listD A s s.heap) (hS : va_S A s.heap H locs) (hsize : ls.size = c.maxLocals)
    {a : Addr} {cX : ClassId} {kX : Class} (hfX : s.vm.findClass "FollowTheSun$Fault" = some cX) (hkX : s.vm.classes[cX]? = some kX) (hcell : H[a]? = some (freshCell cX kX)) (hA : A a)
    (d1 : decode cc pc = .ok (.invokespecial 1, 3)) (hRframes : 3 < R.frames) (hRlocals : (rest.map fun v => v.category).sum + 60 ≤ R.locals) (hRcells : cells ≤ R.cells) (hRslots : slots ≤ R.slots)
    (kk : ∀ (H1 : Heap) (ce : Cell) (L : List Loc), H1[a]? = some ce → ce.cls = cX → ce.vm = .none → (∀ cf kf fi fd, s.fieldFound? "FollowTheSun$Fault" "place" "I" = some (cf, kf, fi, fd) → ce.slots[fd.slot]? = (freshCell cX kX).slots[fd.slot]?) → (∀ q : Nat, q ≠ a → H1[q]? = H[q]?) → va_S A s.heap H1 (locs ++ L) →
      W p l e R s m args below meth c H1 (locs ++ L) cells slots Q (F0 m (pc + 3) ls rest)) :
    W p l e R s m args below meth c H locs cells slots Q (F0 m pc ls (.ref a :: rest)) := by
  intro T hT X
  subst hT
  have htr : e.platform.stackTraces = false := (show e.platform.stackTraces = l.stackTraces by rw [X.admits.platform]).trans hl
  have Y := vx_rebase X (R' := { frames := R.frames, locals := R.locals, cells := 0, slots := 0 }) (Nat.le_refl _) (Nat.le_refl _) hRcells hRslots
  obtain ⟨s', hA'⟩ : ∃ z, z = (T.setVm s.vm).setFrames (.invoking m args :: below) := ⟨_, rfl⟩
  rw [← hA'] at Y
  have hvm : s'.vm = s.vm := by rw [hA']; rfl
  have hhp : s'.heap = T.heap := by rw [hA']; rfl
  have hW0 : s.WarmedH s'.vm := by rw [hvm]; exact State.WarmedH.refl s
  have hat' : ∀ w ∈ zSubF, w.before args s' = true := fun w hw => vx_ot_at hW0 hvm.symm (z_atF_g w hw) (hat w hw)
  have hpl' : (Cond.laysFinal "FollowTheSun$Fault" "FollowTheSun$Fault" "place" "I").before args s' = true := vx_ot_at hW0 hvm.symm rfl hpl
  have hU' : vx_Zq Bundle.tN "UNASSIGNED_STACK" Bundle.steD A s' s'.heap := by rw [hhp]; exact vx_Zq.moved hW0.alike (hU.kept hS.2.1)
  have hN' : vx_Zq Bundle.tN "SUPPRESSED_SENTINEL" Bundle.listD A s' s'.heap := by rw [hhp]; exact vx_Zq.moved hW0.alike (hN.kept hS.2.1)
  have h : ∀ w ∈ zSub, w.before args s' = true := vx_own hat' (vx_isRefq hU'.1) (vx_isRefq hN'.1) hU'.2.word hN'.2.word
  obtain ⟨V, ce, L, Z, hL, hlt, hVh, hcl9, hvm9, hsl9, st⟩ := vx_ctorSub0 Y hexec htr (by rw [hvm]; exact hown) h hpl' (fun x hx => nomatch hx) (by rw [hvm]; exact hfX) (by rw [hvm]; exact hkX) hcell (by rw [hhp]; exact hcell)
    (g := F0 m pc ls (.ref a :: rest)) rfl hsize (rest := rest) rfl (by rw [hb]; exact d1) hRframes (by show 2 * 0 + _ + 54 ≤ R.locals; omega)
  subst hA'
  have X6 := vx_back10 X Y Z
  have hh : (V.setCell a ce).heap[a]? = some ce := heapAt_setCell_self (s := V) ce hlt
  have ho : ∀ q : Nat, q ≠ a → (V.setCell a ce).heap[q]? = T.heap[q]? := fun q hq => by rw [heapAt_setCell_ne _ (Ne.symm hq), hVh]
  have hz : (V.setCell a ce).heap.size = T.heap.size := by rw [← hVh]; simp [State.setCell]
  obtain ⟨t, a1, b1⟩ := kk (V.setCell a ce).heap ce L hh hcl9 hvm9 hsl9 ho ⟨by rw [hz]; exact hS.1, fun q h1 h2 => (ho q (fun e => h2 (by rw [e]; exact hA))).trans (hS.2.1 q h1 h2), fun z hz => (List.mem_append.mp hz).elim (hS.2.2 z) (fun hz => by rw [hL z hz]; exact hA)⟩ _ rfl X6
  exact ⟨t, st _ a1, b1⟩
end VXK4
/-- the object at q is as it was made -/
def zFr (s : State) (H : Heap) (q : Addr) : Prop := ∃ (cX : ClassId) (kX : Class), s.vm.findClass "FollowTheSun$Fault" = some cX ∧ s.vm.classes[cX]? = some kX ∧ H[q]? = some (freshCell cX kX)
/-- Zj, with the object a as it was made -/
def Zf (G : zG) (M : zM) (d C Sl : Nat) (pc : Nat) (lv st : List Value) (I : zI) (L : zL) (P : zR) (S : zT) (Q : zQ) (a : Nat) : Prop :=
  ∀ (p : Program) (e : Env) (R : Room) (s : State) (m : MethodId) (args : Array Value) (below : List Frame) (meth : Method) (c : Code) (H : Heap) (locs : List Loc) (cells slots Kc Ks : Nat) (QQ : State → Prop) (ad : Nat → Nat) (ls : Array Slot),
    zCtx G M d C Sl p e R s m args below meth c H locs cells slots Kc Ks QQ ad ls lv st I L P S Q → zFr s H (ad a) → W p G.1.1 e R s m args below meth c H locs cells slots QQ (F0 m pc ls (st.map (zcv ad)))
section ZF
variable {G : zG} {M M' : zM} {d d' C C' Sl S' pc len n idx a b ci fk : Nat} {fin : Bool} {lv st st0 : List Value} {I : zI} {L : zL} {P : zR} {S : zT} {Q : zQ}
theorem Zf_dup {v : Value} (hd : decode M.2.1 pc = .ok (.dup, 1)) (hv : v.category = 1) (k : Zf G M d C Sl (pc + 1) lv (v :: v :: st) I L P S Q a) : Zf G M d C Sl pc lv (v :: st) I L P S Q a := by
  intro p e R s m args below meth c H locs cells slots Kc Ks QQ ad ls X hF
  exact lv_dup X.1.1 X.1.2.1 hd ((zcv_cat ad v).trans hv) (k p e R s m args below meth c H locs cells slots Kc Ks QQ ad ls (X.toS (zwf_cons.mpr ⟨zwf_hd X.2.2.2.2.2.2.1, X.2.2.2.2.2.2.1⟩)) hF)
theorem Zf_aload_n {j : Fin 4} {x : Nat} (hd : decode M.2.1 pc = .ok (.aload_n j, 1)) (hl : lv[(j : Nat)]? = some (.ref x)) (k : Zf G M d C Sl (pc + 1) lv (.ref x :: st) I L P S Q a) : Zf G M d C Sl pc lv st I L P S Q a := by
  intro p e R s m args below meth c H locs cells slots Kc Ks QQ ad ls X hF
  exact lv_aload_n X.1.1 X.1.2.1 hd rfl (X.2.2.2.2.1.at hl rfl) (k p e R s m args below meth c H locs cells slots Kc Ks QQ ad ls (X.toS (zwf_cons.mpr ⟨X.2.2.2.2.2.1 _ (List.mem_of_getElem? hl), X.2.2.2.2.2.2.1⟩)) hF)
theorem Zf_getI (hS : S b = some (.inl ci)) (hf : zFL M.1.cls idx ci fk fin) (hd : decode M.2.1 pc = .ok (.getfield idx, 3)) (hty : zint (zty ci fk) = true) (k : Zf G M d C Sl (pc + 3) lv (.int (I b fk) :: st) I L P S Q a) : Zf G M d C Sl pc lv (.ref b :: st) I L P S Q a := by
  intro p e R s m args below meth c H locs cells slots Kc Ks QQ ad ls X hF
  have hv : ∀ ad, zv (zty ci fk) ad I L P b fk = zcv ad (.int (I b fk)) := fun ad => by revert hty; cases zty ci fk <;> simp [zint, zv, zcv]
  obtain ⟨CC, T, N, ref, hkl, hk, -, hlink, hsame, -⟩ := hf
  have hts := X.1.2.2.2.2.1
  have hRp := X.2.2.1
  obtain ⟨cell, q1, q2, q3, q4⟩ := (hRp.1 b).obj hS hkl
  obtain ⟨hS9, hfc, kC, hkC, hkind⟩ := X.2.1.1.1 ci _ hkl.1
  obtain ⟨cf, kf, fi, f, hi, hsl⟩ := hS9 fk hk
  have hi2 : s.fieldFound? ref (T fk).2.1 (T fk).2.2.1 = some (cf, kf, fi, f) := by
    rcases hsame with h | h
    · rw [h]; exact hi
    · exact u_same (hts _ h) _ hi
  refine W.getf X.1.1 X.1.2.1 X.1.2.2.2.1 (hts _ hlink) hi2 (u_facts hfc hkC (u_lays hts hkl.2.1 hk) hi).1 q1 (by rw [q3]; exact fun h => by cases h) (v := zcv ad (.int (I b fk))) (by rw [hsl, q4 fk hk, ← hv ad]) rfl rfl hd ?_
  exact k p e R s m args below meth c H locs cells slots Kc Ks QQ ad ls (X.toS (zwf_cons.mpr ⟨trivial, zwf_tl X.2.2.2.2.2.2.1⟩)) hF
theorem Z_newF {idx : Nat} (hS : S a = none) (hn : Cond.classLink M.1.cls idx "FollowTheSun$Fault" ∈ lw_all) (hd : decode M.2.1 pc = .ok (.new idx, 3)) (k : Zf G M d C Sl (pc + 3) lv (.ref a :: st) (zu I a fun _ => 0) (zu L a fun _ => 0) (zu P a fun _ => none) (zu S a (some (.inl 10))) Q a) : Zj G M d (C + 1) (Sl + 7) pc lv st I L P S Q := by
  intro p e R s m args below meth c H locs cells slots Kc Ks QQ ad ls X
  have hkl := zkl10
  have hts := X.1.2.2.2.2.1
  have hKn := X.2.1.1.1 10 _ hkl.1
  have hR := X.2.2.1
  have hc9 := X.2.2.2.2.2.2.2.2.1
  have hsz : G.2.1.1 ≤ H.size := (X.2.1.2.2.2.2.1.S X.2.2.2.1).1
  refine W.newcK X.1.1 X.1.2.1 X.1.2.2.2.1 (hts _ hn) (hts _ q692) (hts _ q99) rfl hd (by omega) (by omega) hKn.2.1 rfl fun H1 kC hkC e1 z1 o1 => ?_
  have hR2 := hR.new (sh := .inl 10) (I' := zu I a fun _ => 0) (L' := zu L a fun _ => 0) (P' := zu P a fun _ => none) (H' := H1) hS (fun b hb => zu_n _ _ _ hb) (fun b hb => zu_n _ _ _ hb) (fun b hb => zu_n _ _ _ hb) (fun k => by rw [zu_s]) hsz o1 (by
    unfold zc
    rw [zu_s]
    dsimp only
    have := hkl.lt
    rw [if_neg (by omega), zu_s]
    exact ⟨_, hkl.1, (u_born (zty 10) hts hkl.2.1 hKn hkC e1 hkl.2.2.1).to (fun j hj => zv_0 rfl (zu_s _ _ _) (zu_s _ _ _) (zu_s _ _ _))⟩)
  have hst : ((Value.ref a :: st).map (zcv (zu ad a H.size))) = .ref H.size :: st.map (zcv ad) := by
    rw [List.map_cons, hR2.2.cvs X.2.2.2.2.2.2.1]
    show Value.ref (zu ad a H.size a) :: _ = _
    rw [zu_s]
  have := k p e R s m args below meth c H1 locs (cells + 1) (slots + 7) Kc Ks QQ (zu ad a H.size) ls (X.toN hR2.1 hR2.2 (by omega) o1 (zwf_cons.mpr ⟨by show zu S a (some (.inl 10)) a ≠ none; rw [zu_s]; simp, fun v hv => hR2.2.wf (X.2.2.2.2.2.2.1 v hv)⟩)) ⟨_, kC, hKn.2.1, hkC, by rw [zu_s]; exact e1⟩
  rw [hst] at this
  exact this
/-- Exception.<init>() of the object that was just made -/
theorem Zf_exc (hM : M.1.cls = "FollowTheSun$Fault") (hS : S a = some (.inl 10)) (hd : decode M.2.1 pc = .ok (.invokespecial 1, 3)) (hcat : (st.map fun v => v.category).sum ≤ 8) (k : Zj G M (d + 6) C Sl (pc + 3) lv st I L P S Q) : Zf G M (d + 6) C Sl pc lv (.ref a :: st) I L P S Q a := by
  intro p e R s m args below meth c H locs cells slots Kc Ks QQ ad ls X hF
  obtain ⟨cX, kX, f1, f2, f3⟩ := hF
  have hts := X.1.2.2.2.2.1
  have hrm := X.2.2.2.2.2.2.2.1
  have hbg := X.2.2.2.2.2.2.2.2.1
  have hC := X.2.1.2.2.2.1
  have hSv := X.2.2.2.1
  have hO := X.2.1.2.2.2.2.1
  have hR := X.2.2.1
  have hcat2 : ((st.map (zcv ad)).map fun v => v.category).sum ≤ 8 := by rw [zcvs_cat]; exact hcat
  have kp : ∀ a : Nat, a < G.2.1.2.size → ¬ zA G a → s.heap[a]? = G.2.1.2[a]? := fun a _ ha => hO.2 a (Nat.not_le.mp ha)
  have hm : zmu S a := ⟨by rw [hS]; simp, by rw [hS]; simp⟩
  obtain ⟨cell, q1, q2, q3, q4⟩ := (hR.1 a).obj hS zkl10
  obtain ⟨hS9, hfc, -⟩ := X.2.1.1.1 10 _ zkl10.1
  refine vx_excF (A := zA G) X.1.1 X.1.2.1 X.2.1.2.2.2.2.2.1 (by rw [← hM]; exact X.1.2.2.2.1)
    (fun w hw => (z_atF w hw).elim (fun h => hts w h) (fun h => va_Nw.use h.2.2 (X.2.1.2.1 w h.1 h.2.1))) (hts _ q709) (hC.1.kept kp) (hC.2.1.kept kp) hSv (X.2.2.2.2.1.2.1.trans X.1.2.2.1.symm) f1 f2 f3 (hR.2.2.1 a hm) hd (by omega) (by omega) (by omega) (by omega) ?_
  intro H1 ce L9 g1 g2 g3 g4 g5 g6
  refine k p e R s m args below meth c H1 (locs ++ L9) cells slots Kc Ks QQ ad ls (X.toM (hR.put hm (fun _ _ => rfl) (fun _ _ => rfl) (fun _ _ => rfl) (fun k r hr => hR.2.2.2 a k r hm.1 hr) g5 ?_) g6 (zwf_tl X.2.2.2.2.2.2.1))
  unfold zc
  rw [hS]
  dsimp only
  rw [if_neg (by decide)]
  refine ⟨_, zkl10.1, ce, g1, ?_, g3, fun k hk => ?_⟩
  · rw [g2]; exact Option.some.inj (f1.symm.trans hfc)
  · have hk0 : k = 0 := Nat.lt_one_iff.mp hk
    subst hk0
    obtain ⟨cf, kf, fi, f, hi, hsl⟩ := hS9 0 (by decide)
    have e := q4 0 (by decide)
    rw [← hsl] at e ⊢
    rw [g4 cf kf fi f hi, ← e]
    have : cell = freshCell cX kX := Option.some.inj (q1.symm.trans f3)
    rw [this]
end ZF
def zPcF (G : zG) (ad : Nat → Nat) (av : List Value) (I : zI) (L : zL) (P : zR) (S : zT) (a : Nat) : Array Value → State → Prop := fun v U => zPc G ad av I L P S v U ∧ zFr U U.heap (ad a)
theorem zPcF_blind {G : zG} {ad : Nat → Nat} {av : List Value} {I : zI} {L : zL} {P : zR} {S : zT} {a : Nat} : FrameBlind (zPcF G ad av I L P S a) := fun v U g m h => ⟨zPc_blind v U g m h.1, h.2⟩
def Zmf (G : zG) (M : zM) (d C Sl : Nat) (av : List Value) (I : zI) (L : zL) (P : zR) (S : zT) (Q : zQ) (a : Nat) : Prop := (zent av).length ≤ M.2.2.1 ∧ Zf G M d C Sl 0 (zpad M.2.2.1 (zent av)) [] I L P S Q a
theorem zFr.warm {G : zG} {M : zM} {d C Sl : Nat} {lv st : List Value} {I : zI} {L : zL} {P : zR} {S : zT} {Q : zQ} {p : Program} {e : Env} {R : Room} {s : State} {m : MethodId} {args : Array Value} {below : List Frame} {meth : Method} {c : Code} {H : Heap} {locs : List Loc} {cells slots Kc Ks : Nat} {QQ : State → Prop} {ad : Nat → Nat} {ls : Array Slot} {q : Addr}
    (h : zFr s H q) (X : zCtx G M d C Sl p e R s m args below meth c H locs cells slots Kc Ks QQ ad ls lv st I L P S Q) {U : State} (hU : U.heap = H) (hW : s.WarmedH U.vm) : zFr U U.heap q := by
  obtain ⟨cX, kX, f1, f2, f3⟩ := h
  have h1 := (X.2.1.1.1 10 _ zkl10.1).2.1
  have h2 := ((zEnv.at X hU hW).1.1 10 _ zkl10.1).2.1
  have e1 : cX = _ := Option.some.inj (f1.symm.trans h1)
  obtain ⟨k2, g1, g2, -⟩ := hW.2.2 cX kX f2
  refine ⟨cX, k2, by rw [e1]; exact h2, g1, ?_⟩
  rw [hU, f3]
  have e2 : k2.instanceTypes = kX.instanceTypes := by rw [g2]
  unfold freshCell
  rw [e2]
theorem z_bodyF {G : zG} {M : zM} {d C Sl : Nat} {av : List Value} {I : zI} {L : zL} {P : zR} {S : zT} {Q : zQ} {a9 : Nat} (h : Zmf G M d C Sl av I L P S Q a9) (hw : ∀ v ∈ av, zwf S v) (ad : Nat → Nat) {p : Program} {e : Env} {s : State} {m : MethodId} {args : Array Value} {below : List Frame} {meth : Method} {c : Code} (F : zFix M p s m args meth c) (hP : zPcF G ad av I L P S a9 args s) :
    W p G.1.1 e (zrm d C Sl) s m args below meth c s.heap [] 0 0 (vx_MQ below (zQc G ad S Q) (zXc G ad S Q) args s C Sl (zA G)) (entryFrame m args M.2.2.1) := by
  obtain ⟨⟨rfl, hE, hR⟩, hF9⟩ := hP
  have hlen := h.1
  rw [← zent_len ad] at hlen
  have hl := lv_entry (av.map (zcv ad)) (n := M.2.2.1) hlen
  rw [lg_entry_eq]
  generalize (lg_sl (av.map (zcv ad)) ++ List.replicate (M.2.2.1 - (lg_sl (av.map (zcv ad))).length) Slot.unset).toArray = ls at hl ⊢
  have hwe := zent_wf hw
  refine h.2 p e (zrm d C Sl) s m _ below meth c s.heap [] 0 0 C Sl _ ad ls ⟨F, hE, hR, va_S.rf, zlv_entry h.1 hl, ?_, (fun v hv => nomatch hv), ⟨Nat.le_refl _, Nat.le_refl _⟩, ⟨by omega, by omega, Nat.le_refl _, Nat.le_refl _⟩, ?_, ?_⟩ hF9
  · intro v hv
    unfold zpad at hv
    rcases List.mem_append.mp hv with h1 | h1
    · exact hwe v h1
    · rw [(List.mem_replicate.mp h1).2]; trivial
  · intro o I' L' P' S' H locs ad' ls' cells slots pc hQ hR' hx hS' hwo hc hs hret hls
    obtain ⟨hx9, hb, -, -, -, hr, hlocks, -, -⟩ := F
    refine vx_ret (W.widen hc hs ?_)
    have hq : ∀ t : State, t.heap = H → s.WarmedH t.vm → zQc G ad S Q (av.map (zcv ad)).toArray s (.returned (o.map (zcv ad'))) t := fun t ht _ => ⟨o, I', L', P', S', ad', rfl, hQ, by rw [ht]; exact hR', hx, hwo, hS'.F ht⟩
    cases o with
    | none => exact W.vret hx9 hb (hr.trans hret.1) hq hS'.2.2 hret.2 hlocks
    | some v =>
      cases v with
      | int x =>
        obtain ⟨⟨ty, h1, h2⟩, h3⟩ := hret
        exact W.zret hx9 hb (hr.trans h1) h2 hq hS'.2.2 h3 hlocks
      | long x => exact W.lret hx9 hb (hr.trans hret.1) hq hS'.2.2 hret.2 hlocks
      | ref x =>
        obtain ⟨⟨ty, h1, h2⟩, h3⟩ := hret
        exact W.aret hx9 hb (hr.trans h1) h2 (Or.inr ⟨_, rfl⟩) hq hS'.2.2 h3 hlocks
      | null =>
        obtain ⟨⟨ty, h1, h2⟩, h3⟩ := hret
        exact W.aret hx9 hb (hr.trans h1) h2 (Or.inl rfl) hq hS'.2.2 h3 hlocks
      | _ => exact hret.elim
  · intro ci ok I' L' P' S' H locs ad' ls' cells slots pc rest q ce hQ hR' hx hS' hex hc hs hno hls
    obtain ⟨hx9, hb, -, -, -, hr, hlocks, -, htab⟩ := F
    obtain ⟨h1, ⟨r, h2, h3⟩, h4, h5⟩ := hex
    exact vx_out (E := r.1) (by rw [htab]; exact hno) hlocks h4 h5 h3 (fun t ht _ => ⟨ci, ok, I', L', P', S', ad', hQ, by rw [ht]; exact hR', hx, h1, ⟨r, h2, rfl⟩, hS'.F ht⟩) hS'.2.2 hc hs
theorem Zmf.met {G : zG} {M : zM} {d C Sl : Nat} {av : List Value} {I : zI} {L : zL} {P : zR} {S : zT} {Q : zQ} {a : Nat} (h : Zmf G M d C Sl av I L P S Q a) (hy : plainFor M.1 = true) (hn : M.2.2.2.2 = none) (hw : ∀ v ∈ av, zwf S v) (ad : Nat → Nat) :
    vx_Met G.1.1 M.1 (zws M) (zrm d C Sl) (zPcF G ad av I L P S a) (zQc G ad S Q) (zXc G ad S Q) C Sl (zA G) := by
  obtain ⟨y, cc, mL, ret, hh⟩ := M
  cases hn
  refine vx_ofW (cc := cc) (maxL := mL) (ret := ret) hy rfl ?_
  intro p e s m args below meth c s₁ B hml htab hv
  have hts := atoms_spec (ws := zws (y, cc, mL, ret, none)) B.pre
  refine z_bodyF h hw ad ⟨B.exec, B.bytes, hml, findClass_of_methodNamed B.named, fun w hw => hts w (List.mem_cons_of_mem _ hw), B.returns, B.notSynchronized, (name_of_methodNamed B.named B.method).1, ?_⟩ hv
  show c.exceptionTable.toList = []
  cases he : c.exceptionTable.toList with
  | nil => rfl
  | cons x l => exact (htab x (by rw [he]; exact List.mem_cons_self)).elim
section ZF2
variable {G : zG} {M M' : zM} {d d' C C' Sl S' pc len n idx a : Nat} {lv st st0 : List Value} {I : zI} {L : zL} {P : zR} {S : zT} {Q : zQ}
theorem Zf_call {CR : String} {T : u_T} {N bh ci : Nat} (hL : zCal G M M' CR pc len n) (hy : plainFor M'.1 = true) (hn9 : M'.2.2.2.2 = none) (hS : S bh = some (.inl ci)) (hk : zKl ci CR T N) (As : List Value) (hn : As.length = n) (hst : st0 = As.reverse ++ .ref bh :: st) (hcat : (st.map fun v => v.category).sum ≤ 8) (hdep : d' + 1 ≤ d) 
    (h : Zmf G M' d' C' S' (.ref bh :: As) I L P S (zK G M d C Sl pc len lv st Q) a) : Zf G M d (C + C') (Sl + S') pc lv st0 I L P S Q a := by
  intro p e R s m args below meth c H locs cells slots Kc Ks QQ ad ls X hF9
  have hws := X.2.2.2.2.2.2.1
  rw [hst] at hws
  have hst9 : ∀ v ∈ st, zwf S v := fun v hv => hws v (List.mem_append_right _ (List.mem_cons_of_mem _ hv))
  have hR := X.2.2.1
  have hrm := X.2.2.2.2.2.2.2.1
  have hbg := X.2.2.2.2.2.2.2.2.1
  have hwa : ∀ v ∈ (.ref bh :: As : List Value), zwf S v := by
    intro v hv
    rcases List.mem_cons.mp hv with rfl | hv
    · exact hws _ (List.mem_append_right _ List.mem_cons_self)
    · exact hws v (List.mem_append_left _ (List.mem_reverse.mpr hv))
  obtain ⟨cell, q1, q2, q3, -⟩ := (hR.1 bh).obj hS hk
  have hcls := (X.2.1.1.1 ci _ hk.1).2
  refine z_cont (len := len) (a := (.ref (ad bh) :: As.map (zcv ad)).toArray) X hst9 ?_
  have hrun := hL (p := p) (e := e) (R := R) (s := s) (m := m) (args := args) (below := below) (meth := meth) (c := c) (H := H) (locs := locs) (cells := cells) (slots := slots) (ls := ls) (As := As.map (zcv ad)) (rest := st.map (zcv ad)) (b := ad bh) X.1 X.2.1 (d' := d') (by omega) (by omega) (h.met hy hn9 hwa ad)
    ⟨zPcF_blind, ⟨cell, q1, by rw [q3]; rfl, by rw [q2]; exact hcls.1⟩, fun U hU hW => ⟨⟨rfl, zEnv.at X hU hW, by rw [hU]; exact hR⟩, hF9.warm X hU hW⟩⟩ (by rw [List.length_map]; exact hn) X.2.2.2.2.1.2.1 (by rw [zcvs_cat]; exact hcat) (by omega) (by omega) ⟨_, hcls⟩
  have he : st0.map (zcv ad) = (As.map (zcv ad)).reverse ++ .ref (ad bh) :: st.map (zcv ad) := by rw [hst, List.map_append, List.map_reverse]; rfl
  rw [he]
  exact hrun
theorem wX11_7_10 : zFW RX11 7 10 0 := ⟨_, _, _, _, zkl10, by decide, rfl, q707, Or.inl rfl, rfl⟩
theorem c_X11_init {v : Int32} (hS : S a = some (.inl 10)) (k : Q (.inl none) (zw I a 0 v) L P S) : Zmf G mX11_init 6 C Sl [.ref a, .int v] I L P S Q a := by
  refine ⟨Nat.le_of_ble_eq_true rfl, ?_⟩
  refine Zf_aload_n dX11_init_0 rfl ?_
  refine Zf_exc (d := 0) rfl hS dX11_init_1 (by decide) ?_
  refine Z_aload_n dX11_init_4 rfl ?_
  refine Z_iload_n dX11_init_5 rfl ?_
  refine Z_putFI hS wX11_7_10 rfl dX11_init_6 rfl rfl rfl ?_
  refine Z_return dX11_init_9 rfl ?_
  exact k
theorem c_X8_need1 {r : Nat} (k : Q (.inl none) I L P S) : Zm G mX8_need 7 C Sl [.ref r, .int (nI 1)] I L P S Q := by
  refine Z_entry (lv := [_, _]) (Nat.le_of_ble_eq_true rfl) rfl ?_
  refine Z_iload_n dX8_need_0 rfl ?_
  refine Z_ifne 16 dX8_need_1 rfl (fun _ => ?_) (fun h => absurd h (by decide))
  refine Z_return dX8_need_16 rfl ?_
  exact k
theorem c_X8_need0 {r : Nat} (hr : S r = some (.inl 7)) (hS : S a = none) (k : Q (.inr (10, some a)) (zw (zu I a fun _ => 0) a 0 (I r 2)) (zu L a fun _ => 0) (zu P a fun _ => none) (zu S a (some (.inl 10)))) : Zm G mX8_need 7 (C + 1) (Sl + 7) [.ref r, .int (nI 0)] I L P S Q := by
  have hne : r ≠ a := fun e => by rw [e, hS] at hr; cases hr
  have hr2 : zu S a (some (.inl 10)) r = some (.inl 7) := by rw [zu_n _ _ _ hne]; exact hr
  have hI : zu I a (fun _ => 0) r 2 = I r 2 := by rw [zu_n _ _ _ hne]
  refine Z_entry (lv := [_, _]) (Nat.le_of_ble_eq_true rfl) rfl ?_
  refine Z_iload_n dX8_need_0 rfl ?_
  refine Z_ifne 16 dX8_need_1 rfl (fun h => absurd rfl h) (fun _ => ?_)
  refine Z_newF hS q691 dX8_need_4 ?_
  refine Zf_dup dX8_need_7 rfl ?_
  refine Zf_aload_n dX8_need_8 rfl ?_
  refine Zf_getI hr2 fX8_31_7 dX8_need_9 rfl ?_
  rw [hI]
  refine Zf_call (d' := 6) (C' := 0) (S' := 0) (zCal_I q702 q99 q700 q701 rfl nX11_init (by decide) dX8_need_12) pX11_init rfl (zu_s _ _ _) zkl10 [_] rfl rfl (Nat.le_of_ble_eq_true rfl) (by omega) (c_X11_init (zu_s _ _ _) ?_)
  refine Z_athrow (zu_s _ _ _) zkl10 dX8_need_15 ?_
  exact Zx_out (fun x hx => by cases hx) k
end ZF2
