set_option maxRecDepth 100000
/-! Z, part 7: a method's contract out of Zm; calls -/
def zPc (G : zG) (ad : Nat → Nat) (av : List Value) (I : zI) (L : zL) (P : zR) (S : zT) : Array Value → State → Prop := fun v U => v = (av.map (zcv ad)).toArray ∧ zEnv G U ∧ zRep G ad I L P S U.heap
def zQc (G : zG) (ad : Nat → Nat) (S : zT) (Q : zQ) : Array Value → State → Outcome → State → Prop := fun _ st o t =>
  ∃ (v : Option Value) (I' : zI) (L' : zL) (P' : zR) (S' : zT) (ad' : Nat → Nat), o = .returned (v.map (zcv ad')) ∧ Q (.inl v) I' L' P' S' ∧ zRep G ad' I' L' P' S' t.heap ∧ zExt S ad S' ad' ∧ (∀ x, v = some x → zwf S' x) ∧ va_F (zA G) st t
def zXc (G : zG) (ad : Nat → Nat) (S : zT) (Q : zQ) : String → Addr → State → State → Prop := fun E q st t =>
  ∃ (ci : Nat) (ok : Option Nat) (I' : zI) (L' : zL) (P' : zR) (S' : zT) (ad' : Nat → Nat), Q (.inr (ci, ok)) I' L' P' S' ∧ zRep G ad' I' L' P' S' t.heap ∧ zExt S ad S' ad' ∧ (∀ k, ok = some k → q = ad' k ∧ S' k = some (.inl ci)) ∧ (∃ r : vw_C, zCl[ci]? = some r ∧ r.1 = E) ∧ va_F (zA G) st t
def zws (M : zM) : List Cond := match M.2.2.2.2 with
  | none => ws_ M.1 M.2.1 M.2.2.1 M.2.2.2.1
  | some hh => wsW_ M.1 M.2.1 M.2.2.1 M.2.2.2.1 hh
def zrm (d C Sl : Nat) : Room := { frames := d, cells := C, slots := Sl, locals := 64 * d + 128 }
theorem zEnv.calling {G : zG} {U : State} {g : JFrame} {mk : MethodId} {a : Array Value} (h : zEnv G U) : zEnv G (U.calling g mk a) := h.warm (State.WarmedH.refl U) h.2.2.2.2.1
theorem zPc_blind {G : zG} {ad : Nat → Nat} {av : List Value} {I : zI} {L : zL} {P : zR} {S : zT} : FrameBlind (zPc G ad av I L P S) := fun _ _ _ _ h => ⟨h.1, h.2.1.calling, h.2.2⟩
theorem zent_wf {S : zT} {l : List Value} (hw : ∀ v ∈ l, zwf S v) : ∀ v ∈ zent l, zwf S v := by
  induction l with
  | nil => intro v hv; cases hv
  | cons w l ih =>
    have h1 := zwf_hd hw
    have h2 := ih (zwf_tl hw)
    cases w with
    | long x => exact zwf_cons.mpr ⟨trivial, zwf_cons.mpr ⟨trivial, h2⟩⟩
    | double x => exact zwf_cons.mpr ⟨trivial, zwf_cons.mpr ⟨trivial, h2⟩⟩
    | _ => exact zwf_cons.mpr ⟨h1, h2⟩
theorem z_body {G : zG} {M : zM} {d C Sl : Nat} {av : List Value} {I : zI} {L : zL} {P : zR} {S : zT} {Q : zQ} (h : Zm G M d C Sl av I L P S Q) (hw : ∀ v ∈ av, zwf S v) (ad : Nat → Nat) {p : Program} {e : Env} {s : State} {m : MethodId} {args : Array Value} {below : List Frame} {meth : Method} {c : Code} (F : zFix M p s m args meth c) (hP : zPc G ad av I L P S args s) :
    W p G.1.1 e (zrm d C Sl) s m args below meth c s.heap [] 0 0 (vx_MQ below (zQc G ad S Q) (zXc G ad S Q) args s C Sl (zA G)) (entryFrame m args M.2.2.1) := by
  obtain ⟨rfl, hE, hR⟩ := hP
  have hlen := h.1
  rw [← zent_len ad] at hlen
  have hl := lv_entry (av.map (zcv ad)) (n := M.2.2.1) hlen
  rw [lg_entry_eq]
  generalize (lg_sl (av.map (zcv ad)) ++ List.replicate (M.2.2.1 - (lg_sl (av.map (zcv ad))).length) Slot.unset).toArray = ls at hl ⊢
  have hwe := zent_wf hw
  refine h.2 p e (zrm d C Sl) s m _ below meth c s.heap [] 0 0 C Sl _ ad ls ⟨F, hE, hR, va_S.rf, zlv_entry h.1 hl, ?_, (fun v hv => nomatch hv), ⟨Nat.le_refl _, Nat.le_refl _⟩, ⟨by omega, by omega, Nat.le_refl _, Nat.le_refl _⟩, ?_, ?_⟩
  · intro v hv
    unfold zpad at hv
    rcases List.mem_append.mp hv with h1 | h1
    · exact hwe v h1
    · rw [(List.mem_replicate.mp h1).2]; trivial
  · intro o I' L' P' S' H locs ad' ls' cells slots pc hQ hR' hx hS' hwo hc hs hret hls
    obtain ⟨hx9, hb, -, -, -, hr, hlocks, -, -⟩ := F
    refine vx_ret (W.widen hc hs ?_)
    have hq : ∀ t : State, t.heap = H → s.WarmedH t.vm → zQc G ad S Q (av.map (zcv ad)).toArray s (.returned (o.map (zcv ad'))) t := fun t ht _ => ⟨o, I', L', P', S', ad', rfl, hQ, by rw [ht]; exact hR', hx, hwo, hS'.F ht⟩
    cases o with
    | none => exact W.vret hx9 hb (hr.trans hret.1) hq hS'.2.2 hret.2 hlocks
    | some v =>
      cases v with
      | int x =>
        obtain ⟨⟨ty, h1, h2⟩, h3⟩ := hret
        exact W.zret hx9 hb (hr.trans h1) h2 hq hS'.2.2 h3 hlocks
      | long x => exact W.lret hx9 hb (hr.trans hret.1) hq hS'.2.2 hret.2 hlocks
      | ref x =>
        obtain ⟨⟨ty, h1, h2⟩, h3⟩ := hret
        exact W.aret hx9 hb (hr.trans h1) h2 (Or.inr ⟨_, rfl⟩) hq hS'.2.2 h3 hlocks
      | null =>
        obtain ⟨⟨ty, h1, h2⟩, h3⟩ := hret
        exact W.aret hx9 hb (hr.trans h1) h2 (Or.inl rfl) hq hS'.2.2 h3 hlocks
      | _ => exact hret.elim
  · intro ci ok I' L' P' S' H locs ad' ls' cells slots pc rest q ce hQ hR' hx hS' hex hc hs hno hls
    obtain ⟨hx9, hb, -, -, -, hr, hlocks, -, htab⟩ := F
    obtain ⟨h1, ⟨r, h2, h3⟩, h4, h5⟩ := hex
    exact vx_out (E := r.1) (by rw [htab]; exact hno) hlocks h4 h5 h3 (fun t ht _ => ⟨ci, ok, I', L', P', S', ad', hQ, by rw [ht]; exact hR', hx, h1, ⟨r, h2, rfl⟩, hS'.F ht⟩) hS'.2.2 hc hs
theorem Zm.met {G : zG} {M : zM} {d C Sl : Nat} {av : List Value} {I : zI} {L : zL} {P : zR} {S : zT} {Q : zQ} (h : Zm G M d C Sl av I L P S Q) (hy : plainFor M.1 = true) (hw : ∀ v ∈ av, zwf S v) (ad : Nat → Nat) :
    vx_Met G.1.1 M.1 (zws M) (zrm d C Sl) (zPc G ad av I L P S) (zQc G ad S Q) (zXc G ad S Q) C Sl (zA G) := by
  obtain ⟨y, cc, mL, ret, hh⟩ := M
  cases hh with
  | none =>
    refine vx_ofW (cc := cc) (maxL := mL) (ret := ret) hy rfl ?_
    intro p e s m args below meth c s₁ B hml htab hv
    have hts := atoms_spec (ws := zws (y, cc, mL, ret, none)) B.pre
    refine z_body h hw ad ⟨B.exec, B.bytes, hml, findClass_of_methodNamed B.named, fun w hw => hts w (List.mem_cons_of_mem _ hw), B.returns, B.notSynchronized, (name_of_methodNamed B.named B.method).1, ?_⟩ hv
    show c.exceptionTable.toList = []
    cases he : c.exceptionTable.toList with
    | nil => rfl
    | cons x l => exact (htab x (by rw [he]; exact List.mem_cons_self)).elim
  | some hh =>
    refine vx_ofWH (cc := cc) (maxL := mL) (ret := ret) (hh := hh) hy rfl ?_
    intro p e s m args below meth c s₁ B hml hv
    have hts := atoms_spec (ws := zws (y, cc, mL, ret, some hh)) B.pre
    refine z_body h hw ad ⟨B.exec, B.bytes, hml, findClass_of_methodNamed B.named, fun w hw => hts w (List.mem_cons_of_mem _ hw), B.returns, B.notSynchronized, (name_of_methodNamed B.named B.method).1, ?_⟩ hv
    exact vx_table (x := y) B (hts _ List.mem_cons_self)
