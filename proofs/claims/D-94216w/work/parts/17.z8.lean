set_option maxRecDepth 100000
/-! Z, part 8: calls -/
def zRun (len : Nat) (p : Program) (l : Launch) (e : Env) (R : Room) (s : State) (m : MethodId) (args : Array Value) (below : List Frame) (meth : Method) (c : Code) (H : Heap) (locs : List Loc) (cells slots mc ms : Nat) (g : JFrame) (rest : List Value) (Qa : State → Outcome → State → Prop) (XC : String → Addr → State → State → Prop) (free : Addr → Prop) : Prop :=
  ∀ T : State, T.heap = H → Stand p l e R s m args below meth c T locs cells slots →
    (∃ (v : Option Value) (st₀ t T' : State) (L : List Loc), st₀.heap = H ∧ Stand p l e R s m args below meth c T' (locs ++ L) (cells + mc) (slots + ms) ∧ (∀ q ∈ L, free q.base) ∧ T'.heap = t.heap ∧ T'.vm = t.vm ∧ Qa st₀ (.returned v) t ∧
      Goes p e below T g T' { g with pc := g.pc + len, stack := v.toList ++ rest }) ∨
    (∃ (q : Addr) (st₀ t T' : State) (L : List Loc) (E : String) (ce : Cell), st₀.heap = H ∧ Stand p l e R s m args below meth c T' (locs ++ L) (cells + mc) (slots + ms) ∧ (∀ z ∈ L, free z.base) ∧ T'.heap = t.heap ∧ T'.vm = t.vm ∧ XC E q st₀ t ∧ t.heap[q]? = some ce ∧ ce.vm = .none ∧ s.vm.findClass E = some ce.cls ∧
      Steps p.tables e below (T.setTop g) ((T'.setTop { g with stack := rest }).pushFrame (.throwing q)))
/-- an exception of the class number ci is thrown at pc -/
def Zx (G : zG) (M : zM) (d C Sl : Nat) (pc : Nat) (lv : List Value) (I : zI) (L : zL) (P : zR) (S : zT) (Q : zQ) (ci : Nat) (ok : Option Nat) : Prop :=
  ∀ (p : Program) (e : Env) (R : Room) (s : State) (m : MethodId) (args : Array Value) (below : List Frame) (meth : Method) (c : Code) (H : Heap) (locs : List Loc) (cells slots Kc Ks : Nat) (QQ : State → Prop) (ad : Nat → Nat) (ls : Array Slot),
    zCtx G M d C Sl p e R s m args below meth c H locs cells slots Kc Ks QQ ad ls lv [] I L P S Q → ∀ (q : Addr) (ce : Cell) (rest : List Value), zExc s S ad H ci ok q ce → vx_W p G.1.1 e R s m args below meth c H locs cells slots QQ (F0 m pc ls rest) q
/-- what is owed behind a call -/
abbrev zK (G : zG) (M : zM) (d C Sl : Nat) (pc len : Nat) (lv st : List Value) (Q : zQ) : zQ := fun o I L P S => match o with
  | .inl none => Zj G M d C Sl (pc + len) lv st I L P S Q
  | .inl (some v) => Zj G M d C Sl (pc + len) lv (v :: st) I L P S Q
  | .inr x => Zx G M d C Sl pc lv I L P S Q x.1 x.2
section ZROWS8
variable {G : zG} {M M' : zM} {d d' C C' Sl S' pc len n idx : Nat} {lv st st0 : List Value} {I : zI} {L : zL} {P : zR} {S : zT} {Q : zQ}
theorem zCtx.toC {p : Program} {e : Env} {R : Room} {s : State} {m : MethodId} {args : Array Value} {below : List Frame} {meth : Method} {c : Code} {H H' : Heap} {locs locs' : List Loc} {cells slots Kc Ks c1 s1 : Nat} {QQ : State → Prop} {ad ad' : Nat → Nat} {ls : Array Slot} {st' : List Value} {I' : zI} {L' : zL} {P' : zR} {S9 : zT}
    (X : zCtx G M d (C + c1) (Sl + s1) p e R s m args below meth c H locs cells slots Kc Ks QQ ad ls lv st I L P S Q) (hR : zRep G ad' I' L' P' S9 H') (hx : zExt S ad S9 ad') (hS : va_S (zA G) s.heap H' locs') (h : ∀ v ∈ st', zwf S9 v) : zCtx G M d C Sl p e R s m args below meth c H' locs' (cells + c1) (slots + s1) Kc Ks QQ ad' ls lv st' I' L' P' S9 Q := by
  obtain ⟨h1, h2, -, -, h5, h6, -, h8, h9, h10, h11⟩ := X
  exact ⟨h1, h2, hR, hS, h5.ext hx h6, fun v hv => hx.wf (h6 v hv), h, h8, ⟨by omega, by omega, h9.2.2⟩, fun o I2 L2 P2 S2 H2 l2 a2 ls2 cl2 sl2 pc2 q r x => h10 o I2 L2 P2 S2 H2 l2 a2 ls2 cl2 sl2 pc2 q r (hx.tr x), fun ci2 ok2 I2 L2 P2 S2 H2 l2 a2 ls2 cl2 sl2 pc2 rest2 q2 ce2 q r x => h11 ci2 ok2 I2 L2 P2 S2 H2 l2 a2 ls2 cl2 sl2 pc2 rest2 q2 ce2 q r (hx.tr x)⟩
theorem z_cont {p : Program} {e : Env} {R : Room} {s : State} {m : MethodId} {args : Array Value} {below : List Frame} {meth : Method} {c : Code} {H : Heap} {locs : List Loc} {cells slots Kc Ks : Nat} {QQ : State → Prop} {ad : Nat → Nat} {ls : Array Slot} {a : Array Value}
    (X : zCtx G M d (C + C') (Sl + S') p e R s m args below meth c H locs cells slots Kc Ks QQ ad ls lv st0 I L P S Q) (hst : ∀ v ∈ st, zwf S v)
    (hr : zRun len p G.1.1 e R s m args below meth c H locs cells slots C' S' (F0 m pc ls (st0.map (zcv ad))) (st.map (zcv ad)) (zQc G ad S (zK G M d C Sl pc len lv st Q) a) (zXc G ad S (zK G M d C Sl pc len lv st Q)) (zA G)) :
    W p G.1.1 e R s m args below meth c H locs cells slots QQ (F0 m pc ls (st0.map (zcv ad))) := by
  intro T hT X0
  have hS0 := X.2.2.2.1
  rcases hr T hT X0 with ⟨v, st₀, t, T', L9, h0, X', hL, e1, e2, ⟨v', I', L', P', S9, ad', hv, hQ, hR', hx, hwv, hF⟩, stp⟩ | ⟨q, st₀, t, T', L9, E, ce, h0, X', hL, e1, e2, ⟨ci, ok, I', L', P', S9, ad', hQ, hR', hx, hok, ⟨r, hr1, hr2⟩, hF⟩, hce, hcv, hcl, stp⟩
  · obtain ⟨-, -, k3⟩ := vx_keep (A0 := zA G) (A1 := zA G) (free := zA G) h0 e1 hS0 (fun _ _ h => h) (fun _ h => h) hL hF
    have hv2 : v = v'.map (zcv ad') := Outcome.returned.inj hv
    subst hv2
    rw [← e1] at hR'
    cases v' with
    | none =>
      have X2 := X.toC hR' hx k3 (st' := st) (fun w hw => hx.wf (hst w hw))
      obtain ⟨t2, a1, b1⟩ := hQ p e R s m args below meth c T'.heap (locs ++ L9) (cells + C') (slots + S') Kc Ks QQ ad' ls X2 T' rfl X'
      refine ⟨t2, stp t2 ?_, b1⟩
      rw [hx.cvs hst] at a1
      exact a1
    | some w =>
      have X2 := X.toC hR' hx k3 (st' := w :: st) (zwf_cons.mpr ⟨hwv w rfl, fun w hw => hx.wf (hst w hw)⟩)
      obtain ⟨t2, a1, b1⟩ := hQ p e R s m args below meth c T'.heap (locs ++ L9) (cells + C') (slots + S') Kc Ks QQ ad' ls X2 T' rfl X'
      refine ⟨t2, stp t2 ?_, b1⟩
      rw [List.map_cons, hx.cvs hst] at a1
      exact a1
  · obtain ⟨-, -, k3⟩ := vx_keep (A0 := zA G) (A1 := zA G) (free := zA G) h0 e1 hS0 (fun _ _ h => h) (fun _ h => h) hL hF
    rw [← e1] at hR' hce
    have X2 := X.toC hR' hx k3 (st' := []) (fun w hw => nomatch hw)
    obtain ⟨t2, a1, b1⟩ := hQ p e R s m args below meth c T'.heap (locs ++ L9) (cells + C') (slots + S') Kc Ks QQ ad' ls X2 q ce (st.map (zcv ad)) ⟨hok, ⟨r, hr1, by rw [hr2]; exact hcl⟩, hce, hcv⟩ T' rfl X'
    exact ⟨t2, stp.trans a1, b1⟩
/-- a call with a receiver of the class CR, as the machine makes it -/
def zCal (G : zG) (M M' : zM) (CR : String) (pc len n : Nat) : Prop :=
  ∀ {p : Program} {e : Env} {R : Room} {s : State} {m : MethodId} {args : Array Value} {below : List Frame} {meth : Method} {c : Code} {H : Heap} {locs : List Loc} {cells slots d' C' S' : Nat} {ls : Array Slot} {Pc : Array Value → State → Prop} {Qc : Array Value → State → Outcome → State → Prop} {XC : String → Addr → State → State → Prop} {As rest : List Value} {b : Addr},
    zFix M p s m args meth c → zEnv G s → d' + 1 ≤ R.frames → 64 * (d' + 1) + 128 ≤ R.locals → vx_Met G.1.1 M'.1 (zws M') (zrm d' C' S') Pc Qc XC C' S' (zA G) → PreV s H CR b Pc As → As.length = n → ls.size = M.2.2.1 → (rest.map fun v => v.category).sum ≤ 8 → cells + C' ≤ R.cells → slots + S' ≤ R.slots → (∃ kC : ClassId, ClassAt s CR kC) →
    zRun len p G.1.1 e R s m args below meth c H locs cells slots C' S' (F0 m pc ls (As.reverse ++ .ref b :: rest)) rest (Qc (.ref b :: As).toArray) XC (zA G)
def zCalS (G : zG) (M M' : zM) (pc len n : Nat) : Prop :=
  ∀ {p : Program} {e : Env} {R : Room} {s : State} {m : MethodId} {args : Array Value} {below : List Frame} {meth : Method} {c : Code} {H : Heap} {locs : List Loc} {cells slots d' C' S' : Nat} {ls : Array Slot} {Pc : Array Value → State → Prop} {Qc : Array Value → State → Outcome → State → Prop} {XC : String → Addr → State → State → Prop} {As rest : List Value},
    zFix M p s m args meth c → zEnv G s → d' + 1 ≤ R.frames → 64 * (d' + 1) + 128 ≤ R.locals → vx_Met G.1.1 M'.1 (zws M') (zrm d' C' S') Pc Qc XC C' S' (zA G) → PreS s H Pc As → As.length = n → ls.size = M.2.2.1 → (rest.map fun v => v.category).sum ≤ 8 → cells + C' ≤ R.cells → slots + S' ≤ R.slots →
    zRun len p G.1.1 e R s m args below meth c H locs cells slots C' S' (F0 m pc ls (As.reverse ++ rest)) rest (Qc As.toArray) XC (zA G)
theorem zEnv.at {p : Program} {e : Env} {R : Room} {s : State} {m : MethodId} {args : Array Value} {below : List Frame} {meth : Method} {c : Code} {H : Heap} {locs : List Loc} {cells slots Kc Ks : Nat} {QQ : State → Prop} {ad : Nat → Nat} {ls : Array Slot}
    (X : zCtx G M d C Sl p e R s m args below meth c H locs cells slots Kc Ks QQ ad ls lv st I L P S Q) {U : State} (hU : U.heap = H) (hW : s.WarmedH U.vm) : zEnv G U := X.2.1.warm hW (by rw [hU]; exact X.2.1.2.2.2.2.1.S X.2.2.2.1)
/-- THE CALL RULE, with a receiver -/
theorem Z_call {CR : String} {T : u_T} {N bh ci CC SS : Nat} (hL : zCal G M M' CR pc len n) (hy : plainFor M'.1 = true) (hS : S bh = some (.inl ci)) (hk : zKl ci CR T N) (As : List Value) (hn : As.length = n) (hst : st0 = As.reverse ++ .ref bh :: st) (hcat : (st.map fun v => v.category).sum ≤ 8) (hdep : d' + 1 ≤ d) (hC : C + C' ≤ CC) (hSS : Sl + S' ≤ SS)
    (h : Zm G M' d' C' S' (.ref bh :: As) I L P S (zK G M d C Sl pc len lv st Q)) : Zj G M d CC SS pc lv st0 I L P S Q := by
  refine Zj.less (C := C + C') (Sl := Sl + S') ?_ (Nat.le_refl d) hC hSS
  intro p e R s m args below meth c H locs cells slots Kc Ks QQ ad ls X
  have hws := X.2.2.2.2.2.2.1
  rw [hst] at hws
  have hst9 : ∀ v ∈ st, zwf S v := fun v hv => hws v (List.mem_append_right _ (List.mem_cons_of_mem _ hv))
  have hR := X.2.2.1
  have hrm := X.2.2.2.2.2.2.2.1
  have hbg := X.2.2.2.2.2.2.2.2.1
  have hwa : ∀ v ∈ (.ref bh :: As : List Value), zwf S v := by
    intro v hv
    rcases List.mem_cons.mp hv with rfl | hv
    · exact hws _ (List.mem_append_right _ List.mem_cons_self)
    · exact hws v (List.mem_append_left _ (List.mem_reverse.mpr hv))
  obtain ⟨cell, q1, q2, q3, -⟩ := (hR.1 bh).obj hS hk
  have hcls := (X.2.1.1.1 ci _ hk.1).2
  refine z_cont (len := len) (a := (.ref (ad bh) :: As.map (zcv ad)).toArray) X hst9 ?_
  have hrun := hL (p := p) (e := e) (R := R) (s := s) (m := m) (args := args) (below := below) (meth := meth) (c := c) (H := H) (locs := locs) (cells := cells) (slots := slots) (ls := ls) (As := As.map (zcv ad)) (rest := st.map (zcv ad)) (b := ad bh) X.1 X.2.1 (d' := d') (by omega) (by omega) (h.met hy hwa ad)
    ⟨zPc_blind, ⟨cell, q1, by rw [q3]; rfl, by rw [q2]; exact hcls.1⟩, fun U hU hW => ⟨rfl, zEnv.at X hU hW, by rw [hU]; exact hR⟩⟩ (by rw [List.length_map]; exact hn) X.2.2.2.2.1.2.1 (by rw [zcvs_cat]; exact hcat) (by omega) (by omega) ⟨_, hcls⟩
  have he : st0.map (zcv ad) = (As.map (zcv ad)).reverse ++ .ref (ad bh) :: st.map (zcv ad) := by rw [hst, List.map_append, List.map_reverse]; rfl
  rw [he]
  exact hrun
/-- THE CALL RULE, static -/
theorem Z_callS {CC SS : Nat} (hL : zCalS G M M' pc len n) (hy : plainFor M'.1 = true) (As : List Value) (hn : As.length = n) (hst : st0 = As.reverse ++ st) (hcat : (st.map fun v => v.category).sum ≤ 8) (hdep : d' + 1 ≤ d) (hC : C + C' ≤ CC) (hSS : Sl + S' ≤ SS)
    (h : Zm G M' d' C' S' As I L P S (zK G M d C Sl pc len lv st Q)) : Zj G M d CC SS pc lv st0 I L P S Q := by
  refine Zj.less (C := C + C') (Sl := Sl + S') ?_ (Nat.le_refl d) hC hSS
  intro p e R s m args below meth c H locs cells slots Kc Ks QQ ad ls X
  have hws := X.2.2.2.2.2.2.1
  rw [hst] at hws
  have hst9 : ∀ v ∈ st, zwf S v := fun v hv => hws v (List.mem_append_right _ hv)
  have hR := X.2.2.1
  have hrm := X.2.2.2.2.2.2.2.1
  have hbg := X.2.2.2.2.2.2.2.2.1
  have hwa : ∀ v ∈ As, zwf S v := fun v hv => hws v (List.mem_append_left _ (List.mem_reverse.mpr hv))
  refine z_cont (len := len) (a := (As.map (zcv ad)).toArray) X hst9 ?_
  have hrun := hL (p := p) (e := e) (R := R) (s := s) (m := m) (args := args) (below := below) (meth := meth) (c := c) (H := H) (locs := locs) (cells := cells) (slots := slots) (ls := ls) (As := As.map (zcv ad)) (rest := st.map (zcv ad)) X.1 X.2.1 (d' := d') (by omega) (by omega) (h.met hy hwa ad)
    ⟨zPc_blind, fun U hU hW => ⟨rfl, zEnv.at X hU hW, by rw [hU]; exact hR⟩⟩ (by rw [List.length_map]; exact hn) X.2.2.2.2.1.2.1 (by rw [zcvs_cat]; exact hcat) (by omega) (by omega)
  have he : st0.map (zcv ad) = (As.map (zcv ad)).reverse ++ st.map (zcv ad) := by rw [hst, List.map_append, List.map_reverse]
  rw [he]
  exact hrun
/-- links: what the tables say of an entry -/
def zNm (M' : zM) (n : Nat) : Prop := M'.1.cls ≠ "java/lang/invoke/MethodHandle" ∧ M'.1.cls ≠ "java/lang/invoke/VarHandle" ∧ (parseMethodDescriptor M'.1.desc).map (fun d => d.parameters.length) = some n
theorem zrm_le {d' C' S' maxL : Nat} {R : Room} (h1 : d' + 1 ≤ R.frames) (h2 : 64 * (d' + 1) + 128 ≤ R.locals) (hm : maxL ≤ 40) : (zrm d' C' S').frames + 1 ≤ R.frames ∧ 8 + (maxL + 11) + (zrm d' C' S').locals ≤ R.locals := ⟨h1, by show _ + (64 * d' + 128) ≤ _; omega⟩
theorem zCal_V (hg : GoodIn lw_all (wsV M.1.cls idx M'.1.cls M'.1 (zws M'))) (hn : zNm M' n) (hm : M'.2.2.1 ≤ 40) (hd : decode M.2.1 pc = .ok (.invokevirtual idx, 3)) : zCal G M M' M'.1.cls pc 3 n := by
  intro p e R s m args below meth c H locs cells slots d' C' S' ls Pc Qc XC As rest b F E hf hlo hM hp hln hsz hcat hc1 hc2 _
  obtain ⟨y, cc, mL, ret, hh⟩ := M'
  cases hh with
  | none => exact vx_runV (As := As) ⟨F.1, F.2.1, F.2.2.1, F.2.2.2.1, F.2.2.2.2.1⟩ hM (cwV n F.2.2.2.2.1 hg rfl rfl rfl ⟨rfl, hn.1, hn.2.1, hn.2.2⟩ (zrm_le hf hlo hm)) hp rfl hln hsz rfl (lv_room hcat) hd ⟨hc1, hc2⟩
  | some hh => exact vx_runVX (As := As) ⟨F.1, F.2.1, F.2.2.1, F.2.2.2.1, F.2.2.2.2.1⟩ hM (vx_cwVW n F.2.2.2.2.1 hg rfl rfl rfl ⟨rfl, hn.1, hn.2.1, hn.2.2⟩ (zrm_le hf hlo hm)) hp rfl hln hsz rfl (lv_room hcat) hd ⟨hc1, hc2⟩
theorem zCal_S (hg : GoodIn lw_all (va_wsS M.1.cls idx M'.1 (zws M'))) (hn : zNm M' n) (hm : M'.2.2.1 ≤ 40) (hd : decode M.2.1 pc = .ok (.invokestatic idx, 3)) : zCalS G M M' pc 3 n := by
  intro p e R s m args below meth c H locs cells slots d' C' S' ls Pc Qc XC As rest F E hf hlo hM hp hln hsz hcat hc1 hc2
  obtain ⟨y, cc, mL, ret, hh⟩ := M'
  cases hh with
  | none => exact vx_runS (As := As) ⟨F.1, F.2.1, F.2.2.1, F.2.2.2.1, F.2.2.2.2.1⟩ hM (va_cwS n F.2.2.2.2.1 hg rfl rfl rfl ⟨hn.1, hn.2.1, hn.2.2⟩ (zrm_le hf hlo hm)) hp rfl hln hsz rfl (lv_room hcat) hd ⟨hc1, hc2⟩
  | some hh => exact vx_runSX (As := As) ⟨F.1, F.2.1, F.2.2.1, F.2.2.2.1, F.2.2.2.2.1⟩ hM (vx_cwSW n F.2.2.2.2.1 hg rfl rfl rfl ⟨hn.1, hn.2.1, hn.2.2⟩ (zrm_le hf hlo hm)) hp rfl hln hsz rfl (lv_room hcat) hd ⟨hc1, hc2⟩
theorem zCal_I {cc : ByteArray} {y : MethodName} {mL : Nat} (hc : Cond.code y cc mL none ∈ lw_all) (hini : Cond.initialized y.cls ∈ lw_all) (hl : Cond.methodLink M.1.cls idx y ∈ lw_all) (hin : Cond.instanceMethod y ∈ lw_all) (hy : y.name = "<init>") (hn : zNm (y, cc, mL, none, none) n) (hm : mL ≤ 40) (hd : decode M.2.1 pc = .ok (.invokespecial idx, 3)) {CR : String} : zCal G M (y, cc, mL, none, none) CR pc 3 n := by
  intro p e R s m args below meth c H locs cells slots d' C' S' ls Pc Qc XC As rest b F E hf hlo hM hp hln hsz hcat hc1 hc2 _
  have hts := F.2.2.2.2.1
  exact vx_runI (As := As) ⟨F.1, F.2.1, F.2.2.1, F.2.2.2.1, F.2.2.2.2.1⟩ hM (cwI n hts (lw_meth hc) rfl rfl rfl (hts _ hini) (hts _ hl) (hts _ hin) hy ⟨hn.1, hn.2.1, hn.2.2⟩ (zrm_le hf hlo hm)) ⟨hp.1, hp.2.2⟩ rfl hln hsz rfl (lv_room hcat) hd ⟨hc1, hc2⟩
theorem zCal_IN {cc : ByteArray} {y : MethodName} {mL : Nat} {host : String} (hc : Cond.code y cc mL none ∈ lw_all) (hini : Cond.initialized y.cls ∈ lw_all) (hl : Cond.methodLinkNest M.1.cls idx y host ∈ lw_tbl) (hin : Cond.instanceMethod y ∈ lw_all) (hy : y.name = "<init>") (hn : zNm (y, cc, mL, none, none) n) (hm : mL ≤ 40) (hd : decode M.2.1 pc = .ok (.invokespecial idx, 3)) {CR : String} : zCal G M (y, cc, mL, none, none) CR pc 3 n := by
  intro p e R s m args below meth c H locs cells slots d' C' S' ls Pc Qc XC As rest b F E hf hlo hM hp hln hsz hcat hc1 hc2 _
  have hts := F.2.2.2.2.1
  exact vx_runIN (As := As) ⟨F.1, F.2.1, F.2.2.1, F.2.2.2.1, F.2.2.2.2.1⟩ hM ⟨va_cnB n hts (lw_meth hc) rfl rfl rfl (E.2.1 _ hl rfl) (hts _ hini) ⟨hn.1, hn.2.1, hn.2.2⟩ (zrm_le hf hlo hm), hy, hts _ hin⟩ ⟨hp.1, hp.2.2⟩ rfl hln hsz rfl (lv_room hcat) hd ⟨hc1, hc2⟩
theorem zCal_VN {cc : ByteArray} {y : MethodName} {mL : Nat} {ret : Option FieldType} {host : String} (hc : Cond.code y cc mL ret ∈ lw_all) (hini : Cond.initialized y.cls ∈ lw_all) (hl : Cond.methodLinkNest M.1.cls idx y host ∈ lw_tbl) (hin : Cond.instanceMethod y ∈ lw_all) (hsel : Cond.selects y.cls y y ∈ lw_all) (hn : zNm (y, cc, mL, ret, none) n) (hm : mL ≤ 40) (hd : decode M.2.1 pc = .ok (.invokevirtual idx, 3)) : zCal G M (y, cc, mL, ret, none) y.cls pc 3 n := by
  intro p e R s m args below meth c H locs cells slots d' C' S' ls Pc Qc XC As rest b F E hf hlo hM hp hln hsz hcat hc1 hc2 _
  have hts := F.2.2.2.2.1
  exact vx_runVN (As := As) ⟨F.1, F.2.1, F.2.2.1, F.2.2.2.1, F.2.2.2.2.1⟩ hM ⟨va_cnB n hts (lw_meth hc) rfl rfl rfl (E.2.1 _ hl rfl) (hts _ hini) ⟨hn.1, hn.2.1, hn.2.2⟩ (zrm_le hf hlo hm), hts _ hin, hts _ hsel⟩ hp rfl hln hsz rfl (lv_room hcat) hd ⟨hc1, hc2⟩
theorem zCal_SN {cc : ByteArray} {y : MethodName} {mL : Nat} {ret : Option FieldType} {host : String} (hc : Cond.code y cc mL ret ∈ lw_all) (hini : Cond.initialized y.cls ∈ lw_all) (hl : Cond.methodLinkNest M.1.cls idx y host ∈ lw_tbl) (hstat : Cond.static y ∈ lw_all) (hn : zNm (y, cc, mL, ret, none) n) (hm : mL ≤ 40) (hd : decode M.2.1 pc = .ok (.invokestatic idx, 3)) : zCalS G M (y, cc, mL, ret, none) pc 3 n := by
  intro p e R s m args below meth c H locs cells slots d' C' S' ls Pc Qc XC As rest F E hf hlo hM hp hln hsz hcat hc1 hc2
  have hts := F.2.2.2.2.1
  exact vx_runSN (As := As) ⟨F.1, F.2.1, F.2.2.1, F.2.2.2.1, F.2.2.2.2.1⟩ hM ⟨va_cnB n hts (lw_meth hc) rfl rfl rfl (E.2.1 _ hl rfl) (hts _ hini) ⟨hn.1, hn.2.1, hn.2.2⟩ (zrm_le hf hlo hm), hts _ hstat, trivial⟩ hp rfl hln hsz rfl (lv_room hcat) hd ⟨hc1, hc2⟩
/-- through an interface -/
theorem zCal_F {cc : ByteArray} {x y : MethodName} {mL count : Nat} {ret : Option FieldType} {CR : String} (hc : Cond.code y cc mL ret ∈ lw_all) (hini : Cond.initialized y.cls ∈ lw_all) (hl : Cond.methodLink M.1.cls idx x ∈ lw_all) (hin : Cond.instanceMethod y ∈ lw_all) (hsel : Cond.selects CR x y ∈ lw_all) (hx : x.cls = "FollowTheSun$Node" ∧ x.desc = "(LFollowTheSun$Case;)I" ∧ (x.name = "value" ∨ x.name = "valueOf")) (h3 : Cond.publicMethod y ∈ lw_tbl) (h4 : Cond.unhidden CR x.name x.desc ∈ lw_tbl) (h5 : Cond.castable CR x.cls ∈ lw_tbl) (hn : n = 1) (hm : mL ≤ 40) (hd : decode M.2.1 pc = .ok (.invokeinterface idx count, 5)) : zCal G M (y, cc, mL, ret, none) CR pc 5 n := by
  intro p e R s m args below meth c H locs cells slots d' C' S' ls Pc Qc XC As rest b F E hf hlo hM hp hln hsz hcat hc1 hc2 hat
  have hts := F.2.2.2.2.1
  obtain ⟨kC, hat⟩ := hat
  have hF : va_Fw CR x y s := by
    obtain ⟨h6, h7, h8⟩ := hx
    obtain ⟨xc, xn, xd⟩ := x
    simp only at h6 h7 h8
    subst h6; subst h7
    rcases h8 with rfl | rfl
    · exact ⟨E.2.2.1.1.1, E.2.2.1.1.2, E.2.1 _ h3 rfl, E.2.1 _ h4 rfl, E.2.1 _ h5 rfl⟩
    · exact ⟨E.2.2.1.2.1.1, E.2.2.1.2.1.2, E.2.1 _ h3 rfl, E.2.1 _ h4 rfl, E.2.1 _ h5 rfl⟩
  subst hn
  have hg : GoodIn lw_all (va_wsF M.1.cls idx CR x y (ws_ y cc mL ret)) := by
    refine lw_app ?_ (lw_meth hc)
    intro w hw
    simp only [List.mem_cons, List.not_mem_nil, or_false] at hw
    rcases hw with e | e | e | e <;> rw [e] <;> assumption
  exact vx_runF (As := As) hat ⟨F.1, F.2.1, F.2.2.1, F.2.2.2.1, F.2.2.2.2.1⟩ hM (va_cwF 1 hts hg rfl rfl rfl hF ⟨by rw [hx.1]; decide, by rw [hx.1]; decide, by rw [hx.2.1]; decide +kernel⟩ (zrm_le hf hlo hm)) hp rfl hln hsz rfl (lv_room hcat) hd ⟨hc1, hc2⟩
end ZROWS8
