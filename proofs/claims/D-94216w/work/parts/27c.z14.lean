set_option maxRecDepth 100000
/-! Z, part 14: super calls; what is thrown, caught, goes on. (vx_make0Z: lines of 05.exc turned; the words' rows are printed by gen27c.py) -/
theorem z_atM : ∀ w ∈ vx_atM "java/lang/NegativeArraySizeException" ["java/lang/RuntimeException", "java/lang/Exception"], w ∈ lw_all ∨ (w ∈ lw_tbl ∧ zstab w = true ∧ w.onTables = true) := by
  have key : ∀ w ∈ Bundle.messageArmAtoms "java/lang/NegativeArraySizeException" ["java/lang/RuntimeException", "java/lang/Exception"], vx_no w = true → (w ∈ lw_all ∨ (w ∈ lw_tbl ∧ zstab w = true ∧ w.onTables = true)) := by
    unfold Bundle.messageArmAtoms
    simp only [Bundle.throwableAtoms, Bundle.throwableSAtoms, Bundle.chainSAtoms, Bundle.passSAtoms, Bundle.chain0Atoms, Bundle.passAtoms, Bundle.stringAtoms, List.append_assoc, List.cons_append, List.nil_append, List.forall_mem_cons]
    exact ⟨fun _ => Or.inl q89, fun _ => Or.inl q473, fun _ => Or.inl q430, fun _ => Or.inl q435, fun _ => Or.inl q438, fun _ => Or.inl q440, fun _ => Or.inl q474, fun _ => Or.inl q475, fun _ => Or.inl q119, fun _ => Or.inl q120, fun _ => Or.inl q424, fun _ => Or.inl q429, fun _ => Or.inl q436, fun _ => Or.inl q443, fun _ => Or.inl q467, fun _ => Or.inl q444, fun _ => Or.inl q468, fun _ => Or.inl q445, fun _ => Or.inl q469, fun _ => Or.inl q425, fun h => absurd h (by decide), fun _ => Or.inl q427, fun h => absurd h (by decide), fun _ => Or.inl q470, fun _ => Or.inl q422, fun _ => Or.inl q423, fun _ => Or.inl q442, fun _ => Or.inl q470, fun _ => Or.inl q413, fun _ => Or.inl q414, fun _ => Or.inl q415, fun _ => Or.inl q416, fun _ => Or.inr ⟨q461, rfl, rfl⟩, fun _ => Or.inl q416, fun _ => Or.inl q417, fun _ => Or.inl q418, fun _ => Or.inl q419, fun _ => Or.inr ⟨q463, rfl, rfl⟩, fun _ => Or.inl q419, fun _ => Or.inl q420, fun _ => Or.inl q421, fun _ => Or.inl q422, fun _ => Or.inr ⟨q465, rfl, rfl⟩, fun _ => Or.inl q93, fun _ => Or.inl q476, fun _ => Or.inl q320, fun _ => Or.inl q477, fun _ => Or.inl q479, fun _ => Or.inl q478, fun _ => Or.inl q480, fun _ => Or.inl q92, fun _ => Or.inl q412, fun _ => Or.inr ⟨q459, rfl, rfl⟩, fun _ => Or.inl q466, fun _ => Or.inl q433, fun _ => Or.inl q450, fun _ => Or.inl q452, fun _ => Or.inl q456, fun _ => Or.inl q448, fun h => absurd h (by decide), fun h => absurd h (by decide), fun _ => Or.inl q441, fun _ => Or.inl q471, fun _ => Or.inl q446, fun _ h => nomatch h⟩
  intro w hw
  obtain ⟨h1, h2⟩ := List.mem_filter.mp hw
  exact key w h1 h2
theorem z_atM_g : ∀ w ∈ vx_atM "java/lang/NegativeArraySizeException" ["java/lang/RuntimeException", "java/lang/Exception"], vx_ot w = true := fun w hw => List.all_eq_true.mp (show (vx_atM "java/lang/NegativeArraySizeException" ["java/lang/RuntimeException", "java/lang/Exception"]).all vx_ot = true by decide +kernel) w hw
theorem z_at0 : ∀ w ∈ vx_at0 "FollowTheSun" 217 "java/util/NoSuchElementException" ["java/lang/RuntimeException", "java/lang/Exception"], w ∈ lw_all ∨ (w ∈ lw_tbl ∧ zstab w = true ∧ w.onTables = true) := by
  have key : ∀ w ∈ Bundle.ownAtoms0 "FollowTheSun" 217 "java/util/NoSuchElementException" ["java/lang/RuntimeException", "java/lang/Exception"], vx_no w = true → (w ∈ lw_all ∨ (w ∈ lw_tbl ∧ zstab w = true ∧ w.onTables = true)) := by
    unfold Bundle.ownAtoms0
    simp only [Bundle.throwableAtoms, Bundle.throwableSAtoms, Bundle.chainSAtoms, Bundle.passSAtoms, Bundle.chain0Atoms, Bundle.passAtoms, Bundle.stringAtoms, List.append_assoc, List.cons_append, List.nil_append, List.forall_mem_cons]
    exact ⟨fun _ => Or.inl q89, fun _ => Or.inl q473, fun _ => Or.inl q430, fun _ => Or.inl q435, fun _ => Or.inl q438, fun _ => Or.inl q440, fun _ => Or.inl q474, fun _ => Or.inl q475, fun _ => Or.inl q119, fun _ => Or.inl q120, fun _ => Or.inl q424, fun _ => Or.inl q429, fun _ => Or.inl q436, fun _ => Or.inl q443, fun _ => Or.inl q467, fun _ => Or.inl q444, fun _ => Or.inl q468, fun _ => Or.inl q445, fun _ => Or.inl q469, fun _ => Or.inl q425, fun h => absurd h (by decide), fun _ => Or.inl q427, fun h => absurd h (by decide), fun _ => Or.inl q470, fun _ => Or.inl q1206, fun _ => Or.inl q1207, fun _ => Or.inl q1208, fun _ => Or.inl q1209, fun _ => Or.inr ⟨q460, rfl, rfl⟩, fun _ => Or.inl q1209, fun _ => Or.inl q1210, fun _ => Or.inl q1211, fun _ => Or.inl q704, fun _ => Or.inr ⟨q462, rfl, rfl⟩, fun _ => Or.inl q704, fun _ => Or.inl q705, fun _ => Or.inl q706, fun _ => Or.inl q474, fun _ => Or.inr ⟨q464, rfl, rfl⟩, fun _ => Or.inl q1205, fun _ => Or.inl q1197, fun _ => Or.inr ⟨q1198, rfl, rfl⟩, fun _ => Or.inl q1199, fun _ => Or.inl q434, fun _ => Or.inl q1200, fun _ => Or.inl q1201, fun _ => Or.inl q1202, fun _ => Or.inl q1203, fun h => absurd h (by decide), fun h => absurd h (by decide), fun _ => Or.inl q441, fun _ => Or.inl q471, fun _ => Or.inl q1204, fun _ h => nomatch h⟩
  intro w hw
  obtain ⟨h1, h2⟩ := List.mem_filter.mp hw
  exact key w h1 h2
theorem z_at0_g : ∀ w ∈ vx_at0 "FollowTheSun" 217 "java/util/NoSuchElementException" ["java/lang/RuntimeException", "java/lang/Exception"], vx_ot w = true := fun w hw => List.all_eq_true.mp (show (vx_at0 "FollowTheSun" 217 "java/util/NoSuchElementException" ["java/lang/RuntimeException", "java/lang/Exception"]).all vx_ot = true by decide +kernel) w hw
section ZMK
variable {p : Program} {l : Launch} {e : Env} {R : Room} {s : State} {m : MethodId} {args : Array Value} {below : List Frame} {meth : Method} {c : Code} {H : Heap} {locs : List Loc} {cells slots : Nat} {Q : State → Prop}
variable {ls : Array Slot} {rest : List Value}
theorem vx_make0Z {cc : ByteArray} {pc : Nat} (hexec : p.tables.exec = Jvm.exec) (hb : c.code = cc) (hl : l.stackTraces = false) {own cls : String} {names : List String} {ik ic : Nat} {A : Nat → Prop}
    (hown : s.vm.findClass own = some m.cls) (hcls : Bundle.fit cls = true) (hnames : ∀ n ∈ names, Bundle.fit n = true)
    (hk : (Cond.classLink own ik cls).before args s = true) (hini : (Cond.initialized cls).before args s = true) (hat : ∀ w ∈ vx_at0 own ic cls names, w.before args s = true)
    (hgood : ∀ w ∈ Cond.classLink own ik cls :: Cond.initialized cls :: vx_at0 own ic cls names, vx_ot w = true)
    (hU : vx_Zq Bundle.tN "UNASSIGNED_STACK" Bundle.steD A s s.heap) (hN : vx_Zq Bundle.tN "SUPPRESSED_SENTINEL" Bundle.listD A s s.heap) (hS : va_S A s.heap H locs) (hsize : ls.size = c.maxLocals)
    (d0 : decode cc pc = .ok (.new ik, 3)) (d3 : decode cc (pc + 3) = .ok (.dup, 1)) (d4 : decode cc (pc + 4) = .ok (.invokespecial ic, 3))
    (hRframes : names.length + 3 < R.frames) (hRlocals : (rest.map fun v => v.category).sum + (13 * (names.length + 1) + 42) ≤ R.locals) (hRcells : cells + 1 ≤ R.cells) (hRslots : slots + 6 ≤ R.slots)
    (kk : ∀ (H1 : Heap) (ce : Cell), H1[H.size]? = some ce → ce.vm = .none → s.vm.findClass cls = some ce.cls → H.size ≤ H1.size → (∀ q : Nat, q < H.size → H1[q]? = H[q]?) → va_S A s.heap H1 locs → W p l e R s m args below meth c H1 locs (cells + 1) (slots + 6) Q (F0 m (pc + 7) ls (.ref H.size :: rest))) :
    W p l e R s m args below meth c H locs cells slots Q (F0 m pc ls rest) := by
  intro T hT X
  subst hT
  have htr : e.platform.stackTraces = false := (show e.platform.stackTraces = l.stackTraces by rw [X.admits.platform]).trans hl
  have Y := vx_rebase X (R' := { frames := R.frames, locals := R.locals, cells := 1, slots := 6 }) (Nat.le_refl _) (Nat.le_refl _) hRcells hRslots
  obtain ⟨s', hA'⟩ : ∃ z, z = (T.setVm s.vm).setFrames (.invoking m args :: below) := ⟨_, rfl⟩
  rw [← hA'] at Y
  have hvm : s'.vm = s.vm := by rw [hA']; rfl
  have hhp : s'.heap = T.heap := by rw [hA']; rfl
  have hW0 : s.WarmedH s'.vm := by rw [hvm]; exact State.WarmedH.refl s
  have hat' : ∀ w ∈ vx_at0 own ic cls names, w.before args s' = true := fun w hw => vx_ot_at hW0 hvm.symm (hgood w (List.mem_cons_of_mem _ (List.mem_cons_of_mem _ hw))) (hat w hw)
  have hk' : (Cond.classLink own ik cls).before args s' = true := vx_ot_at hW0 hvm.symm (hgood _ List.mem_cons_self) hk
  have hini' : (Cond.initialized cls).before args s' = true := vx_ot_at hW0 hvm.symm (hgood _ (List.mem_cons_of_mem _ List.mem_cons_self)) hini
  have hU' : vx_Zq Bundle.tN "UNASSIGNED_STACK" Bundle.steD A s' s'.heap := by rw [hhp]; exact vx_Zq.moved hW0.alike (hU.kept hS.2.1)
  have hN' : vx_Zq Bundle.tN "SUPPRESSED_SENTINEL" Bundle.listD A s' s'.heap := by rw [hhp]; exact vx_Zq.moved hW0.alike (hN.kept hS.2.1)
  have h : ∀ w ∈ Bundle.ownAtoms0 own ic cls names, w.before args s' = true := vx_own hat' (vx_isRefq hU'.1) (vx_isRefq hN'.1) hU'.2.word hN'.2.word
  have hown' : s'.vm.findClass own = some m.cls := by rw [hvm]; exact hown
  have hins : (Cond.instantiable cls 6).before args s' = true := h _ (by simp [Bundle.ownAtoms0])
  obtain ⟨vm₁, cX, kX, hfX, hkX, -, -, X₁, st1⟩ := Y.newCold hexec (own := own) (C := cls) (index := ik) (n := 6) hown' hk' hins hini'
    (g := F0 m pc ls rest) rfl (by rw [hb]; exact d0) (Nat.le_refl _) (Nat.le_refl _)
  generalize hT1 : (T.setVm vm₁).pushCell { cls := cX, slots := kX.instanceTypes.map defaultValue, vm := .none } = T1 at X₁ st1
  have hcat : (Value.ref T.heap.size).category = 1 := rfl
  have hcellA : T1.heap[T.heap.size]? = some (freshCell cX kX) := by rw [← hT1]; exact State.heap_pushCell_size _ _
  have d3' : decode c.code (pc + 3) = .ok (.dup, 1) := by rw [hb]; exact d3
  obtain ⟨V, ce, L, Z, hL, hlt, hcl9, hvm9, st⟩ := vx_ctorMade0 X₁ hexec htr (own := own) (cls := cls) (names := names) (ic := ic) hown' hcls hnames h (fun x hx => nomatch hx) hfX hkX hcellA (by rw [hhp]; exact Nat.le_refl _)
    (g := { method := m, pc := pc + 4, locals := ls, stack := .ref T.heap.size :: .ref T.heap.size :: rest, locked := none }) rfl hsize (rest := rest) rfl
    (by rw [hb]; exact d4) hRframes (by simp only [List.map_cons, List.sum_cons, hcat]; omega)
  have Z0 := Stand.forget (locs := []) Z (fun y hy => by rw [hL y hy, hhp]; exact Nat.le_refl _)
  obtain ⟨f1, f2⟩ := vx_frame Z0.same
  rw [hhp] at f1 f2
  have hcid : s.vm.findClass cls = some ce.cls := by
    rw [hcl9, ← hvm]
    exact hfX
  have hh : (V.setCell T.heap.size ce).heap[T.heap.size]? = some ce := heapAt_setCell_self (s := V) ce hlt
  subst hA'
  have X5 := vx_back9 X Y Z0
  have X6 : Stand p l e R s m args below meth c (V.setCell T.heap.size ce) locs (cells + 1) (slots + 6) := { X5 with same := X5.same.mono (by omega) (by omega) }
  obtain ⟨t, a1, b1⟩ := kk (V.setCell T.heap.size ce).heap ce hh hvm9 hcid f1 (fun q hq => f2 q hq (fun z hz => nomatch hz)) ⟨Nat.le_trans hS.1 f1, fun q h1 h2 => (f2 q (Nat.lt_of_lt_of_le h1 hS.1) (fun z hz => nomatch hz)).trans (hS.2.1 q h1 h2), hS.2.2⟩ _ rfl X6
  refine ⟨t, st1 _ ?_, b1⟩
  show Steps p.tables e below (T1.setTop { method := m, pc := pc + 3, locals := ls, stack := .ref T.heap.size :: rest, locked := none }) _
  jvm_step X₁.here [X₁.here.top, hexec, d3', Value.category]
  exact st _ a1
end ZMK
section ZROWS14
variable {G : zG} {M : zM} {d C Sl pc idx n ci : Nat} {lv st : List Value} {I : zI} {L : zL} {P : zR} {S : zT} {Q : zQ}
/-- super.m(..) -/
theorem zCal_P {cc : ByteArray} {y : MethodName} {mL : Nat} {ret : Option FieldType} {CR : String} (hc : Cond.code y cc mL ret ∈ lw_all) (hini : Cond.initialized y.cls ∈ lw_all) (hl : Cond.methodLink M.1.cls idx y ∈ lw_all) (hsm : Cond.sameMethod y.cls y.cls y.name y.desc ∈ lw_all) (hsup : Cond.superclass M.1.cls y.cls ∈ lw_all) (hin : Cond.instanceMethod y ∈ lw_all) (hno : y.name ≠ "<init>") (hn : zNm (y, cc, mL, ret, none) n) (hm : mL ≤ 40) (hd : decode M.2.1 pc = .ok (.invokespecial idx, 3)) : zCal G M (y, cc, mL, ret, none) CR pc 3 n := by
  intro p e R s m args below meth c H locs cells slots d' C' S' ls Pc Qc XC As rest b F E hf hlo hM hp hln hsz hcat hc1 hc2 hat
  have hts := F.2.2.2.2.1
  obtain ⟨kC, hat⟩ := hat
  have hz := zrm_le (C' := C') (S' := S') hf hlo hm
  refine vx_runSU (As := As) hat ⟨F.1, F.2.1, F.2.2.1, F.2.2.2.1, F.2.2.2.2.1⟩ hM ⟨⟨rfl, rfl, hz.1, hz.2, pay_in hts (lw_meth hc), List.mem_cons_self⟩, hts _ hl, hts _ hsm, hts _ hsup, hts _ hin, hts _ hini, hts _ hc, hno, fun sig h => ?_⟩ hp rfl hln hsz rfl (lv_room hcat) hd ⟨hc1, hc2⟩
  have h2 := hn.2.2
  show n = _
  have h3 : (parseMethodDescriptor y.desc).map (fun d => d.parameters.length) = some n := h2
  rw [h] at h3
  exact (Option.some.inj h3).symm
theorem zlv_drop {ad : Nat → Nat} {i nL : Nat} {v9 : Value} {ls' : Array Slot} (hl : lv.length = nL) (hok : zok lv i = true)
    (h : lv_has ls' nL ((i, v9) :: (zal ad 0 lv).filter (fun q => !(q.1 == i) && !(q.1 + 1 == i && q.2.category == 2)))) : zlv ad ls' nL (lv.set i (.retAddr 0)) := by
  refine ⟨by rw [List.length_set]; exact hl, h.1, h.2.1, fun q hq => ?_⟩
  obtain ⟨k, w, h1, h2, h3, h4⟩ := (zal_mem ad _ 0 q).mp hq
  refine h.2.2 q (List.mem_cons.mpr ?_)
  have hk : q.1 = k := by omega
  by_cases hki : k = i
  · subst hki
    have hlt : k < lv.length := by have := (List.getElem?_eq_some_iff.mp h2).1; rw [List.length_set] at this; exact this
    rw [List.getElem?_set_self hlt] at h2
    cases h2
    cases h3
  · rw [List.getElem?_set_ne (Ne.symm hki)] at h2
    refine Or.inr (List.mem_filter.mpr ⟨(zal_mem ad lv 0 q).mpr ⟨k, w, h1, h2, h3, h4⟩, ?_⟩)
    rw [hk, h4, zcv_cat]
    by_cases hk1 : k + 1 = i
    · subst hk1
      have := zok_cat hok h2
      simp [this]
    · simp [hki, hk1]
/-- it leaves the method -/
theorem Zx_out {ok : Option Nat} (hc : ∀ x ∈ zTab M, covers x pc = false) (k : Q (.inr (ci, ok)) I L P S) : Zx G M d C Sl pc lv I L P S Q ci ok := by
  intro p e R s m args below meth c H locs cells slots Kc Ks QQ ad ls X q ce rest hex
  obtain ⟨F, E, Rp, hS, hl, hwl, hws, hd9, hcc, eR, eX⟩ := X
  exact eX ci ok I L P S H locs ad ls cells slots pc rest q ce k Rp zExt.rf hS hex (by omega) (by omega) hc hl.2.1
/-- it is caught -/
theorem Zx_catch {x : ExceptionTableEntry} {nm E : String} {a N : Nat} {T : u_T} (ht : zTab M = [x]) (hc : covers x pc = true) (h0 : x.catchType ≠ 0) (hl : Cond.classLink M.1.cls x.catchType nm ∈ lw_all) (hE : zCl[ci]? = some (E, T, N)) (hcast : Cond.castable E nm ∈ lw_tbl) (k : Zj G M d C Sl x.handlerPc lv [.ref a] I L P S Q) : Zx G M d C Sl pc lv I L P S Q ci (some a) := by
  intro p e R s m args below meth c H locs cells slots Kc Ks QQ ad ls X q ce rest hex
  obtain ⟨h1, ⟨r, hr1, hr2⟩, h3, h4⟩ := hex
  obtain ⟨e1, e2⟩ := h1 a rfl
  subst e1
  rw [hE] at hr1
  cases hr1
  exact vx_catch X.1.2.2.2.1 [] x [] (by rw [X.1.2.2.2.2.2.2.2.2]; exact ht) (fun z hz => nomatch hz) hc h0 (X.1.2.2.2.2.1 _ hl) (va_Nw.use rfl (X.2.1.2.1 _ hcast rfl)) h3 h4 hr2 (k p e R s m args below meth c H locs cells slots Kc Ks QQ ad ls (X.toS (zwf_cons.mpr ⟨by show S a ≠ none; rw [e2]; simp, fun v hv => nomatch hv⟩)))
/-- it is caught and put away -/
theorem Zx_catchN {x : ExceptionTableEntry} {nm E : String} {i N : Nat} {T : u_T} {ok : Option Nat} (ht : zTab M = [x]) (hc : covers x pc = true) (h0 : x.catchType ≠ 0) (hl : Cond.classLink M.1.cls x.catchType nm ∈ lw_all) (hE : zCl[ci]? = some (E, T, N)) (hcast : Cond.castable E nm ∈ lw_tbl) (hd : decode M.2.1 x.handlerPc = .ok (.astore i, 2)) (hi : i < lv.length) (hok : zok lv i = true) (k : Zj G M d C Sl (x.handlerPc + 2) (lv.set i (.retAddr 0)) [] I L P S Q) : Zx G M d C Sl pc lv I L P S Q ci ok := by
  intro p e R s m args below meth c H locs cells slots Kc Ks QQ ad ls X q ce rest hex
  obtain ⟨h1, ⟨r, hr1, hr2⟩, h3, h4⟩ := hex
  rw [hE] at hr1
  cases hr1
  have hlen := X.2.2.2.2.1.1
  refine vx_catch X.1.2.2.2.1 [] x [] (by rw [X.1.2.2.2.2.2.2.2.2]; exact ht) (fun z hz => nomatch hz) hc h0 (X.1.2.2.2.2.1 _ hl) (va_Nw.use rfl (X.2.1.2.1 _ hcast rfl)) h3 h4 hr2 ?_
  exact lv_astore X.1.1 X.1.2.1 hd X.2.2.2.2.1.2 (by omega) rfl (fun ls' hl' => k p e R s m args below meth c H locs cells slots Kc Ks QQ ad ls' (X.toL (zlv_drop hlen hok hl') (zwf_set X.2.2.2.2.2.1 trivial) (fun v hv => nomatch hv)))
theorem Zx_catchN1 {x : ExceptionTableEntry} {nm E : String} {j : Fin 4} {N : Nat} {T : u_T} {ok : Option Nat} (ht : zTab M = [x]) (hc : covers x pc = true) (h0 : x.catchType ≠ 0) (hl : Cond.classLink M.1.cls x.catchType nm ∈ lw_all) (hE : zCl[ci]? = some (E, T, N)) (hcast : Cond.castable E nm ∈ lw_tbl) (hd : decode M.2.1 x.handlerPc = .ok (.astore_n j, 1)) (hi : (j : Nat) < lv.length) (hok : zok lv j = true) (k : Zj G M d C Sl (x.handlerPc + 1) (lv.set j (.retAddr 0)) [] I L P S Q) : Zx G M d C Sl pc lv I L P S Q ci ok := by
  intro p e R s m args below meth c H locs cells slots Kc Ks QQ ad ls X q ce rest hex
  obtain ⟨h1, ⟨r, hr1, hr2⟩, h3, h4⟩ := hex
  rw [hE] at hr1
  cases hr1
  have hlen := X.2.2.2.2.1.1
  refine vx_catch X.1.2.2.2.1 [] x [] (by rw [X.1.2.2.2.2.2.2.2.2]; exact ht) (fun z hz => nomatch hz) hc h0 (X.1.2.2.2.2.1 _ hl) (va_Nw.use rfl (X.2.1.2.1 _ hcast rfl)) h3 h4 hr2 ?_
  exact lv_astore_n X.1.1 X.1.2.1 hd rfl X.2.2.2.2.1.2 (by omega) rfl (fun ls' hl' => k p e R s m args below meth c H locs cells slots Kc Ks QQ ad ls' (X.toL (zlv_drop hlen hok hl') (zwf_set X.2.2.2.2.2.1 trivial) (fun v hv => nomatch hv)))
/-- 'throw x' -/
theorem Z_athrow {a : Nat} (hS : S a = some (.inl ci)) {E : String} {T : u_T} {N : Nat} (hk : zKl ci E T N) (hd : decode M.2.1 pc = .ok (.athrow, 1)) (k : Zx G M d C Sl pc lv I L P S Q ci (some a)) : Zj G M d C Sl pc lv (.ref a :: st) I L P S Q := by
  intro p e R s m args below meth c H locs cells slots Kc Ks QQ ad ls X
  obtain ⟨cell, q1, q2, q3, -⟩ := (X.2.2.1.1 a).obj hS hk
  have hcls := (X.2.1.1.1 ci _ hk.1).2
  refine vx_athrow X.1.1 X.1.2.1 hd ?_
  exact k p e R s m args below meth c H locs cells slots Kc Ks QQ ad ls (X.toS (fun v hv => nomatch hv)) (ad a) cell (st.map (zcv ad)) ⟨fun k2 h2 => by cases h2; exact ⟨rfl, hS⟩, ⟨_, hk.1, by rw [q2]; exact hcls.1⟩, q1, q3⟩
theorem zRep.ext {ad : Nat → Nat} {H H1 : Heap} (h : zRep G ad I L P S H) (hq : ∀ q : Nat, q < H.size → H1[q]? = H[q]?) : zRep G ad I L P S H1 := ⟨fun b => (h.1 b).kept rfl rfl rfl rfl rfl (fun _ _ _ => rfl) (fun hm => hq _ ((h.1 b).lt hm)), h.2.1, h.2.2.1, h.2.2.2⟩
/-- a row of a negative length -/
theorem Z_newaX {atype : ArrayType} {i : Int32} (hi : i < 0) (hd : decode M.2.1 pc = .ok (.newarray atype, 2)) (hcat : (st.map fun v => v.category).sum ≤ 8) (k : Zx G M (d + 200) C Sl pc lv I L P S Q 17 none) : Zj G M (d + 200) (C + 3) (Sl + 54) pc lv (.int i :: st) I L P S Q := by
  intro p e R s m args below meth c H locs cells slots Kc Ks QQ ad ls X
  have hts := X.1.2.2.2.2.1
  have hrm := X.2.2.2.2.2.2.2.1
  have hbg := X.2.2.2.2.2.2.2.2.1
  have hC := X.2.1.2.2.2.1
  have hS := X.2.2.2.1
  have hO := X.2.1.2.2.2.2.1
  have hcat2 : ((st.map (zcv ad)).map fun v => v.category).sum ≤ 8 := by rw [zcvs_cat]; exact hcat
  have kp : ∀ a : Nat, a < G.2.1.2.size → ¬ zA G a → s.heap[a]? = G.2.1.2[a]? := fun a _ ha => hO.2 a (Nat.not_le.mp ha)
  refine vx_newarrayZ X.1.1 X.1.2.1 hi hd (fun tx htx => ?_)
  subst htx
  refine vx_vm (cls := "java/lang/NegativeArraySizeException") (names := ["java/lang/RuntimeException", "java/lang/Exception"]) (nb := 44) (A := zA G) X.1.1 X.2.1.2.2.2.2.2.1 (by decide +kernel) (by decide +kernel) (by decide +kernel) (by decide +kernel)
    (fun w hw => (z_atM w hw).elim (fun h => hts w h) (fun h => va_Nw.use h.2.2 (X.2.1.2.1 w h.1 h.2.1))) z_atM_g (hC.1.kept kp) (hC.2.1.kept kp) hS (X.2.2.2.2.1.2.1.trans X.1.2.2.1.symm) (negative_text_modelled hi) (negative_text_bytes i) (by decide) (by show 2 + 4 < R.frames; omega) (by omega) (by decide) (by omega) (by omega) X.1.2.2.2.2.2.2.1 ?_
  intro H1 q9 ce f1 f2 f3 f4 f5 f6
  exact k p e R s m args below meth c H1 locs (cells + 3) (slots + 54) Kc Ks QQ ad ls (X.toN (X.2.2.1.ext f2) zExt.rf f1 f2 (fun v hv => nomatch hv)) q9 ce (st.map (zcv ad)) ⟨fun k2 h2 => (by cases h2), ⟨_, rfl, f6⟩, f4, f5⟩
theorem Z_throwNS (hM : M.1.cls = "FollowTheSun") (d0 : decode M.2.1 pc = .ok (.new 215, 3)) (d3 : decode M.2.1 (pc + 3) = .ok (.dup, 1)) (d4 : decode M.2.1 (pc + 4) = .ok (.invokespecial 217, 3)) (d7 : decode M.2.1 (pc + 7) = .ok (.athrow, 1)) (hcat : (st.map fun v => v.category).sum ≤ 8) (k : Zx G M (d + 6) C Sl (pc + 7) lv I L P S Q 16 none) : Zj G M (d + 6) (C + 1) (Sl + 6) pc lv st I L P S Q := by
  intro p e R s m args below meth c H locs cells slots Kc Ks QQ ad ls X
  have hts := X.1.2.2.2.2.1
  have hrm := X.2.2.2.2.2.2.2.1
  have hbg := X.2.2.2.2.2.2.2.2.1
  have hC := X.2.1.2.2.2.1
  have hS := X.2.2.2.1
  have hO := X.2.1.2.2.2.2.1
  have hcat2 : ((st.map (zcv ad)).map fun v => v.category).sum ≤ 8 := by rw [zcvs_cat]; exact hcat
  have kp : ∀ a : Nat, a < G.2.1.2.size → ¬ zA G a → s.heap[a]? = G.2.1.2[a]? := fun a _ ha => hO.2 a (Nat.not_le.mp ha)
  refine vx_make0Z (own := "FollowTheSun") (cls := "java/util/NoSuchElementException") (names := ["java/lang/RuntimeException", "java/lang/Exception"]) (ik := 215) (ic := 217) (A := zA G) X.1.1 X.1.2.1 X.2.1.2.2.2.2.2.1 (by rw [← hM]; exact X.1.2.2.2.1) (by decide +kernel) (by decide +kernel) (hts _ q1196) (hts _ q106)
    (fun w hw => (z_at0 w hw).elim (fun h => hts w h) (fun h => va_Nw.use h.2.2 (X.2.1.2.1 w h.1 h.2.1))) (fun w hw => by
      rcases List.mem_cons.mp hw with rfl | hw
      · rfl
      · rcases List.mem_cons.mp hw with rfl | hw
        · rfl
        · exact z_at0_g w hw) (hC.1.kept kp) (hC.2.1.kept kp) hS (X.2.2.2.2.1.2.1.trans X.1.2.2.1.symm) d0 d3 d4 (by show 2 + 3 < R.frames; omega) (by show _ + (13 * (2 + 1) + 42) ≤ _; omega) (by omega) (by omega) ?_
  intro H1 ce f1 f2 f3 f4 f5 f6
  refine vx_athrow X.1.1 X.1.2.1 d7 ?_
  exact k p e R s m args below meth c H1 locs (cells + 1) (slots + 6) Kc Ks QQ ad ls (X.toN (X.2.2.1.ext f5) zExt.rf f4 f5 (fun v hv => nomatch hv)) H.size ce (st.map (zcv ad)) ⟨fun k2 h2 => (by cases h2), ⟨_, rfl, f3⟩, f1, f2⟩
end ZROWS14
