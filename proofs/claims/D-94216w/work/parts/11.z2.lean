set_option maxRecDepth 100000
/-! Z, part 2: what holds all through the run (zEnv); the judgement Zj; its rows for what touches no cell -/
def zLen : List Nat := [2, 12, 1, 1, 1, 1, 3, 2, 1]
def zByt : List (List Int32) := [[33, 45], [107, 108, 111, 119, 114, 99, 115, 98, 113, 112, 102, 110], [40], [41], [124], [38], [60, 62, 61], [43, 45], [42]]
def zTxI : List Nat := [225, 209, 215, 223, 233, 235, 237, 239, 241]
def zTxT : List String := ["!-", "klowrcsbqpfn", "(", ")", "|", "&", "<>=", "+-", "*"]
def zA (G : zG) : Nat → Prop := fun q => G.2.1.1 ≤ q
/-- words that a launch keeps, beside the good ones -/
def zstab : Cond → Bool
  | .fieldLinkNest .. => true
  | .methodLinkNest .. => true
  | .declares _ => true
  | .castable .. => true
  | .publicMethod _ => true
  | .unhidden .. => true
  | .arrayOver _ => true
  | _ => false
theorem z_AOm {ty : FieldType} {u U : State} (hvm : u.vm.Alike U.vm) (h : va_Nw (.arrayOver ty) u) : va_Nw (.arrayOver ty) U := by
  cases ty with
  | object n => exact va_AO.moved hvm h
  | array t =>
    have h0 := h
    unfold va_Nw Cond.before Cond.holds at h
    simp only [Cond.value, beq_iff_eq] at h
    cases hc : u.vm.findClass (FieldType.array t).toString with
    | none => simp [hc] at h
    | some comp =>
      simp only [hc, Option.bind_some, Option.bind_eq_some_iff, Option.map_eq_some_iff] at h
      obtain ⟨c, h2, k, h3, hb⟩ := h
      obtain ⟨k', hk', he⟩ := hvm.2.2 _ _ h3
      have hi : (U.vm.classes.findIdx? fun (x : Class) => match x.kind with | .array component _ => component == comp | _ => false) = some c := by
        have e1 := va_idx_bare U.vm comp
        have e2 := va_idx_bare u.vm comp
        have e : U.vm.bare = u.vm.bare := by first | exact hvm.bare_eq | exact hvm.bare_eq.symm
        rw [e] at e1
        exact (e1.symm.trans e2).trans h2
      have hkind : k'.kind = k.kind := by rw [he]
      have f1 : U.vm.findClass (FieldType.array t).toString = some comp := by rw [hvm.findClass]; exact hc
      have f2 : U.vm.findClass ("[" ++ (FieldType.array t).toString) = u.vm.findClass ("[" ++ (FieldType.array t).toString) := by rw [hvm.findClass]
      unfold va_Nw Cond.before Cond.holds
      simp only [Cond.value]
      rw [f1, Option.bind_some]
      refine (congrArg (fun o : Option Nat => (o.bind (fun c => (U.vm.classes[c]?).map fun (k : Class) => match k.kind with | .array _ ty => decide (ty = FieldType.array t) && decide (U.vm.findClass ("[" ++ (FieldType.array t).toString) = some c) | _ => false) == some true)) hi).trans ?_
      simp only [Option.bind_some, hk', Option.map_some, hkind, f2]
      rw [beq_iff_eq]
      exact congrArg some hb
  | _ =>
    unfold va_Nw Cond.before Cond.holds at h
    simp [Cond.value] at h
theorem zstab_warm {w : Cond} {s U : State} (hs : zstab w = true) (hW : s.WarmedH U.vm) (h : va_Nw w s) : va_Nw w U := by
  have tr : ∀ {c : Cond}, c.onTables = true → c.before #[] (s.setVm U.vm) = true → c.before #[] U = true := fun hc h => va_tabs hc (rfl : (s.setVm U.vm).vm = U.vm) h
  cases w <;> first
    | (simp [zstab] at hs; done)
    | exact va_Nw.warmF hW h
    | exact va_Nw.warmM hW h
    | exact va_Nw.warmD hW h
    | exact va_Nw.warmC hW h
    | exact tr rfl (by rw [Cond.publicMethod_setVm hW.alike]; exact h)
    | exact tr rfl (by rw [Cond.unhidden_setVm hW.alike]; exact h)
    | exact z_AOm hW.alike h
/-- the interface's two entries -/
def zIf (n : String) (U : State) : Prop := va_Nw (.declares ⟨"FollowTheSun$Node", n, "(LFollowTheSun$Case;)I"⟩) U ∧ va_Nw (.interfaceMethod "FollowTheSun$Node" "FollowTheSun$Node" n "(LFollowTheSun$Case;)I") U
theorem zIf.warm {n : String} {s U : State} (hW : s.WarmedH U.vm) (h : zIf n s) : zIf n U := by
  have tr : ∀ {c : Cond}, c.onTables = true → c.before #[] (s.setVm U.vm) = true → c.before #[] U = true := fun hc h => va_tabs hc (rfl : (s.setVm U.vm).vm = U.vm) h
  obtain ⟨r, meth, hn, -⟩ := Cond.declares_spec h.1
  exact ⟨va_Nw.warmD hW h.1, tr rfl (by rw [Cond.interfaceMethod_setVm hW.alike (r := r) hn (by decide +kernel)]; exact h.2)⟩
/-- valueOf is the interface's own, for each class of the rule's nodes -/
def zVo : MethodName := ⟨"FollowTheSun$Node", "valueOf", "(LFollowTheSun$Case;)I"⟩
def zLdC : List String := ["FollowTheSun$Joined", "FollowTheSun$Less", "FollowTheSun$Not", "FollowTheSun$Number", "FollowTheSun$Sign"]
/-- arrays of small numbers are not each other's kind -/
def zNc (U : State) : Prop := va_Nc "[S" "[B" U ∧ va_Nc "[I" "[B" U ∧ va_Nc "[I" "[S" U
def zLd (U : State) : Prop := (∀ C ∈ zLdC, (Cond.landsInDefault C zVo zVo).before #[] U = true) ∧ zNc U
theorem zLd.warm {s U : State} (hW : s.WarmedH U.vm) (hi : zIf "valueOf" s) (h : zLd s) : zLd U := by
  refine ⟨?_, h.2.1.moved hW.alike, h.2.2.1.moved hW.alike, h.2.2.2.moved hW.alike⟩
  intro C hC
  obtain ⟨r, meth, hn, -⟩ := Cond.declares_spec hi.1
  have h1 : (Cond.landsInDefault C zVo zVo).before #[] (s.setVm U.vm) = true := by
    rw [Cond.landsInDefault_setVm (args := #[]) hW.alike (State.methodFound?_setVm_of_named hW.alike (x := zVo) hn (by decide +kernel))]
    exact h.1 C hC
  exact h1
/-- what lies below the run's own cells -/
def zCst (G : zG) (U : State) : Prop :=
  vx_Zq Bundle.tN "UNASSIGNED_STACK" Bundle.steD (zA G) U G.2.1.2 ∧ vx_Zq Bundle.tN "SUPPRESSED_SENTINEL" Bundle.listD (zA G) U G.2.1.2 ∧
  va_Z "java/lang/String" "COMPACT_STRINGS" "Z" (.int 1) (zA G) U G.2.1.2 ∧ (va_Z "jdk/internal/util/Preconditions" "SIOOBE_FORMATTER" "Ljava/util/function/BiFunction;" .null (zA G) U G.2.1.2 ∨ va_Z "jdk/internal/util/Preconditions" "SIOOBE_FORMATTER" "Ljava/util/function/BiFunction;" (.ref (G.2.2.1 200)) (zA G) U G.2.1.2) ∧
  vk_S 9 zLen zByt G.2.2.1 (fun i => G.2.2.1 (100 + i)) (zA G) U G.2.1.2 ∧ (∀ i, i < 9 → vk_R "FollowTheSunModel" (zTxI.getD i 0) (zTxT.getD i "") (G.2.2.1 i) U) ∧
  va_T .int (G.2.2.1 300) (G.2.2.2 0) (fun j => .int (Int32.ofNat (G.2.2.2 (j + 1)))) (zA G) U G.2.1.2
theorem zCst.warm {G : zG} {s U : State} (hW : s.WarmedH U.vm) (h : zCst G s) : zCst G U := by
  obtain ⟨h1, h2, h3, h4, h5, h6, h7⟩ := h
  exact ⟨h1.moved hW.alike, h2.moved hW.alike, h3.moved hW.alike, h4.imp (va_Z.moved hW.alike) (va_Z.moved hW.alike), h5.moved hW.alike, fun i hi => (h6 i hi).warm hW, h7.moved hW.alike⟩
def zOld (G : zG) (H : Heap) : Prop := G.2.1.1 ≤ H.size ∧ ∀ q, q < G.2.1.1 → H[q]? = G.2.1.2[q]?
def zEnv (G : zG) (U : State) : Prop :=
  va_K G.1.2.1 zCl (zTys.map fun ty => (G.1.2.2 ty, ty)) U ∧ (∀ w ∈ lw_tbl, zstab w = true → va_Nw w U) ∧ (zIf "value" U ∧ zIf "valueOf" U ∧ zLd U) ∧ zCst G U ∧ zOld G U.heap ∧ G.1.1.stackTraces = false ∧ G.2.1.1 ≤ G.2.1.2.size
theorem zEnv.warm {G : zG} {s U : State} (hW : s.WarmedH U.vm) (h : zEnv G s) (ho : zOld G U.heap) : zEnv G U := by
  obtain ⟨h1, h2, h3, h4, -, h6, h7⟩ := h
  exact ⟨va_K.moved hW.alike h1, fun w hw hs => zstab_warm hs hW (h2 w hw hs), ⟨h3.1.warm hW, h3.2.1.warm hW, h3.2.2.warm hW h3.2.1⟩, h4.warm hW, ho, h6, h7⟩
theorem zOld.S {G : zG} {H0 H : Heap} {locs : List Loc} (h : zOld G H0) (hS : va_S (zA G) H0 H locs) : zOld G H := ⟨Nat.le_trans h.1 hS.1, fun q hq => by rw [hS.2.1 q (Nat.lt_of_lt_of_le hq h.1) (Nat.not_le.mpr hq)]; exact h.2 q hq⟩
theorem zA_new {G : zG} {H0 : Heap} (h : zOld G H0) : ∀ q, H0.size ≤ q → zA G q := fun _ hq => Nat.le_trans h.1 hq
/-! locals -/
def zis (v : Value) : Bool := match v with
  | .retAddr _ => false
  | _ => true
def zal (ad : Nat → Nat) : Nat → List Value → List (Nat × Value)
  | _, [] => []
  | i, v :: l => if zis v = true then (i, zcv ad v) :: zal ad (i + 1) l else zal ad (i + 1) l
theorem zal_mem (ad : Nat → Nat) : ∀ (l : List Value) (i : Nat) (q : Nat × Value), q ∈ zal ad i l ↔ ∃ k v, q.1 = i + k ∧ l[k]? = some v ∧ zis v = true ∧ q.2 = zcv ad v := by
  intro l
  induction l with
  | nil => intro i q; simp [zal]
  | cons v l ih =>
    intro i q
    unfold zal
    constructor
    · intro h
      split at h
      · next hz =>
        rcases List.mem_cons.mp h with rfl | h
        · exact ⟨0, v, rfl, rfl, hz, rfl⟩
        · obtain ⟨k, w, h1, h2, h3, h4⟩ := (ih (i + 1) q).mp h
          exact ⟨k + 1, w, by omega, h2, h3, h4⟩
      · obtain ⟨k, w, h1, h2, h3, h4⟩ := (ih (i + 1) q).mp h
        exact ⟨k + 1, w, by omega, h2, h3, h4⟩
    · rintro ⟨k, w, h1, h2, h3, h4⟩
      cases k with
      | zero =>
        simp only [List.getElem?_cons_zero, Option.some.injEq] at h2
        subst h2
        rw [if_pos h3]
        exact List.mem_cons.mpr (Or.inl (Prod.ext h1 h4))
      | succ k =>
        have h5 : q ∈ zal ad (i + 1) l := (ih (i + 1) q).mpr ⟨k, w, by omega, by simpa using h2, h3, h4⟩
        split
        · exact List.mem_cons_of_mem _ h5
        · exact h5
def zlv (ad : Nat → Nat) (ls : Array Slot) (nL : Nat) (lv : List Value) : Prop := lv.length = nL ∧ lv_has ls nL (zal ad 0 lv)
theorem zlv.at {ad : Nat → Nat} {ls : Array Slot} {nL : Nat} {lv : List Value} (h : zlv ad ls nL lv) {i : Nat} {v : Value} (hi : lv[i]? = some v) (hv : zis v = true) : ls[i]? = some (.val (zcv ad v)) :=
  h.2.2.2 (i, zcv ad v) ((zal_mem ad lv 0 _).mpr ⟨i, v, by simp, hi, hv, rfl⟩)
theorem zlv.ext {S S' : zT} {ad ad' : Nat → Nat} {ls : Array Slot} {nL : Nat} {lv : List Value} (h : zlv ad ls nL lv) (hx : zExt S ad S' ad') (hw : ∀ v ∈ lv, zwf S v) : zlv ad' ls nL lv := by
  refine ⟨h.1, h.2.1, h.2.2.1, fun q hq => ?_⟩
  obtain ⟨k, v, h1, h2, h3, h4⟩ := (zal_mem ad' lv 0 q).mp hq
  have h5 := h.at h2 h3
  rw [h1, h4, hx.cv (hw v (List.mem_of_getElem? h2))]
  simpa using h5
def zok (lv : List Value) (i : Nat) : Bool := match i with
  | 0 => true
  | j + 1 => match lv[j]? with
    | some (.long _) => false
    | some (.double _) => false
    | _ => true
theorem zok_cat {lv : List Value} {j : Nat} {v : Value} (h : zok lv (j + 1) = true) (hv : lv[j]? = some v) : v.category = 1 := by
  unfold zok at h
  simp only [hv] at h
  cases v <;> first | rfl | simp at h
theorem zlv_set1 {ad : Nat → Nat} {lv : List Value} {i nL : Nat} {v : Value} {ls' : Array Slot} (hl : lv.length = nL) (hi : i < nL) (hz : zis v = true) (hok : zok lv i = true)
    (h : lv_has ls' nL ((i, zcv ad v) :: (zal ad 0 lv).filter (fun q => !(q.1 == i) && !(q.1 + 1 == i && q.2.category == 2)))) : zlv ad ls' nL (lv.set i v) := by
  refine ⟨by rw [List.length_set]; exact hl, h.1, h.2.1, fun q hq => ?_⟩
  obtain ⟨k, w, h1, h2, h3, h4⟩ := (zal_mem ad _ 0 q).mp hq
  refine h.2.2 q (List.mem_cons.mpr ?_)
  have hk : q.1 = k := by omega
  by_cases hki : k = i
  · subst hki
    rw [List.getElem?_set_self (by omega)] at h2
    cases h2
    exact Or.inl (Prod.ext hk h4)
  · rw [List.getElem?_set_ne (Ne.symm hki)] at h2
    refine Or.inr (List.mem_filter.mpr ⟨(zal_mem ad lv 0 q).mpr ⟨k, w, h1, h2, h3, h4⟩, ?_⟩)
    rw [hk, h4, zcv_cat]
    by_cases hk1 : k + 1 = i
    · subst hk1
      have := zok_cat hok h2
      simp [this]
    · simp [hki, hk1]
theorem zlv_set2 {ad : Nat → Nat} {lv : List Value} {i nL : Nat} {x : Int64} {ls' : Array Slot} (hl : lv.length = nL) (hi : i + 1 < nL) (hok : zok lv i = true)
    (h : lv_has ls' nL ((i, Value.long x) :: (zal ad 0 lv).filter (fun q => !(q.1 == i) && (!(q.1 == i + 1) && !(q.1 + 1 == i && q.2.category == 2))))) : zlv ad ls' nL ((lv.set i (.long x)).set (i + 1) (.retAddr 0)) := by
  refine ⟨by rw [List.length_set, List.length_set]; exact hl, h.1, h.2.1, fun q hq => ?_⟩
  obtain ⟨k, w, h1, h2, h3, h4⟩ := (zal_mem ad _ 0 q).mp hq
  refine h.2.2 q (List.mem_cons.mpr ?_)
  have hk : q.1 = k := by omega
  by_cases hki : k = i + 1
  · subst hki
    rw [List.getElem?_set_self (by rw [List.length_set]; omega)] at h2
    cases h2
    cases h3
  · rw [List.getElem?_set_ne (Ne.symm hki)] at h2
    by_cases hki2 : k = i
    · subst hki2
      rw [List.getElem?_set_self (by omega)] at h2
      cases h2
      exact Or.inl (Prod.ext hk h4)
    · rw [List.getElem?_set_ne (Ne.symm hki2)] at h2
      refine Or.inr (List.mem_filter.mpr ⟨(zal_mem ad lv 0 q).mpr ⟨k, w, h1, h2, h3, h4⟩, ?_⟩)
      rw [hk, h4, zcv_cat]
      by_cases hk1 : k + 1 = i
      · subst hk1
        have := zok_cat hok h2
        simp [this]
        omega
      · simp [hki, hki2, hk1]
/-- the locals at a method's entry -/
def zent : List Value → List Value
  | [] => []
  | v :: l => match v with
    | .long x => .long x :: .retAddr 0 :: zent l
    | .double x => .double x :: .retAddr 0 :: zent l
    | v => v :: zent l
def zpad (n : Nat) (l : List Value) : List Value := l ++ List.replicate (n - l.length) (.retAddr 0)
theorem zent_args (ad : Nat → Nat) : ∀ (l : List Value) (i : Nat), ∀ q ∈ zal ad i (zent l), q ∈ lv_args i (l.map (zcv ad)) := by
  intro l
  induction l with
  | nil => intro i q h; simp [zent, zal] at h
  | cons v l ih =>
    intro i q h
    have two : ∀ w : Value, zis w = true → w.category = 2 → q ∈ zal ad i (w :: .retAddr 0 :: zent l) → q ∈ lv_args i (zcv ad w :: l.map (zcv ad)) := by
      intro w hz hc hq
      unfold zal at hq
      rw [if_pos hz] at hq
      unfold lv_args
      rw [zcv_cat, if_pos hc]
      rcases List.mem_cons.mp hq with e | hq
      · exact List.mem_cons.mpr (Or.inl e)
      · unfold zal at hq
        simp only [zis, Bool.false_eq_true, if_false] at hq
        exact List.mem_cons_of_mem _ (ih _ q hq)
    have one : ∀ w : Value, w.category = 1 → q ∈ zal ad i (w :: zent l) → q ∈ lv_args i (zcv ad w :: l.map (zcv ad)) := by
      intro w hc hq
      unfold zal at hq
      unfold lv_args
      rw [zcv_cat, if_neg (by omega)]
      split at hq
      · rcases List.mem_cons.mp hq with e | hq
        · exact List.mem_cons.mpr (Or.inl e)
        · exact List.mem_cons_of_mem _ (ih _ q hq)
      · exact List.mem_cons_of_mem _ (ih _ q hq)
    cases v with
    | long x => exact two _ rfl rfl h
    | double x => exact two _ rfl rfl h
    | _ => exact one _ rfl h
theorem zal_pad (ad : Nat → Nat) (l : List Value) (n : Nat) : ∀ q ∈ zal ad 0 (zpad n l), q ∈ zal ad 0 l := by
  intro q hq
  obtain ⟨k, v, h1, h2, h3, h4⟩ := (zal_mem ad _ 0 q).mp hq
  refine (zal_mem ad l 0 q).mpr ⟨k, v, h1, ?_, h3, h4⟩
  unfold zpad at h2
  by_cases hk : k < l.length
  · rw [List.getElem?_append_left hk] at h2; exact h2
  · rw [List.getElem?_append_right (by omega), List.getElem?_replicate] at h2
    split at h2
    · cases h2; cases h3
    · cases h2
theorem zlv_entry {ad : Nat → Nat} {av : List Value} {n : Nat} {ls : Array Slot} (hn : (zent av).length ≤ n) (h : lv_has ls n (lv_args 0 (av.map (zcv ad)))) : zlv ad ls n (zpad n (zent av)) := by
  refine ⟨by unfold zpad; simp; omega, h.1, h.2.1, fun q hq => ?_⟩
  exact h.2.2 q (zent_args ad av 0 q (zal_pad ad _ n q hq))
theorem lg_sl_cons (v : Value) (l : List Value) : lg_sl (v :: l) = (if v.category = 2 then [Slot.val v, .second] else [.val v]) ++ lg_sl l := by simp [lg_sl]
theorem zent_len (ad : Nat → Nat) (av : List Value) : (lg_sl (av.map (zcv ad))).length = (zent av).length := by
  induction av with
  | nil => rfl
  | cons v l ih =>
    rw [List.map_cons, lg_sl_cons, List.length_append, ih, zcv_cat]
    cases v <;> simp [zent, Value.category] <;> omega
