set_option maxRecDepth 100000
/-! Z, part 1: THE ABSTRACT MEMORY. A cell has a handle (a number of the prover's choice); ad tells the address of a handle.
 I: the ints (fields and elements of the small types too), L: the longs, P: the references, S: what a handle stands for. -/
abbrev zI : Type := Nat → Nat → Int32
abbrev zL : Type := Nat → Nat → Int64
abbrev zR : Type := Nat → Nat → Option Nat
abbrev zT : Type := Nat → Option (Nat ⊕ (FieldType × Nat))
/-- launch, classes, array classes; the law's first address and its heap; the texts' addresses -/
abbrev zG : Type := (Launch × va_G × (FieldType → ClassId)) × (Nat × Heap) × ((Nat → Nat) × (Nat → Nat))
/-- a method: name, code, locals, answer, handlers -/
abbrev zM : Type := MethodName × ByteArray × Nat × Option FieldType × Option (List (Nat × Nat × Nat × Nat))
def zu {α : Type} (f : Nat → α) (k : Nat) (v : α) : Nat → α := fun j => if j = k then v else f j
def zw {α : Type} (f : Nat → Nat → α) (a k : Nat) (v : α) : Nat → Nat → α := zu f a (zu (f a) k v)
theorem zu_s {α : Type} (f : Nat → α) (k : Nat) (v : α) : zu f k v k = v := by simp [zu]
theorem zu_n {α : Type} (f : Nat → α) (k : Nat) (v : α) {j : Nat} (h : j ≠ k) : zu f k v j = f j := by simp [zu, h]
theorem zw_s {α : Type} (f : Nat → Nat → α) (a k : Nat) (v : α) : zw f a k v a k = v := by simp [zw, zu]
theorem zw_n {α : Type} (f : Nat → Nat → α) (a k : Nat) (v : α) {b : Nat} (h : b ≠ a) : zw f a k v b = f b := by simp [zw, zu, h]
theorem zw_a {α : Type} (f : Nat → Nat → α) (a k : Nat) (v : α) : zw f a k v a = zu (f a) k v := by simp [zw, zu]
theorem zu_id {α : Type} (f : Nat → α) (k : Nat) : zu f k (f k) = f := by
  funext j
  unfold zu
  split
  · next h => rw [h]
  · rfl
theorem zu_zu {α : Type} (f : Nat → α) (k : Nat) (v w : α) : zu (zu f k v) k w = zu f k w := by
  funext j
  unfold zu
  split <;> rfl
-- Fault: only its own field is kept
def zTF : u_T := fun _ => ("FollowTheSun$Fault", "place", "I", true)
/-- the classes of the cells, by number; 99: a text -/
def zCl : List vw_C := [(RX1, TX1, 17), (RX2, TX2, 6), (RX3, TX3, 16), (RX4, TX4, 4), (RX5, TX5, 58), (RX6, TX6, 9), (RX7, TX7, 6), (RX8, TX8, 4), (RX9, TX9, 1), (RX10, TX10, 1), (RX11, zTF, 1), (RX12, TX12, 1), (RX13, TX13, 1), (RX14, TX14, 3), (RX16, TX16, 7), (RX17, TX17, 8), (RJ9, TJ9, 0), (RJ3, TJ3, 0)]
def zty : Nat → Nat → FieldType := fun ci => match ci with
  | 0 => tyX1 | 1 => tyX2 | 2 => tyX3 | 3 => tyX4 | 4 => tyX5 | 5 => tyX6 | 6 => tyX7 | 7 => tyX8 | 8 => tyX9 | 9 => tyX10 | 10 => fun _ => .int | 11 => tyX12 | 12 => tyX13 | 13 => tyX14 | 14 => tyX16 | 15 => tyX17 | _ => fun _ => .int
def zTys : List FieldType := [.boolean, .byte, .short, .int, .long, .object "FollowTheSun$Office", .object "FollowTheSun$Piece", .object "FollowTheSun$State", .array .int]
/-- what a class's number gives -/
def zKl (ci : Nat) (C : String) (T : u_T) (N : Nat) : Prop := zCl[ci]? = some (C, T, N) ∧ (∀ w ∈ u_ws C T N, w ∈ lw_all) ∧ (∀ k, k < N → parseFieldDescriptor (T k).2.2.1 = some (zty ci k)) ∧ (∀ a, a < N → ∀ b, b < N → a ≠ b → (T a).2.1 ≠ (T b).2.1 ∨ ((T a).1 ≠ (T b).1 ∧ (T a).2.2.2 = true ∧ (T b).2.2.2 = true))
theorem zkl0 : zKl 0 RX1 TX1 17 := ⟨rfl, in_X1, tyX1_ok, fun a ha b hb h => Or.inl (nmX1 a ha b hb h)⟩
theorem zkl1 : zKl 1 RX2 TX2 6 := ⟨rfl, in_X2, tyX2_ok, fun a ha b hb h => Or.inl (nmX2 a ha b hb h)⟩
theorem zkl2 : zKl 2 RX3 TX3 16 := ⟨rfl, in_X3, tyX3_ok, fun a ha b hb h => Or.inl (nmX3 a ha b hb h)⟩
theorem zkl3 : zKl 3 RX4 TX4 4 := ⟨rfl, in_X4, tyX4_ok, fun a ha b hb h => Or.inl (nmX4 a ha b hb h)⟩
theorem zkl4 : zKl 4 RX5 TX5 58 := ⟨rfl, in_X5, tyX5_ok, fun a ha b hb h => Or.inl (nmX5 a ha b hb h)⟩
theorem zkl5 : zKl 5 RX6 TX6 9 := ⟨rfl, in_X6, tyX6_ok, fun a ha b hb h => Or.inl (nmX6 a ha b hb h)⟩
theorem zkl6 : zKl 6 RX7 TX7 6 := ⟨rfl, in_X7, tyX7_ok, fun a ha b hb h => Or.inl (nmX7 a ha b hb h)⟩
theorem zkl7 : zKl 7 RX8 TX8 4 := ⟨rfl, in_X8, tyX8_ok, fun a ha b hb h => Or.inl (nmX8 a ha b hb h)⟩
theorem zkl8 : zKl 8 RX9 TX9 1 := ⟨rfl, in_X9, tyX9_ok, fun a ha b hb h => Or.inl (nmX9 a ha b hb h)⟩
theorem zkl9 : zKl 9 RX10 TX10 1 := ⟨rfl, in_X10, tyX10_ok, fun a ha b hb h => Or.inl (nmX10 a ha b hb h)⟩
theorem zkl11 : zKl 11 RX12 TX12 1 := ⟨rfl, in_X12, tyX12_ok, fun a ha b hb h => Or.inl (nmX12 a ha b hb h)⟩
theorem zkl12 : zKl 12 RX13 TX13 1 := ⟨rfl, in_X13, tyX13_ok, fun a ha b hb h => Or.inl (nmX13 a ha b hb h)⟩
theorem zkl13 : zKl 13 RX14 TX14 3 := ⟨rfl, in_X14, tyX14_ok, fun a ha b hb h => Or.inl (nmX14 a ha b hb h)⟩
theorem zkl14 : zKl 14 RX16 TX16 7 := ⟨rfl, in_X16, tyX16_ok, by decide +kernel⟩
theorem zkl15 : zKl 15 RX17 TX17 8 := ⟨rfl, in_X17, tyX17_ok, by decide +kernel⟩
theorem zkl10 : zKl 10 RX11 zTF 1 := by
  refine ⟨rfl, fun w hw => ?_, fun k hk => ?_, fun a ha b hb hab => absurd (by omega) hab⟩
  · have h : u_lay RX11 TX11 6 ∈ u_ws RX11 TX11 7 := u_in_lay (by decide)
    have e : w = u_lay RX11 TX11 6 := by
      rcases List.mem_map.mp hw with ⟨k, -, rfl⟩
      rfl
    rw [e]
    exact in_X11 _ h
  · exact tyX11_ok 6 (by decide)
def zrf (ad : Nat → Nat) (r : Option Nat) : Value := match r with
  | none => .null
  | some r => .ref (ad r)
def zcv (ad : Nat → Nat) (v : Value) : Value := match v with
  | .ref r => .ref (ad r)
  | v => v
/-- what slot k of the cell a holds, by its type -/
def zv (ty : FieldType) (ad : Nat → Nat) (I : zI) (L : zL) (P : zR) (a k : Nat) : Value := match ty with
  | .long => .long (L a k)
  | .object _ => zrf ad (P a k)
  | .array _ => zrf ad (P a k)
  | _ => .int (I a k)
def zc (G : zG) (ad : Nat → Nat) (I : zI) (L : zL) (P : zR) (S : zT) (H : Heap) (a : Nat) : Prop := match S a with
  | none => True
  | some (.inl ci) => if ci = 99 then (5000 ≤ a ∧ a < 5400 ∧ ad a = G.2.2.1 (a - 5000)) else ∃ r : vw_C, zCl[ci]? = some r ∧ t_OB (ad a) (G.1.2.1.1 ci) r.2.2 (G.1.2.1.2 ci) H (fun k => zv (zty ci k) ad I L P a k)
  | some (.inr q) => H[ad a]? = some (arrV (G.1.2.2 q.1) q.2 (fun j => zv q.1 ad I L P a j))
def zmu (S : zT) (a : Nat) : Prop := S a ≠ none ∧ S a ≠ some (.inl 99)
def zRep (G : zG) (ad : Nat → Nat) (I : zI) (L : zL) (P : zR) (S : zT) (H : Heap) : Prop :=
  (∀ a, zc G ad I L P S H a) ∧ (∀ a b, zmu S a → zmu S b → ad a = ad b → a = b) ∧ (∀ a, zmu S a → G.2.1.1 ≤ ad a) ∧ (∀ a k r, S a ≠ none → P a k = some r → S r ≠ none)
def zwf (S : zT) (v : Value) : Prop := match v with
  | .ref r => S r ≠ none
  | _ => True
def zExt (S : zT) (ad : Nat → Nat) (S' : zT) (ad' : Nat → Nat) : Prop := ∀ a, S a ≠ none → S' a = S a ∧ ad' a = ad a
theorem zExt.rf {S : zT} {ad : Nat → Nat} : zExt S ad S ad := fun _ _ => ⟨rfl, rfl⟩
theorem zExt.tr {S S' S'' : zT} {ad ad' ad'' : Nat → Nat} (h : zExt S ad S' ad') (h' : zExt S' ad' S'' ad'') : zExt S ad S'' ad'' := fun a ha => by
  obtain ⟨e1, e2⟩ := h a ha
  obtain ⟨f1, f2⟩ := h' a (by rw [e1]; exact ha)
  exact ⟨f1.trans e1, f2.trans e2⟩
theorem zExt.wf {S S' : zT} {ad ad' : Nat → Nat} (h : zExt S ad S' ad') {v : Value} (hv : zwf S v) : zwf S' v := by
  cases v with
  | ref r => show S' r ≠ none; rw [(h r hv).1]; exact hv
  | _ => trivial
theorem zExt.cv {S S' : zT} {ad ad' : Nat → Nat} (h : zExt S ad S' ad') {v : Value} (hv : zwf S v) : zcv ad' v = zcv ad v := by
  cases v with
  | ref r => show Value.ref (ad' r) = .ref (ad r); rw [(h r hv).2]
  | _ => rfl
theorem zExt.cvs {S S' : zT} {ad ad' : Nat → Nat} (h : zExt S ad S' ad') {l : List Value} (hl : ∀ v ∈ l, zwf S v) : l.map (zcv ad') = l.map (zcv ad) := List.map_congr_left fun v hv => h.cv (hl v hv)
/-- a value of a reference: null, or the handle -/
def zrv (r : Option Nat) : Value := match r with
  | none => .null
  | some r => .ref r
theorem zcv_rv (ad : Nat → Nat) (r : Option Nat) : zcv ad (zrv r) = zrf ad r := by cases r <;> rfl
theorem zcv_cat (ad : Nat → Nat) (v : Value) : (zcv ad v).category = v.category := by cases v <;> rfl
theorem zcvs_cat (ad : Nat → Nat) (l : List Value) : ((l.map (zcv ad)).map fun v => v.category).sum = (l.map fun v => v.category).sum := by
  rw [List.map_map]
  congr 1
  exact List.map_congr_left fun v _ => zcv_cat ad v
theorem zc.kept {G : zG} {ad ad' : Nat → Nat} {I I' : zI} {L L' : zL} {P P' : zR} {S S' : zT} {H H' : Heap} {b : Nat} (h : zc G ad I L P S H b) (hS : S' b = S b) (ha : ad' b = ad b) (hI : I' b = I b) (hL : L' b = L b) (hP : P' b = P b) (hr : ∀ k r, P b k = some r → ad' r = ad r) (hH : zmu S b → H'[ad b]? = H[ad b]?) : zc G ad' I' L' P' S' H' b := by
  have hz : S b ≠ none → ∀ ty k, zv ty ad' I' L' P' b k = zv ty ad I L P b k := by
    intro _ ty k
    have hrf : zrf ad' (P b k) = zrf ad (P b k) := by
      cases hq : P b k with
      | none => rfl
      | some r => show Value.ref (ad' r) = .ref (ad r); rw [hr k r hq]
    unfold zv
    cases ty <;> simp only [hI, hL, hP, hrf]
  unfold zc at h ⊢
  rw [hS]
  revert h
  cases hs : S b with
  | none => exact fun h => h
  | some sh =>
    cases sh with
    | inl ci =>
      dsimp only
      by_cases hci : ci = 99
      · rw [if_pos hci, if_pos hci, ha]
        exact fun h => h
      · rw [if_neg hci, if_neg hci, ha]
        rintro ⟨r, h1, h2⟩
        refine ⟨r, h1, ?_⟩
        have h3 := h2.kept (hH ⟨by simp [hs], by simp [hs, hci]⟩)
        exact h3.to (fun k _ => (hz (by simp [hs]) _ k).symm)
    | inr q =>
      dsimp only
      intro h
      rw [ha, hH ⟨by simp [hs], by simp [hs]⟩, h]
      congr 2
      funext j
      exact (hz (by simp [hs]) _ j).symm
theorem zc.lt {G : zG} {ad : Nat → Nat} {I : zI} {L : zL} {P : zR} {S : zT} {H : Heap} {a : Nat} (h : zc G ad I L P S H a) (hm : zmu S a) : ad a < H.size := by
  unfold zc at h
  revert h
  cases hs : S a with
  | none => exact absurd hs hm.1
  | some sh =>
    cases sh with
    | inl ci =>
      dsimp only
      by_cases hci : ci = 99
      · exact absurd (by rw [hs, hci]) hm.2
      · rw [if_neg hci]
        rintro ⟨r, h1, cell, h2, -⟩
        exact (Array.getElem?_eq_some_iff.mp h2).1
    | inr q =>
      dsimp only
      intro h
      exact (Array.getElem?_eq_some_iff.mp h).1
/-- one cell is written -/
theorem zRep.put {G : zG} {ad : Nat → Nat} {I I' : zI} {L L' : zL} {P P' : zR} {S : zT} {H H' : Heap} {a : Nat} (h : zRep G ad I L P S H) (hm : zmu S a) (hI : ∀ b, b ≠ a → I' b = I b) (hL : ∀ b, b ≠ a → L' b = L b) (hP : ∀ b, b ≠ a → P' b = P b)
    (hw : ∀ k r, P' a k = some r → S r ≠ none) (hq : ∀ q, q ≠ ad a → H'[q]? = H[q]?) (hc : zc G ad I' L' P' S H' a) : zRep G ad I' L' P' S H' := by
  obtain ⟨h1, h2, h3, h4⟩ := h
  refine ⟨fun b => ?_, h2, h3, fun b k r hb hk => ?_⟩
  · by_cases hb : b = a
    · subst hb; exact hc
    · exact (h1 b).kept rfl rfl (hI b hb) (hL b hb) (hP b hb) (fun _ _ _ => rfl) (fun hmb => hq _ (fun e => hb (h2 b a hmb hm e)))
  · by_cases hb' : b = a
    · subst hb'; exact hw k r hk
    · rw [hP b hb'] at hk
      exact h4 b k r hb hk
/-- a cell is made -/
theorem zRep.new {G : zG} {ad : Nat → Nat} {I I' : zI} {L L' : zL} {P P' : zR} {S : zT} {H H' : Heap} {a : Nat} {sh : Nat ⊕ (FieldType × Nat)} (h : zRep G ad I L P S H) (ha : S a = none) (hI : ∀ b, b ≠ a → I' b = I b) (hL : ∀ b, b ≠ a → L' b = L b) (hP : ∀ b, b ≠ a → P' b = P b)
    (hw : ∀ k, P' a k = none) (hz : G.2.1.1 ≤ H.size) (hq : ∀ q, q < H.size → H'[q]? = H[q]?) (hc : zc G (zu ad a H.size) I' L' P' (zu S a (some sh)) H' a) : zRep G (zu ad a H.size) I' L' P' (zu S a (some sh)) H' ∧ zExt S ad (zu S a (some sh)) (zu ad a H.size) := by
  obtain ⟨h1, h2, h3, h4⟩ := h
  have sn : ∀ {b}, b ≠ a → zu S a (some sh) b = S b := fun hb => zu_n _ _ _ hb
  have an : ∀ {b}, b ≠ a → zu ad a H.size b = ad b := fun hb => zu_n _ _ _ hb
  have mn : ∀ {b}, b ≠ a → zmu (zu S a (some sh)) b → zmu S b := fun hb hm => by unfold zmu at hm ⊢; rw [sn hb] at hm; exact hm
  refine ⟨⟨fun b => ?_, fun b c hb hc' e => ?_, fun b hb => ?_, fun b k r hb hk => ?_⟩, fun b hb => ?_⟩
  · by_cases hb : b = a
    · subst hb; exact hc
    · by_cases hbn : S b = none
      · unfold zc; rw [sn hb, hbn]; trivial
      · refine (h1 b).kept (sn hb) (an hb) (hI b hb) (hL b hb) (hP b hb) (fun k r hk => an (fun e => h4 b k r hbn hk (by rw [e]; exact ha))) (fun hm => hq _ ((h1 b).lt hm))
  · by_cases hb' : b = a
    · by_cases hc'' : c = a
      · rw [hb', hc'']
      · rw [hb', zu_s, an hc''] at e
        have := (h1 c).lt (mn hc'' hc')
        omega
    · by_cases hc'' : c = a
      · rw [hc'', zu_s, an hb'] at e
        have := (h1 b).lt (mn hb' hb)
        omega
      · rw [an hb', an hc''] at e
        exact h2 b c (mn hb' hb) (mn hc'' hc') e
  · by_cases hb' : b = a
    · rw [hb', zu_s]; exact hz
    · rw [an hb']; exact h3 b (mn hb' hb)
  · by_cases hb' : b = a
    · rw [hb', hw k] at hk; cases hk
    · rw [hP b hb'] at hk
      rw [sn hb'] at hb
      have h5 := h4 b k r hb hk
      by_cases hr : r = a
      · rw [hr, zu_s]; simp
      · rw [sn hr]; exact h5
  · have hb' : b ≠ a := fun e => hb (by rw [e]; exact ha)
    exact ⟨sn hb', an hb'⟩

/-! slots of two fields of one class are apart: by their names, or by their declarers -/
theorem z_decl {args : Array Value} {s : State} {C O f d : String} {cC : ClassId} {cf fi : Nat} {kf : Class} {fd : Field} (hfc : s.vm.findClass C = some cC) (hl : (Cond.laysFinal C O f d).before args s = true) (hi : s.fieldFound? O f d = some (cf, kf, fi, fd)) : ∃ dd, Jmm.declares? s.vm fd.slot (cC + 1) cC = some dd ∧ dd.1.name = O := by
  obtain ⟨c, k, c', k', i, f', r1, r2, r3, -, -, -, r4, -, dd, r5, r6, -⟩ := Cond.laysFinal_spec hl
  cases hfc.symm.trans r1
  cases hi.symm.trans r3
  obtain ⟨kk, e1, e2⟩ := Vm.findClass_spec r4
  have e3 := State.fieldFound?_class hi
  cases e1.symm.trans e3
  exact ⟨dd, r5, r6.trans e2⟩
theorem z_apart {D : va_G} {args : Array Value} {s : State} {ci : Nat} {C : String} {T : u_T} {N : Nat} {tys : List (ClassId × FieldType)} (hts : ∀ w ∈ lw_all, w.before args s = true) (hk : zKl ci C T N) (hK : va_K D zCl tys s) : ∀ x y, x < N → y < N → x ≠ y → (D.2 ci) x ≠ (D.2 ci) y := by
  intro x y hx hy hne
  obtain ⟨hc, hin, hty, hnm⟩ := hk
  obtain ⟨hS, hfc, -⟩ := hK.1 ci _ hc
  obtain ⟨_, _, _, fa, hia, ea⟩ := hS x hx
  obtain ⟨_, _, _, fb, hib, eb⟩ := hS y hy
  rw [← ea, ← eb]
  rcases hnm x hx y hy hne with h | ⟨h, fx, fy⟩
  · refine u_apart (u_lays hts hin hx) (u_lays hts hin hy) hia hib ?_
    rw [(State.fieldFound?_type hia (hty x hx)).1, (State.fieldFound?_type hib (hty y hy)).1]
    exact h
  · have lx := hts _ (hin _ (u_in_lay hx))
    have ly := hts _ (hin _ (u_in_lay hy))
    unfold u_lay at lx ly
    rw [if_pos fx] at lx
    rw [if_pos fy] at ly
    obtain ⟨d1, q1, q2⟩ := z_decl hfc lx hia
    obtain ⟨d2, q3, q4⟩ := z_decl hfc ly hib
    intro e
    rw [e, q3] at q1
    cases q1
    exact h (q2.symm.trans q4)
