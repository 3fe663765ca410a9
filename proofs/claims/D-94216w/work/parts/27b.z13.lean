set_option maxRecDepth 100000
/-! Z, part 13: an array of arrays is made -/
section ZROWS13
variable {G : zG} {M : zM} {d C Sl pc idx : Nat} {lv st : List Value} {I : zI} {L : zL} {P : zR} {S : zT} {Q : zQ}
def mlF {α : Type} (f : Nat → Nat → α) (v : α) (a : Nat) : Nat → Nat → Nat → α
  | 0 => zu f a (fun _ => v)
  | i + 1 => zu (mlF f v a i) (a + 1 + i) (fun _ => v)
def mlP (P : zR) (a : Nat) : Nat → zR
  | 0 => zu P a (fun _ => none)
  | i + 1 => zw (zu (mlP P a i) (a + 1 + i) (fun _ => none)) a i (some (a + 1 + i))
def mlS (S : zT) (a n k : Nat) : Nat → zT
  | 0 => zu S a (some (.inr (.array .int, n)))
  | i + 1 => zu (mlS S a n k i) (a + 1 + i) (some (.inr (.int, k)))
def mlA (ad : Nat → Nat) (a h : Nat) : Nat → Nat → Nat
  | 0 => zu ad a h
  | i + 1 => zu (mlA ad a h i) (a + 1 + i) (h + 1 + i)
theorem mlS_o {a n k b : Nat} : ∀ i, b ≠ a → ¬ (a < b ∧ b ≤ a + i) → mlS S a n k i b = S b := by
  intro i
  induction i with
  | zero => intro h _; exact zu_n _ _ _ h
  | succ i ih => intro h h2; rw [mlS, zu_n _ _ _ (by omega)]; exact ih h (by omega)
theorem mlS_a {a n k : Nat} : ∀ i, mlS S a n k i a = some (.inr (.array .int, n)) := by
  intro i
  induction i with
  | zero => exact zu_s _ _ _
  | succ i ih => rw [mlS, zu_n _ _ _ (by omega)]; exact ih
theorem mlS_i {a n k j : Nat} : ∀ i, j < i → mlS S a n k i (a + 1 + j) = some (.inr (.int, k)) := by
  intro i
  induction i with
  | zero => intro h; omega
  | succ i ih =>
    intro h
    by_cases e : j = i
    · subst e; rw [mlS, zu_s]
    · rw [mlS, zu_n _ _ _ (by omega)]; exact ih (by omega)
theorem mlA_a {ad : Nat → Nat} {a h : Nat} : ∀ i, mlA ad a h i a = h := by
  intro i
  induction i with
  | zero => exact zu_s _ _ _
  | succ i ih => rw [mlA, zu_n _ _ _ (by omega)]; exact ih
theorem mlA_i {ad : Nat → Nat} {a h j : Nat} : ∀ i, j < i → mlA ad a h i (a + 1 + j) = h + 1 + j := by
  intro i
  induction i with
  | zero => intro h; omega
  | succ i ih =>
    intro h
    by_cases e : j = i
    · subst e; rw [mlA, zu_s]
    · rw [mlA, zu_n _ _ _ (by omega)]; exact ih (by omega)
theorem mlP_a {a j : Nat} : ∀ i, mlP P a i a j = if j < i then some (a + 1 + j) else none := by
  intro i
  induction i with
  | zero => rw [mlP, zu_s, if_neg (by omega)]
  | succ i ih =>
    rw [mlP, zw_a]
    by_cases e : j = i
    · subst e; rw [zu_s, if_pos (by omega)]
    · rw [zu_n _ _ _ e, zu_n _ _ _ (by omega), ih]
      by_cases h : j < i
      · rw [if_pos h, if_pos (by omega)]
      · rw [if_neg h, if_neg (by omega)]
theorem mlP_i {a j : Nat} : ∀ i, j < i → mlP P a i (a + 1 + j) = fun _ => none := by
  intro i
  induction i with
  | zero => intro h; omega
  | succ i ih =>
    intro h
    rw [mlP, zw_n _ _ _ _ (by omega)]
    by_cases e : j = i
    · subst e; rw [zu_s]
    · rw [zu_n _ _ _ (by omega)]; exact ih (by omega)
theorem mlP_o {a b : Nat} : ∀ i, b ≠ a → ¬ (a < b ∧ b ≤ a + i) → mlP P a i b = P b := by
  intro i
  induction i with
  | zero => intro h _; exact zu_n _ _ _ h
  | succ i ih => intro h h2; rw [mlP, zw_n _ _ _ _ h, zu_n _ _ _ (by omega)]; exact ih h (by omega)
theorem mlF_o {α : Type} {f : Nat → Nat → α} {v : α} {a b : Nat} : ∀ i, b ≠ a → ¬ (a < b ∧ b ≤ a + i) → mlF f v a i b = f b := by
  intro i
  induction i with
  | zero => intro h _; exact zu_n _ _ _ h
  | succ i ih => intro h h2; rw [mlF, zu_n _ _ _ (by omega)]; exact ih h (by omega)
theorem mlF_i {α : Type} {f : Nat → Nat → α} {v : α} {a b : Nat} : ∀ i, (a ≤ b ∧ b ≤ a + i) → mlF f v a i b = fun _ => v := by
  intro i
  induction i with
  | zero => intro h; obtain rfl : b = a := by omega
            exact zu_s _ _ _
  | succ i ih =>
    intro h
    by_cases e : b = a + 1 + i
    · subst e; rw [mlF, zu_s]
    · rw [mlF, zu_n _ _ _ e]; exact ih (by omega)
theorem outer_arrV (c : ClassId) (N h : Nat) : ∀ i, Jvm.Free.Multi.outerC c N h i = arrV c N (fun j => if j < i then .ref (h + 1 + j) else .null) := by
  intro i
  induction i with
  | zero => show ({ cls := c, slots := Array.replicate N .null, vm := .none } : Cell) = _
            rw [arrV_new]
            congr 1
  | succ i ih =>
    rw [Jvm.Free.Multi.outerC, ih, arrV_store]
    congr 1
    funext j
    unfold updV
    by_cases e : j = i
    · subst e; rw [if_pos rfl, if_pos (by omega)]
    · rw [if_neg e]
      show (if j < i then _ else _) = _
      by_cases h : j < i
      · rw [if_pos h, if_pos (by omega)]
      · rw [if_neg h, if_neg (by omega)]
theorem zRep.multi {ad : Nat → Nat} {H : Heap} {a n k : Nat} (T : State) (hT : T.heap = H) (h : zRep G ad I L P S H) (hf : ∀ j, j ≤ n → S (a + j) = none) (hz : G.2.1.1 ≤ H.size) : ∀ i, i ≤ n →
    zRep G (mlA ad a H.size i) (mlF I 0 a i) (mlF L 0 a i) (mlP P a i) (mlS S a n k i) (Jvm.Free.Multi.fill T (G.1.2.2 (.array .int)) (G.1.2.2 .int) n k (.int 0) i).heap ∧ zExt S ad (mlS S a n k i) (mlA ad a H.size i) := by
  intro i
  induction i with
  | zero =>
    intro _
    have ha : S a = none := hf 0 (by omega)
    have e0 : (Jvm.Free.Multi.fill T (G.1.2.2 (.array .int)) (G.1.2.2 .int) n k (.int 0) 0).heap[H.size]? = some (arrV (G.1.2.2 (.array .int)) n (fun _ => .null)) := by
      have q := (Jvm.Free.Multi.fill_facts T (G.1.2.2 (.array .int)) (G.1.2.2 .int) n k (.int 0) 0).2.1
      rw [hT, outer_arrV] at q
      rw [q]
      congr 1
    exact h.new (sh := .inr (.array .int, n)) (I' := mlF I 0 a 0) (L' := mlF L 0 a 0) (P' := mlP P a 0) ha (fun b hb => zu_n _ _ _ hb) (fun b hb => zu_n _ _ _ hb) (fun b hb => zu_n _ _ _ hb) (fun j => by rw [mlP, zu_s]) hz (fun q hq => by rw [← hT] at hq ⊢; exact Jvm.Free.Multi.fill_old T _ _ n k _ hq 0) (by
      unfold zc
      rw [zu_s]
      dsimp only
      rw [zu_s, e0]
      congr 2
      funext j
      show Value.null = zrf _ (mlP P a 0 a j)
      rw [mlP_a, if_neg (by omega)]
      rfl)
  | succ i ih =>
    intro hi
    obtain ⟨hR, hx⟩ := ih (by omega)
    obtain ⟨f1, f2, -, -⟩ := Jvm.Free.Multi.fill_facts T (G.1.2.2 (.array .int)) (G.1.2.2 .int) n k (.int 0) i
    generalize hF : Jvm.Free.Multi.fill T (G.1.2.2 (.array .int)) (G.1.2.2 .int) n k (.int 0) i = F at hR f1 f2
    have hsz : F.heap.size = H.size + 1 + i := by rw [f1, hT]
    have hfr : mlS S a n k i (a + 1 + i) = none := by rw [mlS_o i (by omega) (by omega)]; have := hf (1 + i) (by omega); rw [← Nat.add_assoc] at this; exact this
    have c1 : (F.pushCell (Jvm.Free.Multi.innerC (G.1.2.2 .int) k (.int 0))).heap[F.heap.size]? = some (arrV (G.1.2.2 .int) k (fun _ => .int 0)) := by
      rw [State.heap_pushCell_size]
      show some ({ cls := G.1.2.2 .int, slots := Array.replicate k (.int 0), vm := .none } : Cell) = _
      rw [arrV_new]
    have c2 : ∀ q : Nat, q < F.heap.size → (F.pushCell (Jvm.Free.Multi.innerC (G.1.2.2 .int) k (.int 0))).heap[q]? = F.heap[q]? := fun q hq => State.heap_pushCell_of_lt _ _ hq
    generalize hP1 : F.pushCell (Jvm.Free.Multi.innerC (G.1.2.2 .int) k (.int 0)) = F1 at c1 c2
    obtain ⟨g1, g2⟩ := hR.new (a := a + 1 + i) (sh := .inr (.int, k)) (I' := mlF I 0 a (i + 1)) (L' := mlF L 0 a (i + 1)) (P' := zu (mlP P a i) (a + 1 + i) (fun _ => none)) (H' := F1.heap) hfr (fun b hb => zu_n _ _ _ hb) (fun b hb => zu_n _ _ _ hb) (fun b hb => zu_n _ _ _ hb) (fun j => by rw [zu_s]) (by omega) c2 (by
      unfold zc
      rw [zu_s]
      dsimp only
      rw [zu_s, c1]
      congr 2
      funext j
      show Value.int 0 = Value.int (mlF I 0 a (i + 1) (a + 1 + i) j)
      rw [mlF, zu_s])
    rw [hsz] at g1 g2
    have eA : zu (mlA ad a H.size i) (a + 1 + i) (H.size + 1 + i) = mlA ad a H.size (i + 1) := rfl
    have eS : zu (mlS S a n k i) (a + 1 + i) (some (.inr (.int, k))) = mlS S a n k (i + 1) := rfl
    rw [eA, eS] at g1 g2
    have eH : (Jvm.Free.Multi.fill T (G.1.2.2 (.array .int)) (G.1.2.2 .int) n k (.int 0) (i + 1)).heap = (F1.setCell H.size (Jvm.Free.Multi.outerC (G.1.2.2 (.array .int)) n H.size (i + 1))).heap := by
      rw [Jvm.Free.Multi.fill, hF, hP1, hT]
    rw [eH]
    have h0F : F1.heap[H.size]? = some (Jvm.Free.Multi.outerC (G.1.2.2 (.array .int)) n H.size i) := by
      rw [c2 _ (by omega), ← hT]
      exact f2
    have hma : zmu (mlS S a n k (i + 1)) a := zmu_arr (mlS_a _)
    refine ⟨g1.put (a := a) hma (fun _ _ => rfl) (fun _ _ => rfl) (fun b hb => by rw [mlP, zw_n _ _ _ _ hb]) (fun j r hr => ?_) (fun q hq => ?_) ?_, hx.tr g2⟩
    · rw [mlP_a] at hr
      split at hr
      · next hj => cases hr; rw [mlS_i _ hj]; simp
      · cases hr
    · rw [mlA_a] at hq
      exact State.heap_setCell_other (Ne.symm hq)
    · unfold zc
      rw [mlS_a]
      dsimp only
      rw [mlA_a, State.heap_setCell_self h0F, outer_arrV]
      congr 2
      funext j
      show _ = zrf _ (mlP P a (i + 1) a j)
      rw [mlP_a]
      split
      · next hj => show Value.ref _ = Value.ref (mlA ad a H.size (i + 1) (a + 1 + j)); rw [mlA_i _ hj]
      · rfl
theorem Z_multi {n k : Nat} (a : Nat) (hf : ∀ j, j ≤ n → S (a + j) = none) (hl : Cond.classLink M.1.cls idx "[[I" ∈ lw_all) (ho : Cond.arrayOver (.array .int) ∈ lw_tbl) (ha : Cond.arrayClass .int ∈ lw_all) (hn : n ≤ 1000) (hk : k ≤ 1000) (hd : decode M.2.1 pc = .ok (.multianewarray idx 2, 4))
    (kk : Zj G M d C Sl (pc + 4) lv (.ref a :: st) (mlF I 0 a n) (mlF L 0 a n) (mlP P a n) (mlS S a n k n) Q) : Zj G M d (C + (1 + n)) (Sl + (n + n * k)) pc lv (.int (nI k) :: .int (nI n) :: st) I L P S Q := by
  intro p e R s m args below meth c H locs cells slots Kc Ks QQ ad ls X
  intro T hT X0
  have hR := X.2.2.1
  have E := X.2.1
  have hts := X.1.2.2.2.2.1
  have hst9 := zwf_tl (zwf_tl X.2.2.2.2.2.2.1)
  have hbg := X.2.2.2.2.2.2.2.2.1
  have hsz : G.2.1.1 ≤ H.size := (X.2.1.2.2.2.2.1.S X.2.2.2.1).1
  have w1 : (nI n).toNatClampNeg = n := nI_clamp (by omega)
  have w2 : (nI k).toNatClampNeg = k := nI_clamp (by omega)
  have tyA : FieldType.array .int ∈ zTys := by simp [zTys]
  have tyI : FieldType.int ∈ zTys := by simp [zTys]
  obtain ⟨vm₁, cA, comp, hW, hfA, hfC, -, -, X1, stp⟩ := X0.multianewarray2F X.1.1 (own := M.1.cls) (index := idx) (ty := .int) X.1.2.2.2.1 (hts _ hl) (show (Cond.arrayOver (.array .int)).before args s = true from E.2.1 _ ho rfl) (hts _ ha)
    (g := F0 m pc ls (.int (nI k) :: .int (nI n) :: st.map (zcv ad))) rfl (by rw [X.1.2.1]; exact hd) rfl (nI_pos (by omega)) (nI_pos (by omega)) (by rw [w1]; omega) (by rw [w2]; show k * 4 ≤ _; omega) (by rw [w2]; omega) rfl rfl (by rw [w1]; omega) (by rw [w1, w2]; omega)
  rw [w1, w2] at X1 stp
  have hcA : cA = G.1.2.2 (.array .int) := Option.some.inj (hfA.symm.trans (zArrNm E tyA))
  have hcC : comp = G.1.2.2 .int := Option.some.inj (hfC.symm.trans (zArrNm E tyI))
  subst hcA; subst hcC
  have e0 : defaultValue .int = Value.int 0 := rfl
  rw [e0] at X1 stp
  have hT1 : (T.setVm vm₁).heap = H := hT
  obtain ⟨hR2, hx⟩ := hR.multi (k := k) (T.setVm vm₁) hT1 hf hsz n (Nat.le_refl n)
  obtain ⟨f1, -, -, -⟩ := Jvm.Free.Multi.fill_facts (T.setVm vm₁) (G.1.2.2 (.array .int)) (G.1.2.2 .int) n k (.int 0) n
  have fo := fun (q : Nat) (hq : q < H.size) => Jvm.Free.Multi.fill_old (T.setVm vm₁) (G.1.2.2 (.array .int)) (G.1.2.2 .int) n k (.int 0) (a := q) (by rw [hT1]; exact hq) n
  rw [hT1] at f1 fo
  have K := kk p e R s m args below meth c _ locs (cells + (1 + n)) (slots + (n + n * k)) Kc Ks QQ (mlA ad a H.size n) ls (X.toN hR2 hx (by omega) fo (zwf_cons.mpr ⟨by show mlS S a n k n a ≠ none; rw [mlS_a]; simp, fun v hv => hx.wf (hst9 v hv)⟩))
  obtain ⟨t, b1, b2⟩ := K _ rfl (by rw [← Nat.add_assoc, ← Nat.add_assoc]; exact X1)
  refine ⟨t, stp t ?_, b2⟩
  rw [List.map_cons, hx.cvs hst9] at b1
  have e9 : zcv (mlA ad a H.size n) (.ref a) = .ref H.size := by show Value.ref (mlA ad a H.size n a) = _; rw [mlA_a]
  rw [e9] at b1
  rw [hT]
  exact b1
end ZROWS13
