set_option maxRecDepth 100000
/-! PURE: what both programs compute, in the numbers of the model's memory (w: the model's ints by field; s: the row of a state) -/
theorem zQe {Q : zQ} {a b : Int32} {I : zI} {L : zL} {P : zR} {S : zT} (h : a = b) (k : Q (.inl (some (.int b))) I L P S) : Q (.inl (some (.int a))) I L P S := by rw [h]; exact k
theorem zQl {Q : zQ} {a b : Int64} {I : zI} {L : zL} {P : zR} {S : zT} (h : a = b) (k : Q (.inl (some (.long b))) I L P S) : Q (.inl (some (.long a))) I L P S := by rw [h]; exact k
/-- a loop that counts up to b -/
theorem zloop (b : Nat) (J : Nat → Prop) (hs : ∀ i, i ≤ b → (i < b → J (i + 1)) → J i) : ∀ i, i ≤ b → J i := by
  have h : ∀ n i, i + n = b → J i := by
    intro n
    induction n with
    | zero => exact fun i e => hs i (by omega) (fun q => absurd q (by omega))
    | succ n ih => exact fun i e => hs i (by omega) (fun q => ih (i + 1) (by omega))
  exact fun i hi => h (b - i) i (by omega)
/-- a loop with a measure -/
theorem zmeas {σ : Type} (m : σ → Nat) (J : σ → Prop) (hs : ∀ s, (∀ t, m t < m s → J t) → J s) : ∀ s, J s := by
  intro s
  generalize hn : m s = n
  induction n using Nat.strongRecOn generalizing s with
  | _ n ih => exact hs s fun t ht => ih (m t) (by omega) t rfl
/-- what a run may touch -/
def fr (T : Nat → Nat → Bool) (I I' : zI) : Prop := ∀ h k, T h k = false → I' h k = I h k
theorem fr.rf {T : Nat → Nat → Bool} {I : zI} : fr T I I := fun _ _ _ => rfl
theorem fr.tr {T : Nat → Nat → Bool} {I I' I'' : zI} (h : fr T I I') (h' : fr T I' I'') : fr T I I'' := fun a k q => (h' a k q).trans (h a k q)
theorem fr.wk {T T' : Nat → Nat → Bool} {I I' : zI} (h : fr T I I') (hT : ∀ a k, T' a k = false → T a k = false) : fr T' I I' := fun a k q => h a k (hT a k q)
theorem fr.st {T : Nat → Nat → Bool} {I I' : zI} {a k : Nat} {v : Int32} (h : fr T I I') (hT : T a k = true) : fr T I (zw I' a k v) := fun b j q => by
  have hne : ¬ (b = a ∧ j = k) := by rintro ⟨rfl, rfl⟩; rw [hT] at q; exact absurd q (by decide)
  rw [← h b j q]
  unfold zw zu
  by_cases e : b = a
  · subst e
    have : j ≠ k := fun e => hne ⟨rfl, e⟩
    simp [this]
  · simp [e]
/-- the bit k -/
def zbit (x k : Int32) : Bool := decide ((x >>> (k &&& 31)) &&& nI 1 = nI 1)
def bI (b : Bool) : Nat := if b then 1 else 0
def cntB (f : Nat → Bool) : Nat → Nat
  | 0 => 0
  | n + 1 => cntB f n + bI (f n)
def allB (f : Nat → Bool) : Nat → Bool
  | 0 => true
  | n + 1 => allB f n && f n
def orB (f : Nat → Bool) : Nat → Int32
  | 0 => nI 0
  | n + 1 => orB f n ||| (if f n then nI 1 <<< (nI n &&& 31) else nI 0)
def sumI (f : Nat → Int32) : Nat → Int32
  | 0 => nI 0
  | n + 1 => sumI f n + f n
theorem cntB_le (f : Nat → Bool) (n : Nat) : cntB f n ≤ n := by
  induction n with
  | zero => exact Nat.le_refl _
  | succ n ih => have : bI (f n) ≤ 1 := by unfold bI; split <;> omega
                 show _ + _ ≤ _; omega
theorem allB_iff {f : Nat → Bool} {n : Nat} : allB f n = true ↔ ∀ k, k < n → f k = true := by
  induction n with
  | zero => exact ⟨fun _ k hk => absurd hk (by omega), fun _ => rfl⟩
  | succ n ih =>
    show (allB f n && f n) = true ↔ _
    rw [Bool.and_eq_true, ih]
    exact ⟨fun q k hk => (Nat.lt_succ_iff_lt_or_eq.mp hk).elim (q.1 k) (fun e => e ▸ q.2), fun h => ⟨fun k hk => h k (by omega), h n (by omega)⟩⟩
def fMod (x y : Int32) : Int32 := if 0 ≤ x ^^^ y then x - x / y * y else if x - x / y * y = 0 then x - x / y * y else x - x / y * y + y
def fDiv (x y : Int32) : Int32 := if 0 ≤ x ^^^ y then x / y else if x / y * y = x then x / y else x / y - nI 1
def mx (a b : Int32) : Int32 := if a < b then b else a
def mn (a b : Int32) : Int32 := if b < a then b else a
-- an office at an hour
def opL (w : zI) (o h : Nat) : Int32 := nI h + w 4 o + (if nI h < w 10 o then nI 0 else w 11 o)
def opG (w : zI) (o h : Nat) : Int32 := fMod (opL w o h - w 5 o) (nI 24)
def opD (w : zI) (o h : Nat) : Int32 := fDiv (opL w o h - opG w o h) (nI 24)
def opF (w : zI) (o : Nat) (d : Int32) : Bool := if 0 ≤ d.toInt ∧ d.toInt ≤ 99 then decide (w 12 (100 * o + d.toNatClampNeg) = 0) else true
def opn (w : zI) (o h : Nat) : Bool := if opG w o h < w 6 o then opF w o (opD w o h) else false
def ovl (w : zI) (a b h : Nat) : Nat := cntB (fun i => opn w a (h + i) && opn w b (h + i)) 24
theorem ovl_le (w : zI) (a b h : Nat) : ovl w a b h ≤ 24 := cntB_le _ _
def lst (w : zI) (a b h : Nat) : Int32 := if a = b then nI 0 else mx (nI 0) (w 0 14 - w 13 (6 * a + b)) + (if ovl w a b h = 0 then nI 2 else nI 0)
