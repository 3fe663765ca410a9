set_option maxRecDepth 100000
/-! PURE, part 2: the state's row, an hour that goes by, the end. W: the world (wld of the model's ints) -/
def wAt (h k : Nat) : Bool := match h with
  | 0 => k == 3 || k == 14 || k == 15 || k == 16 || k == 37
  | 4 => true | 5 => true | 6 => true | 7 => true | 8 => true | 9 => true | 10 => true | 11 => true | 12 => true | 13 => true
  | 17 => true | 18 => true | 19 => true | 20 => true | 21 => true | 22 => true
  | 25 => decide (k < 48)
  | 26 => k == 0
  | _ => false
/-- the world out of the model's memory -/
def wld (I : zI) : zI := fun h k => if wAt h k = true then I h k else 0
theorem wld_fr {T : Nat → Nat → Bool} {I I' : zI} (h : fr T I I') (hT : ∀ a k, wAt a k = true → T a k = false) : wld I' = wld I := by
  funext a k
  unfold wld
  split
  · next q => exact h a k (hT a k q)
  · rfl
theorem nar_b (b : Bool) : narrow .boolean (.int (nI (bI b))) = .int (nI (bI b)) := by cases b <;> rfl
theorem bI_0 {b : Bool} : bI b = 0 ↔ b = false := by cases b <;> decide
theorem bI_1 {b : Bool} : ¬ bI b = 0 ↔ b = true := by cases b <;> decide
theorem bI_lt (b : Bool) : bI b < 2 := by cases b <;> decide
theorem zQb {Q : zQ} {b : Bool} {I : zI} {L : zL} {P : zR} {S : zT} (kt : b = true → Q (.inl (some (.int (nI 1)))) I L P S) (kf : b = false → Q (.inl (some (.int (nI 0)))) I L P S) : Q (.inl (some (.int (nI (bI b))))) I L P S := by
  cases b
  · exact kf rfl
  · exact kt rfl
theorem zQi {Q : zQ} {o : Option Value ⊕ (Nat × Option Nat)} {I I' : zI} {L : zL} {P : zR} {S : zT} (h : I = I') (k : Q o I' L P S) : Q o I L P S := by rw [h]; exact k
/-- the rule is its marks, the operands ahead; f bounds how deep it is -/
def isE : Nat → List Nat → Prop
  | 0, _ => False
  | f + 1, c => (∃ v, v ≤ 999 ∧ c = [v]) ∨ (∃ k, k ≤ 11 ∧ c = [1000 + k]) ∨ (∃ a, isE f a ∧ (c = a ++ [2126] ∨ c = a ++ [2033])) ∨ (∃ op a b, (op = 124 ∨ op = 38 ∨ op = 60 ∨ op = 62 ∨ op = 61 ∨ op = 43 ∨ op = 45 ∨ op = 42) ∧ isE f a ∧ isE f b ∧ c = a ++ b ++ [2000 + op])
theorem isE_s {f : Nat} : ∀ {c : List Nat}, isE f c → isE (f + 1) c := by
  induction f with
  | zero => exact fun h => absurd h id
  | succ f ih =>
    rintro c (h | h | ⟨a, h, e⟩ | ⟨op, a, b, ho, h1, h2, e⟩)
    · exact Or.inl h
    · exact Or.inr (Or.inl h)
    · exact Or.inr (Or.inr (Or.inl ⟨a, ih h, e⟩))
    · exact Or.inr (Or.inr (Or.inr ⟨op, a, b, ho, ih h1, ih h2, e⟩))
theorem isE_le {f g : Nat} (h : f ≤ g) {c : List Nat} (hc : isE f c) : isE g c := by
  induction g with
  | zero => obtain rfl : f = 0 := by omega
            exact hc
  | succ g ih => by_cases e : f = g + 1
                 · subst e; exact hc
                 · exact isE_s (ih (by omega))
theorem isE_pos {f : Nat} {c : List Nat} (h : isE f c) : 0 < c.length := by
  cases f with
  | zero => exact absurd h id
  | succ f => rcases h with ⟨v, -, rfl⟩ | ⟨v, -, rfl⟩ | ⟨a, -, rfl | rfl⟩ | ⟨op, a, b, -, -, -, rfl⟩ <;> simp <;> omega
def opInN (W : zI) (o h : Nat) : Nat → Nat
  | 0 => 99
  | f + 1 => if opn W o (h + (98 - f)) = true then 98 - f else opInN W o h f
def opIn (W : zI) (o h : Nat) : Nat := opInN W o h 99
def sgnV (W : zI) (s : Nat → Int32) (k p o h : Nat) : Int32 := match k with
  | 0 => W 13 (6 * (s (3 + p)).toNatClampNeg + o)
  | 1 => lst W (s (3 + p)).toNatClampNeg o h
  | 2 => nI (ovl W (s (3 + p)).toNatClampNeg o h)
  | 3 => nI (bI (opn W o h))
  | 4 => nI (opIn W o h)
  | 5 => nI (bI (zbit (W 9 o) (W 17 p)))
  | 6 => nI (bI (decide ((s (3 + p)).toNatClampNeg = o)))
  | 7 => nI (bI (decide (W 20 p = nI o)))
  | 8 => nI (bI (decide (W 21 p = nI o)))
  | 9 => W 7 o
  | 10 => s (11 + p)
  | _ => nI o
def binV (op : Nat) (x y : Int32) : Int32 := match op with
  | 43 => x + y
  | 45 => x - y
  | 42 => x * y
  | 60 => nI (bI (!decide (y ≤ x)))
  | 62 => nI (bI (!decide (x ≤ y)))
  | 61 => nI (bI (decide (x = y)))
  | 38 => nI (bI (decide (x ≠ 0) && decide (y ≠ 0)))
  | _ => nI (bI (decide (x ≠ 0) || decide (y ≠ 0)))
def stk1 (W : zI) (s : Nat → Int32) (p o h : Nat) (st : List Int32) (m : Nat) : List Int32 :=
  if m < 1000 then nI m :: st else if m < 2000 then sgnV W s (m - 1000) p o h :: st
  else if m = 2033 then (match st with | x :: t => nI (bI (decide (x = 0))) :: t | [] => [])
  else if m = 2126 then (match st with | x :: t => (-x) :: t | [] => [])
  else match st with | y :: x :: t => binV (m - 2000) x y :: t | _ => []
def stk (W : zI) (s : Nat → Int32) (p o h : Nat) (c : List Nat) (st : List Int32) : List Int32 := c.foldl (stk1 W s p o h) st
def ev (W : zI) (s : Nat → Int32) (p o h : Nat) (c : List Nat) : Int32 := (stk W s p o h c []).headD 0
theorem isE_ev {W : zI} {s : Nat → Int32} {p o h : Nat} {f : Nat} : ∀ {c : List Nat}, isE f c → ∀ st, stk W s p o h c st = ev W s p o h c :: st := by
  have key : ∀ {f : Nat} {c : List Nat}, isE f c → ∃ v, ∀ st, stk W s p o h c st = v :: st := by
    intro f
    induction f with
    | zero => exact fun h => absurd h id
    | succ f ih =>
      rintro c (⟨v, hv, rfl⟩ | ⟨k, hk, rfl⟩ | ⟨a, ha, rfl | rfl⟩ | ⟨op, a, b, ho, ha, hb, rfl⟩)
      · exact ⟨nI v, fun st => by simp [stk, stk1, show v < 1000 by omega]⟩
      · exact ⟨sgnV W s k p o h, fun st => by simp [stk, stk1, show ¬ (1000 + k < 1000) by omega, show 1000 + k < 2000 by omega]⟩
      · obtain ⟨v, hv⟩ := ih ha
        exact ⟨-v, fun st => by have := hv st; simp only [stk] at this; simp [stk, List.foldl_append, this, stk1]⟩
      · obtain ⟨v, hv⟩ := ih ha
        exact ⟨nI (bI (decide (v = 0))), fun st => by have := hv st; simp only [stk] at this; simp [stk, List.foldl_append, this, stk1]⟩
      · obtain ⟨v, hv⟩ := ih ha
        obtain ⟨u, hu⟩ := ih hb
        exact ⟨binV op v u, fun st => by
          have h1 := hv st
          have h2 := hu (v :: st)
          simp only [stk] at h1 h2
          have n1 : ¬ (2000 + op = 2033) := by omega
          have n2 : ¬ (2000 + op = 2126) := by omega
          simp [stk, List.foldl_append, h1, h2, stk1, show ¬ (2000 + op < 1000) by omega, show ¬ (2000 + op < 2000) by omega, n1, n2]⟩
  intro c hc st
  obtain ⟨v, hv⟩ := key hc
  rw [hv st]
  simp [ev, hv []]
theorem ev_num {W : zI} {s : Nat → Int32} {p o h v : Nat} (hv : v ≤ 999) : ev W s p o h [v] = nI v := by simp [ev, stk, stk1, show v < 1000 by omega]
theorem ev_sgn {W : zI} {s : Nat → Int32} {p o h k : Nat} (hk : k ≤ 11) : ev W s p o h [1000 + k] = sgnV W s k p o h := by simp [ev, stk, stk1, show ¬ (1000 + k < 1000) by omega, show 1000 + k < 2000 by omega]
theorem ev_neg {W : zI} {s : Nat → Int32} {p o h f : Nat} {a : List Nat} (ha : isE f a) : ev W s p o h (a ++ [2126]) = - ev W s p o h a := by
  have e : ev W s p o h (a ++ [2126]) = (stk1 W s p o h (stk W s p o h a []) 2126).headD 0 := by simp [ev, stk, List.foldl_append]
  rw [e, isE_ev ha []]
  simp [stk1]
theorem ev_not {W : zI} {s : Nat → Int32} {p o h f : Nat} {a : List Nat} (ha : isE f a) : ev W s p o h (a ++ [2033]) = nI (bI (decide (ev W s p o h a = 0))) := by
  have e : ev W s p o h (a ++ [2033]) = (stk1 W s p o h (stk W s p o h a []) 2033).headD 0 := by simp [ev, stk, List.foldl_append]
  rw [e, isE_ev ha []]
  simp [stk1]
theorem ev_bin {W : zI} {s : Nat → Int32} {p o h f g op : Nat} {a b : List Nat} (ho : op = 124 ∨ op = 38 ∨ op = 60 ∨ op = 62 ∨ op = 61 ∨ op = 43 ∨ op = 45 ∨ op = 42) (ha : isE f a) (hb : isE g b) : ev W s p o h (a ++ b ++ [2000 + op]) = binV op (ev W s p o h a) (ev W s p o h b) := by
  have h1 := isE_ev (W := W) (s := s) (p := p) (o := o) (h := h) ha []
  have h2 := isE_ev (W := W) (s := s) (p := p) (o := o) (h := h) hb [ev W s p o h a]
  have n1 : ¬ (2000 + op = 2033) := by omega
  have n2 : ¬ (2000 + op = 2126) := by omega
  have e : ev W s p o h (a ++ b ++ [2000 + op]) = (stk1 W s p o h (stk W s p o h b (stk W s p o h a [])) (2000 + op)).headD 0 := by simp [ev, stk, List.foldl_append]
  rw [e, h1, h2]
  simp [stk1, show ¬ (2000 + op < 1000) by omega, show ¬ (2000 + op < 2000) by omega, n1, n2]
-- the state
abbrev zS : Type := Nat → Int32
def isDn (s : zS) (p : Nat) : Bool := !decide (s (35 + p) < 0)
def rdy (W : zI) (s : zS) (p : Nat) : Bool := !isDn s p && allB (fun o => !zbit (W 19 p) (nI o) || isDn s o) p
def allDn (s : zS) (n : Nat) : Bool := allB (isDn s) n
def askd (W : zI) (p : Nat) : Int32 := if W 0 37 = 0 then W 21 p else -1
def layS (W : zI) (s : zS) (p : Nat) : zS := zu (zu (zu (zu (zu (zu (zu (zu s (3 + p) (W 20 p)) (11 + p) (W 18 p)) (19 + p) (nI 0)) (27 + p) (nI 0)) (35 + p) (-1)) (43 + p) (nI 0)) (51 + p) (nI 0)) (59 + p) (nI 0)
def layN (W : zI) (s : zS) : Nat → zS
  | 0 => s
  | n + 1 => layS W (layN W s n) n
def begS (W : zI) (s : zS) (n h : Nat) : zS := layN W (zu (zu (zu s 0 (nI h)) 1 (nI 0)) 2 (nI 0)) n
def hndS (W : zI) (s : zS) (p o h : Nat) : zS :=
  let a := (s (3 + p)).toNatClampNeg
  let v := lst W a o h
  let s1 := zu (zu (zu s (11 + p) (s (11 + p) + v)) (59 + p) (s (59 + p) + v)) (51 + p) (s (51 + p) + nI 1)
  zu (if s 2 < nI 60 then zu (zu s1 (67 + (s 2).toNatClampNeg) (W 0 15 * (nI 10 - W 13 (6 * a + o)) / nI 10)) 2 (s 2 + nI 1) else s1) (3 + p) (nI o)
abbrev zK4 : Type := zS × Int32 × Int32 × zS
def wrk1 (W : zI) (s : zS) (h p o : Nat) : zS :=
  let s1 := zu (zu (zu (zu s (11 + p) (s (11 + p) - nI 1)) (19 + p) (s (19 + p) + nI 1)) (43 + p) (s (43 + p) + nI 1)) 1 (s 1 + W 7 o)
  if s (11 + p) - nI 1 = 0 then zu s1 (35 + p) (nI (h + 1)) else if askd W p < 0 then s1 else if s (19 + p) + nI 1 = W 22 p then zu (zu s1 (27 + p) (nI 1)) (19 + p) (nI 0) else s1
def canW (W : zI) (hd : zS) (h p o : Nat) : Bool := opn W o h && (zbit (W 9 o) (W 17 p) && decide (hd o < W 8 o))
def wrkS (W : zI) (rd : Int32) (h p : Nat) (t : zK4) : zK4 :=
  if zbit rd (nI p) = true then
    if t.1 (27 + p) = nI 1 then (zu t.1 (27 + p) (nI (bI (!(opn W (t.1 (3 + p)).toNatClampNeg h && opn W (W 21 p).toNatClampNeg h)))), t.2.1 ||| (nI 1 <<< (nI p &&& 31)), t.2.2.1, t.2.2.2)
    else if canW W t.2.2.2 h p (t.1 (3 + p)).toNatClampNeg = true then (wrk1 W t.1 h p (t.1 (3 + p)).toNatClampNeg, t.2.1, t.2.2.1 ||| (nI 1 <<< (nI p &&& 31)), zu t.2.2.2 (t.1 (3 + p)).toNatClampNeg (t.2.2.2 (t.1 (3 + p)).toNatClampNeg + nI 1))
    else t
  else t
def wrkN (W : zI) (rd : Int32) (h : Nat) (t : zK4) : Nat → zK4
  | 0 => t
  | n + 1 => wrkS W rd h n (wrkN W rd h t n)
def rdyB (W : zI) (s : zS) (n : Nat) : Int32 := orB (rdy W s) n
def wrks (W : zI) (n : Nat) (s : zS) : zK4 := wrkN W (rdyB W s n) (s 0).toNatClampNeg (s, nI 0, nI 0, fun _ => nI 0) n
def chsN (W : zI) (e : List Nat) (s : zS) (p h : Nat) : Nat → Nat × Int32
  | 0 => (0, ev W s p 0 h e)
  | m + 1 => (if ev W s p (m + 1) h e ≤ (chsN W e s p h m).2 then (chsN W e s p h m).1 else m + 1, mx (chsN W e s p h m).2 (ev W s p (m + 1) h e))
def chs (W : zI) (e : List Nat) (s : zS) (p h no : Nat) : Nat := (chsN W e s p h (no - 1)).1
def leav (W : zI) (s : zS) (rd : Int32) (h p : Nat) : Bool := zbit rd (nI p) && (!isDn s p && (opn W (s (3 + p)).toNatClampNeg h && !opn W (s (3 + p)).toNatClampNeg (h + 1)))
def clsS (W : zI) (e : List Nat) (no : Nat) (rd : Int32) (h p : Nat) (s : zS) : zS :=
  if leav W s rd h p = true then (if chs W e s p (h + 1) no = (s (3 + p)).toNatClampNeg then s else hndS W s p (chs W e s p (h + 1) no) (h + 1)) else s
def clsN (W : zI) (e : List Nat) (no : Nat) (rd : Int32) (h : Nat) (s : zS) : Nat → zS
  | 0 => s
  | n + 1 => clsS W e no rd h n (clsN W e no rd h s n)
def clss (W : zI) (ro : Option (List Nat)) (no n : Nat) (rd : Int32) (h : Nat) (s : zS) : zS := match ro with
  | none => s
  | some e => clsN W e no rd h s n
def hrS (W : zI) (ro : Option (List Nat)) (no n : Nat) (s : zS) : zS :=
  zu (clss W ro no n (rdyB W s n) (s 0).toNatClampNeg (wrks W n s).1) 0 (s 0 + nI 1)
def endN (W : zI) (ro : Option (List Nat)) (no n : Nat) : Nat → zS → Option zS
  | 0, s => if allDn s n = true then some s else none
  | f + 1, s => if allDn s n = true then some s else endN W ro no n f (hrS W ro no n s)
/-- how it ends from s on -/
def pEnd (W : zI) (ro : Option (List Nat)) (no n : Nat) (s : zS) : Option zS := endN W ro no n (2399 - (s 0).toNatClampNeg) s
def goN (W : zI) (ro : Option (List Nat)) (no n : Nat) : Nat → zS → zS
  | 0, s => s
  | f + 1, s => if (s 0).toNatClampNeg < 2399 then goN W ro no n f (hrS W ro no n s) else s
/-- a world and its numbers -/
def wf (W : zI) (no n : Nat) : Prop := (W 0 3 = nI no ∧ no ≤ 6) ∧ (W 0 16 = nI n ∧ n ≤ 8) ∧ (∀ p, p < n → ∃ k, k < no ∧ W 20 p = nI k) ∧ (∀ p, p < n → W 21 p = -1 ∨ ∃ k, k < no ∧ W 21 p = nI k)
theorem wf.o3 {W : zI} {no n : Nat} (h : wf W no n) : W 0 3 = nI no := h.1.1
theorem wf.o6 {W : zI} {no n : Nat} (h : wf W no n) : no ≤ 6 := h.1.2
theorem wf.n16 {W : zI} {no n : Nat} (h : wf W no n) : W 0 16 = nI n := h.2.1.1
theorem wf.n8 {W : zI} {no n : Nat} (h : wf W no n) : n ≤ 8 := h.2.1.2
theorem wf.born {W : zI} {no n : Nat} (h : wf W no n) {p : Nat} (hp : p < n) : ∃ k, k < no ∧ W 20 p = nI k := h.2.2.1 p hp
theorem wf.asks {W : zI} {no n : Nat} (h : wf W no n) {p : Nat} (hp : p < n) : W 21 p = -1 ∨ ∃ k, k < no ∧ W 21 p = nI k := h.2.2.2 p hp
def sf (W : zI) (no n : Nat) (s : zS) : Prop := (∃ t, t ≤ 2399 ∧ s 0 = nI t) ∧ (∃ b, b ≤ 60 ∧ s 2 = nI b) ∧ (∀ p, p < n → ∃ k, k < no ∧ s (3 + p) = nI k) ∧
  (∀ p, p < n → s (27 + p) = nI 0 ∨ (s (27 + p) = nI 1 ∧ W 0 37 = 0 ∧ ∃ k, k < no ∧ W 21 p = nI k)) ∧ (∀ p, p < n → s (35 + p) = -1 ∨ ∃ k, k < 2 ^ 31 ∧ s (35 + p) = nI k) ∧ ∀ j, 127 ≤ j → s j = 0
theorem sf.now {W : zI} {no n : Nat} {s : zS} (h : sf W no n s) : ∃ t, t ≤ 2399 ∧ s 0 = nI t := h.1
theorem sf.bk {W : zI} {no n : Nat} {s : zS} (h : sf W no n s) : ∃ b, b ≤ 60 ∧ s 2 = nI b := h.2.1
theorem sf.pl {W : zI} {no n : Nat} {s : zS} (h : sf W no n s) {p : Nat} (hp : p < n) : ∃ k, k < no ∧ s (3 + p) = nI k := h.2.2.1 p hp
theorem sf.wt {W : zI} {no n : Nat} {s : zS} (h : sf W no n s) {p : Nat} (hp : p < n) : s (27 + p) = nI 0 ∨ (s (27 + p) = nI 1 ∧ W 0 37 = 0 ∧ ∃ k, k < no ∧ W 21 p = nI k) := h.2.2.2.1 p hp
theorem sf.dn {W : zI} {no n : Nat} {s : zS} (h : sf W no n s) {p : Nat} (hp : p < n) : s (35 + p) = -1 ∨ ∃ k, k < 2 ^ 31 ∧ s (35 + p) = nI k := h.2.2.2.2.1 p hp
theorem sf.hi {W : zI} {no n : Nat} {s : zS} (h : sf W no n s) {j : Nat} (hj : 127 ≤ j) : s j = 0 := h.2.2.2.2.2 j hj
def ruM (W : zI) (ro : Option (List Nat)) : Prop := match ro with
  | none => W 26 0 = nI 0
  | some e => (∃ f, isE f e) ∧ W 26 0 = nI e.length ∧ e.length ≤ 40 ∧ ∀ k, k < e.length → W 25 k = nI (e.getD k 0)
theorem wr {I W : zI} {a k : Nat} (hW : wld I = W) (h : wAt a k = true) : I a k = W a k := by
  rw [← hW, wld, if_pos h]
theorem wld_zw {I : zI} {a k : Nat} {v : Int32} (h : wAt a k = false) : wld (zw I a k v) = wld I := by
  funext b j
  unfold wld
  split
  · next q =>
    have : ¬ (b = a ∧ j = k) := by rintro ⟨rfl, rfl⟩; rw [h] at q; exact absurd q (by decide)
    unfold zw zu
    by_cases e : b = a
    · subst e
      simp [show j ≠ k from fun e => this ⟨rfl, e⟩]
    · simp [e]
  · rfl
theorem wld_zw23 {I : zI} {k : Nat} {v : Int32} : wld (zw I 23 k v) = wld I := wld_zw rfl
theorem wld_zw33 {I : zI} {k : Nat} {v : Int32} : wld (zw I 33 k v) = wld I := wld_zw rfl
theorem wld_zw27 {I : zI} {k : Nat} {v : Int32} : wld (zw I 27 k v) = wld I := wld_zw rfl
theorem wld_zw34 {I : zI} {v : Int32} : wld (zw I 0 34 v) = wld I := wld_zw rfl
theorem wld_zw35 {I : zI} {v : Int32} : wld (zw I 0 35 v) = wld I := wld_zw rfl
theorem wld_zw36 {I : zI} {v : Int32} : wld (zw I 0 36 v) = wld I := wld_zw rfl
theorem wld_zw0 {I : zI} {v : Int32} : wld (zw I 0 0 v) = wld I := wld_zw rfl
theorem wld_zw1 {I : zI} {v : Int32} : wld (zw I 0 1 v) = wld I := wld_zw rfl
theorem wld_zu {I : zI} {a : Nat} {v : zS} (h : ∀ k, wAt a k = false) : wld (zu I a v) = wld I := by
  funext b j
  unfold wld
  split
  · next q =>
    have : ¬ b = a := by rintro rfl; rw [h] at q; exact absurd q (by decide)
    simp [zu, this]
  · rfl
theorem wld_zu23 {I : zI} {v : zS} : wld (zu I 23 v) = wld I := wld_zu fun _ => rfl
theorem wr25 {I W : zI} {k : Nat} (hW : wld I = W) (h : k < 48) : I 25 k = W 25 k := wr hW (decide_eq_true h)
theorem fr.su {T : Nat → Nat → Bool} {I I' : zI} {a : Nat} {v : zS} (h : fr T I I') (hT : ∀ k, T a k = true) : fr T I (zu I' a v) := fun b j q => by
  have hne : ¬ b = a := by rintro rfl; rw [hT] at q; exact absurd q (by decide)
  rw [← h b j q]
  simp [zu, hne]
def t27 : Nat → Nat → Bool := fun h _ => h == 27
theorem t27_w {a k : Nat} (h : wAt a k = true) : t27 a k = false := by
  unfold t27
  by_cases e : a = 27
  · subst e; exact absurd h (by simp [wAt])
  · simp [e]
def tC : Nat → Nat → Bool := fun h _ => h == 23 || h == 27
theorem tC_w {a k : Nat} (h : wAt a k = true) : tC a k = false := by
  unfold tC
  by_cases e : a = 27
  · subst e; exact absurd h (by simp [wAt])
  by_cases e2 : a = 23
  · subst e2; exact absurd h (by simp [wAt])
  · simp [e, e2]
theorem t27_C {a k : Nat} (h : tC a k = false) : t27 a k = false := by
  unfold tC at h; unfold t27
  simp only [Bool.or_eq_false_iff] at h
  exact h.2
