set_option maxRecDepth 100000
/-! THE CALLS as functions on the data: the answer, the data, the row. What both programs compute (pure) -/
/-- numbers of the data -/
abbrev rng (x : Int32) (lo hi : Int) : Prop := lo ≤ x.toInt ∧ x.toInt ≤ hi
def noD (D : zI) : Nat := (D 0 3).toNatClampNeg
def nD (D : zI) : Nat := (D 0 16).toNatClampNeg
abbrev isO (D : zI) (o : Int32) : Prop := rng o 0 (noD D - 1)
abbrev isP (D : zI) (o : Int32) : Prop := rng o 0 (nD D - 1)
theorem rng_nI {x : Int32} {lo : Int} {hi : Nat} (h : rng x lo hi) (h0 : 0 ≤ lo) (hh : hi < 2 ^ 31) : ∃ k : Nat, (lo ≤ (k : Int) ∧ k ≤ hi) ∧ x = nI k := by
  obtain ⟨k, hk, rfl⟩ := z_rng (n := hi) (by have := h.1; omega) h.2 hh
  have := h.1
  rw [z_ti (by omega)] at this
  exact ⟨k, ⟨this, hk⟩, rfl⟩
def endV (o : Option zS) : Int32 := match o with
  | none => -1
  | some s => s 0
def rB (x : Int32) (lo hi : Int) : Bool := decide (lo ≤ x.toInt ∧ x.toInt ≤ hi)
theorem rB_t {x : Int32} {lo hi : Int} (h1 : lo ≤ x.toInt) (h2 : x.toInt ≤ hi) : rB x lo hi = true := decide_eq_true ⟨h1, h2⟩
theorem rB_f {x : Int32} {lo hi : Int} (h : ¬ (lo ≤ x.toInt ∧ x.toInt ≤ hi)) : rB x lo hi = false := decide_eq_false h
theorem rB_i {x : Int32} {lo hi : Int} (h : rB x lo hi = true) : lo ≤ x.toInt ∧ x.toInt ≤ hi := of_decide_eq_true h
def oB (D : zI) (o : Int32) : Bool := rB o 0 ((noD D : Int) - 1)
def pB (D : zI) (o : Int32) : Bool := rB o 0 ((nD D : Int) - 1)
abbrev zO : Type := Int32 × zI × List Int64
def fClock (D : zI) (R : List Int64) (o h b : Int32) : zO := if (oB D o && (rB h 0 2399 && rB b (-1) 1)) = true then (nI 1, zw (zw D 10 o.toNatClampNeg h) 11 o.toNatClampNeg b, R) else (nI 0, D, R)
def fFeast (D : zI) (R : List Int64) (o d f : Int32) : zO := if (oB D o && rB d 0 99) = true then (nI 1, zw D 12 (100 * o.toNatClampNeg + d.toNatClampNeg) (vp_nar .boolean f), R) else (nI 0, D, R)
def stKn (D : zI) (a b : Nat) (v : Int32) : zI := zw (zw D 13 (6 * a + b) v) 13 (6 * b + a) v
def fKnow (D : zI) (R : List Int64) (a b v : Int32) : zO := if (oB D a && (oB D b && (decide (¬ a = b) && rB v 0 9))) = true then (D 13 (6 * a.toNatClampNeg + b.toNatClampNeg), stKn D a.toNatClampNeg b.toNatClampNeg v, R) else (-1, D, R)
def fSet (D : zI) (R : List Int64) (x v : Int32) : zO := if (rB x 0 1 && rB v 0 (if x = 0 then 20 else 100)) = true then (if x = 0 then (D 0 14, zw D 0 14 v, R) else (D 0 15, zw D 0 15 v, R)) else (-1, D, R)
def fOpen (D : zI) (R : List Int64) (o h : Int32) : zO := (if (oB D o && rB h 0 2399) = true then nI (bI (opn (wld D) o.toNatClampNeg h.toNatClampNeg)) else -1, D, R)
def fOverlap (D : zI) (R : List Int64) (a b h : Int32) : zO := (if (oB D a && (oB D b && rB h 0 2399)) = true then nI (ovl (wld D) a.toNatClampNeg b.toNatClampNeg h.toNatClampNeg) else -1, D, R)
def fLoses (D : zI) (R : List Int64) (a b h : Int32) : zO := (if (oB D a && (oB D b && rB h 0 2399)) = true then lst (wld D) a.toNatClampNeg b.toNatClampNeg h.toNatClampNeg else -1, D, R)
def fBegin (D : zI) (R : List Int64) (n : Nat) (h : Int32) : zO := if rB h 0 2399 = true then (nI 1, zu D 23 (begS (wld D) (D 23) n h.toNatClampNeg), R) else (nI 0, D, R)
def fGo (D : zI) (R : List Int64) (ro : Option (List Nat)) (no n : Nat) (k : Int32) : zO := if rB k 0 500 = true then (goN (wld D) ro no n k.toNatClampNeg (D 23) 0, zu D 23 (goN (wld D) ro no n k.toNatClampNeg (D 23)), R) else (-1, D, R)
def fHand (D : zI) (R : List Int64) (p o : Int32) : zO := if (pB D p && (oB D o && (!isDn (D 23) p.toNatClampNeg && decide (¬ D 23 (3 + p.toNatClampNeg) = o)))) = true then (lst (wld D) (D 23 (3 + p.toNatClampNeg)).toNatClampNeg o.toNatClampNeg (D 23 0).toNatClampNeg, zu D 23 (hndS (wld D) (D 23) p.toNatClampNeg o.toNatClampNeg (D 23 0).toNatClampNeg), R) else (-1, D, R)
def fCount (D : zI) (R : List Int64) (n : Nat) (x : Int32) : zO := (if x = nI 0 then D 0 3 else if x = nI 1 then D 0 16 else if x = nI 2 then D 23 0 else if x = nI 3 then orB (isDn (D 23)) n else if x = nI 4 then D 0 50 else if x = nI 5 then sumI (fun p => D 23 (51 + p)) n else if x = nI 6 then sumI (fun p => D 23 (59 + p)) n else if x = nI 7 then D 23 1 else if x = nI 8 then nI R.length else if x = nI 9 then D 0 29 else -1, D, R)

def fRow (R : List Int64) (x : Int32) : Option Int64 := if rB x 0 ((R.length : Int) - 1) = true then some (R.getD x.toNatClampNeg 0) else none
def fVal (D : zI) (ro : Option (List Nat)) (p o : Int32) : Option Int32 := match ro with
  | none => none
  | some e => if (pB D p && oB D o) = true then some (ev (wld D) (D 23) p.toNatClampNeg o.toNatClampNeg ((D 23 0).toNatClampNeg + 1) e) else none
def fOfv (D : zI) (p : Nat) (x : Int32) : Int32 := if x = nI 0 then D 23 (3 + p) else if x = nI 1 then D 23 (11 + p) else if x = nI 2 then D 23 (19 + p) else if x = nI 3 then D 23 (27 + p) else if x = nI 4 then D 23 (35 + p) else if x = nI 5 then D 23 (43 + p) else if x = nI 6 then D 23 (51 + p) else if x = nI 7 then D 23 (59 + p) else nI (bI (rdy (wld D) (D 23) p))
def fOf (D : zI) (p x : Int32) : Option Int32 := if (pB D p && rB x 0 8) = true then some (fOfv D p.toNatClampNeg x) else none
def fEnd (D : zI) (R : List Int64) (x : Int32) : zO := if rB x 0 (D 0 29).toInt = true then (nI 1, zw D 0 29 x, R) else (nI 0, D, R)
def sgnT (D : zI) (v : Int32) (t : Nat) : Nat → zI
  | 0 => D
  | k + 1 => zw (sgnT D v t k) 28 (t + k) ((v >>> (nI (24 - 8 * k) &&& 31)) &&& nI 255)
def fSign (D : zI) (R : List Int64) (v : Int32) : zO := if D 0 29 ≤ nI 56 then (D 0 29 + nI 4, zw (sgnT D v (D 0 29).toNatClampNeg 4) 0 29 (D 0 29 + nI 4), R) else (-1, D, R)
/-- a row into the places from b on -/
def cpyN (X : zI) (a b : Nat) (s : zS) : Nat → zI
  | 0 => X
  | k + 1 => zw (cpyN X a b s k) a (b + k) (s k)
def fKeep (D : zI) (R : List Int64) (i : Int32) : zO := if rB i 0 2 = true then (nI 1, cpyN (zw D 56 i.toNatClampNeg (D 0 16)) 57 (127 * i.toNatClampNeg) (D 23) 127, R) else (nI 0, D, R)
def fAgain (D : zI) (R : List Int64) (i : Int32) : zO := if (rB i 0 2 && decide (D 56 i.toNatClampNeg = D 0 16)) = true then (nI 1, cpyN D 23 0 (fun k => D 57 (127 * i.toNatClampNeg + k)) 127, R) else (nI 0, D, R)
def fstN (D : zI) (o : Nat) : Nat → zI
  | 0 => D
  | k + 1 => zw (fstN D o k) 12 (100 * o + k) (vp_nar .boolean (nI 0))
def knwN (D : zI) (o : Nat) : Nat → zI
  | 0 => D
  | k + 1 => zw (zw (knwN D o k) 13 (6 * o + k) (nI 0)) 13 (6 * k + o) (nI 0)
def opn0 (D : zI) (o : Nat) (z f l y m c : Int32) : zI := zw (zw (zw (zw (zw (zw (zw (zw D 4 o z) 5 o f) 6 o l) 7 o y) 8 o m) 9 o c) 10 o (nI 0)) 11 o (nI 0)
def opnS (D : zI) (o : Nat) (z f l y m c : Int32) : zI := zw (zw (knwN (fstN (opn0 D o z f l y m c) o 100) o 6) 13 (6 * o + o) (nI 9)) 0 3 (nI (o + 1))
def fOffice (D : zI) (R : List Int64) (t l y c : Int32) : zO :=
  if (rB t 0 575 && (rB l 1 16 && (rB y 1 99 && (!decide (c < 0) && (rB (c / nI 64) 1 9 && (rB (c - c / nI 64 * nI 64) 1 63 && !decide (D 0 3 = nI 6))))))) = true then
    (D 0 3, opnS D (D 0 3).toNatClampNeg (t / nI 24) (t - t / nI 24 * nI 24) l y (c / nI 64) (c - c / nI 64 * nI 64), R)
  else (-1, D, R)
def pce0 (D : zI) (p : Nat) (f l a b q : Int32) : zI := zw (zw (zw (zw (zw (zw D 17 p (f - f / nI 6 * nI 6)) 22 p (f / nI 6)) 18 p l) 19 p a) 20 p b) 21 p q
def fPiece (D : zI) (R : List Int64) (f l a b q : Int32) : zO :=
  if (!decide (f < 0) && (rB (f / nI 6) 1 60 && (rB l 1 60 && (rB a 0 ((nI 1 <<< (D 0 16 &&& 31)) - nI 1).toInt && (oB D b && ((decide (q = -1) || oB D q) && !decide (D 0 16 = nI 8))))))) = true then
    (D 0 16, zw (zu (pce0 D (D 0 16).toNatClampNeg f l a b q) 23 (layS (wld (pce0 D (D 0 16).toNatClampNeg f l a b q)) (D 23) (D 0 16).toNatClampNeg)) 0 16 (D 0 16 + nI 1), R)
  else (-1, D, R)
def shV (f t : Int32) : Nat → Int32
  | 0 => f
  | k + 1 => shV f t k + t
def shI (y v : Int32) : Int32 := if y = nI 3 then nI 0 else if y = 0 then v.toInt8.toInt32 else if y = nI 1 then v.toInt16.toInt32 else v
def shW (y m : Int32) (o i : Nat) : Bool := !decide (i = o) && (decide (y = nI 3) || !decide (m ≤ nI i))
def shD (D : zI) (o : Nat) (y m f t : Int32) : Nat → zI
  | 0 => D
  | i + 1 => if shW y m o i = true then stKn (shD D o y m f t i) o i (mx (nI 0) (mn (nI 9) (shI y (shV f t i)))) else shD D o y m f t i
def shS (D : zI) (o : Nat) (y m f t : Int32) : Nat → Int32
  | 0 => nI 0
  | i + 1 => shS D o y m f t i + (if i = o then nI 0 else shD D o y m f t (i + 1) 13 (6 * o + i))
def fSheet (D : zI) (R : List Int64) (no : Nat) (o y m f t : Int32) : zO :=
  if (oB D o && (rB y 0 3 && decide (m ≤ nI 6))) = true then
    (if (!decide (y = nI 3) && !decide (0 ≤ m)) = true then (-2, D, R) else (shS D o.toNatClampNeg y m f t no, shD D o.toNatClampNeg y m f t no, R))
  else (-1, D, R)
def dkC (W : zI) (no : Nat) (c : Int32) (h : Nat) : Nat := cntB (fun o => zbit (W 9 o) c && opn W o h) no
/-- dark hours, the first, the most, when -/
def dkS (W : zI) (no : Nat) (c : Int32) (h : Nat) : Nat → Nat × Int32 × Nat × Nat
  | 0 => (0, -1, 0, h)
  | i + 1 => let t := dkS W no c h i
             let n := dkC W no c (h + i)
             (t.1 + bI (decide (n = 0)), if n = 0 then (if t.2.1 < 0 then nI (h + i) else t.2.1) else t.2.1, if n ≤ t.2.2.1 then t.2.2.1 else n, if n ≤ t.2.2.1 then t.2.2.2 else h + i)
def fDark (D : zI) (R : List Int64) (no : Nat) (c h : Int32) : zO :=
  if (rB c 0 5 && (rB h 0 2399 && !decide (D 0 3 = 0))) = true then
    (nI (dkS (wld D) no c h.toNatClampNeg 24).1, D, [(dkS (wld D) no c h.toNatClampNeg 24).2.1.toInt64, (nI (dkS (wld D) no c h.toNatClampNeg 24).2.2.1).toInt64, (nI (dkS (wld D) no c h.toNatClampNeg 24).2.2.2).toInt64])
  else (-1, D, R)
/-- what is told of an end -/
def endR (n : Nat) (s s2 : zS) : List Int64 := (List.range n).map (fun p => (s2 (35 + p)).toInt64) ++ [(sumI (fun p => s2 (51 + p)) n - sumI (fun p => s (51 + p)) n).toInt64, (sumI (fun p => s2 (59 + p)) n - sumI (fun p => s (59 + p)) n).toInt64, (s2 1 - s 1).toInt64]
def fEnds (D : zI) (R : List Int64) (ro : Option (List Nat)) (no n : Nat) : zO := if D 0 16 = 0 then (-1, D, R) else
  match pEnd (wld D) ro no n (D 23) with
  | none => (-2, D, R)
  | some s2 => (s2 0, D, endR n (D 23) s2)
def fstB (f : Nat → Bool) : Nat → Option Nat
  | 0 => none
  | n + 1 => match fstB f n with
    | some k => some k
    | none => if f n = true then some n else none
def jdI (rd wt wk : Int32) (p : Nat) : Bool := zbit rd (nI p) && (!zbit wt (nI p) && !zbit wk (nI p))
def jdN (W : zI) (no : Nat) (rd : Int32) (t : zK4) (h : Nat) : Nat → Option (Nat × Nat)
  | 0 => none
  | p + 1 => match jdN W no rd t h p with
    | some x => some x
    | none => if jdI rd t.2.1 t.2.2.1 p = true then (fstB (fun o => canW W t.2.2.2 h p o) no).map (fun o => (p, o)) else none
def jdgN (W : zI) (ro : Option (List Nat)) (no n : Nat) : Nat → zS → Option (Nat × Nat × Nat)
  | 0, _ => none
  | f + 1, s => if allDn s n = true then none else
    match jdN W no (rdyB W s n) (wrks W n s) (s 0).toNatClampNeg n with
    | some x => some ((s 0).toNatClampNeg, x)
    | none => jdgN W ro no n f (hrS W ro no n s)
def fJudge (D : zI) (R : List Int64) (ro : Option (List Nat)) (no n : Nat) : zO := if D 0 16 = 0 then (-1, D, R) else
  match jdgN (wld D) ro no n (2399 - (D 23 0).toNatClampNeg) (D 23) with
  | none => (-2, D, R)
  | some x => (nI x.1, D, [(nI x.2.1).toInt64, (nI x.2.2).toInt64])
/-- the first of the least, of those that there are -/
def minF (f : Nat → Option Nat) : Nat → Option (Nat × Nat)
  | 0 => none
  | w + 1 => match f w with
    | none => minF f w
    | some v => match minF f w with
      | none => some (w, v)
      | some b => if b.2 ≤ v then some b else some (w, v)
/-- the first of the most -/
def maxF (f : Nat → Option Nat) : Nat → Option (Nat × Nat)
  | 0 => none
  | w + 1 => match f w with
    | none => maxF f w
    | some v => match maxF f w with
      | none => some (w, v)
      | some b => if v ≤ b.2 then some b else some (w, v)
def endO (o : Option zS) : Option Nat := o.map (fun s => (s 0).toNatClampNeg)
/-- a piece alone at an office: hours left to look at, the hour, what is left, since, whether it waits, what was waited -/
def lieN (W : zI) (p o : Nat) : Nat → Nat → Int32 → Int32 → Bool → Nat → Option (Nat × Nat)
  | 0, _, _, _, _, _ => none
  | f + 1, h, l, s, w, k =>
    if w = true then lieN W p o f (h + 1) l s (!(opn W o h && opn W (W 21 p).toNatClampNeg h)) (k + 1)
    else if (opn W o h && zbit (W 9 o) (W 17 p)) = true then
      (if l + -1 = 0 then some (h + 1, k) else if W 21 p < 0 then lieN W p o f (h + 1) (l + -1) (s + nI 1) false k
       else if s + nI 1 = W 22 p then lieN W p o f (h + 1) (l + -1) (nI 0) true k else lieN W p o f (h + 1) (l + -1) (s + nI 1) false k)
    else lieN W p o f (h + 1) l s false k
def lieO (W : zI) (p h o : Nat) : Option (Nat × Nat) := lieN W p o (2399 - h) h (W 18 p) (nI 0) false 0
def fLie (D : zI) (R : List Int64) (no : Nat) (p h : Int32) : zO :=
  if (pB D p && rB h 0 2399) = true then
    match minF (fun o => (lieO (wld D) p.toNatClampNeg h.toNatClampNeg o).map (·.1)) no with
    | none => (-2, D, R)
    | some b => (nI b.1, D, [(nI b.2).toInt64, (nI (((lieO (wld D) p.toNatClampNeg h.toNatClampNeg b.1).map (·.2)).getD 0)).toInt64])
  else (-1, D, R)
-- a day that an office sleeps, a clock that is put: how it ends from now on
def slpD (D : zI) (o d : Nat) : zI := zw D 12 (100 * o + d) (nI 1)
def dif (a b : Option zS) : Int32 := match a with
  | none => -9999
  | some s => match b with
    | none => -9999
    | some s2 => s2 0 - s 0
def fSleeps (D : zI) (R : List Int64) (ro : Option (List Nat)) (no n : Nat) (o d : Int32) : zO :=
  if (oB D o && (rB d 0 99 && !decide (D 0 16 = 0))) = true then
    (if D 12 (100 * o.toNatClampNeg + d.toNatClampNeg) = 0 then dif (pEnd (wld D) ro no n (D 23)) (pEnd (wld (slpD D o.toNatClampNeg d.toNatClampNeg)) ro no n (D 23)) else -9998, D, R)
  else (-1, D, R)
def wstO (D : zI) (ro : Option (List Nat)) (no n o f i : Nat) : Option Nat := if D 12 (100 * o + (f + i)) = 0 then endO (pEnd (wld (slpD D o (f + i))) ro no n (D 23)) else none
def fWorst (D : zI) (R : List Int64) (ro : Option (List Nat)) (no n : Nat) (o f t : Int32) : zO :=
  if (oB D o && (rB f 0 99 && (rB t f.toInt 99 && !decide (D 0 16 = 0)))) = true then
    match maxF (wstO D ro no n o.toNatClampNeg f.toNatClampNeg) (t.toNatClampNeg + 1 - f.toNatClampNeg) with
    | none => (-2, D, R)
    | some b => (nI (f.toNatClampNeg + b.1), D, [(nI b.2).toInt64])
  else (-1, D, R)
def mrcD (D : zI) (o : Nat) (h : Int32) : zI := zw (zw D 10 o h) 11 o (nI 1)
def fMarch (D : zI) (R : List Int64) (ro : Option (List Nat)) (no n : Nat) (o h : Int32) : zO :=
  if (oB D o && (rB h 0 2399 && !decide (D 0 16 = 0))) = true then
    (dif (pEnd (wld D) ro no n (D 23)) (pEnd (wld (mrcD D o.toNatClampNeg h)) ro no n (D 23)), D, R)
  else (-1, D, R)
-- all in one house
def tgD (D : zI) (no n o : Nat) : zI := zw (zw (zw (zw (zu D 20 (fun p => if p < n then nI o else D 20 p)) 26 0 (nI 0)) 9 o (nI 63)) 8 o (mn (nI 9) (sumI (D 8) no))) 0 37 (nI 1)
def fTogether (D : zI) (R : List Int64) (no n : Nat) (o h : Int32) : zO :=
  if (oB D o && (rB h 0 2399 && !decide (D 0 16 = 0))) = true then
    let W := wld (tgD D no n o.toNatClampNeg)
    let s := begS W (D 23) n h.toNatClampNeg
    match pEnd W none no n s with
    | none => (-2, D, R)
    | some s2 => (s2 0, D, endR n s s2)
  else (-1, D, R)
-- an office more
def kn1 (D : zI) (o : Nat) (v : Int32) : Nat → zI
  | 0 => D
  | a + 1 => stKn (kn1 D o v a) a o v
def sitZ (D : zI) (no : Nat) (l c v : Int32) (z : Nat) : zI := kn1 (opnS D no (nI z) (nI 9) l (nI 1) (c / nI 64) (c - c / nI 64 * nI 64)) no v no
def sitD (D : zI) (no : Nat) (l c v : Int32) : Nat → zI
  | 0 => D
  | z + 1 => zw (sitZ (sitD D no l c v z) no l c v z) 0 3 (nI no)
def sitO (D : zI) (ro : Option (List Nat)) (no n : Nat) (l c v : Int32) (h z : Nat) : Option Nat :=
  let W := wld (sitZ (sitD D no l c v z) no l c v z)
  endO (pEnd W ro (no + 1) n (begS W (D 23) n h))
def fSite (D : zI) (R : List Int64) (ro : Option (List Nat)) (no n : Nat) (l c v h : Int32) : zO :=
  if (rB l 1 16 && (!decide (c < 0) && (rB (c / nI 64) 1 9 && (rB (c - c / nI 64 * nI 64) 1 63 && (rB v 0 9 && (rB h 0 2399 && (!decide (D 0 3 = nI 6) && !decide (D 0 16 = 0)))))))) = true then
    match minF (sitO D ro no n l c v h.toNatClampNeg) 24 with
    | none => (-2, sitD D no l c v 24, R)
    | some b => (nI b.1, sitD D no l c v 24, [(nI b.2).toInt64, (endV (pEnd (wld D) ro no n (begS (wld D) (D 23) n h.toNatClampNeg))).toInt64])
  else (-1, D, R)
-- pairs
def pr1 (D : zI) (a b : Int32) (k : Nat) : Bool := (decide (D 51 k = a) && decide (D 52 k = b)) || (decide (D 51 k = b) && decide (D 52 k = a))
def fPair (D : zI) (R : List Int64) (np : Nat) (a b y : Int32) : zO :=
  if (oB D a && (oB D b && (!decide (a = b) && (rB y 1 99 && (!decide (D 0 50 = nI 9) && (fstB (pr1 D a b) np).isNone))))) = true then
    (D 0 50 + nI 1, zw (zw (zw (zw D 51 np a) 52 np b) 53 np y) 0 50 (D 0 50 + nI 1), R)
  else (-1, D, R)
def brgN (D : zI) (x : Nat) : Nat → zI
  | 0 => D
  | k + 1 => if zbit (nI x) (nI k) = true then stKn (brgN D x k) (D 51 k).toNatClampNeg (D 52 k).toNatClampNeg (mn (nI 9) (brgN D x k 13 (6 * (D 51 k).toNatClampNeg + (D 52 k).toNatClampNeg) + nI 3)) else brgN D x k
def whE (D : zI) (ro : Option (List Nat)) (no n np h x : Nat) : Option zS :=
  let W := wld (brgN D x np)
  pEnd W ro no n (begS W (D 23) n h)
/-- of the soonest, the first of the cheapest -/
def whB (f : Nat → Option Nat) (g : Nat → Int32) : Nat → Option (Nat × Nat)
  | 0 => none
  | w + 1 => match f w with
    | none => whB f g w
    | some v => match whB f g w with
      | none => some (w, v)
      | some b => if v < b.2 then some (w, v) else if v = b.2 then (if g b.1 ≤ g w then some b else some (w, v)) else some b
def prcN (D : zI) (x : Nat) (k : Nat) : Int32 := sumI (fun k => if zbit (nI x) (nI k) = true then D 53 k else nI 0) k
def whO (D : zI) (ro : Option (List Nat)) (no n np : Nat) (c : Int32) (h x : Nat) : Option Nat := if prcN D x np ≤ c then endO (whE D ro no n np h x) else none
def fWhom (D : zI) (R : List Int64) (ro : Option (List Nat)) (no n np : Nat) (c h : Int32) : zO :=
  if (rB c 0 999 && (rB h 0 2399 && !decide (D 0 16 = 0))) = true then
    match whB (whO D ro no n np c h.toNatClampNeg) (fun x => prcN D x np) (2 ^ np) with
    | none => (-2, D, R)
    | some b => (nI b.2, D, [(nI b.1).toInt64, (prcN D b.1 np).toInt64])
  else (-1, D, R)
/-- the first of the most -/
def maxI (g : Nat → Int32) : Nat → Option (Nat × Int32)
  | 0 => none
  | k + 1 => match maxI g k with
    | none => some (k, g k)
    | some b => if g k ≤ b.2 then some b else some (k, g k)
def gnV (D : zI) (ro : Option (List Nat)) (no n np h k : Nat) : Int32 := match whE D ro no n np h (2 ^ k) with
  | none => -9999
  | some s => match whE D ro no n np h 0 with
    | none => -9999
    | some s0 => s0 0 - s 0
def fWorth (D : zI) (R : List Int64) (ro : Option (List Nat)) (no n np : Nat) (h : Int32) : zO :=
  if (rB h 0 2399 && !decide (D 0 16 = 0)) = true then
    (if D 0 50 = 0 then (-2, D, R) else match maxI (gnV D ro no n np h.toNatClampNeg) np with
      | none => (-1, D, [])
      | some b => (nI b.1, D, (List.range np).map (fun k => (gnV D ro no n np h.toNatClampNeg k).toInt64)))
  else (-1, D, R)
-- some pieces' homes
def ush (x : Int32) (k : Nat) : Int32 := (x.toUInt32 >>> ((nI k).toUInt32 &&& Int32.toUInt32 31)).toInt32
def bc1 (x : Int32) : Int32 := x - (ush x 1 &&& 1431655765)
def bc2 (x : Int32) : Int32 := (x &&& 858993459) + (ush x 2 &&& 858993459)
def bc3 (x : Int32) : Int32 := (x + ush x 4) &&& 252645135
def bc4 (x : Int32) : Int32 := x + ush x 8
def bc5 (x : Int32) : Int32 := x + ush x 16
/-- bits that are set, as the JDK counts them -/
def bcI (x : Int32) : Int32 := bc5 (bc4 (bc3 (bc2 (bc1 x)))) &&& nI 63
/-- a way: the last one's office lowest -/
def plc (x : Int32) (no : Nat) : Nat → Nat → zS → zS
  | 0, _, b => b
  | p + 1, w, b => if zbit x (nI p) = true then plc x no p (w / no) (zu b p (nI (w % no))) else plc x no p w b
def hmD (D : zI) (x : Int32) (no n w : Nat) : zI := zu (zw D 26 0 (nI 0)) 20 (plc x no n w (D 20))
def hmE (D : zI) (x : Int32) (no n h w : Nat) : Option zS :=
  let W := wld (hmD D x no n w)
  pEnd W none no n (begS W (D 23) n h)
def hmR (D : zI) (x : Int32) (no n w : Nat) : List Int64 := ((List.range n).filter (fun p => zbit x (nI p))).map (fun p => (plc x no n w (D 20) p).toInt64)
def fHomes (D : zI) (R : List Int64) (no n : Nat) (x h : Int32) : zO :=
  if (rB x 1 ((nI 1 <<< (D 0 16 &&& 31)) - nI 1).toInt && (decide (bcI x ≤ nI 4) && rB h 0 2399)) = true then
    match minF (fun w => endO (hmE D x no n h.toNatClampNeg w)) (no ^ cntB (fun p => zbit x (nI p)) n) with
    | none => (-2, D, R)
    | some b => (nI b.2, D, hmR D x no n b.1)
  else (-1, D, R)
-- what is understood otherwise
def chN (s : zS) : Nat → Nat → Int64
  | 0, j => if j = 0 then 1 else 0
  | i + 1, j => chN s i j * (nI 100 - s (67 + i)).toInt64 + (if j = 0 then 0 else chN s i (j - 1) * (s (67 + i)).toInt64)
def p100 : Nat → Int64
  | 0 => 1
  | i + 1 => p100 i * 100
def sumL (f : Nat → Int64) : Nat → Int64
  | 0 => 0
  | n + 1 => sumL f n + f n
def cmn (a b : Int64) : Int64 := gcdL (b.toInt.natAbs + 1) a b
def frc (a b : Int64) : List Int64 := [a / cmn a b, b / cmn a b]
def fWrong (D : zI) (R : List Int64) (k : Int32) : zO :=
  if rB k 0 8 = true then (nI 0, D, frc (sumL (fun i => chN (D 23) (min 8 (D 23 2).toNatClampNeg) (k.toNatClampNeg + i)) (9 - k.toNatClampNeg)) (p100 (min 8 (D 23 2).toNatClampNeg))) else (-1, D, R)
def fMean (D : zI) (R : List Int64) (h : Int32) : zO :=
  if rB h 1 99 = true then (D 23 2, D, frc (sumL (fun i => (D 23 (67 + i)).toInt64) (D 23 2).toNatClampNeg * h.toInt64) 100) else (-1, D, R)
def rkN (s : zS) : Nat → Nat
  | 0 => 0
  | h + 1 => if s (67 + (h + 1)) ≤ s (67 + rkN s h) then rkN s h else h + 1
def fRisk (D : zI) (R : List Int64) : zO :=
  if D 23 2 = 0 then (-2, D, R) else (nI (rkN (D 23) ((D 23 2).toNatClampNeg - 1)), D, [(D 23 (67 + rkN (D 23) ((D 23 2).toNatClampNeg - 1))).toInt64])
