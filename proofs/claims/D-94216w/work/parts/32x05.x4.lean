set_option maxRecDepth 100000
/-! THE COMPONENT, part 4: the rule -/
section X4
variable {G : zG} {d C Sl : Nat} {I D W : zI} {R : List Int64} {L : zL} {P : zR} {S : zT} {Q : zQ} {no n np : Nat} {s : zS} {oh ph : Nat → Nat}
/-- but the case (300) all is as it was -/
def f3 {α : Type} (f g : Nat → α) : Prop := ∀ a, a ≠ 300 → g a = f a
theorem f3.rf {α : Type} {f : Nat → α} : f3 f f := fun _ _ => rfl
theorem f3.tr {α : Type} {f g k : Nat → α} (a : f3 f g) (b : f3 g k) : f3 f k := fun x hx => (b x hx).trans (a x hx)
theorem f3.st {α : Type} {f g : Nat → Nat → α} {k : Nat} {v : α} (a : f3 f g) : f3 f (zw g 300 k v) := fun x hx => (zw_n _ _ _ _ hx).trans (a x hx)
theorem wdO.f3 {P2 : zR} {h : Nat} (g : wdO S P h) (f : f3 P P2) (h1 : h ≠ 300 ∧ h + 2 ≠ 300) : wdO S P2 h := ⟨g.1, ⟨g.2.1.1, by rw [f h h1.1]; exact g.2.1.2⟩, ⟨g.2.2.1.1, by rw [f h h1.1]; exact g.2.2.1.2⟩, fun a ha => ⟨(g.2.2.2 a ha).1, by rw [f _ h1.2]; exact (g.2.2.2 a ha).2⟩⟩
theorem stO.f3 {P2 : zR} {h : Nat} (g : stO S P h) (f : f3 P P2) (h1 : h ≠ 300) : stO S P2 h := ⟨g.1, fun k q hq => ⟨(g.2.1 k q hq).1, by rw [f h h1]; exact (g.2.1 k q hq).2⟩, by rw [f h h1]; exact g.2.2⟩
theorem xO.f3 {P2 : zR} (g : xO S P) (f : f3 P P2) : xO S P2 := by
  obtain ⟨g1, g2, g3, g4, g5, g6, g7, g8⟩ := g
  exact ⟨g1, g2, fun k q hq => ⟨(g3 k q hq).1, by rw [f 100 (by decide)]; exact (g3 k q hq).2⟩, by rw [f 100 (by decide)]; exact g4, g5.f3 f (by decide), g6.f3 f (by decide), g7.f3 f (by decide), g8.f3 f (by decide)⟩
theorem oOk.f3 {P2 : zR} {a : Nat} (g : oOk S P a) (f : f3 P P2) (h : a ≠ 300) : oOk S P2 a := ⟨g.1, g.2.1, by rw [f a h]; exact g.2.2⟩
theorem wRw.fI {I2 : zI} {h : Nat} (g : wRw S P I h W no oh) (f : ∀ a, (a = h ∨ (h + 3 ≤ a ∧ a ≤ h + 8) ∨ 6000 ≤ a) → I2 a = I a) (h6 : ∀ o, o < no → 6000 ≤ oh o) : wRw S P I2 h W no oh := by
  obtain ⟨⟨g1, g2, g3⟩, g4, g5⟩ := g
  refine ⟨by rw [f h (Or.inl rfl)]; exact ⟨g1, g2, g3⟩, fun a b ha hb => by rw [f _ (Or.inr (Or.inl (by omega)))]; exact g4 a b ha hb, fun o ho => ?_⟩
  obtain ⟨q1, q2, q3⟩ := g5 o ho
  have := h6 o ho
  refine ⟨q1, q2, ?_⟩
  unfold oRw
  rw [f (oh o) (Or.inr (Or.inr this)), f (oh o + 8) (Or.inr (Or.inr (by omega)))]
  exact q3
theorem wRw.fP {P2 : zR} {h : Nat} (g : wRw S P I h W no oh) (f : f3 P P2) (h1 : h + 1 ≠ 300) (h6 : ∀ o, o < no → 6000 ≤ oh o) : wRw S P2 I h W no oh := ⟨g.1, g.2.1, fun o ho => by
  obtain ⟨q1, q2, q3⟩ := g.2.2 o ho
  exact ⟨by rw [f _ h1]; exact q1, q2.f3 f (by have := h6 o ho; omega), q3⟩⟩
theorem pcR.fP {P2 : zR} (g : pcR S P I W n ph) (f : f3 P P2) : pcR S P2 I W n ph := fun p hp => by
  obtain ⟨a, b⟩ := g p hp
  exact ⟨by rw [f 110 (by decide)]; exact a, b⟩
/-- the object's things, a world at w, a state at h -/
def hE (W : zI) (no n : Nat) (oh ph : Nat → Nat) (w h : Nat) (I : zI) (P : zR) (S : zT) : Prop :=
  (xO S P ∧ I 100 1 = nI n) ∧ (wdO S P w ∧ wRw S P I w W no oh) ∧ (stO S P h ∧ pcR S P I W n ph) ∧ ((wf W no n ∧ xf W n) ∧ (230 ≤ h ∧ h + 14 < 300 ∧ w + 8 < 230 ∧ 110 < w) ∧ (∀ o, o < no → 6000 ≤ oh o) ∧ ∀ p, p < n → 6000 ≤ ph p)
section HE
variable {w h : Nat}
theorem hE.x (e : hE W no n oh ph w h I P S) : xO S P := e.1.1
theorem hE.nn (e : hE W no n oh ph w h I P S) : I 100 1 = nI n := e.1.2
theorem hE.wd (e : hE W no n oh ph w h I P S) : wdO S P w := e.2.1.1
theorem hE.wr (e : hE W no n oh ph w h I P S) : wRw S P I w W no oh := e.2.1.2
theorem hE.st (e : hE W no n oh ph w h I P S) : stO S P h := e.2.2.1.1
theorem hE.pc (e : hE W no n oh ph w h I P S) : pcR S P I W n ph := e.2.2.1.2
theorem hE.hw (e : hE W no n oh ph w h I P S) : wf W no n := e.2.2.2.1.1
theorem hE.hx (e : hE W no n oh ph w h I P S) : xf W n := e.2.2.2.1.2
theorem hE.b (e : hE W no n oh ph w h I P S) : 230 ≤ h ∧ h + 14 < 300 ∧ w + 8 < 230 ∧ 110 < w := e.2.2.2.2.1
theorem hE.ho (e : hE W no n oh ph w h I P S) : ∀ o, o < no → 6000 ≤ oh o := e.2.2.2.2.2.1
theorem hE.hp (e : hE W no n oh ph w h I P S) : ∀ p, p < n → 6000 ≤ ph p := e.2.2.2.2.2.2
/-- a state and the case may have changed -/
def fH (h : Nat) (I I2 : zI) : Prop := ∀ a, a ≠ 300 → ¬ (h ≤ a ∧ a ≤ h + 14) → I2 a = I a
theorem fH.rf : fH h I I := fun _ _ _ => rfl
theorem fH.tr {I2 I3 : zI} (a : fH h I I2) (b : fH h I2 I3) : fH h I I3 := fun x h1 h2 => (b x h1 h2).trans (a x h1 h2)
theorem fH.of {I2 : zI} (a : frS h I I2) : fH h I I2 := fun x _ h2 => a x h2
theorem fH.of3 {I2 : zI} (a : f3 I I2) : fH h I I2 := fun x h1 _ => a x h1
theorem fH.st {I2 : zI} {a k : Nat} {v : Int32} (g : fH h I I2) (ha : h ≤ a ∧ a ≤ h + 14) : fH h I (zw I2 a k v) := fun x h1 h2 => (zw_n _ _ _ _ (by rintro rfl; exact h2 ha)).trans (g x h1 h2)
theorem hE.fr {I2 : zI} {P2 : zR} (e : hE W no n oh ph w h I P S) (fI : fH h I I2) (fP : f3 P P2) : hE W no n oh ph w h I2 P2 S := by
  obtain ⟨⟨a1, a2⟩, ⟨b1, b2⟩, ⟨c1, c2⟩, d1, d2, d3, d4⟩ := e
  refine ⟨⟨a1.f3 fP, by rw [fI 100 (by decide) (by omega)]; exact a2⟩, ⟨b1.f3 fP (by omega), ?_⟩, ⟨c1.f3 fP (by omega), ?_⟩, d1, d2, d3, d4⟩
  · exact (b2.fI (fun a ha => fI a (by omega) (by omega)) d3).fP fP (by omega) d3
  · exact (c2.fr (fun p hp => fI _ (by have := d4 p hp; omega) (by have := d4 p hp; omega))).fP fP
theorem sRw.c3 {I2 : zI} (g : sRw n I h s) (f : f3 I I2) (hb : 230 ≤ h ∧ h + 14 < 300) : sRw n I2 h s := g.fr fun k hk => f _ (by omega)
end HE
/-- the rule as a tree of nodes says what the marks say -/
def nR (I : zI) (P : zR) (S : zT) : Nat → Nat → List Nat → Prop
  | 0, _, _ => False
  | f + 1, r, c => 7000 ≤ r ∧ ((S r = some (.inl 11) ∧ ∃ v, v ≤ 999 ∧ I r 0 = nI v ∧ c = [v]) ∨ (S r = some (.inl 12) ∧ ∃ k, k ≤ 11 ∧ I r 0 = nI (sgL.getD k 0) ∧ c = [1000 + k]) ∨
      (S r = some (.inl 8) ∧ ∃ q a, P r 0 = some q ∧ nR I P S f q a ∧ c = a ++ [2126]) ∨ (S r = some (.inl 9) ∧ ∃ q a, P r 0 = some q ∧ nR I P S f q a ∧ c = a ++ [2033]) ∨
      (S r = some (.inl 13) ∧ ∃ op q1 q2 a b, (op = 124 ∨ op = 38 ∨ op = 60 ∨ op = 62 ∨ op = 61 ∨ op = 43 ∨ op = 45 ∨ op = 42) ∧ I r 0 = nI op ∧ P r 1 = some q1 ∧ P r 2 = some q2 ∧ nR I P S f q1 a ∧ nR I P S f q2 b ∧ c = a ++ b ++ [2000 + op]))
theorem nR.fr {I2 : zI} {P2 : zR} {S2 : zT} (hf : ∀ a, 7000 ≤ a → S a ≠ none → I2 a = I a ∧ P2 a = P a ∧ S2 a = S a) : ∀ {f r : Nat} {c : List Nat}, nR I P S f r c → nR I2 P2 S2 f r c := by
  intro f
  induction f with
  | zero => exact fun h => h
  | succ f ih =>
    rintro r c ⟨h7, h⟩
    have e : I2 r = I r ∧ P2 r = P r ∧ S2 r = S r := hf r h7 (by
      rcases h with ⟨q, -⟩ | ⟨q, -⟩ | ⟨q, -⟩ | ⟨q, -⟩ | ⟨q, -⟩ <;> rw [q] <;> simp)
    refine ⟨h7, ?_⟩
    rw [e.1, e.2.1, e.2.2]
    rcases h with h | h | ⟨h1, q, a, h2, h3, h4⟩ | ⟨h1, q, a, h2, h3, h4⟩ | ⟨h1, op, q1, q2, a, b, h2, h3, h4, h5, h6, h7, h8⟩
    · exact Or.inl h
    · exact Or.inr (Or.inl h)
    · exact Or.inr (Or.inr (Or.inl ⟨h1, q, a, h2, ih h3, h4⟩))
    · exact Or.inr (Or.inr (Or.inr (Or.inl ⟨h1, q, a, h2, ih h3, h4⟩)))
    · exact Or.inr (Or.inr (Or.inr (Or.inr ⟨h1, op, q1, q2, a, b, h2, h3, h4, h5, ih h6, ih h7, h8⟩)))
theorem nR.c3 {I2 : zI} {P2 : zR} (f1 : f3 I I2) (f2 : f3 P P2) {f r : Nat} {c : List Nat} (h : nR I P S f r c) : nR I2 P2 S f r c := h.fr fun a ha _ => ⟨f1 a (by omega), f2 a (by omega), rfl⟩
theorem nR.fH {h : Nat} {I2 : zI} {P2 : zR} (f1 : fH h I I2) (f2 : f3 P P2) (hb : h + 14 < 300) {f r : Nat} {c : List Nat} (g : nR I P S f r c) : nR I2 P2 S f r c := g.fr fun a ha _ => ⟨f1 a (by omega) (by omega), f2 a (by omega), rfl⟩
theorem nR.E : ∀ {f r : Nat} {c : List Nat}, nR I P S f r c → isE f c := by
  intro f
  induction f with
  | zero => exact fun h => h
  | succ f ih =>
    rintro r c ⟨-, h | h | ⟨h1, q, a, h2, h3, h4⟩ | ⟨h1, q, a, h2, h3, h4⟩ | ⟨h1, op, q1, q2, a, b, h2, h3, h4, h5, h6, h7, h8⟩⟩
    · obtain ⟨-, v, h1, -, h2⟩ := h
      exact Or.inl ⟨v, h1, h2⟩
    · obtain ⟨-, v, h1, -, h2⟩ := h
      exact Or.inr (Or.inl ⟨v, h1, h2⟩)
    · exact Or.inr (Or.inr (Or.inl ⟨a, ih h3, Or.inl h4⟩))
    · exact Or.inr (Or.inr (Or.inl ⟨a, ih h3, Or.inr h4⟩))
    · exact Or.inr (Or.inr (Or.inr ⟨op, a, b, h2, ih h6, ih h7, h8⟩))
/-- a world's rule -/
def ruX (I : zI) (P : zR) (S : zT) (w : Nat) (ro : Option (List Nat)) : Prop := match ro with
  | none => P w 5 = none
  | some e => ∃ r f, P w 5 = some r ∧ f ≤ 45 ∧ nR I P S f r e
theorem ruX.fH {h w : Nat} {ro : Option (List Nat)} {I2 : zI} {P2 : zR} (g : ruX I P S w ro) (f1 : fH h I I2) (f2 : f3 P P2) (hb : h + 14 < 300) (hw : w ≠ 300) : ruX I2 P2 S w ro := by
  cases ro with
  | none => show P2 w 5 = none; rw [f2 w hw]; exact g
  | some e =>
    obtain ⟨r, f, g1, g2, g3⟩ := g
    exact ⟨r, f, by rw [f2 w hw]; exact g1, g2, g3.fH f1 f2 hb⟩
/-- the case -/
def cR (I : zI) (P : zR) (w h p o : Nat) : Prop := (P 300 0 = some w ∧ P 300 3 = some h) ∧ I 300 1 = nI p ∧ I 300 2 = nI o
set_option maxHeartbeats 4000000 in
theorem c_X4_of (hS : S 300 = some (.inl 3)) {w h p o : Nat} (k : Q (.inl (some (.ref 300))) (zw (zw I 300 1 (nI p)) 300 2 (nI o)) L (zw (zw P 300 0 (some w)) 300 3 (some h)) S) : Zm G mX4_of 0 C Sl [.ref 300, .ref w, .ref h, .int (nI p), .int (nI o)] I L P S Q := by
  refine Z_entry (lv := [_, _, _, _, _]) (Nat.le_of_ble_eq_true rfl) rfl ?_
  refine Z_aload_n dX4_of_0 rfl ?_
  refine Z_aload_n dX4_of_1 rfl ?_
  refine Z_putR hS fX4_9_3 dX4_of_2 rfl ?_
  refine Z_aload_n dX4_of_5 rfl ?_
  refine Z_aload_n dX4_of_6 rfl ?_
  refine Z_putR hS fX4_15_3 dX4_of_7 rfl ?_
  refine Z_aload_n dX4_of_10 rfl ?_
  refine Z_iload_n dX4_of_11 rfl ?_
  refine Z_putI hS fX4_19_3 dX4_of_12 rfl rfl rfl ?_
  refine Z_aload_n dX4_of_15 rfl ?_
  refine Z_iload dX4_of_16 rfl ?_
  refine Z_putI hS fX4_23_3 dX4_of_18 rfl rfl rfl ?_
  refine Z_aload_n dX4_of_21 rfl ?_
  refine Z_areturn dX4_of_22 rfl (by first | exact Or.inl ⟨_, rfl⟩ | exact Or.inr ⟨_, rfl⟩) ?_
  exact k
theorem opIn_s {o h i : Nat} (hi : i < 99) : opInN W o h (99 - i) = if opn W o (h + i) = true then i else opInN W o h (99 - (i + 1)) := by
  rw [show 99 - i = (98 - i) + 1 by omega, opInN, show 98 - (98 - i) = i by omega, show 98 - i = 99 - (i + 1) by omega]
set_option maxHeartbeats 4000000 in
theorem c_X4_rest {w h : Nat} (e : hE W no n oh ph w h I P S) {p o t : Nat} (hC : cR I P w h p o) (ho : o < no) (k : Q (.inl (some (.int (nI (opIn W o t))))) I L P S) : Zm G mX4_rest 2 C Sl [.ref 300, .int (nI t)] I L P S Q := by
  have hx := e.x
  have hO := e.wd
  have hR := e.wr
  have hT := e.st
  have hPc := e.pc
  have hw := e.hw
  have hf := e.hx
  have hb := e.b
  have hn := e.nn
  have n8 := hw.n8
  have h6 := hw.o6
  have hn8 := hw.n8
  refine Z_entry (lv := [_, _, _]) (Nat.le_of_ble_eq_true rfl) rfl ?_
  refine Z_iconst (nI 0) dX4_rest_0 rfl ?_
  refine Z_istore_n (lv' := [_, _, _]) dX4_rest_1 rfl rfl (Nat.le_of_ble_eq_true rfl) ?_
  have lp2 : ∀ i, i ≤ 99 → Q (.inl (some (.int (nI (opInN W o t (99 - i)))))) I L P S → Zj G mX4_rest 2 C Sl 2 [.ref 300, .int (nI t), .int (nI i)] [] I L P S Q := by
    refine zloop (99) (fun i => Q (.inl (some (.int (nI (opInN W o t (99 - i)))))) I L P S → Zj G mX4_rest 2 C Sl 2 [.ref 300, .int (nI t), .int (nI i)] [] I L P S Q) (fun i hi ih => ?_)
    intro k2
    show Zj _ _ _ _ _ _ _ _ _ _ _ _ _
    refine Z_iload_n dX4_rest_2 rfl ?_
    refine Z_bipush (nI 99) dX4_rest_3 rfl ?_
    refine Z_icmpgeN 35 dX4_rest_5 rfl (by omega) (by omega) (fun c5 => ?_) (fun c5 => ?_)
    · obtain rfl : i = 99 := by omega
      refine Z_iload_n dX4_rest_35 rfl ?_
      refine Z_ireturn dX4_rest_36 rfl rfl ?_
      exact k2
    · refine Z_aload_n dX4_rest_8 rfl ?_
      refine Z_getR (r := w) hx.2.1 fX4_9_3 dX4_rest_9 rfl hC.1.1 ?_
      refine Z_getR (r := (w + 1)) hO.1 fX4_48_1 dX4_rest_12 rfl hO.2.1.2 ?_
      refine Z_aload_n dX4_rest_15 rfl ?_
      refine Z_getI hx.2.1 fX4_23_3 dX4_rest_16 rfl ?_
      refine Z_re (y := nI (o)) hC.2.2 ?_
      refine Z_aald (r := (oh o)) hO.2.1.1 (by simp [zTys]) rfl (zix_nI (by first | omega | (dsimp only; omega)) (by decide)) (hR.2.2 o (by omega)).1 dX4_rest_19 ?_
      refine Z_iload_n dX4_rest_20 rfl ?_
      refine Z_iload_n dX4_rest_21 rfl ?_
      refine Z_iaddN dX4_rest_22 ?_
      refine Z_call0 (d' := 1) (zCal_V gX4_52 nX6_isOpen (by decide) dX4_rest_23) pX6_isOpen (hR.2.2 o (by omega)).2.1.1 zkl5 [_] rfl rfl (Nat.le_of_ble_eq_true rfl) (by omega) (c_X6_isOpen (hR.2.2 o (by omega)).2.1 (hR.2.2 o (by omega)).2.2 (fun h23 => ?_) (fun h23 => ?_))
      · refine Z_ifne 35 dX4_rest_26 rfl (fun _ => ?_) (fun h => absurd h (by decide))
        refine Z_iload_n dX4_rest_35 rfl ?_
        refine Z_ireturn dX4_rest_36 rfl rfl ?_
        rw [opIn_s (by omega), if_pos h23] at k2
        exact k2
      · refine Z_ifne 35 dX4_rest_26 rfl (fun h => absurd h (by decide)) (fun _ => ?_)
        refine Z_iincN (a := _) (k := 1) (lv' := [_, _, _]) dX4_rest_29 rfl rfl rfl rfl ?_
        refine Z_goto 2 dX4_rest_32 rfl ?_
        exact ih (by omega) (by rw [opIn_s (by omega), if_neg (by rw [h23]; decide)] at k2; exact k2)
  exact lp2 0 (by omega) k
set_option maxHeartbeats 4000000 in
theorem c_X4_value {w h : Nat} (e : hE W no n oh ph w h I P S) {p o a t : Nat} (hC : cR I P w h p o) (hp : p < n) (ho : o < no) (g : sRw n I h s) (ha : s (3 + p) = nI a) (haN : a < no) (h0 : s 0 = nI t) (ht : t ≤ 2399) (h37 : W 0 37 = 0) {g9 : Nat} (hg9 : g9 ≤ 11) (k : Q (.inl (some (.int (sgnV W s g9 p o (t + 1))))) I L P S) : Zm G mX4_value 4 C Sl [.ref 300, .int (nI (sgL.getD g9 0))] I L P S Q := by
  have hx := e.x
  have hO := e.wd
  have hR := e.wr
  have hT := e.st
  have hPc := e.pc
  have hw := e.hw
  have hf := e.hx
  have hb := e.b
  have hn := e.nn
  have n8 := hw.n8
  have h6 := hw.o6
  have hn8 := hw.n8
  have e1 : (s (3 + p)).toNatClampNeg = a := by rw [ha, nI_clamp (by omega)]
  have h38 : askd W p = W 21 p := by unfold askd; rw [if_pos h37]
  refine Z_entry (lv := [_, _, _, _]) (Nat.le_of_ble_eq_true rfl) rfl ?_
  refine Z_aload_n dX4_value_0 rfl ?_
  refine Z_getR (r := h) hx.2.1 fX4_15_3 dX4_value_1 rfl hC.1.2 ?_
  refine Z_getR (r := (h + 4)) hT.1 fX4_26_2 dX4_value_4 rfl (hT.2.1 4 _ rfl).2 ?_
  refine Z_aload_n dX4_value_7 rfl ?_
  refine Z_getI hx.2.1 fX4_19_3 dX4_value_8 rfl ?_
  refine Z_re (y := nI (p)) hC.2.1 ?_
  refine Z_iald (hT.2.1 4 _ rfl).1 (zix_nI (by first | omega | (dsimp only; omega)) (by decide)) dX4_value_11 ?_
  refine Z_re (y := nI (a)) ((g.f (k := 4) (by decide) (by decide) (p := p) (by omega)).trans ha) ?_
  refine Z_istore_n (lv' := [_, _, _, _]) dX4_value_12 rfl rfl (Nat.le_of_ble_eq_true rfl) ?_
  refine Z_aload_n dX4_value_13 rfl ?_
  refine Z_getR (r := h) hx.2.1 fX4_15_3 dX4_value_14 rfl hC.1.2 ?_
  refine Z_getI hT.1 fX4_32_2 dX4_value_17 rfl ?_
  refine Z_re (y := nI (t)) (g.1.1.trans h0) ?_
  refine Z_iconst (nI 1) dX4_value_20 rfl ?_
  refine Z_iaddN dX4_value_21 ?_
  refine Z_istore_n (lv' := [_, _, _, _]) dX4_value_22 rfl rfl (Nat.le_of_ble_eq_true rfl) ?_
  refine Z_iload_n dX4_value_23 rfl ?_
  obtain rfl | rfl | rfl | rfl | rfl | rfl | rfl | rfl | rfl | rfl | rfl | rfl : g9 = 0 ∨ g9 = 1 ∨ g9 = 2 ∨ g9 = 3 ∨ g9 = 4 ∨ g9 = 5 ∨ g9 = 6 ∨ g9 = 7 ∨ g9 = 8 ∨ g9 = 9 ∨ g9 = 10 ∨ g9 = 11 := by omega
  · refine Z_re (y := nI 107) rfl ?_
    refine Z_tableIn 128 dX4_value_24 (by decide) (by decide) rfl rfl ?_
    refine Z_aload_n dX4_value_128 rfl ?_
    refine Z_getR (r := w) hx.2.1 fX4_9_3 dX4_value_129 rfl hC.1.1 ?_
    refine Z_getR (r := (w + 2)) hO.1 fX4_35_1 dX4_value_132 rfl hO.2.2.1.2 ?_
    refine Z_iload_n dX4_value_135 rfl ?_
    refine Z_aald (r := (w + 3 + a)) hO.2.2.1.1 (by simp [zTys]) rfl (zix_nI (by first | omega | (dsimp only; omega)) (by decide)) (hO.2.2.2 a (by omega)).2 dX4_value_136 ?_
    refine Z_aload_n dX4_value_137 rfl ?_
    refine Z_getI hx.2.1 fX4_23_3 dX4_value_138 rfl ?_
    refine Z_re (y := nI (o)) hC.2.2 ?_
    refine Z_iald (hO.2.2.2 a (by omega)).1 (zix_nI (by first | omega | (dsimp only; omega)) (by decide)) dX4_value_141 ?_
    refine Z_re (hR.kn h6 (by omega) (by omega)) ?_
    refine Z_ireturn dX4_value_142 rfl rfl ?_
    exact zQe (by simp only [sgnV, e1]) k
  · refine Z_re (y := nI 108) rfl ?_
    refine Z_tableIn 143 dX4_value_24 (by decide) (by decide) rfl rfl ?_
    refine Z_aload_n dX4_value_143 rfl ?_
    refine Z_getR (r := w) hx.2.1 fX4_9_3 dX4_value_144 rfl hC.1.1 ?_
    refine Z_iload_n dX4_value_147 rfl ?_
    refine Z_aload_n dX4_value_148 rfl ?_
    refine Z_getI hx.2.1 fX4_23_3 dX4_value_149 rfl ?_
    refine Z_re (y := nI (o)) hC.2.2 ?_
    refine Z_iload_n dX4_value_152 rfl ?_
    refine Z_call0 (d' := 3) (zCal_V gX4_41 nX2_lost (by decide) dX4_value_153) pX2_lost hO.1 zkl1 [_, _, _] rfl rfl (Nat.le_of_ble_eq_true rfl) (by omega) (c_X2_lost hO hR h6 (by omega) (by omega) (by omega) ?_)
    refine Z_ireturn dX4_value_156 rfl rfl ?_
    exact zQe (by simp only [sgnV, e1]) k
  · refine Z_re (y := nI 111) rfl ?_
    refine Z_tableIn 157 dX4_value_24 (by decide) (by decide) rfl rfl ?_
    refine Z_aload_n dX4_value_157 rfl ?_
    refine Z_getR (r := w) hx.2.1 fX4_9_3 dX4_value_158 rfl hC.1.1 ?_
    refine Z_iload_n dX4_value_161 rfl ?_
    refine Z_aload_n dX4_value_162 rfl ?_
    refine Z_getI hx.2.1 fX4_23_3 dX4_value_163 rfl ?_
    refine Z_re (y := nI (o)) hC.2.2 ?_
    refine Z_iload_n dX4_value_166 rfl ?_
    refine Z_call0 (d' := 2) (zCal_V gX4_45 nX2_overlap (by decide) dX4_value_167) pX2_overlap hO.1 zkl1 [_, _, _] rfl rfl (Nat.le_of_ble_eq_true rfl) (by omega) (c_X2_overlap hO hR h6 (by omega) (by omega) (by omega) ?_)
    refine Z_ireturn dX4_value_170 rfl rfl ?_
    exact zQe (by simp only [sgnV, e1]) k
  · refine Z_re (y := nI 119) rfl ?_
    refine Z_tableIn 171 dX4_value_24 (by decide) (by decide) rfl rfl ?_
    refine Z_aload_n dX4_value_171 rfl ?_
    refine Z_getR (r := w) hx.2.1 fX4_9_3 dX4_value_172 rfl hC.1.1 ?_
    refine Z_getR (r := (w + 1)) hO.1 fX4_48_1 dX4_value_175 rfl hO.2.1.2 ?_
    refine Z_aload_n dX4_value_178 rfl ?_
    refine Z_getI hx.2.1 fX4_23_3 dX4_value_179 rfl ?_
    refine Z_re (y := nI (o)) hC.2.2 ?_
    refine Z_aald (r := (oh o)) hO.2.1.1 (by simp [zTys]) rfl (zix_nI (by first | omega | (dsimp only; omega)) (by decide)) (hR.2.2 o (by omega)).1 dX4_value_182 ?_
    refine Z_iload_n dX4_value_183 rfl ?_
    refine Z_call0 (d' := 1) (zCal_V gX4_52 nX6_isOpen (by decide) dX4_value_184) pX6_isOpen (hR.2.2 o (by omega)).2.1.1 zkl5 [_] rfl rfl (Nat.le_of_ble_eq_true rfl) (by omega) (c_X6_isOpen (hR.2.2 o (by omega)).2.1 (hR.2.2 o (by omega)).2.2 (fun h184 => ?_) (fun h184 => ?_))
    · refine Z_ifeq 194 dX4_value_187 rfl (fun h => absurd h (by decide)) (fun _ => ?_)
      refine Z_iconst (nI 1) dX4_value_190 rfl ?_
      refine Z_goto 195 dX4_value_191 rfl ?_
      refine Z_ireturn dX4_value_195 rfl rfl ?_
      exact zQe (by simp [sgnV, e1, bI, nI_eq, h184]) k
    · refine Z_ifeq 194 dX4_value_187 rfl (fun _ => ?_) (fun h => absurd h (by decide))
      refine Z_iconst (nI 0) dX4_value_194 rfl ?_
      refine Z_ireturn dX4_value_195 rfl rfl ?_
      exact zQe (by simp [sgnV, e1, bI, nI_eq, h184]) k
  · refine Z_re (y := nI 114) rfl ?_
    refine Z_tableIn 196 dX4_value_24 (by decide) (by decide) rfl rfl ?_
    refine Z_aload_n dX4_value_196 rfl ?_
    refine Z_iload_n dX4_value_197 rfl ?_
    refine Z_call0 (d' := 2) (zCal_V gX4_58 nX4_rest (by decide) dX4_value_198) pX4_rest hx.2.1 zkl3 [_] rfl rfl (Nat.le_of_ble_eq_true rfl) (by omega) (c_X4_rest e hC ho ?_)
    refine Z_ireturn dX4_value_201 rfl rfl ?_
    exact zQe (by simp only [sgnV, e1]) k
  · refine Z_re (y := nI 99) rfl ?_
    refine Z_tableIn 202 dX4_value_24 (by decide) (by decide) rfl rfl ?_
    refine Z_aload_n dX4_value_202 rfl ?_
    refine Z_getR (r := w) hx.2.1 fX4_9_3 dX4_value_203 rfl hC.1.1 ?_
    refine Z_aload_n dX4_value_206 rfl ?_
    refine Z_getI hx.2.1 fX4_23_3 dX4_value_207 rfl ?_
    refine Z_re (y := nI (o)) hC.2.2 ?_
    refine Z_aload_n dX4_value_210 rfl ?_
    refine Z_getR (r := h) hx.2.1 fX4_15_3 dX4_value_211 rfl hC.1.2 ?_
    refine Z_aload_n dX4_value_214 rfl ?_
    refine Z_getI hx.2.1 fX4_19_3 dX4_value_215 rfl ?_
    refine Z_re (y := nI (p)) hC.2.1 ?_
    refine Z_call0 (d' := 0) (zCal_V gX4_62 nX3_pieceOf (by decide) dX4_value_218) pX3_pieceOf hT.1 zkl2 [_] rfl rfl (Nat.le_of_ble_eq_true rfl) (by omega) (c_X3_pieceOf hx hT hPc hn8 (by omega) ?_)
    refine Z_getI (hPc p (by omega)).2.1 fX4_66_6 dX4_value_221 rfl ?_
    refine Z_re (hPc p (by omega)).2.2.1.1 ?_
    refine Z_call0 (d' := 1) (zCal_V gX4_71 nX2_hasCraft (by decide) dX4_value_224) pX2_hasCraft hO.1 zkl1 [_, _] rfl rfl (Nat.le_of_ble_eq_true rfl) (by omega) (c_X2_hasCraft hO hR h6 (by omega) (fun h224 => ?_) (fun h224 => ?_))
    · refine Z_ifeq 234 dX4_value_227 rfl (fun h => absurd h (by decide)) (fun _ => ?_)
      refine Z_iconst (nI 1) dX4_value_230 rfl ?_
      refine Z_goto 235 dX4_value_231 rfl ?_
      refine Z_ireturn dX4_value_235 rfl rfl ?_
      exact zQe (by simp [sgnV, e1, bI, nI_eq, h224]) k
    · refine Z_ifeq 234 dX4_value_227 rfl (fun _ => ?_) (fun h => absurd h (by decide))
      refine Z_iconst (nI 0) dX4_value_234 rfl ?_
      refine Z_ireturn dX4_value_235 rfl rfl ?_
      exact zQe (by simp [sgnV, e1, bI, nI_eq, h224]) k
  · refine Z_re (y := nI 115) rfl ?_
    refine Z_tableIn 236 dX4_value_24 (by decide) (by decide) rfl rfl ?_
    refine Z_aload_n dX4_value_236 rfl ?_
    refine Z_getI hx.2.1 fX4_23_3 dX4_value_237 rfl ?_
    refine Z_re (y := nI (o)) hC.2.2 ?_
    refine Z_iload_n dX4_value_240 rfl ?_
    refine Z_icmpneN 248 dX4_value_241 rfl (by omega) (by omega) (fun c241 => ?_) (fun c241 => ?_)
    · refine Z_iconst (nI 0) dX4_value_248 rfl ?_
      refine Z_ireturn dX4_value_249 rfl rfl ?_
      exact zQe (by show nI 0 = nI (bI (decide ((s (3 + p)).toNatClampNeg = o))); rw [e1, decide_eq_false (show ¬ a = o by omega)]; rfl) k
    · refine Z_iconst (nI 1) dX4_value_244 rfl ?_
      refine Z_goto 249 dX4_value_245 rfl ?_
      refine Z_ireturn dX4_value_249 rfl rfl ?_
      exact zQe (by show nI 1 = nI (bI (decide ((s (3 + p)).toNatClampNeg = o))); rw [e1, decide_eq_true (show a = o by omega)]; rfl) k
  · refine Z_re (y := nI 98) rfl ?_
    refine Z_tableIn 250 dX4_value_24 (by decide) (by decide) rfl rfl ?_
    refine Z_aload_n dX4_value_250 rfl ?_
    refine Z_getR (r := h) hx.2.1 fX4_15_3 dX4_value_251 rfl hC.1.2 ?_
    refine Z_aload_n dX4_value_254 rfl ?_
    refine Z_getI hx.2.1 fX4_19_3 dX4_value_255 rfl ?_
    refine Z_re (y := nI (p)) hC.2.1 ?_
    refine Z_call0 (d' := 0) (zCal_V gX4_62 nX3_pieceOf (by decide) dX4_value_258) pX3_pieceOf hT.1 zkl2 [_] rfl rfl (Nat.le_of_ble_eq_true rfl) (by omega) (c_X3_pieceOf hx hT hPc hn8 (by omega) ?_)
    refine Z_getI (hPc p (by omega)).2.1 fX4_75_6 dX4_value_261 rfl ?_
    refine Z_re (hPc p (by omega)).2.2.2.2.2 ?_
    refine Z_aload_n dX4_value_264 rfl ?_
    refine Z_getI hx.2.1 fX4_23_3 dX4_value_265 rfl ?_
    refine Z_re (y := nI (o)) hC.2.2 ?_
    refine Z_icmpne 275 dX4_value_268 rfl (fun c268 => ?_) (fun c268 => ?_)
    · refine Z_iconst (nI 0) dX4_value_275 rfl ?_
      refine Z_ireturn dX4_value_276 rfl rfl ?_
      exact zQe (by show nI 0 = nI (bI (decide (W 20 p = nI o))); rw [decide_eq_false c268]; rfl) k
    · refine Z_iconst (nI 1) dX4_value_271 rfl ?_
      refine Z_goto 276 dX4_value_272 rfl ?_
      refine Z_ireturn dX4_value_276 rfl rfl ?_
      exact zQe (by show nI 1 = nI (bI (decide (W 20 p = nI o))); rw [decide_eq_true c268]; rfl) k
  · refine Z_re (y := nI 113) rfl ?_
    refine Z_tableIn 277 dX4_value_24 (by decide) (by decide) rfl rfl ?_
    refine Z_aload_n dX4_value_277 rfl ?_
    refine Z_getR (r := h) hx.2.1 fX4_15_3 dX4_value_278 rfl hC.1.2 ?_
    refine Z_aload_n dX4_value_281 rfl ?_
    refine Z_getI hx.2.1 fX4_19_3 dX4_value_282 rfl ?_
    refine Z_re (y := nI (p)) hC.2.1 ?_
    refine Z_call0 (d' := 0) (zCal_V gX4_62 nX3_pieceOf (by decide) dX4_value_285) pX3_pieceOf hT.1 zkl2 [_] rfl rfl (Nat.le_of_ble_eq_true rfl) (by omega) (c_X3_pieceOf hx hT hPc hn8 (by omega) ?_)
    refine Z_getI (hPc p (by omega)).2.1 fX4_78_6 dX4_value_288 rfl ?_
    refine Z_re ((hPc p (by omega)).2.2.2.1.trans h38) ?_
    refine Z_aload_n dX4_value_291 rfl ?_
    refine Z_getI hx.2.1 fX4_23_3 dX4_value_292 rfl ?_
    refine Z_re (y := nI (o)) hC.2.2 ?_
    refine Z_icmpne 302 dX4_value_295 rfl (fun c295 => ?_) (fun c295 => ?_)
    · refine Z_iconst (nI 0) dX4_value_302 rfl ?_
      refine Z_ireturn dX4_value_303 rfl rfl ?_
      exact zQe (by show nI 0 = nI (bI (decide (W 21 p = nI o))); rw [decide_eq_false c295]; rfl) k
    · refine Z_iconst (nI 1) dX4_value_298 rfl ?_
      refine Z_goto 303 dX4_value_299 rfl ?_
      refine Z_ireturn dX4_value_303 rfl rfl ?_
      exact zQe (by show nI 1 = nI (bI (decide (W 21 p = nI o))); rw [decide_eq_true c295]; rfl) k
  · refine Z_re (y := nI 112) rfl ?_
    refine Z_tableIn 304 dX4_value_24 (by decide) (by decide) rfl rfl ?_
    refine Z_aload_n dX4_value_304 rfl ?_
    refine Z_getR (r := w) hx.2.1 fX4_9_3 dX4_value_305 rfl hC.1.1 ?_
    refine Z_getR (r := (w + 1)) hO.1 fX4_48_1 dX4_value_308 rfl hO.2.1.2 ?_
    refine Z_aload_n dX4_value_311 rfl ?_
    refine Z_getI hx.2.1 fX4_23_3 dX4_value_312 rfl ?_
    refine Z_re (y := nI (o)) hC.2.2 ?_
    refine Z_aald (r := (oh o)) hO.2.1.1 (by simp [zTys]) rfl (zix_nI (by first | omega | (dsimp only; omega)) (by decide)) (hR.2.2 o (by omega)).1 dX4_value_315 ?_
    refine Z_getI (hR.2.2 o (by omega)).2.1.1 fX4_81_5 dX4_value_316 rfl ?_
    refine Z_re (hR.2.2 o (by omega)).2.2.1.2.2.2 ?_
    refine Z_ireturn dX4_value_319 rfl rfl ?_
    exact zQe (by simp only [sgnV, e1]) k
  · refine Z_re (y := nI 102) rfl ?_
    refine Z_tableIn 320 dX4_value_24 (by decide) (by decide) rfl rfl ?_
    refine Z_aload_n dX4_value_320 rfl ?_
    refine Z_getR (r := h) hx.2.1 fX4_15_3 dX4_value_321 rfl hC.1.2 ?_
    refine Z_getR (r := (h + 5)) hT.1 fX4_84_2 dX4_value_324 rfl (hT.2.1 5 _ rfl).2 ?_
    refine Z_aload_n dX4_value_327 rfl ?_
    refine Z_getI hx.2.1 fX4_19_3 dX4_value_328 rfl ?_
    refine Z_re (y := nI (p)) hC.2.1 ?_
    refine Z_iald (hT.2.1 5 _ rfl).1 (zix_nI (by first | omega | (dsimp only; omega)) (by decide)) dX4_value_331 ?_
    refine Z_re (g.f (k := 5) (by decide) (by decide) (p := p) (by omega)) ?_
    refine Z_ireturn dX4_value_332 rfl rfl ?_
    exact zQe (show _ = s (11 + p) from rfl) k
  · refine Z_re (y := nI 110) rfl ?_
    refine Z_tableIn 333 dX4_value_24 (by decide) (by decide) rfl rfl ?_
    refine Z_aload_n dX4_value_333 rfl ?_
    refine Z_getI hx.2.1 fX4_23_3 dX4_value_334 rfl ?_
    refine Z_re (y := nI (o)) hC.2.2 ?_
    refine Z_ireturn dX4_value_337 rfl rfl ?_
    exact zQe (by simp only [sgnV, e1]) k
/-- what a node answers, whatever its class -/
def nV (G : zG) (I : zI) (L : zL) (P : zR) (S : zT) (d q : Nat) (v : Int32) : Prop := ∀ (C Sl : Nat) (Q : zQ), Q (.inl (some (.int v))) I L P S → (S q = some (.inl 11) → Zm G mX12_value d C Sl [.ref q, .ref 300] I L P S Q) ∧ (S q = some (.inl 12) → Zm G mX13_value d C Sl [.ref q, .ref 300] I L P S Q) ∧ (S q = some (.inl 8) → Zm G mX9_value d C Sl [.ref q, .ref 300] I L P S Q) ∧ (S q = some (.inl 9) → Zm G mX10_value d C Sl [.ref q, .ref 300] I L P S Q) ∧ (S q = some (.inl 13) → Zm G mX14_value d C Sl [.ref q, .ref 300] I L P S Q)
theorem nd_call {M : zM} {pc idx d9 q : Nat} {lv st : List Value} {v : Int32} {e : List Nat} {f : Nat} (hd : decode M.2.1 pc = .ok (.invokeinterface idx 2, 5)) (hl : Cond.methodLink M.1.cls idx ⟨"FollowTheSun$Node", "value", "(LFollowTheSun$Case;)I"⟩ ∈ lw_all) (hq : nR I P S f q e) (hv : nV G I L P S d9 q v) (hcat : (st.map fun v => v.category).sum ≤ 8) (hdep : d9 + 1 ≤ d) (k : Zj G M d C Sl (pc + 5) lv (.int v :: st) I L P S Q) : Zj G M d C Sl pc lv (.ref 300 :: .ref q :: st) I L P S Q := by
  have hS : S q = some (.inl 11) ∨ S q = some (.inl 12) ∨ S q = some (.inl 8) ∨ S q = some (.inl 9) ∨ S q = some (.inl 13) := by
    cases f with
    | zero => exact absurd hq id
    | succ f =>
      rcases hq.2 with h | h | h | h | h
      · exact Or.inl h.1
      · exact Or.inr (Or.inl h.1)
      · exact Or.inr (Or.inr (Or.inl h.1))
      · exact Or.inr (Or.inr (Or.inr (Or.inl h.1)))
      · exact Or.inr (Or.inr (Or.inr (Or.inr h.1)))
  rcases hS with hS | hS | hS | hS | hS
  · exact Z_call0 (d' := d9) (zCal_F q834 q100 hl q832 q830 ⟨rfl, rfl, Or.inl rfl⟩ q833 q831 q829 rfl (by decide) hd) pX12_value hS zkl11 [_] rfl rfl hcat hdep ((hv _ _ _ k).1 hS)
  · exact Z_call0 (d' := d9) (zCal_F q840 q101 hl q838 q836 ⟨rfl, rfl, Or.inl rfl⟩ q839 q837 q835 rfl (by decide) hd) pX13_value hS zkl12 [_] rfl rfl hcat hdep ((hv _ _ _ k).2.1 hS)
  · exact Z_call0 (d' := d9) (zCal_F q819 q97 hl q817 q815 ⟨rfl, rfl, Or.inl rfl⟩ q818 q816 q814 rfl (by decide) hd) pX9_value hS zkl8 [_] rfl rfl hcat hdep ((hv _ _ _ k).2.2.1 hS)
  · exact Z_call0 (d' := d9) (zCal_F q827 q98 hl q825 q823 ⟨rfl, rfl, Or.inl rfl⟩ q826 q824 q822 rfl (by decide) hd) pX10_value hS zkl9 [_] rfl rfl hcat hdep ((hv _ _ _ k).2.2.2.1 hS)
  · exact Z_call0 (d' := d9) (zCal_F q811 q102 hl q809 q807 ⟨rfl, rfl, Or.inl rfl⟩ q810 q808 q798 rfl (by decide) hd) pX14_value hS zkl13 [_] rfl rfl hcat hdep ((hv _ _ _ k).2.2.2.2 hS)
set_option maxHeartbeats 4000000 in
theorem c_X12_value {q : Nat} {v : Int32} (hS : S q = some (.inl 11)) (hv : I q 0 = v) (k : Q (.inl (some (.int (v)))) I L P S) : Zm G mX12_value 0 C Sl [.ref q, .ref 300] I L P S Q := by
  refine Z_entry (lv := [_, _]) (Nat.le_of_ble_eq_true rfl) rfl ?_
  refine Z_aload_n dX12_value_0 rfl ?_
  refine Z_getI hS fX12_7_11 dX12_value_1 rfl ?_
  refine Z_re hv ?_
  refine Z_ireturn dX12_value_4 rfl rfl ?_
  exact k
set_option maxHeartbeats 4000000 in
theorem c_X13_value {w h : Nat} (e : hE W no n oh ph w h I P S) {p o a t : Nat} (hC : cR I P w h p o) (hp : p < n) (ho : o < no) (g : sRw n I h s) (ha : s (3 + p) = nI a) (haN : a < no) (h0 : s 0 = nI t) (ht : t ≤ 2399) (h37 : W 0 37 = 0) {q g9 : Nat} (hg9 : g9 ≤ 11) (hS : S q = some (.inl 12)) (hv : I q 0 = nI (sgL.getD g9 0)) (k : Q (.inl (some (.int (sgnV W s g9 p o (t + 1))))) I L P S) : Zm G mX13_value 5 C Sl [.ref q, .ref 300] I L P S Q := by
  refine Z_entry (lv := [_, _]) (Nat.le_of_ble_eq_true rfl) rfl ?_
  refine Z_aload_n dX13_value_0 rfl ?_
  refine Z_aload_n dX13_value_1 rfl ?_
  refine Z_getI hS fX13_7_12 dX13_value_2 rfl ?_
  refine Z_re (y := nI (sgL.getD g9 0)) hv ?_
  refine Z_call0 (d' := 4) (zCal_V gX13_13 nX4_value (by decide) dX13_value_5) pX4_value e.x.2.1 zkl3 [_] rfl rfl (Nat.le_of_ble_eq_true rfl) (by omega) (c_X4_value e hC hp ho g ha haN h0 ht h37 (by omega) ?_)
  refine Z_ireturn dX13_value_8 rfl rfl ?_
  exact k
set_option maxHeartbeats 4000000 in
theorem c_X9_value8 {q q1 f : Nat} {v : Int32} {a : List Nat} (hS : S q = some (.inl 8)) (hP : P q 0 = some q1) (hq : nR I P S f q1 a) (hv : nV G I L P S d q1 v) (k : Q (.inl (some (.int (-v)))) I L P S) : Zm G mX9_value (d + 1) C Sl [.ref q, .ref 300] I L P S Q := by
  refine Z_entry (lv := [_, _]) (Nat.le_of_ble_eq_true rfl) rfl ?_
  refine Z_aload_n dX9_value_0 rfl ?_
  refine Z_getR (r := q1) hS fX9_7_8 dX9_value_1 rfl hP ?_
  refine Z_aload_n dX9_value_4 rfl ?_
  refine nd_call (d9 := d) dX9_value_5 q821 hq hv (Nat.le_of_ble_eq_true rfl) (by omega) ?_
  refine Z_ineg dX9_value_10 ?_
  refine Z_ireturn dX9_value_11 rfl rfl ?_
  exact k
set_option maxHeartbeats 4000000 in
theorem c_X9_value9 {q q1 f : Nat} {v : Int32} {a : List Nat} (hS : S q = some (.inl 9)) (hP : P q 0 = some q1) (hq : nR I P S f q1 a) (hv : nV G I L P S d q1 v) (k : Q (.inl (some (.int (-v)))) I L P S) : Zm G mX9_value (d + 1) C Sl [.ref q, .ref 300] I L P S Q := by
  refine Z_entry (lv := [_, _]) (Nat.le_of_ble_eq_true rfl) rfl ?_
  refine Z_aload_n dX9_value_0 rfl ?_
  refine Z_getR (r := q1) hS fX9_7_9 dX9_value_1 rfl hP ?_
  refine Z_aload_n dX9_value_4 rfl ?_
  refine nd_call (d9 := d) dX9_value_5 q821 hq hv (Nat.le_of_ble_eq_true rfl) (by omega) ?_
  refine Z_ineg dX9_value_10 ?_
  refine Z_ireturn dX9_value_11 rfl rfl ?_
  exact k
set_option maxHeartbeats 4000000 in
theorem c_X10_value {q q1 f : Nat} {v : Int32} {a : List Nat} (hS : S q = some (.inl 9)) (hP : P q 0 = some q1) (hq : nR I P S f q1 a) (hv : nV G I L P S d q1 v) (k : Q (.inl (some (.int (nI (bI (decide (v = 0))))))) I L P S) : Zm G mX10_value (d + 2) C Sl [.ref q, .ref 300] I L P S Q := by
  have hneg : -v = 0 ↔ v = 0 := ⟨fun h => by have := congrArg (fun x => -x) h; simpa using this, fun h => by rw [h]; rfl⟩
  refine Z_entry (lv := [_, _]) (Nat.le_of_ble_eq_true rfl) rfl ?_
  refine Z_aload_n dX10_value_0 rfl ?_
  refine Z_aload_n dX10_value_1 rfl ?_
  refine Z_call0 (d' := (d + 1)) (zCal_P q819 q97 q828 q1901 q681 q817 (by decide) nX9_value (by decide) dX10_value_2) pX9_value hS zkl9 [_] rfl rfl (Nat.le_of_ble_eq_true rfl) (by omega) (c_X9_value9 hS hP hq hv ?_)
  refine Z_ifne 12 dX10_value_5 rfl (fun c5 => ?_) (fun c5 => ?_)
  · refine Z_iconst (nI 0) dX10_value_12 rfl ?_
    refine Z_ireturn dX10_value_13 rfl rfl ?_
    exact zQe (by rw [decide_eq_false (fun h => c5 (hneg.mpr h))]; rfl) k
  · refine Z_iconst (nI 1) dX10_value_8 rfl ?_
    refine Z_goto 13 dX10_value_9 rfl ?_
    refine Z_ireturn dX10_value_13 rfl rfl ?_
    exact zQe (by rw [decide_eq_true (hneg.mp c5)]; rfl) k
set_option maxHeartbeats 4000000 in
theorem c_X14_value {q q1 q2 f op : Nat} {v u : Int32} {a b : List Nat} (hop : op = 124 ∨ op = 38 ∨ op = 60 ∨ op = 62 ∨ op = 61 ∨ op = 43 ∨ op = 45 ∨ op = 42) (hS : S q = some (.inl 13)) (h0 : I q 0 = nI op) (hP1 : P q 1 = some q1) (hP2 : P q 2 = some q2) (hq1 : nR I P S f q1 a) (hq2 : nR I P S f q2 b) (hv1 : nV G I L P S d q1 v) (hv2 : nV G I L P S d q2 u) (k : Q (.inl (some (.int (binV op v u)))) I L P S) : Zm G mX14_value (d + 1) C Sl [.ref q, .ref 300] I L P S Q := by
  refine Z_entry (lv := [_, _, _, _]) (Nat.le_of_ble_eq_true rfl) rfl ?_
  refine Z_aload_n dX14_value_0 rfl ?_
  refine Z_getR (r := q1) hS fX14_13_13 dX14_value_1 rfl hP1 ?_
  refine Z_aload_n dX14_value_4 rfl ?_
  refine nd_call (d9 := d) dX14_value_5 q813 hq1 hv1 (Nat.le_of_ble_eq_true rfl) (by omega) ?_
  refine Z_istore_n (lv' := [_, _, _, _]) dX14_value_10 rfl rfl (Nat.le_of_ble_eq_true rfl) ?_
  refine Z_aload_n dX14_value_11 rfl ?_
  refine Z_getR (r := q2) hS fX14_17_13 dX14_value_12 rfl hP2 ?_
  refine Z_aload_n dX14_value_15 rfl ?_
  refine nd_call (d9 := d) dX14_value_16 q813 hq2 hv2 (Nat.le_of_ble_eq_true rfl) (by omega) ?_
  refine Z_istore_n (lv' := [_, _, _, _]) dX14_value_21 rfl rfl (Nat.le_of_ble_eq_true rfl) ?_
  refine Z_aload_n dX14_value_22 rfl ?_
  refine Z_getI hS fX14_7_13 dX14_value_23 rfl ?_
  refine Z_re (y := nI (op)) h0 ?_
  rcases hop with rfl | rfl | rfl | rfl | rfl | rfl | rfl | rfl
  · refine Z_lookup (off := 66) 92 dX14_value_26 (by decide) (by decide) rfl ?_
    refine Z_iload_n dX14_value_92 rfl ?_
    refine Z_ifne 100 dX14_value_93 rfl (fun c93 => ?_) (fun c93 => ?_)
    · refine Z_iconst (nI 1) dX14_value_100 rfl ?_
      refine Z_goto 105 dX14_value_101 rfl ?_
      refine Z_ireturn dX14_value_105 rfl rfl ?_
      exact zQe (by simp [binV, bI, c93]) k
    · refine Z_iload_n dX14_value_96 rfl ?_
      refine Z_ifeq 104 dX14_value_97 rfl (fun c97 => ?_) (fun c97 => ?_)
      · refine Z_iconst (nI 0) dX14_value_104 rfl ?_
        refine Z_ireturn dX14_value_105 rfl rfl ?_
        exact zQe (by simp [binV, bI, c93, c97]) k
      · refine Z_iconst (nI 1) dX14_value_100 rfl ?_
        refine Z_goto 105 dX14_value_101 rfl ?_
        refine Z_ireturn dX14_value_105 rfl rfl ?_
        exact zQe (by simp [binV, bI, c93, c97]) k
  · refine Z_lookup (off := 80) 106 dX14_value_26 (by decide) (by decide) rfl ?_
    refine Z_iload_n dX14_value_106 rfl ?_
    refine Z_ifeq 118 dX14_value_107 rfl (fun c107 => ?_) (fun c107 => ?_)
    · refine Z_iconst (nI 0) dX14_value_118 rfl ?_
      refine Z_ireturn dX14_value_119 rfl rfl ?_
      exact zQe (by simp [binV, bI, c107]) k
    · refine Z_iload_n dX14_value_110 rfl ?_
      refine Z_ifeq 118 dX14_value_111 rfl (fun c111 => ?_) (fun c111 => ?_)
      · refine Z_iconst (nI 0) dX14_value_118 rfl ?_
        refine Z_ireturn dX14_value_119 rfl rfl ?_
        exact zQe (by simp [binV, bI, c107, c111]) k
      · refine Z_iconst (nI 1) dX14_value_114 rfl ?_
        refine Z_goto 119 dX14_value_115 rfl ?_
        refine Z_ireturn dX14_value_119 rfl rfl ?_
        exact zQe (by simp [binV, bI, c107, c111]) k
  · refine Z_lookup (off := 94) 120 dX14_value_26 (by decide) (by decide) rfl ?_
    refine Z_iload_n dX14_value_120 rfl ?_
    refine Z_iload_n dX14_value_121 rfl ?_
    refine Z_icmpge 129 dX14_value_122 rfl (fun c122 => ?_) (fun c122 => ?_)
    · refine Z_iconst (nI 0) dX14_value_129 rfl ?_
      refine Z_ireturn dX14_value_130 rfl rfl ?_
      exact zQe (by simp [binV, bI, c122]) k
    · refine Z_iconst (nI 1) dX14_value_125 rfl ?_
      refine Z_goto 130 dX14_value_126 rfl ?_
      refine Z_ireturn dX14_value_130 rfl rfl ?_
      exact zQe (by simp [binV, bI, c122]) k
  · refine Z_lookup (off := 105) 131 dX14_value_26 (by decide) (by decide) rfl ?_
    refine Z_iload_n dX14_value_131 rfl ?_
    refine Z_iload_n dX14_value_132 rfl ?_
    refine Z_icmple 140 dX14_value_133 rfl (fun c133 => ?_) (fun c133 => ?_)
    · refine Z_iconst (nI 0) dX14_value_140 rfl ?_
      refine Z_ireturn dX14_value_141 rfl rfl ?_
      exact zQe (by simp [binV, bI, c133]) k
    · refine Z_iconst (nI 1) dX14_value_136 rfl ?_
      refine Z_goto 141 dX14_value_137 rfl ?_
      refine Z_ireturn dX14_value_141 rfl rfl ?_
      exact zQe (by simp [binV, bI, c133]) k
  · refine Z_lookup (off := 116) 142 dX14_value_26 (by decide) (by decide) rfl ?_
    refine Z_iload_n dX14_value_142 rfl ?_
    refine Z_iload_n dX14_value_143 rfl ?_
    refine Z_icmpne 151 dX14_value_144 rfl (fun c144 => ?_) (fun c144 => ?_)
    · refine Z_iconst (nI 0) dX14_value_151 rfl ?_
      refine Z_ireturn dX14_value_152 rfl rfl ?_
      exact zQe (by simp [binV, bI, c144]) k
    · refine Z_iconst (nI 1) dX14_value_147 rfl ?_
      refine Z_goto 152 dX14_value_148 rfl ?_
      refine Z_ireturn dX14_value_152 rfl rfl ?_
      exact zQe (by simp [binV, bI, c144]) k
  · refine Z_lookup (off := 127) 153 dX14_value_26 (by decide) (by decide) rfl ?_
    refine Z_iload_n dX14_value_153 rfl ?_
    refine Z_iload_n dX14_value_154 rfl ?_
    refine Z_iadd dX14_value_155 ?_
    refine Z_ireturn dX14_value_156 rfl rfl ?_
    exact zQe (by simp [binV, bI]) k
  · refine Z_lookup (off := 131) 157 dX14_value_26 (by decide) (by decide) rfl ?_
    refine Z_iload_n dX14_value_157 rfl ?_
    refine Z_iload_n dX14_value_158 rfl ?_
    refine Z_isub dX14_value_159 ?_
    refine Z_ireturn dX14_value_160 rfl rfl ?_
    exact zQe (by simp [binV, bI]) k
  · refine Z_lookup (off := 135) 161 dX14_value_26 (by decide) (by decide) rfl ?_
    refine Z_iload_n dX14_value_161 rfl ?_
    refine Z_iload_n dX14_value_162 rfl ?_
    refine Z_imul dX14_value_163 ?_
    refine Z_ireturn dX14_value_164 rfl rfl ?_
    exact zQe (by simp [binV, bI]) k
/-- every node answers what its marks come to -/
theorem nd_val {w h : Nat} (e : hE W no n oh ph w h I P S) {p o a t : Nat} (hC : cR I P w h p o) (hp : p < n) (ho : o < no) (g : sRw n I h s) (ha : s (3 + p) = nI a) (haN : a < no) (h0 : s 0 = nI t) (ht : t ≤ 2399) (h37 : W 0 37 = 0) : ∀ {f q : Nat} {c : List Nat}, nR I P S f q c → nV G I L P S (2 * f + 6) q (ev W s p o (t + 1) c) := by
  intro f
  induction f with
  | zero => exact fun h => absurd h id
  | succ f ih =>
    intro q c hq C Sl Q k
    have no9 : ∀ {i j : Nat}, S q = some (.inl i) → S q = some (.inl j) → i ≠ j → False := fun h1 h2 h3 => h3 (by rw [h1] at h2; cases h2; rfl)
    rcases hq.2 with ⟨hS, v, h1, h2, rfl⟩ | ⟨hS, v, h1, h2, rfl⟩ | ⟨hS, q1, a, hP, hq1, rfl⟩ | ⟨hS, q1, a, hP, hq1, rfl⟩ | ⟨hS, op, q1, q2, a, b, hop, h1, hP1, hP2, hq1, hq2, rfl⟩
    · rw [ev_num h1] at k
      exact ⟨fun _ => (c_X12_value hS h2 k).less (by omega) (Nat.le_refl _) (Nat.le_refl _), fun h => (no9 hS h (by decide)).elim, fun h => (no9 hS h (by decide)).elim, fun h => (no9 hS h (by decide)).elim, fun h => (no9 hS h (by decide)).elim⟩
    · rw [ev_sgn h1] at k
      exact ⟨fun h => (no9 hS h (by decide)).elim, fun _ => (c_X13_value e hC hp ho g ha haN h0 ht h37 h1 hS h2 k).less (by omega) (Nat.le_refl _) (Nat.le_refl _), fun h => (no9 hS h (by decide)).elim, fun h => (no9 hS h (by decide)).elim, fun h => (no9 hS h (by decide)).elim⟩
    · rw [ev_neg hq1.E] at k
      exact ⟨fun h => (no9 hS h (by decide)).elim, fun h => (no9 hS h (by decide)).elim, fun _ => (c_X9_value8 hS hP hq1 (ih hq1) k).less (by omega) (Nat.le_refl _) (Nat.le_refl _), fun h => (no9 hS h (by decide)).elim, fun h => (no9 hS h (by decide)).elim⟩
    · rw [ev_not hq1.E] at k
      exact ⟨fun h => (no9 hS h (by decide)).elim, fun h => (no9 hS h (by decide)).elim, fun h => (no9 hS h (by decide)).elim, fun _ => (c_X10_value hS hP hq1 (ih hq1) k).less (by omega) (Nat.le_refl _) (Nat.le_refl _), fun h => (no9 hS h (by decide)).elim⟩
    · rw [ev_bin hop hq1.E hq2.E] at k
      exact ⟨fun h => (no9 hS h (by decide)).elim, fun h => (no9 hS h (by decide)).elim, fun h => (no9 hS h (by decide)).elim, fun h => (no9 hS h (by decide)).elim, fun _ => (c_X14_value hop hS h1 hP1 hP2 hq1 hq2 (ih hq1) (ih hq2) k).less (by omega) (Nat.le_refl _) (Nat.le_refl _)⟩
end X4
