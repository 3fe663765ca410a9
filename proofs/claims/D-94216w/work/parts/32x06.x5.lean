set_option maxRecDepth 100000
/-! THE COMPONENT, part 5: where a piece goes; an hour -/
section X5C
variable {G : zG} {d C Sl : Nat} {I D W : zI} {R : List Int64} {L : zL} {P : zR} {S : zT} {Q : zQ} {no n np : Nat} {s : zS} {oh ph : Nat → Nat}
set_option maxHeartbeats 4000000 in
theorem c_X18_valueOf11 {q f : Nat} {v : Int32} {c : List Nat} (hS : S q = some (.inl 11)) (hq : nR I P S f q c) (hv : nV G I L P S d q v) (k : Q (.inl (some (.int (v)))) I L P S) : Zm G mX18_valueOf (d + 1) C Sl [.ref q, .ref 300] I L P S Q := by
  refine Z_entry (lv := [_, _]) (Nat.le_of_ble_eq_true rfl) rfl ?_
  refine Z_aload_n dX18_valueOf_0 rfl ?_
  refine Z_ifnonnullR 8 dX18_valueOf_1 rfl ?_
  refine Z_aload_n dX18_valueOf_8 rfl ?_
  refine Z_aload_n dX18_valueOf_9 rfl ?_
  refine nd_call (d9 := d) dX18_valueOf_10 q804 hq hv (Nat.le_of_ble_eq_true rfl) (by omega) ?_
  refine Z_ireturn dX18_valueOf_15 rfl rfl ?_
  exact k
set_option maxHeartbeats 4000000 in
theorem c_X18_valueOf12 {q f : Nat} {v : Int32} {c : List Nat} (hS : S q = some (.inl 12)) (hq : nR I P S f q c) (hv : nV G I L P S d q v) (k : Q (.inl (some (.int (v)))) I L P S) : Zm G mX18_valueOf (d + 1) C Sl [.ref q, .ref 300] I L P S Q := by
  refine Z_entry (lv := [_, _]) (Nat.le_of_ble_eq_true rfl) rfl ?_
  refine Z_aload_n dX18_valueOf_0 rfl ?_
  refine Z_ifnonnullR 8 dX18_valueOf_1 rfl ?_
  refine Z_aload_n dX18_valueOf_8 rfl ?_
  refine Z_aload_n dX18_valueOf_9 rfl ?_
  refine nd_call (d9 := d) dX18_valueOf_10 q804 hq hv (Nat.le_of_ble_eq_true rfl) (by omega) ?_
  refine Z_ireturn dX18_valueOf_15 rfl rfl ?_
  exact k
set_option maxHeartbeats 4000000 in
theorem c_X18_valueOf8 {q f : Nat} {v : Int32} {c : List Nat} (hS : S q = some (.inl 8)) (hq : nR I P S f q c) (hv : nV G I L P S d q v) (k : Q (.inl (some (.int (v)))) I L P S) : Zm G mX18_valueOf (d + 1) C Sl [.ref q, .ref 300] I L P S Q := by
  refine Z_entry (lv := [_, _]) (Nat.le_of_ble_eq_true rfl) rfl ?_
  refine Z_aload_n dX18_valueOf_0 rfl ?_
  refine Z_ifnonnullR 8 dX18_valueOf_1 rfl ?_
  refine Z_aload_n dX18_valueOf_8 rfl ?_
  refine Z_aload_n dX18_valueOf_9 rfl ?_
  refine nd_call (d9 := d) dX18_valueOf_10 q804 hq hv (Nat.le_of_ble_eq_true rfl) (by omega) ?_
  refine Z_ireturn dX18_valueOf_15 rfl rfl ?_
  exact k
set_option maxHeartbeats 4000000 in
theorem c_X18_valueOf9 {q f : Nat} {v : Int32} {c : List Nat} (hS : S q = some (.inl 9)) (hq : nR I P S f q c) (hv : nV G I L P S d q v) (k : Q (.inl (some (.int (v)))) I L P S) : Zm G mX18_valueOf (d + 1) C Sl [.ref q, .ref 300] I L P S Q := by
  refine Z_entry (lv := [_, _]) (Nat.le_of_ble_eq_true rfl) rfl ?_
  refine Z_aload_n dX18_valueOf_0 rfl ?_
  refine Z_ifnonnullR 8 dX18_valueOf_1 rfl ?_
  refine Z_aload_n dX18_valueOf_8 rfl ?_
  refine Z_aload_n dX18_valueOf_9 rfl ?_
  refine nd_call (d9 := d) dX18_valueOf_10 q804 hq hv (Nat.le_of_ble_eq_true rfl) (by omega) ?_
  refine Z_ireturn dX18_valueOf_15 rfl rfl ?_
  exact k
set_option maxHeartbeats 4000000 in
theorem c_X18_valueOf13 {q f : Nat} {v : Int32} {c : List Nat} (hS : S q = some (.inl 13)) (hq : nR I P S f q c) (hv : nV G I L P S d q v) (k : Q (.inl (some (.int (v)))) I L P S) : Zm G mX18_valueOf (d + 1) C Sl [.ref q, .ref 300] I L P S Q := by
  refine Z_entry (lv := [_, _]) (Nat.le_of_ble_eq_true rfl) rfl ?_
  refine Z_aload_n dX18_valueOf_0 rfl ?_
  refine Z_ifnonnullR 8 dX18_valueOf_1 rfl ?_
  refine Z_aload_n dX18_valueOf_8 rfl ?_
  refine Z_aload_n dX18_valueOf_9 rfl ?_
  refine nd_call (d9 := d) dX18_valueOf_10 q804 hq hv (Nat.le_of_ble_eq_true rfl) (by omega) ?_
  refine Z_ireturn dX18_valueOf_15 rfl rfl ?_
  exact k
theorem nd_callD {M : zM} {pc idx d9 q : Nat} {lv st : List Value} {v : Int32} {e : List Nat} {f : Nat} (hd : decode M.2.1 pc = .ok (.invokeinterface idx 2, 5)) (hl : Cond.methodLink M.1.cls idx zVo ∈ lw_all) (hq : nR I P S f q e) (hv : nV G I L P S d9 q v) (hcat : (st.map fun v => v.category).sum ≤ 8) (hdep : d9 + 2 ≤ d) (k : Zj G M d C Sl (pc + 5) lv (.int v :: st) I L P S Q) : Zj G M d C Sl pc lv (.ref 300 :: .ref q :: st) I L P S Q := by
  have hS : S q = some (.inl 11) ∨ S q = some (.inl 12) ∨ S q = some (.inl 8) ∨ S q = some (.inl 9) ∨ S q = some (.inl 13) := by
    cases f with
    | zero => exact absurd hq id
    | succ f =>
      rcases hq.2 with h | h | h | h | h
      · exact Or.inl h.1
      · exact Or.inr (Or.inl h.1)
      · exact Or.inr (Or.inr (Or.inl h.1))
      · exact Or.inr (Or.inr (Or.inr (Or.inl h.1)))
      · exact Or.inr (Or.inr (Or.inr (Or.inr h.1)))
  rcases hS with hS | hS | hS | hS | hS
  · exact Z_call0 (d' := d9 + 1) (zCal_D (cc := cX18_valueOf) (mL := 2) (ret := some .int) (by decide) q802 hl q829 rfl (by decide) hd) pX18_valueOf hS zkl11 [_] rfl rfl hcat hdep (c_X18_valueOf11 hS hq hv k)
  · exact Z_call0 (d' := d9 + 1) (zCal_D (cc := cX18_valueOf) (mL := 2) (ret := some .int) (by decide) q802 hl q835 rfl (by decide) hd) pX18_valueOf hS zkl12 [_] rfl rfl hcat hdep (c_X18_valueOf12 hS hq hv k)
  · exact Z_call0 (d' := d9 + 1) (zCal_D (cc := cX18_valueOf) (mL := 2) (ret := some .int) (by decide) q802 hl q814 rfl (by decide) hd) pX18_valueOf hS zkl8 [_] rfl rfl hcat hdep (c_X18_valueOf8 hS hq hv k)
  · exact Z_call0 (d' := d9 + 1) (zCal_D (cc := cX18_valueOf) (mL := 2) (ret := some .int) (by decide) q802 hl q822 rfl (by decide) hd) pX18_valueOf hS zkl9 [_] rfl rfl hcat hdep (c_X18_valueOf9 hS hq hv k)
  · exact Z_call0 (d' := d9 + 1) (zCal_D (cc := cX18_valueOf) (mL := 2) (ret := some .int) (by decide) q802 hl q798 rfl (by decide) hd) pX18_valueOf hS zkl13 [_] rfl rfl hcat hdep (c_X18_valueOf13 hS hq hv k)
/-- the best so far -/
def bO (W : zI) (er : List Nat) (s : zS) (p t : Nat) (i : Nat) : Int32 := if i = 0 then -1 else nI (chsN W er s p t (i - 1)).1
def mO (W : zI) (er : List Nat) (s : zS) (p t : Nat) (i : Nat) : Int32 := if i = 0 then nI 0 else (chsN W er s p t (i - 1)).2
theorem bO_k {er : List Nat} {p t i : Nat} (hi : 0 < i) (h : ev W s p i t er ≤ mO W er s p t i) : bO W er s p t (i + 1) = bO W er s p t i ∧ mO W er s p t (i + 1) = mO W er s p t i := by
  obtain ⟨j, rfl⟩ : ∃ j, i = j + 1 := ⟨i - 1, by omega⟩
  unfold bO mO at *
  rw [if_neg (by omega)] at *
  rw [if_neg (by omega)]
  simp only [Nat.add_sub_cancel] at *
  constructor
  · show nI (if _ then _ else _) = _
    rw [if_pos h]
  · show mx _ _ = _
    unfold mx
    rw [if_neg (Int32.not_lt.mpr h), if_neg (show ¬ j + 1 = 0 by omega)]
theorem bO_n {er : List Nat} {p t i : Nat} (h : 0 < i → ¬ ev W s p i t er ≤ mO W er s p t i) : bO W er s p t (i + 1) = nI i ∧ mO W er s p t (i + 1) = ev W s p i t er := by
  cases i with
  | zero => exact ⟨rfl, rfl⟩
  | succ j =>
    have h := h (by omega)
    unfold bO mO at *
    rw [if_neg (by omega)] at *
    simp only [Nat.add_sub_cancel] at *
    constructor
    · show nI (if _ then _ else _) = _
      rw [if_neg h]
    · show mx _ _ = _
      unfold mx
      rw [if_pos (Int32.not_le.mp h)]
theorem bO_m1 {er : List Nat} {p t i : Nat} (hi : i ≤ 6) (h : bO W er s p t i = -1) : i = 0 := by
  unfold bO at h
  by_cases e : i = 0
  · exact e
  · rw [if_neg e] at h
    exact absurd h (nI_m1 (by have := chsN_le (W := W) (e := er) (s := s) (p := p) (hr := t) (i - 1); omega))
theorem bO_0 {er : List Nat} {p t i : Nat} (h : ¬ bO W er s p t i = -1) : 0 < i := by
  cases i with
  | zero => exact absurd rfl h
  | succ i => omega
set_option maxHeartbeats 8000000 in
theorem c_X1_chosen {w h : Nat} (e : hE W no n oh ph w h I P S) (g : sRw n I h s) {er : List Nat} (hro : ruX I P S w (some er)) {p a t : Nat} (hp : p < n) (ha : s (3 + p) = nI a) (haN : a < no) (h0 : s 0 = nI t) (ht : t ≤ 2399) (h37 : W 0 37 = 0) (k : ∀ I2 P2, f3 I I2 → f3 P P2 → Q (.inl (some (.int (nI (chs W er s p (t + 1) no))))) I2 L P2 S) : Zm G mX1_chosen 100 C Sl [.ref 100, .ref w, .ref h, .int (nI p)] I L P S Q := by
  have hx := e.x
  have hO := e.wd
  have hR := e.wr
  have hT := e.st
  have hPc := e.pc
  have hw := e.hw
  have hf := e.hx
  have hb := e.b
  have hn := e.nn
  have n8 := hw.n8
  have h6 := hw.o6
  have hn8 := hw.n8
  obtain ⟨r9, f, hP9, hf45, hnr⟩ := hro
  refine Z_entry (lv := [_, _, _, _, _, _, _, _]) (Nat.le_of_ble_eq_true rfl) rfl ?_
  refine Z_aload_n dX1_chosen_0 rfl ?_
  refine Z_getR (r := (h + 4)) hT.1 fX1_7_2 dX1_chosen_1 rfl (hT.2.1 4 _ rfl).2 ?_
  refine Z_iload_n dX1_chosen_4 rfl ?_
  refine Z_iald (hT.2.1 4 _ rfl).1 (zix_nI (by first | omega | (dsimp only; omega)) (by decide)) dX1_chosen_5 ?_
  refine Z_re (y := nI (a)) ((g.f (k := 4) (by decide) (by decide) (p := p) (by omega)).trans ha) ?_
  refine Z_istore (lv' := [_, _, _, _, _, _, _, _]) dX1_chosen_6 rfl rfl (Nat.le_of_ble_eq_true rfl) ?_
  refine Z_aload_n dX1_chosen_8 rfl ?_
  refine Z_getR (r := r9) hO.1 fX1_13_1 dX1_chosen_9 rfl hP9 ?_
  refine Z_ifnonnullR 18 dX1_chosen_12 rfl ?_
  refine Z_iconst (-1) dX1_chosen_18 rfl ?_
  refine Z_istore (lv' := [_, _, _, _, _, _, _, _]) dX1_chosen_19 rfl rfl (Nat.le_of_ble_eq_true rfl) ?_
  refine Z_iconst (nI 0) dX1_chosen_21 rfl ?_
  refine Z_istore (lv' := [_, _, _, _, _, _, _, _]) dX1_chosen_22 rfl rfl (Nat.le_of_ble_eq_true rfl) ?_
  refine Z_iconst (nI 0) dX1_chosen_24 rfl ?_
  refine Z_istore (lv' := [_, _, _, _, _, _, _, _]) dX1_chosen_25 rfl rfl (Nat.le_of_ble_eq_true rfl) ?_
  have lp27 : ∀ i, i ≤ no → ∀ I2 P2, f3 I I2 → f3 P P2 → Zj G mX1_chosen 100 C Sl 27 [.ref 100, .ref w, .ref h, .int (nI p), .int (bO W er s p (t + 1) i), .int (mO W er s p (t + 1) i), .int (nI i), .retAddr 0] [] I2 L P2 S Q := by
    refine zloop (no) (fun i => ∀ I2 P2, f3 I I2 → f3 P P2 → Zj G mX1_chosen 100 C Sl 27 [.ref 100, .ref w, .ref h, .int (nI p), .int (bO W er s p (t + 1) i), .int (mO W er s p (t + 1) i), .int (nI i), .retAddr 0] [] I2 L P2 S Q) (fun i hi ih => ?_)
    intro I2 P2 g1 g2
    show Zj _ _ _ _ _ _ _ _ _ _ _ _ _
    have hI9 : I2 w 1 = nI no := by rw [g1 w (by omega)]; exact hR.1.1
    have hP29 : P2 w 5 = some r9 := by rw [g2 w (by omega)]; exact hP9
    have hx := hx.f3 g2
    refine Z_iload dX1_chosen_27 rfl ?_
    refine Z_aload_n dX1_chosen_29 rfl ?_
    refine Z_getI hO.1 fX1_19_1 dX1_chosen_30 rfl ?_
    refine Z_re (y := nI (no)) hI9 ?_
    refine Z_icmpgeN 89 dX1_chosen_33 rfl (by omega) (by omega) (fun c33 => ?_) (fun c33 => ?_)
    · have ei : i = no := by omega
      refine Z_iload dX1_chosen_89 rfl ?_
      refine Z_ireturn dX1_chosen_91 rfl rfl ?_
      refine zQe ?_ (k I2 P2 g1 g2)
      rw [ei]
      unfold bO chs
      rw [if_neg (by omega)]
    · refine Z_aload_n dX1_chosen_36 rfl ?_
      refine Z_getR (r := r9) hO.1 fX1_13_1 dX1_chosen_37 rfl hP29 ?_
      refine Z_aload_n dX1_chosen_40 rfl ?_
      refine Z_getR (r := 300) hx.1 fX1_23_0 dX1_chosen_41 rfl hx.2.2.2.1.2.2.2.2 ?_
      refine Z_aload_n dX1_chosen_44 rfl ?_
      refine Z_aload_n dX1_chosen_45 rfl ?_
      refine Z_iload_n dX1_chosen_46 rfl ?_
      refine Z_iload dX1_chosen_47 rfl ?_
      refine Z_call0 (d' := 0) (zCal_V gX1_27 nX4_of (by decide) dX1_chosen_49) pX4_of hx.2.1 zkl3 [_, _, _, _] rfl rfl (Nat.le_of_ble_eq_true rfl) (by omega) (c_X4_of hx.2.1 ?_)
      have e2 : hE W no n oh ph w h (zw (zw I2 300 1 (nI p)) 300 2 (nI i)) (zw (zw P2 300 0 (some w)) 300 3 (some h)) S := e.fr (fH.of3 g1.st.st) g2.st.st
      have g9 : sRw n (zw (zw I2 300 1 (nI p)) 300 2 (nI i)) h s := g.c3 g1.st.st ⟨hb.1, hb.2.1⟩
      have hC : cR (zw (zw I2 300 1 (nI p)) 300 2 (nI i)) (zw (zw P2 300 0 (some w)) 300 3 (some h)) w h p i := ⟨⟨by simp [zw, zu], by simp [zw, zu]⟩, by simp [zw, zu], by simp [zw, zu]⟩
      have hq9 := hnr.fr (I2 := zw (zw I2 300 1 (nI p)) 300 2 (nI i)) (P2 := zw (zw P2 300 0 (some w)) 300 3 (some h)) (S2 := S) (fun a ha _ => ⟨g1.st.st a (by omega), g2.st.st a (by omega), rfl⟩)
      refine nd_callD (d9 := 2 * f + 6) dX1_chosen_52 q795 hq9 (nd_val e2 hC hp (by omega) g9 ha haN h0 ht h37 hq9) (Nat.le_of_ble_eq_true rfl) (by omega) ?_
      refine Z_istore (lv' := [_, _, _, _, _, _, _, _]) dX1_chosen_57 rfl rfl (Nat.le_of_ble_eq_true rfl) ?_
      refine Z_iload dX1_chosen_59 rfl ?_
      refine Z_iconst (-1) dX1_chosen_61 rfl ?_
      refine Z_icmpeq 75 dX1_chosen_62 rfl (fun c62 => ?_) (fun c62 => ?_)
      · refine Z_iload dX1_chosen_75 rfl ?_
        refine Z_istore (lv' := [_, _, _, _, _, _, _, _]) dX1_chosen_77 rfl rfl (Nat.le_of_ble_eq_true rfl) ?_
        refine Z_iload dX1_chosen_79 rfl ?_
        refine Z_istore (lv' := [_, _, _, _, _, _, _, _]) dX1_chosen_81 rfl rfl (Nat.le_of_ble_eq_true rfl) ?_
        refine Z_iincN (a := _) (k := 1) (lv' := [_, _, _, _, _, _, _, _]) dX1_chosen_83 rfl rfl rfl rfl ?_
        refine Z_goto 27 dX1_chosen_86 rfl ?_
        have f1 : f3 I (zw (zw I2 300 1 (nI p)) 300 2 (nI i)) := g1.st.st
        have f2 : f3 P (zw (zw P2 300 0 (some w)) 300 3 (some h)) := g2.st.st
        have q := ih (by omega) _ _ f1 f2
        obtain ⟨e1, e2⟩ := bO_n (W := W) (er := er) (s := s) (p := p) (t := t + 1) (i := i) (fun hi => absurd (bO_m1 (by omega) c62) (by omega))
        rw [e1, e2] at q
        exact Z_fgt q (by repeat first | exact zwk_n | refine zwk_f ?_ | refine zwk_c rfl ?_)
      · refine Z_iload dX1_chosen_65 rfl ?_
        refine Z_iload dX1_chosen_67 rfl ?_
        refine Z_icmpgt 75 dX1_chosen_69 rfl (fun c69 => ?_) (fun c69 => ?_)
        · refine Z_iload dX1_chosen_75 rfl ?_
          refine Z_istore (lv' := [_, _, _, _, _, _, _, _]) dX1_chosen_77 rfl rfl (Nat.le_of_ble_eq_true rfl) ?_
          refine Z_iload dX1_chosen_79 rfl ?_
          refine Z_istore (lv' := [_, _, _, _, _, _, _, _]) dX1_chosen_81 rfl rfl (Nat.le_of_ble_eq_true rfl) ?_
          refine Z_iincN (a := _) (k := 1) (lv' := [_, _, _, _, _, _, _, _]) dX1_chosen_83 rfl rfl rfl rfl ?_
          refine Z_goto 27 dX1_chosen_86 rfl ?_
          have f1 : f3 I (zw (zw I2 300 1 (nI p)) 300 2 (nI i)) := g1.st.st
          have f2 : f3 P (zw (zw P2 300 0 (some w)) 300 3 (some h)) := g2.st.st
          have q := ih (by omega) _ _ f1 f2
          obtain ⟨e1, e2⟩ := bO_n (W := W) (er := er) (s := s) (p := p) (t := t + 1) (i := i) (fun hi => Int32.not_le.mpr c69)
          rw [e1, e2] at q
          exact Z_fgt q (by repeat first | exact zwk_n | refine zwk_f ?_ | refine zwk_c rfl ?_)
        · refine Z_goto 83 dX1_chosen_72 rfl ?_
          refine Z_iincN (a := _) (k := 1) (lv' := [_, _, _, _, _, _, _, _]) dX1_chosen_83 rfl rfl rfl rfl ?_
          refine Z_goto 27 dX1_chosen_86 rfl ?_
          have f1 : f3 I (zw (zw I2 300 1 (nI p)) 300 2 (nI i)) := g1.st.st
          have f2 : f3 P (zw (zw P2 300 0 (some w)) 300 3 (some h)) := g2.st.st
          have q := ih (by omega) _ _ f1 f2
          obtain ⟨e1, e2⟩ := bO_k (W := W) (er := er) (s := s) (p := p) (t := t + 1) (i := i) (bO_0 c62) (Int32.not_lt.mp c69)
          rw [e1, e2] at q
          exact Z_fgt q (by repeat first | exact zwk_n | refine zwk_f ?_ | refine zwk_c rfl ?_)
  exact lp27 0 (by omega) I P f3.rf f3.rf
end X5C
