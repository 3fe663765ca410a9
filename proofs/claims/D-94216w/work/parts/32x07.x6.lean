set_option maxRecDepth 100000
/-! THE COMPONENT, part 6: an hour goes by -/
section X6C
variable {G : zG} {d C Sl : Nat} {I D W : zI} {R : List Int64} {L : zL} {P : zR} {S : zT} {Q : zQ} {no n np : Nat} {s : zS} {oh ph : Nat → Nat}
theorem nar_bI (b : Bool) : vp_nar .boolean (nI (bI b)) = nI (bI b) := by cases b <;> decide
theorem wrkS_j {rd : Int32} {hr p j : Nat} {t : zK4} (hp : p < 8) (hj : j = 0 ∨ j = 2 ∨ (3 ≤ j ∧ j < 11) ∨ 51 ≤ j) : (wrkS W rd hr p t).1 j = t.1 j := by
  unfold wrkS
  split
  · split
    · exact zu_n _ _ _ (by omega)
    · split
      · unfold wrk1
        try dsimp only
        have e : ∀ a b c e : Int32, zu (zu (zu (zu t.1 (11 + p) a) (19 + p) b) (43 + p) c) 1 e j = t.1 j := fun a b c e => by
          rw [zu_n _ _ _ (by omega), zu_n _ _ _ (by omega), zu_n _ _ _ (by omega), zu_n _ _ _ (by omega)]
        split
        · rw [zu_n _ _ _ (by omega)]; exact e _ _ _ _
        · split
          · exact e _ _ _ _
          · split
            · rw [zu_n _ _ _ (by omega), zu_n _ _ _ (by omega)]; exact e _ _ _ _
            · exact e _ _ _ _
      · rfl
  · rfl
theorem wrkN_j {rd : Int32} {hr j : Nat} {t : zK4} (hj : j = 0 ∨ j = 2 ∨ (3 ≤ j ∧ j < 11) ∨ 51 ≤ j) : ∀ i, i ≤ 8 → (wrkN W rd hr t i).1 j = t.1 j := by
  intro i
  induction i with
  | zero => exact fun _ => rfl
  | succ i ih => exact fun h => (wrkS_j (by omega) hj).trans (ih (by omega))
/-- how far the hour's work is -/
def wT (W : zI) (n : Nat) (s : zS) (hh i : Nat) : zK4 := wrkN W (rdyB W s n) hh (s, nI 0, nI 0, fun _ => nI 0) i
theorem wT_s {hh i : Nat} : wT W n s hh (i + 1) = wrkS W (rdyB W s n) hh i (wT W n s hh i) := rfl
/-- ready, and neither waits nor is worked -/
def idC (W : zI) (n : Nat) (s : zS) (hh p : Nat) : Bool := zbit (rdyB W s n) (nI p) && (!decide ((wT W n s hh p).1 (27 + p) = nI 1) && !canW W (wT W n s hh p).2.2.2 hh p ((wT W n s hh p).1 (3 + p)).toNatClampNeg)
theorem sRw.idle {h : Nat} {v : Int32} (g : sRw n I h s) : sRw n (zw I h 13 v) h s := by
  obtain ⟨⟨a0, a1, a2, a3⟩, b, c, e⟩ := g
  refine ⟨⟨?_, ?_, ?_, ?_⟩, fun k p h4 h11 hp => ?_, fun k p hk hp hp8 => ?_, fun j hj => ?_⟩
  · rw [zw_a, zu_n _ _ _ (by decide)]; exact a0
  · rw [zw_a, zu_n _ _ _ (by decide)]; exact a1
  · rw [zw_a, zu_n _ _ _ (by decide)]; exact a2
  · rw [zw_a, zu_n _ _ _ (by decide)]; exact a3
  · rw [zw_n _ _ _ _ (by omega)]; exact b k p h4 h11 hp
  · rw [zw_n _ _ _ _ (by omega)]; exact c k p hk hp hp8
  · rw [zw_n _ _ _ _ (by omega)]; exact e j hj
theorem hndS_j {p o t j : Nat} (hp : p < 8) (hj : 51 ≤ j ∧ j < 59) : hndS W s p o t j = if j = 51 + p then s (51 + p) + nI 1 else s j := by
  have k : ∀ {x : zS}, (if s 2 < nI 60 then zu (zu x (67 + (s 2).toNatClampNeg) (W 0 15 * (nI 10 - W 13 (6 * (s (3 + p)).toNatClampNeg + o)) / nI 10)) 2 (s 2 + nI 1) else x) j = x j := by
    intro x
    split
    · rw [zu_n _ _ _ (by omega), zu_n _ _ _ (by omega)]
    · rfl
  unfold hndS
  try dsimp only
  rw [zu_n _ _ _ (by omega), k]
  by_cases e : j = 51 + p
  · subst e; rw [zu_s, if_pos rfl]
  · rw [zu_n _ _ _ e, zu_n _ _ _ (by omega), zu_n _ _ _ (by omega), if_neg e]
theorem hndS_2 {p o t : Nat} (hp : p < 8) : hndS W s p o t 2 = if s 2 < nI 60 then s 2 + nI 1 else s 2 := by
  unfold hndS
  try dsimp only
  rw [zu_n _ _ _ (by omega)]
  split
  · exact zu_s _ _ _
  · rw [zu_n _ _ _ (by omega), zu_n _ _ _ (by omega), zu_n _ _ _ (by omega)]
theorem hk_hnd {p o t b : Nat} (h : hk s n b) (hn : n ≤ 8) (hp : p < n) (hb : b < 2 ^ 30) : hk (hndS W s p o t) n (b + 1) := by
  obtain ⟨H, h1, h2, h3⟩ := h
  refine ⟨H + 1, by omega, ?_, ?_⟩
  · rw [hndS_2 (by omega), h2]
    by_cases e : H < 60
    · rw [if_pos (nI_lt (by omega) (by omega)), nI_add]
      congr 1
      omega
    · rw [if_neg (nI_nlt (by omega) (by omega))]
      congr 1
      omega
  · have e1 : sumI (fun q => hndS W s p o t (51 + q)) n = sumI (zu (fun q => s (51 + q)) p (s (51 + p) + nI 1)) n := sumI_c n (fun q hq => by
      rw [hndS_j (by omega) (by omega)]
      unfold zu
      by_cases e : q = p
      · subst e; simp
      · rw [if_neg (by omega), if_neg e])
    rw [e1, sumI_u n p hp, h3]
    show nI H + (s (51 + p) + nI 1 - s (51 + p)) = _
    rw [show s (51 + p) + nI 1 - s (51 + p) = nI 1 from by
      generalize s (51 + p) = x
      rw [Int32.sub_eq_add_neg, Int32.add_comm x, Int32.add_assoc, Int32.add_right_neg, Int32.add_zero], nI_add]
theorem hk_le {b c : Nat} (h : hk s n b) (hb : b ≤ c) : hk s n c := by
  obtain ⟨H, h1, h2, h3⟩ := h
  exact ⟨H, by omega, h2, h3⟩
theorem hk_eq {s2 : zS} {b : Nat} (h : hk s n b) (h2 : s2 2 = s 2) (hs : ∀ q, q < n → s2 (51 + q) = s (51 + q)) : hk s2 n b := by
  obtain ⟨H, g1, g2, g3⟩ := h
  exact ⟨H, g1, h2.trans g2, (sumI_c n hs).trans g3⟩
/-- where it goes -/
def chR (W : zI) (ro : Option (List Nat)) (s : zS) (p t no : Nat) : Nat := match ro with
  | none => (s (3 + p)).toNatClampNeg
  | some e => chs W e s p t no
theorem chR_lt {ro : Option (List Nat)} {p t a : Nat} (ha : s (3 + p) = nI a) (haN : a < no) (h6 : no ≤ 6) : chR W ro s p t no < no := by
  cases ro with
  | none => show (s (3 + p)).toNatClampNeg < no; rw [ha, nI_clamp (by omega)]; exact haN
  | some e => exact chs_lt (by omega)
theorem clss_s {ro : Option (List Nat)} {rd : Int32} {hh i : Nat} {u : zS} (hu : u = clss W ro no i rd hh s) : clss W ro no (i + 1) rd hh s = if leav W u rd hh i = true then (if chR W ro u i (hh + 1) no = (u (3 + i)).toNatClampNeg then u else hndS W u i (chR W ro u i (hh + 1) no) (hh + 1)) else u := by
  subst hu
  cases ro with
  | none =>
    show s = _
    split
    · exact (if_pos rfl).symm
    · rfl
  | some e => rfl
set_option maxHeartbeats 4000000 in
theorem c_X1_chosen0 {w h : Nat} (e : hE W no n oh ph w h I P S) (g : sRw n I h s) (hro : ruX I P S w none) {p a : Nat} (hp : p < n) (ha : s (3 + p) = nI a) (haN : a < no) (k : Q (.inl (some (.int (nI a)))) I L P S) : Zm G mX1_chosen 100 C Sl [.ref 100, .ref w, .ref h, .int (nI p)] I L P S Q := by
  have hx := e.x
  have hO := e.wd
  have hR := e.wr
  have hT := e.st
  have hPc := e.pc
  have hw := e.hw
  have hf := e.hx
  have hb := e.b
  have hn := e.nn
  have n8 := hw.n8
  have h6 := hw.o6
  have hn8 := hw.n8
  refine Z_entry (lv := [_, _, _, _, _, _, _, _]) (Nat.le_of_ble_eq_true rfl) rfl ?_
  refine Z_aload_n dX1_chosen_0 rfl ?_
  refine Z_getR (r := (h + 4)) hT.1 fX1_7_2 dX1_chosen_1 rfl (hT.2.1 4 _ rfl).2 ?_
  refine Z_iload_n dX1_chosen_4 rfl ?_
  refine Z_iald (hT.2.1 4 _ rfl).1 (zix_nI (by first | omega | (dsimp only; omega)) (by decide)) dX1_chosen_5 ?_
  refine Z_re (y := nI (a)) ((g.f (k := 4) (by decide) (by decide) (p := p) (by omega)).trans ha) ?_
  refine Z_istore (lv' := [_, _, _, _, _, _, _, _]) dX1_chosen_6 rfl rfl (Nat.le_of_ble_eq_true rfl) ?_
  refine Z_aload_n dX1_chosen_8 rfl ?_
  refine Z_getN hO.1 fX1_13_1 dX1_chosen_9 rfl hro ?_
  refine Z_ifnonnullN dX1_chosen_12 ?_
  refine Z_iload dX1_chosen_15 rfl ?_
  refine Z_ireturn dX1_chosen_17 rfl rfl ?_
  exact k
theorem c_X1_chosenA {w h : Nat} (e : hE W no n oh ph w h I P S) (g : sRw n I h s) {ro : Option (List Nat)} (hro : ruX I P S w ro) {p a t : Nat} (hp : p < n) (ha : s (3 + p) = nI a) (haN : a < no) (h0 : s 0 = nI t) (ht : t ≤ 2399) (h37 : ro ≠ none → W 0 37 = 0) (k : ∀ I2 P2, f3 I I2 → f3 P P2 → Q (.inl (some (.int (nI (chR W ro s p (t + 1) no))))) I2 L P2 S) : Zm G mX1_chosen 100 C Sl [.ref 100, .ref w, .ref h, .int (nI p)] I L P S Q := by
  cases ro with
  | none => exact c_X1_chosen0 e g hro hp ha haN (by have q := k I P f3.rf f3.rf; unfold chR at q; rw [ha, nI_clamp (by have := e.hw.o6; omega)] at q; exact q)
  | some er => exact c_X1_chosen e g hro hp ha haN h0 ht (h37 (by simp)) k
theorem or0 (x : Int32) : x ||| nI 0 = x := Int32.or_zero
set_option maxHeartbeats 16000000 in
theorem c_X3_hour {w h : Nat} (e : hE W no n oh ph w h I P S) (g : sRw n I h s) {ro : Option (List Nat)} (hro : ruX I P S w ro) (hs : sf W no n s) {B : Nat} (hkB : hk s n B) (hB : B < 2 ^ 29) (h37 : ro ≠ none → W 0 37 = 0) {hh : Nat} (h0 : s 0 = nI hh) (hlt : hh < 2399) (k : ∀ I2 P2, sRw n I2 h (hrS W ro no n s) → hk (hrS W ro no n s) n (B + 8) → fH h I I2 → f3 P P2 → I2 h 13 = orB (idC W n s hh) n → (∀ b, b < 6 → I2 (h + 14) b = (wrks W n s).2.2.2 b) → Q (.inl none) I2 L P2 S) : Zm G mX3_hour 102 C Sl [.ref h, .ref w] I L P S Q := by
  have hx := e.x
  have hO := e.wd
  have hR := e.wr
  have hT := e.st
  have hPc := e.pc
  have hw := e.hw
  have hf := e.hx
  have hb := e.b
  have hn := e.nn
  have n8 := hw.n8
  have h6 := hw.o6
  have hn8 := hw.n8
  have hdn := fun (p : Nat) (hp : p < n) => hs.dn hp
  have ht : hh ≤ 2399 := by omega
  have ewk : wrks W n s = (wT W n s hh n) := by unfold wrks wT; rw [h0, nI_clamp (by omega)]
  refine Z_entry (lv := [_, _, _, _, _, _]) (Nat.le_of_ble_eq_true rfl) rfl ?_
  refine Z_iconst (nI 0) dX3_hour_0 rfl ?_
  refine Z_istore_n (lv' := [_, _, _, _, _, _]) dX3_hour_1 rfl rfl (Nat.le_of_ble_eq_true rfl) ?_
  refine Z_iconst (nI 0) dX3_hour_2 rfl ?_
  refine Z_istore_n (lv' := [_, _, _, _, _, _]) dX3_hour_3 rfl rfl (Nat.le_of_ble_eq_true rfl) ?_
  have lp4 : ∀ i, i ≤ n → Zj G mX3_hour 102 C Sl 4 [.ref h, .ref w, .int (orB (rdy W s) i), .int (nI i), .retAddr 0, .retAddr 0] [] I L P S Q := by
    refine zloop (n) (fun i => Zj G mX3_hour 102 C Sl 4 [.ref h, .ref w, .int (orB (rdy W s) i), .int (nI i), .retAddr 0, .retAddr 0] [] I L P S Q) (fun i hi ih => ?_)
    show Zj _ _ _ _ _ _ _ _ _ _ _ _ _
    refine Z_iload_n dX3_hour_4 rfl ?_
    refine Z_aload_n dX3_hour_5 rfl ?_
    refine Z_getR (r := 100) hT.1 fX3_3_2 dX3_hour_6 rfl hT.2.2 ?_
    refine Z_getIN hx.1 fX3_60_0 dX3_hour_9 rfl ?_
    refine Z_re (y := nI (n)) hn ?_
    refine Z_icmpgeN 39 dX3_hour_12 rfl (by omega) (by omega) (fun c12 => ?_) (fun c12 => ?_)
    · have ei : i = n := by omega
      rw [ei]
      refine Z_aload_n dX3_hour_39 rfl ?_
      refine Z_iconst (nI 0) dX3_hour_40 rfl ?_
      refine Z_putI hT.1 fX3_105_2 dX3_hour_41 rfl rfl rfl ?_
      refine Z_iconst (nI 0) dX3_hour_44 rfl ?_
      refine Z_istore_n (lv' := [_, _, _, _, _, _]) dX3_hour_45 rfl rfl (Nat.le_of_ble_eq_true rfl) ?_
      have lp46 : ∀ i, i ≤ 6 → ∀ I2, I2 h = zu (I h) 13 (nI 0) → (∀ b, b < i → I2 (h + 14) b = nI 0) → (∀ a, a ≠ h → a ≠ h + 14 → I2 a = I a) → Zj G mX3_hour 102 C Sl 46 [.ref h, .ref w, .int (orB (rdy W s) n), .int (nI i), .retAddr 0, .retAddr 0] [] I2 L P S Q := by
        refine zloop (6) (fun i => ∀ I2, I2 h = zu (I h) 13 (nI 0) → (∀ b, b < i → I2 (h + 14) b = nI 0) → (∀ a, a ≠ h → a ≠ h + 14 → I2 a = I a) → Zj G mX3_hour 102 C Sl 46 [.ref h, .ref w, .int (orB (rdy W s) n), .int (nI i), .retAddr 0, .retAddr 0] [] I2 L P S Q) (fun i hi ih => ?_)
        intro I2 q1 q2 q3
        show Zj _ _ _ _ _ _ _ _ _ _ _ _ _
        refine Z_iload_n dX3_hour_46 rfl ?_
        refine Z_bipush (nI 6) dX3_hour_47 rfl ?_
        refine Z_icmpgeN 65 dX3_hour_49 rfl (by omega) (by omega) (fun c49 => ?_) (fun c49 => ?_)
        · have ei : i = 6 := by omega
          rw [ei] at q2
          refine Z_iconst (nI 0) dX3_hour_65 rfl ?_
          refine Z_istore_n (lv' := [_, _, _, _, _, _]) dX3_hour_66 rfl rfl (Nat.le_of_ble_eq_true rfl) ?_
          have lp67 : ∀ i, i ≤ n → ∀ I2, sRw n I2 h (wT W n s hh i).1 → (∀ b, b < 6 → I2 (h + 14) b = (wT W n s hh i).2.2.2 b) → I2 h 13 = orB (idC W n s hh) i → fH h I I2 → Zj G mX3_hour 102 C Sl 67 [.ref h, .ref w, .int (orB (rdy W s) n), .int (nI i), .retAddr 0, .retAddr 0] [] I2 L P S Q := by
            refine zloop (n) (fun i => ∀ I2, sRw n I2 h (wT W n s hh i).1 → (∀ b, b < 6 → I2 (h + 14) b = (wT W n s hh i).2.2.2 b) → I2 h 13 = orB (idC W n s hh) i → fH h I I2 → Zj G mX3_hour 102 C Sl 67 [.ref h, .ref w, .int (orB (rdy W s) n), .int (nI i), .retAddr 0, .retAddr 0] [] I2 L P S Q) (fun i hi ih => ?_)
            intro I2 g2 gb gi fI
            show Zj _ _ _ _ _ _ _ _ _ _ _ _ _
            have e2 := e.fr fI (f3.rf (f := P))
            have hx := e2.x
            have hO := e2.wd
            have hR := e2.wr
            have hT := e2.st
            have hPc := e2.pc
            have hw := e2.hw
            have hf := e2.hx
            have hb := e2.b
            have hn := e2.nn
            have n8 := hw.n8
            have h6 := hw.o6
            have hn8 := hw.n8
            have hsT : sf W no n (wT W n s hh i).1 := sf_wrkN (t := (s, nI 0, nI 0, fun _ => nI 0)) hs hw (by omega) i (by omega)
            have eT0 : (wT W n s hh i).1 0 = nI hh := (wrkN_0 i).trans h0
            refine Z_iload_n dX3_hour_67 rfl ?_
            refine Z_aload_n dX3_hour_68 rfl ?_
            refine Z_getR (r := 100) hT.1 fX3_3_2 dX3_hour_69 rfl hT.2.2 ?_
            refine Z_getIN hx.1 fX3_60_0 dX3_hour_72 rfl ?_
            refine Z_re (y := nI (n)) hn ?_
            refine Z_icmpgeN 245 dX3_hour_75 rfl (by omega) (by omega) (fun c75 => ?_) (fun c75 => ?_)
            · have ei : i = n := by omega
              rw [ei] at g2 gb gi
              refine Z_iconst (nI 0) dX3_hour_245 rfl ?_
              refine Z_istore_n (lv' := [_, _, _, _, _, _]) dX3_hour_246 rfl rfl (Nat.le_of_ble_eq_true rfl) ?_
              have lp247 : ∀ i, i ≤ n → ∀ I2 P2, sRw n I2 h (clss W ro no i (rdyB W s n) hh (wrks W n s).1) → (I2 h 13 = orB (idC W n s hh) n) → (∀ b, b < 6 → I2 (h + 14) b = (wrks W n s).2.2.2 b) → fH h I I2 → f3 P P2 → hk (clss W ro no i (rdyB W s n) hh (wrks W n s).1) n (B + i) → Zj G mX3_hour 102 C Sl 247 [.ref h, .ref w, .int (orB (rdy W s) n), .int (nI i), .retAddr 0, .retAddr 0] [] I2 L P2 S Q := by
                refine zloop (n) (fun i => ∀ I2 P2, sRw n I2 h (clss W ro no i (rdyB W s n) hh (wrks W n s).1) → (I2 h 13 = orB (idC W n s hh) n) → (∀ b, b < 6 → I2 (h + 14) b = (wrks W n s).2.2.2 b) → fH h I I2 → f3 P P2 → hk (clss W ro no i (rdyB W s n) hh (wrks W n s).1) n (B + i) → Zj G mX3_hour 102 C Sl 247 [.ref h, .ref w, .int (orB (rdy W s) n), .int (nI i), .retAddr 0, .retAddr 0] [] I2 L P2 S Q) (fun i hi ih => ?_)
                intro I2 P2 g2 gi gb fI fP hk2
                show Zj _ _ _ _ _ _ _ _ _ _ _ _ _
                have e2 := e.fr fI fP
                have hx := e2.x
                have hO := e2.wd
                have hR := e2.wr
                have hT := e2.st
                have hPc := e2.pc
                have hw := e2.hw
                have hf := e2.hx
                have hb := e2.b
                have hn := e2.nn
                have n8 := hw.n8
                have h6 := hw.o6
                have hn8 := hw.n8
                have hsT : sf W no n (clss W ro no i (rdyB W s n) hh (wrks W n s).1) := by
                  have q9 := sf_wrks hs hw
                  cases ro with
                  | none => exact q9
                  | some er => exact sf_clsN q9 hw i (by omega)
                have eT0 : (clss W ro no i (rdyB W s n) hh (wrks W n s).1) 0 = nI hh := by rw [clss_0, wrks_0]; exact h0
                have hro2 := hro.fH fI fP (by omega) (by omega)
                obtain ⟨H9, hH9, eH2, eHs⟩ := hk2
                have hk2 : hk (clss W ro no i (rdyB W s n) hh (wrks W n s).1) n (B + i) := ⟨H9, hH9, eH2, eHs⟩
                refine Z_iload_n dX3_hour_247 rfl ?_
                refine Z_aload_n dX3_hour_248 rfl ?_
                refine Z_getR (r := 100) hT.1 fX3_3_2 dX3_hour_249 rfl hT.2.2 ?_
                refine Z_getIN hx.1 fX3_60_0 dX3_hour_252 rfl ?_
                refine Z_re (y := nI (n)) hn ?_
                refine Z_icmpgeN 367 dX3_hour_255 rfl (by omega) (by omega) (fun c255 => ?_) (fun c255 => ?_)
                · have ei : i = n := by omega
                  rw [ei] at g2 hk2 hsT eT0
                  refine Z_aload_n dX3_hour_367 rfl ?_
                  refine Z_dup dX3_hour_368 rfl ?_
                  refine Z_getI hT.1 fX3_47_2 dX3_hour_369 rfl ?_
                  refine Z_re (y := nI (hh)) (g2.1.1.trans eT0) ?_
                  refine Z_iconst (nI 1) dX3_hour_372 rfl ?_
                  refine Z_iaddN dX3_hour_373 ?_
                  refine Z_putI hT.1 fX3_47_2 dX3_hour_374 rfl rfl rfl ?_
                  refine Z_return dX3_hour_377 rfl ?_
                  have ehr : hrS W ro no n s = zu (clss W ro no n (rdyB W s n) hh (wrks W n s).1) 0 (nI (hh + 1)) := by unfold hrS; rw [h0, nI_clamp (by omega), nI_add]
                  refine k _ P2 (by rw [ehr]; exact g2.now hn8) ?_ (fI.st (by omega)) fP ?_ ?_
                  · rw [ehr]
                    exact hk_le (hk_eq hk2 (zu_n _ _ _ (by decide)) (fun q hq => zu_n _ _ _ (by omega))) (by omega)
                  · rw [zw_a, zu_n _ _ _ (by decide)]; exact gi
                  · intro b hb6
                    rw [zw_n _ _ _ _ (by omega)]; exact gb b hb6
                · refine Z_iload_n dX3_hour_258 rfl ?_
                  refine Z_iload_n dX3_hour_259 rfl ?_
                  refine Z_callS0 (d' := 0) (zCal_SN q545 q83 q779 q544 nX1_has (by decide) dX3_hour_260) pX1_has [_, _] rfl rfl (Nat.le_of_ble_eq_true rfl) (by omega) (c_X1_has (fun h260 => ?_) (fun h260 => ?_))
                  · refine Z_ifeq 361 dX3_hour_263 rfl (fun h => absurd h (by decide)) (fun _ => ?_)
                    obtain ⟨a, haN, ea⟩ := hsT.pl (p := i) (by omega)
                    have eaT : ((clss W ro no i (rdyB W s n) hh (wrks W n s).1) (3 + i)).toNatClampNeg = a := by rw [ea, nI_clamp (by omega)]
                    refine Z_aload_n dX3_hour_266 rfl ?_
                    refine Z_getR (r := (h + 7)) hT.1 fX3_25_2 dX3_hour_267 rfl (hT.2.1 7 _ rfl).2 ?_
                    refine Z_iload_n dX3_hour_270 rfl ?_
                    refine Z_iald (hT.2.1 7 _ rfl).1 (zix_nI (by first | omega | (dsimp only; omega)) (by decide)) dX3_hour_271 ?_
                    refine Z_re (g2.f (k := 7) (by decide) (by decide) (p := i) (by omega)) ?_
                    refine Z_iconst (-1) dX3_hour_272 rfl ?_
                    refine Z_icmpne 361 dX3_hour_273 rfl (fun c273 => ?_) (fun c273 => ?_)
                    · refine Z_iincN (a := _) (k := 1) (lv' := [_, _, _, _, _, _]) dX3_hour_361 rfl rfl rfl rfl ?_
                      refine Z_goto 247 dX3_hour_364 rfl ?_
                      have eu := clss_s (W := W) (ro := ro) (no := no) (s := (wrks W n s).1) (rd := rdyB W s n) (hh := hh) (i := i) rfl
                      have idn := dn_i (p := i) (hsT.dn (p := i) (by omega))
                      have el : leav W (clss W ro no i (rdyB W s n) hh (wrks W n s).1) (rdyB W s n) hh i = false := by
                        unfold leav
                        rw [idn, decide_eq_false (show ¬ (clss W ro no i (rdyB W s n) hh (wrks W n s).1) (35 + i) = -1 from c273)]; simp
                      rw [if_neg (by rw [el]; decide)] at eu
                      exact Z_fgt (ih (by omega) _ _ (by rw [eu]; exact g2) gi gb fI fP (by rw [eu]; exact hk_le hk2 (by omega))) (by repeat first | exact zwk_n | refine zwk_f ?_ | refine zwk_c rfl ?_)
                    · refine Z_aload_n dX3_hour_276 rfl ?_
                      refine Z_getR (r := (w + 1)) hO.1 fX3_112_1 dX3_hour_277 rfl hO.2.1.2 ?_
                      refine Z_aload_n dX3_hour_280 rfl ?_
                      refine Z_getR (r := (h + 4)) hT.1 fX3_15_2 dX3_hour_281 rfl (hT.2.1 4 _ rfl).2 ?_
                      refine Z_iload_n dX3_hour_284 rfl ?_
                      refine Z_iald (hT.2.1 4 _ rfl).1 (zix_nI (by first | omega | (dsimp only; omega)) (by decide)) dX3_hour_285 ?_
                      refine Z_re (y := nI (a)) ((g2.f (k := 4) (by decide) (by decide) (p := i) (by omega)).trans ea) ?_
                      refine Z_aald (r := (oh a)) hO.2.1.1 (by simp [zTys]) rfl (zix_nI (by first | omega | (dsimp only; omega)) (by decide)) (hR.2.2 a (by omega)).1 dX3_hour_286 ?_
                      refine Z_aload_n dX3_hour_287 rfl ?_
                      refine Z_getI hT.1 fX3_47_2 dX3_hour_288 rfl ?_
                      refine Z_re (y := nI (hh)) (g2.1.1.trans eT0) ?_
                      refine Z_call0 (d' := 1) (zCal_V gX3_116 nX6_isOpen (by decide) dX3_hour_291) pX6_isOpen (hR.2.2 a (by omega)).2.1.1 zkl5 [_] rfl rfl (Nat.le_of_ble_eq_true rfl) (by omega) (c_X6_isOpen (hR.2.2 a (by omega)).2.1 (hR.2.2 a (by omega)).2.2 (fun h291 => ?_) (fun h291 => ?_))
                      · refine Z_ifeq 361 dX3_hour_294 rfl (fun h => absurd h (by decide)) (fun _ => ?_)
                        refine Z_aload_n dX3_hour_297 rfl ?_
                        refine Z_getR (r := (w + 1)) hO.1 fX3_112_1 dX3_hour_298 rfl hO.2.1.2 ?_
                        refine Z_aload_n dX3_hour_301 rfl ?_
                        refine Z_getR (r := (h + 4)) hT.1 fX3_15_2 dX3_hour_302 rfl (hT.2.1 4 _ rfl).2 ?_
                        refine Z_iload_n dX3_hour_305 rfl ?_
                        refine Z_iald (hT.2.1 4 _ rfl).1 (zix_nI (by first | omega | (dsimp only; omega)) (by decide)) dX3_hour_306 ?_
                        refine Z_re (y := nI (a)) ((g2.f (k := 4) (by decide) (by decide) (p := i) (by omega)).trans ea) ?_
                        refine Z_aald (r := (oh a)) hO.2.1.1 (by simp [zTys]) rfl (zix_nI (by first | omega | (dsimp only; omega)) (by decide)) (hR.2.2 a (by omega)).1 dX3_hour_307 ?_
                        refine Z_aload_n dX3_hour_308 rfl ?_
                        refine Z_getI hT.1 fX3_47_2 dX3_hour_309 rfl ?_
                        refine Z_re (y := nI (hh)) (g2.1.1.trans eT0) ?_
                        refine Z_iconst (nI 1) dX3_hour_312 rfl ?_
                        refine Z_iaddN dX3_hour_313 ?_
                        refine Z_call0 (d' := 1) (zCal_V gX3_116 nX6_isOpen (by decide) dX3_hour_314) pX6_isOpen (hR.2.2 a (by omega)).2.1.1 zkl5 [_] rfl rfl (Nat.le_of_ble_eq_true rfl) (by omega) (c_X6_isOpen (hR.2.2 a (by omega)).2.1 (hR.2.2 a (by omega)).2.2 (fun h314 => ?_) (fun h314 => ?_))
                        · refine Z_ifeq 323 dX3_hour_317 rfl (fun h => absurd h (by decide)) (fun _ => ?_)
                          refine Z_goto 361 dX3_hour_320 rfl ?_
                          refine Z_iincN (a := _) (k := 1) (lv' := [_, _, _, _, _, _]) dX3_hour_361 rfl rfl rfl rfl ?_
                          refine Z_goto 247 dX3_hour_364 rfl ?_
                          have eu := clss_s (W := W) (ro := ro) (no := no) (s := (wrks W n s).1) (rd := rdyB W s n) (hh := hh) (i := i) rfl
                          have idn := dn_i (p := i) (hsT.dn (p := i) (by omega))
                          have el : leav W (clss W ro no i (rdyB W s n) hh (wrks W n s).1) (rdyB W s n) hh i = false := by
                            unfold leav
                            rw [eaT, h314]; simp
                          rw [if_neg (by rw [el]; decide)] at eu
                          exact Z_fgt (ih (by omega) _ _ (by rw [eu]; exact g2) gi gb fI fP (by rw [eu]; exact hk_le hk2 (by omega))) (by repeat first | exact zwk_n | refine zwk_f ?_ | refine zwk_c rfl ?_)
                        · refine Z_ifeq 323 dX3_hour_317 rfl (fun _ => ?_) (fun h => absurd h (by decide))
                          refine Z_aload_n dX3_hour_323 rfl ?_
                          refine Z_getR (r := 100) hT.1 fX3_3_2 dX3_hour_324 rfl hT.2.2 ?_
                          refine Z_aload_n dX3_hour_327 rfl ?_
                          refine Z_aload_n dX3_hour_328 rfl ?_
                          refine Z_iload_n dX3_hour_329 rfl ?_
                          refine Z_call0 (d' := 100) (zCal_VN q789 q83 q786 q788 qs14 nX1_chosen (by decide) dX3_hour_330) pX1_chosen hx.1 zkl0 [_, _, _] rfl rfl (Nat.le_of_ble_eq_true rfl) (by omega) (c_X1_chosenA e2 g2 hro2 (by omega) ea haN eT0 ht h37 (fun I3 P3 q330 p330 => ?_))
                          have e3 := e2.fr (fH.of3 q330) p330
                          have hx := e3.x
                          have hO := e3.wd
                          have hR := e3.wr
                          have hT := e3.st
                          have hPc := e3.pc
                          have hn := e3.nn
                          have g3 := g2.c3 q330 ⟨hb.1, hb.2.1⟩
                          have clt : chR W ro (clss W ro no i (rdyB W s n) hh (wrks W n s).1) i (hh + 1) no < no := chR_lt ea haN h6
                          refine Z_istore (lv' := [_, _, _, _, _, _]) dX3_hour_333 rfl rfl (Nat.le_of_ble_eq_true rfl) ?_
                          refine Z_iload dX3_hour_335 rfl ?_
                          refine Z_aload_n dX3_hour_337 rfl ?_
                          refine Z_getR (r := (h + 4)) hT.1 fX3_15_2 dX3_hour_338 rfl (hT.2.1 4 _ rfl).2 ?_
                          refine Z_iload_n dX3_hour_341 rfl ?_
                          refine Z_iald (hT.2.1 4 _ rfl).1 (zix_nI (by first | omega | (dsimp only; omega)) (by decide)) dX3_hour_342 ?_
                          refine Z_re (y := nI (a)) ((g3.f (k := 4) (by decide) (by decide) (p := i) (by omega)).trans ea) ?_
                          refine Z_icmpeqN 361 dX3_hour_343 rfl (by omega) (by omega) (fun c343 => ?_) (fun c343 => ?_)
                          · refine Z_iincN (a := _) (k := 1) (lv' := [_, _, _, _, _, _]) dX3_hour_361 rfl rfl rfl rfl ?_
                            refine Z_goto 247 dX3_hour_364 rfl ?_
                            have eu := clss_s (W := W) (ro := ro) (no := no) (s := (wrks W n s).1) (rd := rdyB W s n) (hh := hh) (i := i) rfl
                            have idn := dn_i (p := i) (hsT.dn (p := i) (by omega))
                            have el : leav W (clss W ro no i (rdyB W s n) hh (wrks W n s).1) (rdyB W s n) hh i = true := by
                              unfold leav
                              rw [show zbit (rdyB W s n) (nI i) = true from h260, idn, decide_eq_true (show (clss W ro no i (rdyB W s n) hh (wrks W n s).1) (35 + i) = -1 from c273), eaT, h291, h314]
                              rfl
                            rw [if_pos el, if_pos (by rw [eaT]; exact c343)] at eu
                            exact Z_fgt (ih (by omega) _ _ (by rw [eu]; exact g2.c3 q330 ⟨hb.1, hb.2.1⟩) (by rw [q330 h (by omega)]; exact gi) (by rw [q330 (h + 14) (by omega)]; exact gb) (fI.tr (fH.of3 q330)) (fP.tr p330) (by rw [eu]; exact hk_le hk2 (by omega))) (by repeat first | exact zwk_n | refine zwk_f ?_ | refine zwk_c rfl ?_)
                          · refine Z_aload_n dX3_hour_346 rfl ?_
                            refine Z_aload_n dX3_hour_347 rfl ?_
                            refine Z_iload_n dX3_hour_348 rfl ?_
                            refine Z_iload dX3_hour_349 rfl ?_
                            refine Z_aload_n dX3_hour_351 rfl ?_
                            refine Z_getI hT.1 fX3_47_2 dX3_hour_352 rfl ?_
                            refine Z_re (y := nI (hh)) (g3.1.1.trans eT0) ?_
                            refine Z_iconst (nI 1) dX3_hour_355 rfl ?_
                            refine Z_iaddN dX3_hour_356 ?_
                            refine Z_call0 (d' := 4) (zCal_V gX3_141 nX3_hand (by decide) dX3_hour_357) pX3_hand hT.1 zkl2 [_, _, _, _] rfl rfl (Nat.le_of_ble_eq_true rfl) (by omega) (c_X3_hand hx hT g3 hn hn8 hO hR h6 ⟨hb.1, by omega⟩ (by omega) (p := i) (o := chR W ro (clss W ro no i (rdyB W s n) hh (wrks W n s).1) i (hh + 1) no) (t := hh + 1) (a := a) (H := H9) (by omega) clt ea haN eH2 eHs (by omega) (by omega) (fun I4 z357 x357 v357 u357 => ?_))
                            refine Z_pop dX3_hour_360 rfl ?_
                            refine Z_iincN (a := _) (k := 1) (lv' := [_, _, _, _, _, _]) dX3_hour_361 rfl rfl rfl rfl ?_
                            refine Z_goto 247 dX3_hour_364 rfl ?_
                            have eu := clss_s (W := W) (ro := ro) (no := no) (s := (wrks W n s).1) (rd := rdyB W s n) (hh := hh) (i := i) rfl
                            have idn := dn_i (p := i) (hsT.dn (p := i) (by omega))
                            have el : leav W (clss W ro no i (rdyB W s n) hh (wrks W n s).1) (rdyB W s n) hh i = true := by
                              unfold leav
                              rw [show zbit (rdyB W s n) (nI i) = true from h260, idn, decide_eq_true (show (clss W ro no i (rdyB W s n) hh (wrks W n s).1) (35 + i) = -1 from c273), eaT, h291, h314]
                              rfl
                            rw [if_pos el, if_neg (by rw [eaT]; exact fun q => c343 q)] at eu
                            exact Z_fgt (ih (by omega) _ _ (by rw [eu]; exact z357) (by rw [v357, q330 h (by omega)]; exact gi) (by rw [u357, q330 (h + 14) (by omega)]; exact gb) ((fI.tr (fH.of3 q330)).tr (fH.of x357)) (fP.tr p330) (by rw [eu]; exact hk_le (hk_hnd hk2 hn8 (by omega) (by omega)) (by omega))) (by repeat first | exact zwk_n | refine zwk_f ?_ | refine zwk_c rfl ?_)
                      · refine Z_ifeq 361 dX3_hour_294 rfl (fun _ => ?_) (fun h => absurd h (by decide))
                        refine Z_iincN (a := _) (k := 1) (lv' := [_, _, _, _, _, _]) dX3_hour_361 rfl rfl rfl rfl ?_
                        refine Z_goto 247 dX3_hour_364 rfl ?_
                        have eu := clss_s (W := W) (ro := ro) (no := no) (s := (wrks W n s).1) (rd := rdyB W s n) (hh := hh) (i := i) rfl
                        have idn := dn_i (p := i) (hsT.dn (p := i) (by omega))
                        have el : leav W (clss W ro no i (rdyB W s n) hh (wrks W n s).1) (rdyB W s n) hh i = false := by
                          unfold leav
                          rw [eaT, h291]; simp
                        rw [if_neg (by rw [el]; decide)] at eu
                        exact Z_fgt (ih (by omega) _ _ (by rw [eu]; exact g2) gi gb fI fP (by rw [eu]; exact hk_le hk2 (by omega))) (by repeat first | exact zwk_n | refine zwk_f ?_ | refine zwk_c rfl ?_)
                  · refine Z_ifeq 361 dX3_hour_263 rfl (fun _ => ?_) (fun h => absurd h (by decide))
                    refine Z_iincN (a := _) (k := 1) (lv' := [_, _, _, _, _, _]) dX3_hour_361 rfl rfl rfl rfl ?_
                    refine Z_goto 247 dX3_hour_364 rfl ?_
                    have eu := clss_s (W := W) (ro := ro) (no := no) (s := (wrks W n s).1) (rd := rdyB W s n) (hh := hh) (i := i) rfl
                    have idn := dn_i (p := i) (hsT.dn (p := i) (by omega))
                    have el : leav W (clss W ro no i (rdyB W s n) hh (wrks W n s).1) (rdyB W s n) hh i = false := by
                      unfold leav
                      rw [show zbit (rdyB W s n) (nI i) = false from h260]; rfl
                    rw [if_neg (by rw [el]; decide)] at eu
                    exact Z_fgt (ih (by omega) _ _ (by rw [eu]; exact g2) gi gb fI fP (by rw [eu]; exact hk_le hk2 (by omega))) (by repeat first | exact zwk_n | refine zwk_f ?_ | refine zwk_c rfl ?_)
              refine lp247 0 (by omega) I2 P ?_ gi (by rw [ewk]; exact gb) fI f3.rf ?_
              · show sRw n I2 h (clss W ro no 0 (rdyB W s n) hh (wrks W n s).1)
                have e9 : clss W ro no 0 (rdyB W s n) hh (wrks W n s).1 = (wT W n s hh n).1 := by rw [ewk]; cases ro <;> rfl
                rw [e9]
                exact g2
              · have e9 : clss W ro no 0 (rdyB W s n) hh (wrks W n s).1 = (wrks W n s).1 := by cases ro <;> rfl
                rw [e9]
                refine hk_eq hkB ?_ (fun q hq => ?_)
                · exact wrkN_j (by omega) n (by omega)
                · exact wrkN_j (by omega) n (by omega)
            · refine Z_iload_n dX3_hour_78 rfl ?_
              refine Z_iload_n dX3_hour_79 rfl ?_
              refine Z_callS0 (d' := 0) (zCal_SN q545 q83 q779 q544 nX1_has (by decide) dX3_hour_80) pX1_has [_, _] rfl rfl (Nat.le_of_ble_eq_true rfl) (by omega) (c_X1_has (fun h80 => ?_) (fun h80 => ?_))
              · refine Z_ifne 89 dX3_hour_83 rfl (fun _ => ?_) (fun h => absurd h (by decide))
                obtain ⟨a, haN, ea⟩ := hsT.pl (p := i) (by omega)
                have eaT : ((wT W n s hh i).1 (3 + i)).toNatClampNeg = a := by rw [ea, nI_clamp (by omega)]
                refine Z_aload_n dX3_hour_89 rfl ?_
                refine Z_getR (r := 100) hT.1 fX3_3_2 dX3_hour_90 rfl hT.2.2 ?_
                refine Z_getRN (r := 110) hx.1 fX3_73_0 dX3_hour_93 rfl (hx.2.2.1 0 _ rfl).2 ?_
                refine Z_iload_n dX3_hour_96 rfl ?_
                refine Z_aald (r := (ph i)) (hx.2.2.1 0 _ rfl).1 (by simp [zTys]) rfl (zix_nI (by first | omega | (dsimp only; omega)) (by decide)) (hPc i (by omega)).1 dX3_hour_97 ?_
                refine Z_astore (lv' := [_, _, _, _, _, _]) dX3_hour_98 rfl rfl (Nat.le_of_ble_eq_true rfl) ?_
                refine Z_aload_n dX3_hour_100 rfl ?_
                refine Z_getR (r := (w + 1)) hO.1 fX3_112_1 dX3_hour_101 rfl hO.2.1.2 ?_
                refine Z_aload_n dX3_hour_104 rfl ?_
                refine Z_getR (r := (h + 4)) hT.1 fX3_15_2 dX3_hour_105 rfl (hT.2.1 4 _ rfl).2 ?_
                refine Z_iload_n dX3_hour_108 rfl ?_
                refine Z_iald (hT.2.1 4 _ rfl).1 (zix_nI (by first | omega | (dsimp only; omega)) (by decide)) dX3_hour_109 ?_
                refine Z_re (y := nI (a)) ((g2.f (k := 4) (by decide) (by decide) (p := i) (by omega)).trans ea) ?_
                refine Z_aald (r := (oh a)) hO.2.1.1 (by simp [zTys]) rfl (zix_nI (by first | omega | (dsimp only; omega)) (by decide)) (hR.2.2 a (by omega)).1 dX3_hour_110 ?_
                refine Z_astore (lv' := [_, _, _, _, _, _]) dX3_hour_111 rfl rfl (Nat.le_of_ble_eq_true rfl) ?_
                refine Z_aload_n dX3_hour_113 rfl ?_
                refine Z_getR (r := (h + 8)) hT.1 fX3_28_2 dX3_hour_114 rfl (hT.2.1 8 _ rfl).2 ?_
                refine Z_iload_n dX3_hour_117 rfl ?_
                refine Z_zald (hT.2.1 8 _ rfl).1 (zix_nI (by first | omega | (dsimp only; omega)) (by decide)) dX3_hour_118 ?_
                refine Z_re (g2.f (k := 8) (by decide) (by decide) (p := i) (by omega)) ?_
                rcases hsT.wt (p := i) (by omega) with hw0 | ⟨hw1, h37w, k2, hk2, e21⟩
                · refine Z_re (y := nI 0) hw0 ?_
                  refine Z_ifeq 168 dX3_hour_119 rfl (fun _ => ?_) (fun h => absurd h (by decide))
                  refine Z_aload dX3_hour_168 rfl ?_
                  refine Z_aload_n dX3_hour_170 rfl ?_
                  refine Z_getI hT.1 fX3_47_2 dX3_hour_171 rfl ?_
                  refine Z_re (y := nI (hh)) (g2.1.1.trans eT0) ?_
                  refine Z_call0 (d' := 1) (zCal_V gX3_116 nX6_isOpen (by decide) dX3_hour_174) pX6_isOpen (hR.2.2 a (by omega)).2.1.1 zkl5 [_] rfl rfl (Nat.le_of_ble_eq_true rfl) (by omega) (c_X6_isOpen (hR.2.2 a (by omega)).2.1 (hR.2.2 a (by omega)).2.2 (fun h174 => ?_) (fun h174 => ?_))
                  · refine Z_ifeq 227 dX3_hour_177 rfl (fun h => absurd h (by decide)) (fun _ => ?_)
                    refine Z_aload_n dX3_hour_180 rfl ?_
                    refine Z_aload_n dX3_hour_181 rfl ?_
                    refine Z_getR (r := (h + 4)) hT.1 fX3_15_2 dX3_hour_182 rfl (hT.2.1 4 _ rfl).2 ?_
                    refine Z_iload_n dX3_hour_185 rfl ?_
                    refine Z_iald (hT.2.1 4 _ rfl).1 (zix_nI (by first | omega | (dsimp only; omega)) (by decide)) dX3_hour_186 ?_
                    refine Z_re (y := nI (a)) ((g2.f (k := 4) (by decide) (by decide) (p := i) (by omega)).trans ea) ?_
                    refine Z_aload dX3_hour_187 rfl ?_
                    refine Z_getI (hPc i (by omega)).2.1 fX3_124_6 dX3_hour_189 rfl ?_
                    refine Z_re (hPc i (by omega)).2.2.1.1 ?_
                    refine Z_call0 (d' := 1) (zCal_V gX3_127 nX2_hasCraft (by decide) dX3_hour_192) pX2_hasCraft hO.1 zkl1 [_, _] rfl rfl (Nat.le_of_ble_eq_true rfl) (by omega) (c_X2_hasCraft hO hR h6 (by omega) (fun h192 => ?_) (fun h192 => ?_))
                    · refine Z_ifeq 227 dX3_hour_195 rfl (fun h => absurd h (by decide)) (fun _ => ?_)
                      refine Z_aload_n dX3_hour_198 rfl ?_
                      refine Z_getR (r := (h + 14)) hT.1 fX3_44_2 dX3_hour_199 rfl (hT.2.1 14 _ rfl).2 ?_
                      refine Z_aload_n dX3_hour_202 rfl ?_
                      refine Z_getR (r := (h + 4)) hT.1 fX3_15_2 dX3_hour_203 rfl (hT.2.1 4 _ rfl).2 ?_
                      refine Z_iload_n dX3_hour_206 rfl ?_
                      refine Z_iald (hT.2.1 4 _ rfl).1 (zix_nI (by first | omega | (dsimp only; omega)) (by decide)) dX3_hour_207 ?_
                      refine Z_re (y := nI (a)) ((g2.f (k := 4) (by decide) (by decide) (p := i) (by omega)).trans ea) ?_
                      refine Z_iald (hT.2.1 14 _ rfl).1 (zix_nI (by first | omega | (dsimp only; omega)) (by decide)) dX3_hour_208 ?_
                      refine Z_re (gb a (by omega)) ?_
                      refine Z_aload dX3_hour_209 rfl ?_
                      refine Z_getI (hR.2.2 a (by omega)).2.1.1 fX3_130_5 dX3_hour_211 rfl ?_
                      refine Z_re (hR.2.2 a (by omega)).2.2.2.1.1 ?_
                      refine Z_icmpge 227 dX3_hour_214 rfl (fun c214 => ?_) (fun c214 => ?_)
                      · refine Z_aload_n dX3_hour_227 rfl ?_
                        refine Z_dup dX3_hour_228 rfl ?_
                        refine Z_getI hT.1 fX3_105_2 dX3_hour_229 rfl ?_
                        refine Z_iconst (nI 1) dX3_hour_232 rfl ?_
                        refine Z_iload_n dX3_hour_233 rfl ?_
                        refine Z_ishl dX3_hour_234 ?_
                        refine Z_ior dX3_hour_235 ?_
                        refine Z_putI hT.1 fX3_105_2 dX3_hour_236 rfl rfl rfl ?_
                        refine Z_iincN (a := _) (k := 1) (lv' := [_, _, _, _, _, _]) dX3_hour_239 rfl rfl rfl rfl ?_
                        refine Z_goto 67 dX3_hour_242 rfl ?_
                        have ecan : canW W (wT W n s hh i).2.2.2 hh i a = false := by unfold canW; rw [decide_eq_false (show ¬ (wT W n s hh i).2.2.2 a < W 8 a from Int32.not_lt.mpr c214)]; simp
                        have ew : (wT W n s hh (i + 1)) = (wT W n s hh i) := by
                          rw [wT_s]
                          unfold wrkS
                          rw [if_pos (show zbit (rdyB W s n) (nI i) = true from h80), if_neg (by rw [hw0]; decide), eaT, if_neg (by rw [ecan]; decide)]
                        have ei : idC W n s hh i = true := by unfold idC; rw [eaT, ecan, decide_eq_false (show ¬ (wT W n s hh i).1 (27 + i) = nI 1 by rw [hw0]; decide), show zbit (rdyB W s n) (nI i) = true from h80]; rfl
                        exact Z_fgt (ih (by omega) _ (by rw [ew]; exact g2.idle) (by rw [ew]; intro b hb6; rw [zw_n _ _ _ _ (by omega)]; exact gb b hb6) (by rw [orB, ei, zw_s, gi]; rfl) (fI.st (by omega))) (by repeat first | exact zwk_n | refine zwk_f ?_ | refine zwk_c rfl ?_)
                      · refine Z_aload_n dX3_hour_217 rfl ?_
                        refine Z_iload_n dX3_hour_218 rfl ?_
                        refine Z_aload dX3_hour_219 rfl ?_
                        refine Z_call0 (d' := 0) (zCal_V gX3_133 nX3_work (by decide) dX3_hour_221) pX3_work hT.1 zkl2 [_, _] rfl rfl (Nat.le_of_ble_eq_true rfl) (by omega) (c_X3_work hx hT g2 hn hn8 hPc hw ⟨hb.1, by omega⟩ e.hp gb (p := i) (a := a) (o := a) (t := hh) (by omega) ea (by omega) eT0 ht (hR.2.2 a (by omega)).2.1.1 (e.ho a (by omega)) (hR.2.2 a (by omega)).2.2.1.2.2.2 (fun I3 z221 y221 x221 v221 => ?_))
                        refine Z_goto 239 dX3_hour_224 rfl ?_
                        refine Z_iincN (a := _) (k := 1) (lv' := [_, _, _, _, _, _]) dX3_hour_239 rfl rfl rfl rfl ?_
                        refine Z_goto 67 dX3_hour_242 rfl ?_
                        have ecan : canW W (wT W n s hh i).2.2.2 hh i a = true := by unfold canW; rw [h174, h192, decide_eq_true (show (wT W n s hh i).2.2.2 a < W 8 a from Int32.not_le.mp c214)]; rfl
                        have ew : (wT W n s hh (i + 1)) = (wrk1 W (wT W n s hh i).1 hh i a, (wT W n s hh i).2.1, (wT W n s hh i).2.2.1 ||| (nI 1 <<< (nI i &&& 31)), zu (wT W n s hh i).2.2.2 a ((wT W n s hh i).2.2.2 a + nI 1)) := by
                          rw [wT_s]
                          unfold wrkS
                          rw [if_pos (show zbit (rdyB W s n) (nI i) = true from h80), if_neg (by rw [hw0]; decide), eaT, if_pos ecan]
                        have ei : idC W n s hh i = false := by unfold idC; rw [eaT, ecan]; simp
                        exact Z_fgt (ih (by omega) _ (by rw [ew]; exact z221) (by rw [ew]; exact y221) (by rw [orB, ei, v221]; exact gi.trans (by rw [if_neg (by decide)]; exact (or0 _).symm)) (fI.tr (fH.of x221))) (by repeat first | exact zwk_n | refine zwk_f ?_ | refine zwk_c rfl ?_)
                    · refine Z_ifeq 227 dX3_hour_195 rfl (fun _ => ?_) (fun h => absurd h (by decide))
                      refine Z_aload_n dX3_hour_227 rfl ?_
                      refine Z_dup dX3_hour_228 rfl ?_
                      refine Z_getI hT.1 fX3_105_2 dX3_hour_229 rfl ?_
                      refine Z_iconst (nI 1) dX3_hour_232 rfl ?_
                      refine Z_iload_n dX3_hour_233 rfl ?_
                      refine Z_ishl dX3_hour_234 ?_
                      refine Z_ior dX3_hour_235 ?_
                      refine Z_putI hT.1 fX3_105_2 dX3_hour_236 rfl rfl rfl ?_
                      refine Z_iincN (a := _) (k := 1) (lv' := [_, _, _, _, _, _]) dX3_hour_239 rfl rfl rfl rfl ?_
                      refine Z_goto 67 dX3_hour_242 rfl ?_
                      have ecan : canW W (wT W n s hh i).2.2.2 hh i a = false := by unfold canW; rw [h192]; simp
                      have ew : (wT W n s hh (i + 1)) = (wT W n s hh i) := by
                        rw [wT_s]
                        unfold wrkS
                        rw [if_pos (show zbit (rdyB W s n) (nI i) = true from h80), if_neg (by rw [hw0]; decide), eaT, if_neg (by rw [ecan]; decide)]
                      have ei : idC W n s hh i = true := by unfold idC; rw [eaT, ecan, decide_eq_false (show ¬ (wT W n s hh i).1 (27 + i) = nI 1 by rw [hw0]; decide), show zbit (rdyB W s n) (nI i) = true from h80]; rfl
                      exact Z_fgt (ih (by omega) _ (by rw [ew]; exact g2.idle) (by rw [ew]; intro b hb6; rw [zw_n _ _ _ _ (by omega)]; exact gb b hb6) (by rw [orB, ei, zw_s, gi]; rfl) (fI.st (by omega))) (by repeat first | exact zwk_n | refine zwk_f ?_ | refine zwk_c rfl ?_)
                  · refine Z_ifeq 227 dX3_hour_177 rfl (fun _ => ?_) (fun h => absurd h (by decide))
                    refine Z_aload_n dX3_hour_227 rfl ?_
                    refine Z_dup dX3_hour_228 rfl ?_
                    refine Z_getI hT.1 fX3_105_2 dX3_hour_229 rfl ?_
                    refine Z_iconst (nI 1) dX3_hour_232 rfl ?_
                    refine Z_iload_n dX3_hour_233 rfl ?_
                    refine Z_ishl dX3_hour_234 ?_
                    refine Z_ior dX3_hour_235 ?_
                    refine Z_putI hT.1 fX3_105_2 dX3_hour_236 rfl rfl rfl ?_
                    refine Z_iincN (a := _) (k := 1) (lv' := [_, _, _, _, _, _]) dX3_hour_239 rfl rfl rfl rfl ?_
                    refine Z_goto 67 dX3_hour_242 rfl ?_
                    have ecan : canW W (wT W n s hh i).2.2.2 hh i a = false := by unfold canW; rw [h174]; rfl
                    have ew : (wT W n s hh (i + 1)) = (wT W n s hh i) := by
                      rw [wT_s]
                      unfold wrkS
                      rw [if_pos (show zbit (rdyB W s n) (nI i) = true from h80), if_neg (by rw [hw0]; decide), eaT, if_neg (by rw [ecan]; decide)]
                    have ei : idC W n s hh i = true := by unfold idC; rw [eaT, ecan, decide_eq_false (show ¬ (wT W n s hh i).1 (27 + i) = nI 1 by rw [hw0]; decide), show zbit (rdyB W s n) (nI i) = true from h80]; rfl
                    exact Z_fgt (ih (by omega) _ (by rw [ew]; exact g2.idle) (by rw [ew]; intro b hb6; rw [zw_n _ _ _ _ (by omega)]; exact gb b hb6) (by rw [orB, ei, zw_s, gi]; rfl) (fI.st (by omega))) (by repeat first | exact zwk_n | refine zwk_f ?_ | refine zwk_c rfl ?_)
                · refine Z_re (y := nI 1) hw1 ?_
                  have eask : askd W i = nI k2 := by unfold askd; rw [if_pos h37w]; exact e21
                  refine Z_ifeq 168 dX3_hour_119 rfl (fun h => absurd h (by decide)) (fun _ => ?_)
                  refine Z_aload_n dX3_hour_122 rfl ?_
                  refine Z_getR (r := (h + 8)) hT.1 fX3_28_2 dX3_hour_123 rfl (hT.2.1 8 _ rfl).2 ?_
                  refine Z_iload_n dX3_hour_126 rfl ?_
                  refine Z_cut0 164 (.int (nI (bI (!(opn W a hh && opn W k2 hh))))) (fun jn164 => ?_) ?_
                  · refine Z_aload dX3_hour_127 rfl ?_
                    refine Z_aload_n dX3_hour_129 rfl ?_
                    refine Z_getI hT.1 fX3_47_2 dX3_hour_130 rfl ?_
                    refine Z_re (y := nI (hh)) (g2.1.1.trans eT0) ?_
                    refine Z_call0 (d' := 1) (zCal_V gX3_116 nX6_isOpen (by decide) dX3_hour_133) pX6_isOpen (hR.2.2 a (by omega)).2.1.1 zkl5 [_] rfl rfl (Nat.le_of_ble_eq_true rfl) (by omega) (c_X6_isOpen (hR.2.2 a (by omega)).2.1 (hR.2.2 a (by omega)).2.2 (fun h133 => ?_) (fun h133 => ?_))
                    · refine Z_ifeq 159 dX3_hour_136 rfl (fun h => absurd h (by decide)) (fun _ => ?_)
                      refine Z_aload_n dX3_hour_139 rfl ?_
                      refine Z_getR (r := (w + 1)) hO.1 fX3_112_1 dX3_hour_140 rfl hO.2.1.2 ?_
                      refine Z_aload dX3_hour_143 rfl ?_
                      refine Z_getI (hPc i (by omega)).2.1 fX3_121_6 dX3_hour_145 rfl ?_
                      refine Z_re (y := nI (k2)) ((hPc i (by omega)).2.2.2.1.trans eask) ?_
                      refine Z_aald (r := (oh k2)) hO.2.1.1 (by simp [zTys]) rfl (zix_nI (by first | omega | (dsimp only; omega)) (by decide)) (hR.2.2 k2 (by omega)).1 dX3_hour_148 ?_
                      refine Z_aload_n dX3_hour_149 rfl ?_
                      refine Z_getI hT.1 fX3_47_2 dX3_hour_150 rfl ?_
                      refine Z_re (y := nI (hh)) (g2.1.1.trans eT0) ?_
                      refine Z_call0 (d' := 1) (zCal_V gX3_116 nX6_isOpen (by decide) dX3_hour_153) pX6_isOpen (hR.2.2 k2 (by omega)).2.1.1 zkl5 [_] rfl rfl (Nat.le_of_ble_eq_true rfl) (by omega) (c_X6_isOpen (hR.2.2 k2 (by omega)).2.1 (hR.2.2 k2 (by omega)).2.2 (fun h153 => ?_) (fun h153 => ?_))
                      · refine Z_ifne 163 dX3_hour_156 rfl (fun _ => ?_) (fun h => absurd h (by decide))
                        refine Z_iconst (nI 0) dX3_hour_163 rfl ?_
                        exact Z_re (by simp [bI, h133, h153]) jn164
                      · refine Z_ifne 163 dX3_hour_156 rfl (fun h => absurd h (by decide)) (fun _ => ?_)
                        refine Z_iconst (nI 1) dX3_hour_159 rfl ?_
                        refine Z_goto 164 dX3_hour_160 rfl ?_
                        exact Z_re (by simp [bI, h133, h153]) jn164
                    · refine Z_ifeq 159 dX3_hour_136 rfl (fun _ => ?_) (fun h => absurd h (by decide))
                      refine Z_iconst (nI 1) dX3_hour_159 rfl ?_
                      refine Z_goto 164 dX3_hour_160 rfl ?_
                      exact Z_re (by simp [bI, h133]) jn164
                  · refine Z_zast (hT.2.1 8 _ rfl).1 (zix_nI (by first | omega | (dsimp only; omega)) (by decide)) dX3_hour_164 ?_
                    refine Z_goto 239 dX3_hour_165 rfl ?_
                    refine Z_iincN (a := _) (k := 1) (lv' := [_, _, _, _, _, _]) dX3_hour_239 rfl rfl rfl rfl ?_
                    refine Z_goto 67 dX3_hour_242 rfl ?_
                    have ew : (wT W n s hh (i + 1)) = (zu (wT W n s hh i).1 (27 + i) (nI (bI (!(opn W a hh && opn W k2 hh)))), (wT W n s hh i).2.1 ||| (nI 1 <<< (nI i &&& 31)), (wT W n s hh i).2.2.1, (wT W n s hh i).2.2.2) := by
                      rw [wT_s]
                      unfold wrkS
                      rw [if_pos (show zbit (rdyB W s n) (nI i) = true from h80), if_pos hw1, eaT, e21, nI_clamp (by omega)]
                    have ei : idC W n s hh i = false := by unfold idC; rw [decide_eq_true hw1]; simp
                    have g3 := g2.put hn8 (k := 8) (p := i) (v := nI (bI (!(opn W a hh && opn W k2 hh)))) (by decide) (by decide) (by omega)
                    refine Z_mem (I' := zw I2 (h + 8) i (nI (bI (!(opn W a hh && opn W k2 hh))))) (by rw [nar_bI]) ?_
                    exact Z_fgt (ih (by omega) _ (by rw [ew]; exact g3) (by rw [ew]; intro b hb6; rw [zw_n _ _ _ _ (by omega)]; exact gb b hb6) (by rw [orB, ei, zw_n _ _ _ _ (by omega)]; exact gi.trans (by rw [if_neg (by decide)]; exact (or0 _).symm)) (fI.st (by omega))) (by repeat first | exact zwk_n | refine zwk_f ?_ | refine zwk_c rfl ?_)
              · refine Z_ifne 89 dX3_hour_83 rfl (fun h => absurd h (by decide)) (fun _ => ?_)
                refine Z_goto 239 dX3_hour_86 rfl ?_
                refine Z_iincN (a := _) (k := 1) (lv' := [_, _, _, _, _, _]) dX3_hour_239 rfl rfl rfl rfl ?_
                refine Z_goto 67 dX3_hour_242 rfl ?_
                have ew : (wT W n s hh (i + 1)) = (wT W n s hh i) := by rw [wT_s]; unfold wrkS; rw [if_neg (by rw [show zbit (rdyB W s n) (nI i) = false from h80]; decide)]
                have ei : idC W n s hh i = false := by unfold idC; rw [show zbit (rdyB W s n) (nI i) = false from h80]; rfl
                exact Z_fgt (ih (by omega) _ (by rw [ew]; exact g2) (by rw [ew]; exact gb) (by rw [orB, ei]; exact gi.trans (by rw [if_neg (by decide)]; exact (or0 _).symm)) fI) (by repeat first | exact zwk_n | refine zwk_f ?_ | refine zwk_c rfl ?_)
          have g46 : sRw n I2 h s := by
            have e1 : sRw n (zw I h 13 (nI 0)) h s := g.idle
            refine e1.fr (fun k hk => ?_)
            by_cases e9 : k = 0
            · subst e9; rw [Nat.add_zero, q1, zw_a]
            · rw [q3 _ (by omega) (by omega), zw_n _ _ _ _ (by omega)]
          refine lp67 0 (by omega) I2 g46 (fun b hb6 => q2 b (by omega)) (by rw [q1, zu_s]; rfl) (fun a h1 h2 => q3 a (by omega) (by omega))
        · refine Z_aload_n dX3_hour_52 rfl ?_
          refine Z_getR (r := (h + 14)) hT.1 fX3_44_2 dX3_hour_53 rfl (hT.2.1 14 _ rfl).2 ?_
          refine Z_iload_n dX3_hour_56 rfl ?_
          refine Z_iconst (nI 0) dX3_hour_57 rfl ?_
          refine Z_iast (hT.2.1 14 _ rfl).1 (zix_nI (by first | omega | (dsimp only; omega)) (by decide)) dX3_hour_58 ?_
          refine Z_iincN (a := _) (k := 1) (lv' := [_, _, _, _, _, _]) dX3_hour_59 rfl rfl rfl rfl ?_
          refine Z_goto 46 dX3_hour_62 rfl ?_
          refine ih (by omega) _ ?_ (fun b hb => ?_) (fun a h1 h2 => ?_)
          · rw [zw_n _ _ _ _ (by omega)]; exact q1
          · rw [zw_a]
            by_cases e9 : b = i
            · subst e9; rw [zu_s]
            · rw [zu_n _ _ _ e9]; exact q2 b (by omega)
          · rw [zw_n _ _ _ _ h2]; exact q3 a h1 h2
      exact lp46 0 (by omega) _ (zw_a _ _ _ _) (fun b hb => absurd hb (by omega)) (fun a h1 h2 => zw_n _ _ _ _ h1)
    · refine Z_iload_n dX3_hour_15 rfl ?_
      refine Z_aload_n dX3_hour_16 rfl ?_
      refine Z_iload_n dX3_hour_17 rfl ?_
      refine Z_call0 (d' := 1) (zCal_V gX3_101 nX3_isReady (by decide) dX3_hour_18) pX3_isReady hT.1 zkl2 [_] rfl rfl (Nat.le_of_ble_eq_true rfl) (by omega) (c_X3_isReady hx hT g hn hn8 hdn hPc hf (by omega) (fun h18 => ?_) (fun h18 => ?_))
      · refine Z_ifeq 30 dX3_hour_21 rfl (fun h => absurd h (by decide)) (fun _ => ?_)
        refine Z_iconst (nI 1) dX3_hour_24 rfl ?_
        refine Z_iload_n dX3_hour_25 rfl ?_
        refine Z_ishl dX3_hour_26 ?_
        refine Z_goto 31 dX3_hour_27 rfl ?_
        refine Z_ior dX3_hour_31 ?_
        refine Z_istore_n (lv' := [_, _, _, _, _, _]) dX3_hour_32 rfl rfl (Nat.le_of_ble_eq_true rfl) ?_
        refine Z_iincN (a := _) (k := 1) (lv' := [_, _, _, _, _, _]) dX3_hour_33 rfl rfl rfl rfl ?_
        refine Z_goto 4 dX3_hour_36 rfl ?_
        have ih2 := ih (by omega)
        simp only [orB, c12, h18, Bool.and_self, Bool.and_false, Bool.false_and, Bool.true_and, Bool.and_true, Bool.not_true, Bool.not_false, Bool.or_true, Bool.true_or, Bool.or_false, Bool.false_or, Bool.false_eq_true, if_true, if_false, reduceIte] at ih2
        exact ih2
      · refine Z_ifeq 30 dX3_hour_21 rfl (fun _ => ?_) (fun h => absurd h (by decide))
        refine Z_iconst (nI 0) dX3_hour_30 rfl ?_
        refine Z_ior dX3_hour_31 ?_
        refine Z_istore_n (lv' := [_, _, _, _, _, _]) dX3_hour_32 rfl rfl (Nat.le_of_ble_eq_true rfl) ?_
        refine Z_iincN (a := _) (k := 1) (lv' := [_, _, _, _, _, _]) dX3_hour_33 rfl rfl rfl rfl ?_
        refine Z_goto 4 dX3_hour_36 rfl ?_
        have ih2 := ih (by omega)
        simp only [orB, c12, h18, Bool.and_self, Bool.and_false, Bool.false_and, Bool.true_and, Bool.and_true, Bool.not_true, Bool.not_false, Bool.or_true, Bool.true_or, Bool.or_false, Bool.false_or, Bool.false_eq_true, if_true, if_false, reduceIte] at ih2
        exact ih2
  exact lp4 0 (by omega)
end X6C
