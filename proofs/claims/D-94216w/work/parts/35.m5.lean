set_option maxRecDepth 100000
/-! THE MODEL, part 5: the rule as a whole -/
section M5
variable {G : zG} {d C Sl : Nat} {I I2 W : zI} {L : zL} {P : zR} {S : zT} {Q : zQ} {s : zS} {no n : Nat}
set_option maxHeartbeats 4000000 in
theorem w_end (hM : mOk P S) (hW : wld I2 = W) {p : Nat} (hp : p < 8) {o h len : Nat} (hl : W 26 0 = nI len) (hl4 : len ≤ 40) (k : Q (.inl (some (.int (I2 27 0)))) I2 L P S) : Zj G mX5_worked 6 C Sl 6 [.ref 0, .int (nI p), .int (nI o), .int (nI h), .int (nI 1), .int (nI len), .retAddr 0] [] I2 L P S Q := by
  refine Z_iload dX5_worked_6 rfl ?_
  refine Z_aload_n dX5_worked_8 rfl ?_
  refine Z_getR (r := 26) hM.1 fX5_199_4 dX5_worked_9 rfl (hM.2.2 26 _ rfl rfl) ?_
  refine Z_iconst (nI 0) dX5_worked_12 rfl ?_
  refine Z_iald (hM.2.1 26 _ rfl) (zix_nI (by omega) (by decide)) dX5_worked_13 ?_
  refine Z_re (y := nI (len)) ((wr hW rfl).trans hl) ?_
  refine Z_icmpgeN 186 dX5_worked_14 rfl (by omega) (by omega) (fun c14 => ?_) (fun c14 => ?_)
  · refine Z_aload_n dX5_worked_186 rfl ?_
    refine Z_getR (r := 27) hM.1 fX5_246_4 dX5_worked_187 rfl (hM.2.2 27 _ rfl rfl) ?_
    refine Z_iconst (nI 0) dX5_worked_190 rfl ?_
    refine Z_iald (hM.2.1 27 _ rfl) (zix_nI (by omega) (by decide)) dX5_worked_191 ?_
    refine Z_ireturn dX5_worked_192 rfl rfl ?_
    exact k
  · exact absurd c14 (by omega)
def tS (m : Nat) : Nat → Nat → Bool := fun h k => h == 27 && decide (m ≤ k)
theorem tS_w {m a k : Nat} (h : wAt a k = true) : tS m a k = false := by
  unfold tS
  by_cases e : a = 27
  · subst e; exact absurd h (by simp [wAt])
  · simp [e]
theorem fr.s23 {T : Nat → Nat → Bool} {I I' : zI} (h : fr T I I') (hT : ∀ k, T 23 k = false) : I' 23 = I 23 := funext fun k => h 23 k (hT k)
theorem w_e (hM : mOk P S) {p : Nat} (hp : p < 8) {o h a : Nat} (ho : o < 6) (hh : h < 2 ^ 29) (ha : s (3 + p) = nI a) (ha6 : a < 6) {len : Nat} (hl : W 26 0 = nI len) (hl4 : len ≤ 40) : ∀ f c, isE f c → ∀ (j m : Nat) (I2 : zI), wld I2 = W → I2 23 = s → j + c.length ≤ len → (∀ i, i < c.length → W 25 (j + i) = nI (c.getD i 0)) → m + c.length ≤ 40 →
    (∀ I3, fr (tS m) I2 I3 → I3 27 m = ev W s p o h c → Zj G mX5_worked 6 C Sl 6 [.ref 0, .int (nI p), .int (nI o), .int (nI h), .int (nI (m + 1)), .int (nI (j + c.length)), .retAddr 0] [] I3 L P S Q) →
    Zj G mX5_worked 6 C Sl 6 [.ref 0, .int (nI p), .int (nI o), .int (nI h), .int (nI m), .int (nI j), .retAddr 0] [] I2 L P S Q := by
  intro f
  induction f with
  | zero => exact fun c h => absurd h id
  | succ f ih =>
    have tm : ∀ {m : Nat} {I2 : zI} {v : Int32}, fr (tS m) I2 (zw I2 27 m v) := fun {m I2 v} => fr.rf.st (by simp [tS])
    have un : ∀ (x : Nat) (a2 : List Nat), isE f a2 → ∀ (j m : Nat) (I2 : zI), wld I2 = W → I2 23 = s → j + (a2 ++ [x]).length ≤ len → (∀ i, i < (a2 ++ [x]).length → W 25 (j + i) = nI ((a2 ++ [x]).getD i 0)) → m + (a2 ++ [x]).length ≤ 40 →
        (∀ I3, fr (tS m) I2 I3 → I3 27 m = ev W s p o h a2 → wld I3 = W → I3 23 = s → W 25 (j + a2.length) = nI x → Zj G mX5_worked 6 C Sl 6 [.ref 0, .int (nI p), .int (nI o), .int (nI h), .int (nI (m + 1)), .int (nI (j + a2.length)), .retAddr 0] [] I3 L P S Q) →
        Zj G mX5_worked 6 C Sl 6 [.ref 0, .int (nI p), .int (nI o), .int (nI h), .int (nI m), .int (nI j), .retAddr 0] [] I2 L P S Q := by
      intro x a2 h2 j m I2 hW hs hj hc hm k3
      rw [List.length_append, List.length_singleton] at hj hm
      refine ih a2 h2 j m I2 hW hs (by omega) (fun i hi => ?_) (by omega) (fun I3 g1 g2 => k3 I3 g1 g2 ((wld_fr g1 fun _ _ => tS_w).trans hW) ((g1.s23 fun _ => rfl).trans hs) ?_)
      · rw [hc i (by rw [List.length_append]; omega)]
        simp [List.getD, List.getElem?_append_left hi]
      · rw [hc a2.length (by rw [List.length_append]; simp)]
        simp [List.getD]
    rintro c (⟨v, hv, rfl⟩ | ⟨g, hg, rfl⟩ | ⟨a2, h2, rfl | rfl⟩ | ⟨op, a2, b2, hop, h2, h3, rfl⟩) j m I2 hW hs hj hc hm k3
    · have hc0 : W 25 j = nI v := by simpa using hc 0 (by simp)
      exact w_num hM hW hs hp ho hh ha ha6 hl hl4 (by simp at hj; omega) (by simp at hm; omega) hv hc0 (k3 _ tm (by rw [zw_s, ev_num hv]))
    · have hc0 : W 25 j = nI (1000 + g) := by simpa using hc 0 (by simp)
      exact w_sgn hM hW hs hp ho hh ha ha6 hl hl4 (by simp at hj; omega) (by simp at hm; omega) hg hc0 (k3 _ tm (by rw [zw_s, ev_sgn hg]))
    · refine un 2126 a2 h2 j m I2 hW hs hj hc hm fun I3 g1 g2 hW3 hs3 hc3 => ?_
      have e9 : j + (a2 ++ [2126]).length = j + a2.length + 1 := by rw [List.length_append, List.length_singleton]; omega
      rw [e9] at k3
      simp only [List.length_append, List.length_singleton] at hj hm
      exact w_neg hM hW3 hs3 hp ho hh ha ha6 hl hl4 (by omega) (by omega) hc3 (k3 _ (g1.tr tm) (by rw [zw_s, g2, ev_neg h2]))
    · refine un 2033 a2 h2 j m I2 hW hs hj hc hm fun I3 g1 g2 hW3 hs3 hc3 => ?_
      have e9 : j + (a2 ++ [2033]).length = j + a2.length + 1 := by rw [List.length_append, List.length_singleton]; omega
      rw [e9] at k3
      simp only [List.length_append, List.length_singleton] at hj hm
      exact w_not hM hW3 hs3 hp ho hh ha ha6 hl hl4 (by omega) (by omega) hc3 (k3 _ (g1.tr tm) (by rw [zw_s, g2, ev_not h2]))
    · have hlen : (a2 ++ b2 ++ [2000 + op]).length = a2.length + b2.length + 1 := by simp; omega
      have hp2 := isE_pos h2
      rw [hlen] at hj hm hc k3
      refine ih a2 h2 j m I2 hW hs (by omega) (fun i hi => ?_) (by omega) (fun I3 g1 g2 => ?_)
      · rw [hc i (by omega)]
        simp [List.getD, List.append_assoc, List.getElem?_append_left hi]
      have hW3 := (wld_fr g1 fun _ _ => tS_w).trans hW
      have hs3 := (g1.s23 fun _ => rfl).trans hs
      refine ih b2 h3 (j + a2.length) (m + 1) I3 hW3 hs3 (by omega) (fun i hi => ?_) (by omega) (fun I4 g3 g4 => ?_)
      · rw [Nat.add_assoc, hc (a2.length + i) (by omega)]
        simp [List.getD, List.append_assoc, List.getElem?_append_right, List.getElem?_append_left hi]
      have hW4 := (wld_fr g3 fun _ _ => tS_w).trans hW3
      have hs4 := (g3.s23 fun _ => rfl).trans hs3
      have e27 : I4 27 m = ev W s p o h a2 := (g3 27 m (by simp [tS])).trans g2
      have hc4 : W 25 (j + a2.length + b2.length) = nI (2000 + op) := by
        rw [show j + a2.length + b2.length = j + (a2.length + b2.length) by omega, hc (a2.length + b2.length) (by omega)]
        simp [List.getD]
      have k4 := k3 (zw I4 27 m (binV op (I4 27 m) (I4 27 (m + 1)))) ((g1.tr (g3.wk fun a k q => by
        simp only [tS, Bool.and_eq_false_iff, decide_eq_false_iff_not] at q ⊢
        rcases q with q | q
        · exact Or.inl q
        · exact Or.inr (by omega))).st (by simp [tS])) (by rw [zw_s, e27, g4, ev_bin hop h2 h3])
      rw [show j + (a2.length + b2.length + 1) = j + a2.length + b2.length + 1 by omega] at k4
      exact w_bin hM hW4 hs4 hp ho hh ha ha6 hl hl4 (by omega) (by omega) hop hc4 k4
set_option maxHeartbeats 4000000 in
theorem c_X5_worked (hM : mOk P S) (hW : wld I = W) (hs : I 23 = s) {p : Nat} (hp : p < 8) {o h a : Nat} (ho : o < 6) (hh : h < 2 ^ 29) (ha : s (3 + p) = nI a) (ha6 : a < 6) {e : List Nat} (hr : ruM W (some e)) (k : ∀ I3, fr t27 I I3 → Q (.inl (some (.int (ev W s p o h e)))) I3 L P S) : Zm G mX5_worked 6 C Sl [.ref 0, .int (nI p), .int (nI o), .int (nI h)] I L P S Q := by
  obtain ⟨⟨f, hf⟩, hl, hl4, hc⟩ := hr
  refine Z_entry (lv := [_, _, _, _, _, _, _]) (Nat.le_of_ble_eq_true rfl) rfl ?_
  refine Z_iconst (nI 0) dX5_worked_0 rfl ?_
  refine Z_istore (lv' := [_, _, _, _, _, _, _]) dX5_worked_1 rfl rfl (Nat.le_of_ble_eq_true rfl) ?_
  refine Z_iconst (nI 0) dX5_worked_3 rfl ?_
  refine Z_istore (lv' := [_, _, _, _, _, _, _]) dX5_worked_4 rfl rfl (Nat.le_of_ble_eq_true rfl) ?_
  refine w_e hM hp ho hh ha ha6 hl hl4 f e hf 0 0 I hW hs (by omega) (fun i hi => ?_) (by omega) (fun I3 g1 g2 => ?_)
  · rw [Nat.zero_add]; exact hc i hi
  simp only [Nat.zero_add]
  refine w_end hM ((wld_fr g1 fun _ _ => tS_w).trans hW) hp hl hl4 (zQe g2 (k I3 (g1.wk fun a k q => ?_)))
  simp only [tS, Bool.and_eq_false_iff]; left; exact q
end M5
